set_option maxRecDepth 100000
def m_in (x0 : Int64) (x2 : Int64) (x4 : Int64) (Q : Int32 → Prop) : Prop :=
  ((x0 < x2 → Q 0) ∧ (¬ x0 < x2 → ((x4 < x0 → Q 0) ∧ (¬ x4 < x0 → Q 1))))
abbrev rm_m_in : Room := { frames := 0, cells := 0, slots := 0, locals := 0 }
set_option maxHeartbeats 4000000 in
theorem met_m_in (l : Launch) (x0 : Int64) (x2 : Int64) (x4 : Int64) (Q : Int32 → Prop) (hf : m_in x0 x2 x4 Q) : Met l yX3_in (ws_ yX3_in cX3_in 6 (some .boolean)) rm_m_in (va_Pc [.long x0, .long x2, .long x4] (fun _ => True)) (gR rvI Q) 0 0 (fun _ => False) := by
  refine g_metSZ (by decide) (Nat.le_of_ble_eq_true rfl) ?_
  intro p e s m args below meth c QQ ls H C hl hret
  replace hl : lv_has ls 6 [(0, .long x0), (2, .long x2), (4, .long x4)] := hl
  unfold m_in at hf
  refine lv_lload_n C.1 C.2.1 dX3_in_0 rfl (lv_at hl 0 rfl) ?_
  refine lv_lload_n C.1 C.2.1 dX3_in_1 rfl (lv_at hl 1 rfl) ?_
  refine W.lcmp C.1 C.2.1 dX3_in_2 ?_
  refine lv_if_lt (tgt := 17) C.1 C.2.1 dX3_in_3 (by decide) (fun h3 => ?_) (fun h3 => ?_)
  · replace hf := hf.1 ((lg_cmp_lt _ _).mp h3)
    refine lv_iconst (v := 0) C.1 C.2.1 dX3_in_17 rfl ?_
    exact hret _ _ _ hf (Or.inl rfl) dX3_in_18
  · replace hf := hf.2 (fun q => h3 ((lg_cmp_lt _ _).mpr q))
    refine lv_lload_n C.1 C.2.1 dX3_in_6 rfl (lv_at hl 0 rfl) ?_
    refine lv_lload C.1 C.2.1 dX3_in_7 (lv_at hl 2 rfl) ?_
    refine W.lcmp C.1 C.2.1 dX3_in_9 ?_
    refine lv_if_gt (tgt := 17) C.1 C.2.1 dX3_in_10 (by decide) (fun h10 => ?_) (fun h10 => ?_)
    · replace hf := hf.1 ((lg_cmp_gt _ _).mp h10)
      refine lv_iconst (v := 0) C.1 C.2.1 dX3_in_17 rfl ?_
      exact hret _ _ _ hf (Or.inl rfl) dX3_in_18
    · replace hf := hf.2 (fun q => h10 ((lg_cmp_gt _ _).mpr q))
      refine lv_iconst (v := 1) C.1 C.2.1 dX3_in_13 rfl ?_
      refine lv_goto (tgt := 18) C.1 C.2.1 dX3_in_14 (by decide) ?_
      exact hret _ _ _ hf (Or.inr rfl) dX3_in_18
def fm_in (x0 : Int64) (x2 : Int64) (x4 : Int64) : Int32 :=
  (if x0 < x2 then 0 else (if x4 < x0 then 0 else 1))
theorem fm_in_z {x0 : Int64} {x2 : Int64} {x4 : Int64} : zB (fm_in x0 x2 x4) := by
  unfold fm_in
  repeat' split
  all_goals first | exact Or.inl rfl | exact Or.inr rfl
theorem m_in_f {Q : Int32 → Prop} {x0 : Int64} {x2 : Int64} {x4 : Int64} (h : Q (fm_in x0 x2 x4)) : m_in x0 x2 x4 Q := by
  unfold fm_in at h
  unfold m_in
  refine ⟨fun c => ?_, fun c => ?_⟩
  · rw [if_pos c] at h
    exact h
  · rw [if_neg c] at h
    refine ⟨fun c => ?_, fun c => ?_⟩
    · rw [if_pos c] at h
      exact h
    · rw [if_neg c] at h
      exact h
theorem km_in {p : Program} {l : Launch} {e : Env} {R : Room} {s : State} {m : MethodId} {args : Array Value} {below : List Frame} {meth : Method} {c : Code} {H : Heap} {locs : List Loc} {Z : State → Prop} {cc : ByteArray} {nL pc : Nat} {ls : Array Slot} {rest : List Value} {x0 : Int64} {x2 : Int64} {x4 : Int64} (C : CallFix p m c cc nL s args lw_all RX3) (hsz : ls.size = nL) (hrm : (rest.map fun v => v.category).sum ≤ 8) (hR : rm_m_in.frames + 1 ≤ R.frames ∧ 8 + (6 + 11) + rm_m_in.locals ≤ R.locals) (hdg : decode cc pc = .ok (.invokestatic 158, 3)) (kk : W p l e R s m args below meth c H locs 0 0 Z (F0 m (pc + 3) ls (.int (fm_in x0 x2 x4) :: rest))) : W p l e R s m args below meth c H locs 0 0 Z (F0 m pc ls (.long x4 :: .long x2 :: .long x0 :: rest)) :=
  g_callSRf (As := [.long x0, .long x2, .long x4]) (rest := rest) C (met_m_in l x0 x2 x4 (fun r => r = fm_in x0 x2 x4) (m_in_f rfl)) (va_cwS 3 C.2.2.2.2 (lw_S q1579 q1580 q207 q1581) rfl rfl rfl (by decide +kernel) hR) rfl hsz rfl hrm ⟨Nat.zero_le _, Nat.zero_le _⟩ hdg kk
def m_has (x0 : Int32) (x1 : Int32) (Q : Int32 → Prop) : Prop :=
  ((((x0 >>> (x1 &&& 31)) &&& 1) = 1 → Q 1) ∧ (¬ ((x0 >>> (x1 &&& 31)) &&& 1) = 1 → Q 0))
abbrev rm_m_has : Room := { frames := 0, cells := 0, slots := 0, locals := 0 }
set_option maxHeartbeats 4000000 in
theorem met_m_has (l : Launch) (x0 : Int32) (x1 : Int32) (Q : Int32 → Prop) (hf : m_has x0 x1 Q) : Met l yX3_has (ws_ yX3_has cX3_has 2 (some .boolean)) rm_m_has (va_Pc [.int x0, .int x1] (fun _ => True)) (gR rvI Q) 0 0 (fun _ => False) := by
  refine g_metSZ (by decide) (Nat.le_of_ble_eq_true rfl) ?_
  intro p e s m args below meth c QQ ls H C hl hret
  replace hl : lv_has ls 2 [(0, .int x0), (1, .int x1)] := hl
  unfold m_has at hf
  refine lv_iload_n C.1 C.2.1 dX3_has_0 rfl (lv_at hl 0 rfl) ?_
  refine lv_iload_n C.1 C.2.1 dX3_has_1 rfl (lv_at hl 1 rfl) ?_
  refine lv_ishr C.1 C.2.1 dX3_has_2 ?_
  refine lv_iconst (v := 1) C.1 C.2.1 dX3_has_3 rfl ?_
  refine lv_iand C.1 C.2.1 dX3_has_4 ?_
  refine lv_iconst (v := 1) C.1 C.2.1 dX3_has_5 rfl ?_
  refine lv_icmp_ne (tgt := 13) C.1 C.2.1 dX3_has_6 (by decide) (fun h6 => ?_) (fun h6 => ?_)
  · replace hf := hf.2 h6
    refine lv_iconst (v := 0) C.1 C.2.1 dX3_has_13 rfl ?_
    exact hret _ _ _ hf (Or.inl rfl) dX3_has_14
  · replace hf := hf.1 h6
    refine lv_iconst (v := 1) C.1 C.2.1 dX3_has_9 rfl ?_
    refine lv_goto (tgt := 14) C.1 C.2.1 dX3_has_10 (by decide) ?_
    exact hret _ _ _ hf (Or.inr rfl) dX3_has_14
def fm_has (x0 : Int32) (x1 : Int32) : Int32 :=
  (if ((x0 >>> (x1 &&& 31)) &&& 1) = 1 then 1 else 0)
theorem fm_has_z {x0 : Int32} {x1 : Int32} : zB (fm_has x0 x1) := by
  unfold fm_has
  repeat' split
  all_goals first | exact Or.inl rfl | exact Or.inr rfl
theorem m_has_f {Q : Int32 → Prop} {x0 : Int32} {x1 : Int32} (h : Q (fm_has x0 x1)) : m_has x0 x1 Q := by
  unfold fm_has at h
  unfold m_has
  refine ⟨fun c => ?_, fun c => ?_⟩
  · rw [if_pos c] at h
    exact h
  · rw [if_neg c] at h
    exact h
theorem km_has {p : Program} {l : Launch} {e : Env} {R : Room} {s : State} {m : MethodId} {args : Array Value} {below : List Frame} {meth : Method} {c : Code} {H : Heap} {locs : List Loc} {Z : State → Prop} {cc : ByteArray} {nL pc : Nat} {ls : Array Slot} {rest : List Value} {x0 : Int32} {x1 : Int32} (C : CallFix p m c cc nL s args lw_all RX3) (hsz : ls.size = nL) (hrm : (rest.map fun v => v.category).sum ≤ 8) (hR : rm_m_has.frames + 1 ≤ R.frames ∧ 8 + (2 + 11) + rm_m_has.locals ≤ R.locals) (hdg : decode cc pc = .ok (.invokestatic 162, 3)) (kk : W p l e R s m args below meth c H locs 0 0 Z (F0 m (pc + 3) ls (.int (fm_has x0 x1) :: rest))) : W p l e R s m args below meth c H locs 0 0 Z (F0 m pc ls (.int x1 :: .int x0 :: rest)) :=
  g_callSRf (As := [.int x0, .int x1]) (rest := rest) C (met_m_has l x0 x1 (fun r => r = fm_has x0 x1) (m_has_f rfl)) (va_cwS 2 C.2.2.2.2 (lw_S q1639 q1640 q207 q1641) rfl rfl rfl (by decide +kernel) hR) rfl hsz rfl hrm ⟨Nat.zero_le _, Nat.zero_le _⟩ hdg kk
def m_isGrammar (σ : St) (Q : Int32 → Prop) : Prop :=
  (((gI σ 2 0) ≤ 0 → Q 0) ∧ (¬ (gI σ 2 0) ≤ 0 → Q 1))
abbrev rm_m_isGrammar : Room := { frames := 0, cells := 0, slots := 0, locals := 0 }
set_option maxHeartbeats 4000000 in
theorem met_m_isGrammar (l : Launch) (D : va_G) (ct : Ct) (ad : Nat → Nat) (hJ : gJ shM ad ct) (σ : St) (Q : Int32 → Prop) (hf : m_isGrammar σ Q) : Met l yX3_isGrammar (ws_ yX3_isGrammar cX3_isGrammar 1 (some .boolean)) rm_m_isGrammar (va_Pc [.ref (ad 0)] (gP D ct shM ad σ)) (gR rvI Q) 0 0 (fun _ => False) := by
  refine g_metRZ hJ (by decide) (Nat.le_of_ble_eq_true rfl) ?_
  intro p e s m args below meth c QQ ls H C hw hl hret
  replace hl : lv_has ls 1 [(0, .ref (ad 0))] := hl
  unfold m_isGrammar at hf
  refine lv_aload_n C.1 C.2.1 dX3_isGrammar_0 rfl (lv_at hl 0 rfl) ?_
  refine mg_scalar C hw dX3_isGrammar_1 ?_
  refine lv_iconst (v := 0) C.1 C.2.1 dX3_isGrammar_4 rfl ?_
  refine g_iald C hw 2 rfl (vpD rfl) dX3_isGrammar_5 ?_
  refine lv_if_le (tgt := 13) C.1 C.2.1 dX3_isGrammar_6 (by decide) (fun h6 => ?_) (fun h6 => ?_)
  · replace hf := hf.1 h6
    refine lv_iconst (v := 0) C.1 C.2.1 dX3_isGrammar_13 rfl ?_
    exact hret _ _ _ hf (Or.inl rfl) dX3_isGrammar_14
  · replace hf := hf.2 h6
    refine lv_iconst (v := 1) C.1 C.2.1 dX3_isGrammar_9 rfl ?_
    refine lv_goto (tgt := 14) C.1 C.2.1 dX3_isGrammar_10 (by decide) ?_
    exact hret _ _ _ hf (Or.inr rfl) dX3_isGrammar_14
def fm_isGrammar (σ : St) : Int32 :=
  (if (gI σ 2 0) ≤ 0 then 0 else 1)
theorem fm_isGrammar_z {σ : St} : zB (fm_isGrammar σ) := by
  unfold fm_isGrammar
  repeat' split
  all_goals first | exact Or.inl rfl | exact Or.inr rfl
theorem m_isGrammar_f {Q : Int32 → Prop} {σ : St} (h : Q (fm_isGrammar σ)) : m_isGrammar σ Q := by
  unfold fm_isGrammar at h
  unfold m_isGrammar
  refine ⟨fun c => ?_, fun c => ?_⟩
  · rw [if_pos c] at h
    exact h
  · rw [if_neg c] at h
    exact h
theorem km_isGrammar {p : Program} {l : Launch} {e : Env} {R : Room} {s : State} {m : MethodId} {args : Array Value} {below : List Frame} {meth : Method} {c : Code} {H : Heap} {locs : List Loc} {Z : State → Prop} {cc : ByteArray} {nL pc : Nat} {ls : Array Slot} {rest : List Value} {D : va_G} {ct : Ct} {ad : Nat → Nat} {σ : St} (C : CallFix p m c cc nL s args lw_all RX3) (hw : gH D ct shM ad s σ H locs) (hsz : ls.size = nL) (hrm : (rest.map fun v => v.category).sum ≤ 8) (hR : rm_m_isGrammar.frames + 1 ≤ R.frames ∧ 8 + (1 + 11) + rm_m_isGrammar.locals ≤ R.locals) (hdg : decode cc pc = .ok (.invokevirtual 298, 3)) (kk : W p l e R s m args below meth c H locs 0 0 Z (F0 m (pc + 3) ls (.int (fm_isGrammar σ) :: rest))) : W p l e R s m args below meth c H locs 0 0 Z (F0 m pc ls (.ref (ad 0) :: rest)) :=
  g_callVRf (As := []) (rest := rest) C hw rfl rfl (met_m_isGrammar l D ct ad hw.2.1 σ (fun r => r = fm_isGrammar σ) (m_isGrammar_f rfl)) (cwV 0 C.2.2.2.2 (lw_V q1684 q1686 qs120 q207 q1687) rfl rfl rfl (by decide +kernel) hR) rfl hsz rfl hrm ⟨Nat.zero_le _, Nat.zero_le _⟩ hdg kk
def m_isCapital (x0 : Int32) (Q : Int32 → Prop) : Prop :=
  ((x0 < 26 → Q 0) ∧ (¬ x0 < 26 → Q 1))
abbrev rm_m_isCapital : Room := { frames := 0, cells := 0, slots := 0, locals := 0 }
set_option maxHeartbeats 4000000 in
theorem met_m_isCapital (l : Launch) (x0 : Int32) (Q : Int32 → Prop) (hf : m_isCapital x0 Q) : Met l yX3_isCapital (ws_ yX3_isCapital cX3_isCapital 1 (some .boolean)) rm_m_isCapital (va_Pc [.int x0] (fun _ => True)) (gR rvI Q) 0 0 (fun _ => False) := by
  refine g_metSZ (by decide) (Nat.le_of_ble_eq_true rfl) ?_
  intro p e s m args below meth c QQ ls H C hl hret
  replace hl : lv_has ls 1 [(0, .int x0)] := hl
  unfold m_isCapital at hf
  refine lv_iload_n C.1 C.2.1 dX3_isCapital_0 rfl (lv_at hl 0 rfl) ?_
  refine lv_bipush (v := 26) C.1 C.2.1 dX3_isCapital_1 rfl ?_
  refine lv_icmp_lt (tgt := 10) C.1 C.2.1 dX3_isCapital_3 (by decide) (fun h3 => ?_) (fun h3 => ?_)
  · replace hf := hf.1 h3
    refine lv_iconst (v := 0) C.1 C.2.1 dX3_isCapital_10 rfl ?_
    exact hret _ _ _ hf (Or.inl rfl) dX3_isCapital_11
  · replace hf := hf.2 h3
    refine lv_iconst (v := 1) C.1 C.2.1 dX3_isCapital_6 rfl ?_
    refine lv_goto (tgt := 11) C.1 C.2.1 dX3_isCapital_7 (by decide) ?_
    exact hret _ _ _ hf (Or.inr rfl) dX3_isCapital_11
def fm_isCapital (x0 : Int32) : Int32 :=
  (if x0 < 26 then 0 else 1)
theorem fm_isCapital_z {x0 : Int32} : zB (fm_isCapital x0) := by
  unfold fm_isCapital
  repeat' split
  all_goals first | exact Or.inl rfl | exact Or.inr rfl
theorem m_isCapital_f {Q : Int32 → Prop} {x0 : Int32} (h : Q (fm_isCapital x0)) : m_isCapital x0 Q := by
  unfold fm_isCapital at h
  unfold m_isCapital
  refine ⟨fun c => ?_, fun c => ?_⟩
  · rw [if_pos c] at h
    exact h
  · rw [if_neg c] at h
    exact h
theorem km_isCapital {p : Program} {l : Launch} {e : Env} {R : Room} {s : State} {m : MethodId} {args : Array Value} {below : List Frame} {meth : Method} {c : Code} {H : Heap} {locs : List Loc} {Z : State → Prop} {cc : ByteArray} {nL pc : Nat} {ls : Array Slot} {rest : List Value} {x0 : Int32} (C : CallFix p m c cc nL s args lw_all RX3) (hsz : ls.size = nL) (hrm : (rest.map fun v => v.category).sum ≤ 8) (hR : rm_m_isCapital.frames + 1 ≤ R.frames ∧ 8 + (1 + 11) + rm_m_isCapital.locals ≤ R.locals) (hdg : decode cc pc = .ok (.invokestatic 201, 3)) (kk : W p l e R s m args below meth c H locs 0 0 Z (F0 m (pc + 3) ls (.int (fm_isCapital x0) :: rest))) : W p l e R s m args below meth c H locs 0 0 Z (F0 m pc ls (.int x0 :: rest)) :=
  g_callSRf (As := [.int x0]) (rest := rest) C (met_m_isCapital l x0 (fun r => r = fm_isCapital x0) (m_isCapital_f rfl)) (va_cwS 1 C.2.2.2.2 (lw_S q1584 q1585 q207 q1586) rfl rfl rfl (by decide +kernel) hR) rfl hsz rfl hrm ⟨Nat.zero_le _, Nat.zero_le _⟩ hdg kk
def m_isLeft_p2 (σ : St) (x1 : Int32) (Q : Int32 → Prop) (K2 : Int32 → Prop) (x2 : Int32) : Prop :=
  (((gI σ 2 0) ≤ x2 → Q 0) ∧ (¬ (gI σ 2 0) ≤ x2 → (vp_in x2 12 ∧ (((gI σ 3 x2) = x1 → Q 1) ∧ (¬ (gI σ 3 x2) = x1 → K2 (x2 + 1))))))
def m_isLeft (σ : St) (x1 : Int32) (Q : Int32 → Prop) : Prop :=
  (Lp1 (m_isLeft_p2 σ x1 Q) 0)
abbrev rm_m_isLeft : Room := { frames := 0, cells := 0, slots := 0, locals := 0 }
set_option maxHeartbeats 4000000 in
theorem met_m_isLeft (l : Launch) (D : va_G) (ct : Ct) (ad : Nat → Nat) (hJ : gJ shM ad ct) (σ : St) (x1 : Int32) (Q : Int32 → Prop) (hf : m_isLeft σ x1 Q) : Met l yX3_isLeft (ws_ yX3_isLeft cX3_isLeft 3 (some .boolean)) rm_m_isLeft (va_Pc [.ref (ad 0), .int x1] (gP D ct shM ad σ)) (gR rvI Q) 0 0 (fun _ => False) := by
  refine g_metRZ hJ (by decide) (Nat.le_of_ble_eq_true rfl) ?_
  intro p e s m args below meth c QQ ls H C hw hl hret
  replace hl : lv_has ls 3 [(0, .ref (ad 0)), (1, .int x1)] := hl
  have B2 : ∀ (x1 : Int32) (K2 : Int32 → Prop) (_ : ∀ (x2 : Int32) (ls : Array Slot), K2 x2 → lv_has ls 3 [(0, .ref (ad 0)), (1, .int x1), (2, .int x2)] → W p l e rm_m_isLeft s m args below meth c H [] 0 0 QQ (F0 m 2 ls [])) (x2 : Int32) (ls : Array Slot), m_isLeft_p2 σ x1 Q K2 x2 → lv_has ls 3 [(0, .ref (ad 0)), (1, .int x1), (2, .int x2)] → W p l e rm_m_isLeft s m args below meth c H [] 0 0 QQ (F0 m 2 ls []) := by
    intro x1 K2 hK2 x2 ls hf hl
    unfold m_isLeft_p2 at hf
    refine lv_iload_n C.1 C.2.1 dX3_isLeft_2 rfl (lv_at hl 2 rfl) ?_
    refine lv_aload_n C.1 C.2.1 dX3_isLeft_3 rfl (lv_at hl 0 rfl) ?_
    refine mg_scalar C hw dX3_isLeft_4 ?_
    refine lv_iconst (v := 0) C.1 C.2.1 dX3_isLeft_7 rfl ?_
    refine g_iald C hw 2 rfl (vpD rfl) dX3_isLeft_8 ?_
    refine lv_icmp_ge (tgt := 30) C.1 C.2.1 dX3_isLeft_9 (by decide) (fun h9 => ?_) (fun h9 => ?_)
    · replace hf := hf.1 h9
      refine lv_iconst (v := 0) C.1 C.2.1 dX3_isLeft_30 rfl ?_
      exact hret _ _ _ hf (Or.inl rfl) dX3_isLeft_31
    · replace hf := hf.2 h9
      refine lv_aload_n C.1 C.2.1 dX3_isLeft_12 rfl (lv_at hl 0 rfl) ?_
      refine mg_left C hw dX3_isLeft_13 ?_
      refine lv_iload_n C.1 C.2.1 dX3_isLeft_16 rfl (lv_at hl 2 rfl) ?_
      obtain ⟨b17, hf⟩ := hf
      refine g_iald C hw 3 rfl b17 dX3_isLeft_17 ?_
      refine lv_iload_n C.1 C.2.1 dX3_isLeft_18 rfl (lv_at hl 1 rfl) ?_
      refine lv_icmp_ne (tgt := 24) C.1 C.2.1 dX3_isLeft_19 (by decide) (fun h19 => ?_) (fun h19 => ?_)
      · replace hf := hf.2 h19
        refine lv_iinc (v := (x2 + 1)) (lv' := [(2, .int (x2 + 1)), (0, .ref (ad 0)), (1, .int x1)]) C.1 C.2.1 dX3_isLeft_24 hl (k := 2) rfl rfl (Nat.le_of_ble_eq_true rfl) rfl (fun ls hl => ?_)
        refine lv_goto (tgt := 2) C.1 C.2.1 dX3_isLeft_27 (by decide) ?_
        exact hK2 _ _ hf (lv_sub hl [1, 2, 0] rfl)
      · replace hf := hf.1 h19
        refine lv_iconst (v := 1) C.1 C.2.1 dX3_isLeft_22 rfl ?_
        exact hret _ _ _ hf (Or.inr rfl) dX3_isLeft_23
  have P2 : ∀ (x1 : Int32) (n : Nat) (x2 : Int32) (ls : Array Slot), LL1 (m_isLeft_p2 σ x1 Q) n x2 → lv_has ls 3 [(0, .ref (ad 0)), (1, .int x1), (2, .int x2)] → W p l e rm_m_isLeft s m args below meth c H [] 0 0 QQ (F0 m 2 ls []) := by
    intro x1 n
    induction n with
    | zero => intro x2 ls hf; exact False.elim hf
    | succ n ih => intro x2 ls hf hl; exact B2 x1 (LL1 _ n) ih x2 ls hf hl
  unfold m_isLeft at hf
  refine lv_iconst (v := 0) C.1 C.2.1 dX3_isLeft_0 rfl ?_
  refine lv_istore_n (lv' := [(2, .int 0), (0, .ref (ad 0)), (1, .int x1)]) C.1 C.2.1 dX3_isLeft_1 rfl hl (Nat.le_of_ble_eq_true rfl) rfl (fun ls hl => ?_)
  obtain ⟨n, hf⟩ := hf
  exact P2 _ n _ _ hf (lv_sub hl [1, 2, 0] rfl)
theorem km_isLeft {p : Program} {l : Launch} {e : Env} {R : Room} {s : State} {m : MethodId} {args : Array Value} {below : List Frame} {meth : Method} {c : Code} {H : Heap} {locs : List Loc} {Z : State → Prop} {cc : ByteArray} {nL pc : Nat} {ls : Array Slot} {rest : List Value} {D : va_G} {ct : Ct} {ad : Nat → Nat} {σ : St} {x1 : Int32} {Qp : Int32 → Prop} (C : CallFix p m c cc nL s args lw_all RX3) (hw : gH D ct shM ad s σ H locs) (hsz : ls.size = nL) (hrm : (rest.map fun v => v.category).sum ≤ 8) (hR : rm_m_isLeft.frames + 1 ≤ R.frames ∧ 8 + (3 + 11) + rm_m_isLeft.locals ≤ R.locals) (hdg : decode cc pc = .ok (.invokevirtual 322, 3)) (hf : m_isLeft σ x1 Qp) (kk : ∀ (r : Int32), Qp r → W p l e R s m args below meth c H locs 0 0 Z (F0 m (pc + 3) ls (.int r :: rest))) : W p l e R s m args below meth c H locs 0 0 Z (F0 m pc ls (.int x1 :: .ref (ad 0) :: rest)) :=
  g_callVR (As := [.int x1]) (rest := rest) C hw rfl rfl (met_m_isLeft l D ct ad hw.2.1 σ x1 Qp hf) (cwV 1 C.2.2.2.2 (lw_V q1727 q1729 qs129 q207 q1730) rfl rfl rfl (by decide +kernel) hR) rfl hsz rfl hrm ⟨Nat.zero_le _, Nat.zero_le _⟩ hdg kk
def m_copies_p2 (lnx0 : Nat) (x0 : Nat) (lnx1 : Nat) (x1 : Nat) (Q : Unit → St → Prop) (K2 : St → Int32 → Prop) (σ : St) (x2 : Int32) : Prop :=
  (((nI lnx0) ≤ x2 → Q () σ) ∧ (¬ (nI lnx0) ≤ x2 → (vp_in x2 lnx0 ∧ (vp_in x2 lnx1 ∧ (∀ s13 : St, s13 = s_A σ x1 (Int32.toNatClampNeg x2) (gI σ x0 x2) → K2 s13 (x2 + 1))))))
def m_copies (σ : St) (lnx0 : Nat) (lnx1 : Nat) (x0 : Nat) (x1 : Nat) (Q : Unit → St → Prop) : Prop :=
  (Lp2 (m_copies_p2 lnx0 x0 lnx1 x1 Q) σ 0)
abbrev rm_m_copies : Room := { frames := 0, cells := 0, slots := 0, locals := 0 }
set_option maxHeartbeats 4000000 in
theorem met_m_copies (l : Launch) (D : va_G) (ct : Ct) (ad : Nat → Nat) (hJ : gJ shM ad ct) (σ : St) (lnx0 : Nat) (lnx1 : Nat) (x0 : Nat) (x1 : Nat) (hkx0 : shM.2 x0 = (2, lnx0)) (hkx1 : shM.2 x1 = (2, lnx1)) (Q : Unit → St → Prop) (hf : m_copies σ lnx0 lnx1 x0 x1 Q) : Met l yX3_copies (ws_ yX3_copies cX3_copies 3 (none)) rm_m_copies (va_Pc [.ref (ad x0), .ref (ad x1)] (gP D ct shM ad σ)) (gQ rvV D ct shM ad Q) 0 0 (gA shM ad) := by
  refine g_metV hJ (by decide) (Nat.le_of_ble_eq_true rfl) ?_
  intro p e s m args below meth c QQ ls C hw hl hret
  replace hl : lv_has ls 3 [(0, .ref (ad x0)), (1, .ref (ad x1))] := hl
  have B2 : ∀ (K2 : St → Int32 → Prop) (_ : ∀ (σ : St) (H : Heap) (locs : List Loc) (x2 : Int32) (ls : Array Slot), K2 σ x2 → gH D ct shM ad s σ H locs → lv_has ls 3 [(0, .ref (ad x0)), (1, .ref (ad x1)), (2, .int x2)] → W p l e rm_m_copies s m args below meth c H locs 0 0 QQ (F0 m 2 ls [])) (σ : St) (H : Heap) (locs : List Loc) (x2 : Int32) (ls : Array Slot), m_copies_p2 lnx0 x0 lnx1 x1 Q K2 σ x2 → gH D ct shM ad s σ H locs → lv_has ls 3 [(0, .ref (ad x0)), (1, .ref (ad x1)), (2, .int x2)] → W p l e rm_m_copies s m args below meth c H locs 0 0 QQ (F0 m 2 ls []) := by
    intro K2 hK2 σ H locs x2 ls hf hw hl
    unfold m_copies_p2 at hf
    refine lv_iload_n C.1 C.2.1 dX3_copies_2 rfl (lv_at hl 2 rfl) ?_
    refine lv_aload_n C.1 C.2.1 dX3_copies_3 rfl (lv_at hl 0 rfl) ?_
    refine g_alen C hw x0 hkx0 dX3_copies_4 ?_
    refine lv_icmp_ge (tgt := 20) C.1 C.2.1 dX3_copies_5 (by decide) (fun h5 => ?_) (fun h5 => ?_)
    · replace hf := hf.1 h5
      exact hret _ _ _ _ _ _ hf hw dX3_copies_20
    · replace hf := hf.2 h5
      refine lv_aload_n C.1 C.2.1 dX3_copies_8 rfl (lv_at hl 1 rfl) ?_
      refine lv_iload_n C.1 C.2.1 dX3_copies_9 rfl (lv_at hl 2 rfl) ?_
      refine lv_aload_n C.1 C.2.1 dX3_copies_10 rfl (lv_at hl 0 rfl) ?_
      refine lv_iload_n C.1 C.2.1 dX3_copies_11 rfl (lv_at hl 2 rfl) ?_
      obtain ⟨b12, hf⟩ := hf
      refine g_iald C hw x0 hkx0 b12 dX3_copies_12 ?_
      obtain ⟨b13, hf⟩ := hf
      refine g_iast C shM_sep hw x1 hkx1 b13 dX3_copies_13 (fun s13 H locs e13 hw => ?_)
      replace hf := hf s13 e13
      refine lv_iinc (v := (x2 + 1)) (lv' := [(2, .int (x2 + 1)), (0, .ref (ad x0)), (1, .ref (ad x1))]) C.1 C.2.1 dX3_copies_14 hl (k := 2) rfl rfl (Nat.le_of_ble_eq_true rfl) rfl (fun ls hl => ?_)
      refine lv_goto (tgt := 2) C.1 C.2.1 dX3_copies_17 (by decide) ?_
      exact hK2 _ _ _ _ _ hf hw (lv_sub hl [1, 2, 0] rfl)
  have P2 : ∀ (n : Nat) (σ : St) (x2 : Int32) (ls : Array Slot) (H : Heap) (locs : List Loc), LL2 (m_copies_p2 lnx0 x0 lnx1 x1 Q) n σ x2 → gH D ct shM ad s σ H locs → lv_has ls 3 [(0, .ref (ad x0)), (1, .ref (ad x1)), (2, .int x2)] → W p l e rm_m_copies s m args below meth c H locs 0 0 QQ (F0 m 2 ls []) := by
    intro  n
    induction n with
    | zero => intro σ x2 ls H locs hf; exact False.elim hf
    | succ n ih => intro σ x2 ls H locs hf hw hl; exact B2  (LL2 _ n) (fun σ H locs x2 ls hf hw hl => ih σ x2 ls H locs hf hw hl) σ H locs x2 ls hf hw hl
  unfold m_copies at hf
  obtain ⟨H, hH⟩ : ∃ q, q = s.heap := ⟨_, rfl⟩
  obtain ⟨locs, hL⟩ : ∃ q : List Loc, q = [] := ⟨_, rfl⟩
  rw [← hH, ← hL] at hw ⊢
  refine lv_iconst (v := 0) C.1 C.2.1 dX3_copies_0 rfl ?_
  refine lv_istore_n (lv' := [(2, .int 0), (0, .ref (ad x0)), (1, .ref (ad x1))]) C.1 C.2.1 dX3_copies_1 rfl hl (Nat.le_of_ble_eq_true rfl) rfl (fun ls hl => ?_)
  obtain ⟨n, hf⟩ := hf
  exact P2  n _ _ _ _ _ hf hw (lv_sub hl [1, 2, 0] rfl)
theorem km_copies {p : Program} {l : Launch} {e : Env} {R : Room} {s : State} {m : MethodId} {args : Array Value} {below : List Frame} {meth : Method} {c : Code} {H : Heap} {locs : List Loc} {Z : State → Prop} {cc : ByteArray} {nL pc : Nat} {ls : Array Slot} {rest : List Value} {D : va_G} {ct : Ct} {ad : Nat → Nat} {σ : St} {lnx0 : Nat} {lnx1 : Nat} {x0 : Nat} {x1 : Nat} {Qp : Unit → St → Prop} (C : CallFix p m c cc nL s args lw_all RX3) (hw : gH D ct shM ad s σ H locs) (hsz : ls.size = nL) (hrm : (rest.map fun v => v.category).sum ≤ 8) (hR : rm_m_copies.frames + 1 ≤ R.frames ∧ 8 + (3 + 11) + rm_m_copies.locals ≤ R.locals) (hdg : decode cc pc = .ok (.invokestatic 232, 3)) (hkx0 : shM.2 x0 = (2, lnx0)) (hkx1 : shM.2 x1 = (2, lnx1)) (hf : m_copies σ lnx0 lnx1 x0 x1 Qp) (kk : ∀ (r : Unit) (σ1 : St) (H1 : Heap) (locs1 : List Loc), Qp r σ1 → gH D ct shM ad s σ1 H1 locs1 → W p l e R s m args below meth c H1 locs1 0 0 Z (F0 m (pc + 3) ls (rest))) : W p l e R s m args below meth c H locs 0 0 Z (F0 m pc ls (.ref (ad x1) :: .ref (ad x0) :: rest)) :=
  g_callS (As := [.ref (ad x0), .ref (ad x1)]) (rest := rest) C hw (met_m_copies l D ct ad hw.2.1 σ lnx0 lnx1 x0 x1 hkx0 hkx1 Qp hf) (va_cwS 2 C.2.2.2.2 (lw_S q1620 q1621 q207 q1622) rfl rfl rfl (by decide +kernel) hR) rfl hsz rfl hrm ⟨Nat.zero_le _, Nat.zero_le _⟩ hdg kk
def m_put_p3 (x1 : Int32) (Q : Unit → St → Prop) (K3 : St → Int32 → Prop) (σ : St) (x2 : Int32) : Prop :=
  ((x2 < 0 → Q () σ) ∧ (¬ x2 < 0 → (vp_in (σ.1 17) 400 ∧ (∀ s19 : St, s19 = s_A σ 20 (Int32.toNatClampNeg (σ.1 17)) (Int8.toInt32 (Int32.toInt8 (Int8.toInt32 (Int32.toInt8 (x1 >>> (x2 &&& 31)))))) → (∀ s27 : St, s27 = s_I s19 17 ((s19.1 17) + 1) → K3 s27 (x2 + (-8)))))))
def m_put (σ : St) (x1 : Int32) (Q : Unit → St → Prop) : Prop :=
  (Lp2 (m_put_p3 x1 Q) σ 24)
abbrev rm_m_put : Room := { frames := 0, cells := 0, slots := 0, locals := 0 }
set_option maxHeartbeats 4000000 in
theorem met_m_put (l : Launch) (D : va_G) (ct : Ct) (ad : Nat → Nat) (hJ : gJ shM ad ct) (σ : St) (x1 : Int32) (Q : Unit → St → Prop) (hf : m_put σ x1 Q) : Met l yX3_put (ws_ yX3_put cX3_put 3 (none)) rm_m_put (va_Pc [.ref (ad 0), .int x1] (gP D ct shM ad σ)) (gQ rvV D ct shM ad Q) 0 0 (gA shM ad) := by
  refine g_metV hJ (by decide) (Nat.le_of_ble_eq_true rfl) ?_
  intro p e s m args below meth c QQ ls C hw hl hret
  replace hl : lv_has ls 3 [(0, .ref (ad 0)), (1, .int x1)] := hl
  have B3 : ∀ (x1 : Int32) (K3 : St → Int32 → Prop) (_ : ∀ (σ : St) (H : Heap) (locs : List Loc) (x2 : Int32) (ls : Array Slot), K3 σ x2 → gH D ct shM ad s σ H locs → lv_has ls 3 [(0, .ref (ad 0)), (1, .int x1), (2, .int x2)] → W p l e rm_m_put s m args below meth c H locs 0 0 QQ (F0 m 3 ls [])) (σ : St) (H : Heap) (locs : List Loc) (x2 : Int32) (ls : Array Slot), m_put_p3 x1 Q K3 σ x2 → gH D ct shM ad s σ H locs → lv_has ls 3 [(0, .ref (ad 0)), (1, .int x1), (2, .int x2)] → W p l e rm_m_put s m args below meth c H locs 0 0 QQ (F0 m 3 ls []) := by
    intro x1 K3 hK3 σ H locs x2 ls hf hw hl
    unfold m_put_p3 at hf
    refine lv_iload_n C.1 C.2.1 dX3_put_3 rfl (lv_at hl 2 rfl) ?_
    refine lv_if_lt (tgt := 36) C.1 C.2.1 dX3_put_4 (by decide) (fun h4 => ?_) (fun h4 => ?_)
    · replace hf := hf.1 h4
      exact hret _ _ _ _ _ _ hf hw dX3_put_36
    · replace hf := hf.2 h4
      refine lv_aload_n C.1 C.2.1 dX3_put_7 rfl (lv_at hl 0 rfl) ?_
      refine mg_tape C hw dX3_put_8 ?_
      refine lv_aload_n C.1 C.2.1 dX3_put_11 rfl (lv_at hl 0 rfl) ?_
      refine mg_taped C hw dX3_put_12 ?_
      refine lv_iload_n C.1 C.2.1 dX3_put_15 rfl (lv_at hl 1 rfl) ?_
      refine lv_iload_n C.1 C.2.1 dX3_put_16 rfl (lv_at hl 2 rfl) ?_
      refine lv_ishr C.1 C.2.1 dX3_put_17 ?_
      refine lv_i2b C.1 C.2.1 dX3_put_18 rfl ?_
      obtain ⟨b19, hf⟩ := hf
      refine g_bast C shM_sep hw 20 rfl b19 dX3_put_19 (fun s19 H locs e19 hw => ?_)
      replace hf := hf s19 e19
      refine lv_aload_n C.1 C.2.1 dX3_put_20 rfl (lv_at hl 0 rfl) ?_
      refine lv_dup C.1 C.2.1 dX3_put_21 rfl ?_
      refine mg_taped C hw dX3_put_22 ?_
      refine lv_iconst (v := 1) C.1 C.2.1 dX3_put_25 rfl ?_
      refine lv_iadd C.1 C.2.1 dX3_put_26 ?_
      refine mp_taped C hw dX3_put_27 (fun s27 H locs e27 hw => ?_)
      replace hf := hf s27 e27
      refine lv_iinc (v := (x2 + (-8))) (lv' := [(2, .int (x2 + (-8))), (0, .ref (ad 0)), (1, .int x1)]) C.1 C.2.1 dX3_put_30 hl (k := 2) rfl rfl (Nat.le_of_ble_eq_true rfl) rfl (fun ls hl => ?_)
      refine lv_goto (tgt := 3) C.1 C.2.1 dX3_put_33 (by decide) ?_
      exact hK3 _ _ _ _ _ hf hw (lv_sub hl [1, 2, 0] rfl)
  have P3 : ∀ (x1 : Int32) (n : Nat) (σ : St) (x2 : Int32) (ls : Array Slot) (H : Heap) (locs : List Loc), LL2 (m_put_p3 x1 Q) n σ x2 → gH D ct shM ad s σ H locs → lv_has ls 3 [(0, .ref (ad 0)), (1, .int x1), (2, .int x2)] → W p l e rm_m_put s m args below meth c H locs 0 0 QQ (F0 m 3 ls []) := by
    intro x1 n
    induction n with
    | zero => intro σ x2 ls H locs hf; exact False.elim hf
    | succ n ih => intro σ x2 ls H locs hf hw hl; exact B3 x1 (LL2 _ n) (fun σ H locs x2 ls hf hw hl => ih σ x2 ls H locs hf hw hl) σ H locs x2 ls hf hw hl
  unfold m_put at hf
  obtain ⟨H, hH⟩ : ∃ q, q = s.heap := ⟨_, rfl⟩
  obtain ⟨locs, hL⟩ : ∃ q : List Loc, q = [] := ⟨_, rfl⟩
  rw [← hH, ← hL] at hw ⊢
  refine lv_bipush (v := 24) C.1 C.2.1 dX3_put_0 rfl ?_
  refine lv_istore_n (lv' := [(2, .int 24), (0, .ref (ad 0)), (1, .int x1)]) C.1 C.2.1 dX3_put_2 rfl hl (Nat.le_of_ble_eq_true rfl) rfl (fun ls hl => ?_)
  obtain ⟨n, hf⟩ := hf
  exact P3 _ n _ _ _ _ _ hf hw (lv_sub hl [1, 2, 0] rfl)
theorem km_put {p : Program} {l : Launch} {e : Env} {R : Room} {s : State} {m : MethodId} {args : Array Value} {below : List Frame} {meth : Method} {c : Code} {H : Heap} {locs : List Loc} {Z : State → Prop} {cc : ByteArray} {nL pc : Nat} {ls : Array Slot} {rest : List Value} {D : va_G} {ct : Ct} {ad : Nat → Nat} {σ : St} {x1 : Int32} {Qp : Unit → St → Prop} (C : CallFix p m c cc nL s args lw_all RX3) (hw : gH D ct shM ad s σ H locs) (hsz : ls.size = nL) (hrm : (rest.map fun v => v.category).sum ≤ 8) (hR : rm_m_put.frames + 1 ≤ R.frames ∧ 8 + (3 + 11) + rm_m_put.locals ≤ R.locals) (hdg : decode cc pc = .ok (.invokevirtual 169, 3)) (hf : m_put σ x1 Qp) (kk : ∀ (r : Unit) (σ1 : St) (H1 : Heap) (locs1 : List Loc), Qp r σ1 → gH D ct shM ad s σ1 H1 locs1 → W p l e R s m args below meth c H1 locs1 0 0 Z (F0 m (pc + 3) ls (rest))) : W p l e R s m args below meth c H locs 0 0 Z (F0 m pc ls (.int x1 :: .ref (ad 0) :: rest)) :=
  g_callV (As := [.int x1]) (rest := rest) C hw rfl rfl (met_m_put l D ct ad hw.2.1 σ x1 Qp hf) (cwV 1 C.2.2.2.2 (lw_V q1550 q1552 qs99 q207 q1553) rfl rfl rfl (by decide +kernel) hR) rfl hsz rfl hrm ⟨Nat.zero_le _, Nat.zero_le _⟩ hdg kk
def m_end (σ : St) (x1 : Int32) (Q : Int32 → St → Prop) : Prop :=
  ((x1 < 0 → Q (-1) σ) ∧ (¬ x1 < 0 → ((x1 ≤ (σ.1 17) → (∀ s16 : St, s16 = s_I σ 17 x1 → Q x1 s16)) ∧ (¬ x1 ≤ (σ.1 17) → Q (-1) σ))))
abbrev rm_m_end : Room := { frames := 0, cells := 0, slots := 0, locals := 0 }
set_option maxHeartbeats 4000000 in
theorem met_m_end (l : Launch) (D : va_G) (ct : Ct) (ad : Nat → Nat) (hJ : gJ shM ad ct) (σ : St) (x1 : Int32) (Q : Int32 → St → Prop) (hf : m_end σ x1 Q) : Met l yX3_end (ws_ yX3_end cX3_end 2 (some .int)) rm_m_end (va_Pc [.ref (ad 0), .int x1] (gP D ct shM ad σ)) (gQ rvI D ct shM ad Q) 0 0 (gA shM ad) := by
  refine g_metI hJ (by decide) (Nat.le_of_ble_eq_true rfl) ?_
  intro p e s m args below meth c QQ ls C hw hl hret
  replace hl : lv_has ls 2 [(0, .ref (ad 0)), (1, .int x1)] := hl
  unfold m_end at hf
  obtain ⟨H, hH⟩ : ∃ q, q = s.heap := ⟨_, rfl⟩
  obtain ⟨locs, hL⟩ : ∃ q : List Loc, q = [] := ⟨_, rfl⟩
  rw [← hH, ← hL] at hw ⊢
  refine lv_iload_n C.1 C.2.1 dX3_end_0 rfl (lv_at hl 1 rfl) ?_
  refine lv_if_lt (tgt := 12) C.1 C.2.1 dX3_end_1 (by decide) (fun h1 => ?_) (fun h1 => ?_)
  · replace hf := hf.1 h1
    refine lv_iconst (v := (-1)) C.1 C.2.1 dX3_end_12 rfl ?_
    exact hret _ _ _ _ _ _ hf hw dX3_end_13
  · replace hf := hf.2 h1
    refine lv_iload_n C.1 C.2.1 dX3_end_4 rfl (lv_at hl 1 rfl) ?_
    refine lv_aload_n C.1 C.2.1 dX3_end_5 rfl (lv_at hl 0 rfl) ?_
    refine mg_taped C hw dX3_end_6 ?_
    refine lv_icmp_le (tgt := 14) C.1 C.2.1 dX3_end_9 (by decide) (fun h9 => ?_) (fun h9 => ?_)
    · replace hf := hf.1 h9
      refine lv_aload_n C.1 C.2.1 dX3_end_14 rfl (lv_at hl 0 rfl) ?_
      refine lv_iload_n C.1 C.2.1 dX3_end_15 rfl (lv_at hl 1 rfl) ?_
      refine mp_taped C hw dX3_end_16 (fun s16 H locs e16 hw => ?_)
      replace hf := hf s16 e16
      refine lv_iload_n C.1 C.2.1 dX3_end_19 rfl (lv_at hl 1 rfl) ?_
      exact hret _ _ _ _ _ _ hf hw dX3_end_20
    · replace hf := hf.2 h9
      refine lv_iconst (v := (-1)) C.1 C.2.1 dX3_end_12 rfl ?_
      exact hret _ _ _ _ _ _ hf hw dX3_end_13
def m_fails (σ : St) (x1 : Int32) (x2 : Int32) (Q : Unit → St → Prop) : Prop :=
  (((σ.1 19) = 0 → (∀ s16 : St, s16 = s_I σ 19 ((1 + (8 * x2)) + x1) → Q () s16)) ∧ (¬ (σ.1 19) = 0 → Q () σ))
abbrev rm_m_fails : Room := { frames := 0, cells := 0, slots := 0, locals := 0 }
set_option maxHeartbeats 4000000 in
theorem met_m_fails (l : Launch) (D : va_G) (ct : Ct) (ad : Nat → Nat) (hJ : gJ shM ad ct) (σ : St) (x1 : Int32) (x2 : Int32) (Q : Unit → St → Prop) (hf : m_fails σ x1 x2 Q) : Met l yX3_fails (ws_ yX3_fails cX3_fails 3 (none)) rm_m_fails (va_Pc [.ref (ad 0), .int x1, .int x2] (gP D ct shM ad σ)) (gQ rvV D ct shM ad Q) 0 0 (gA shM ad) := by
  refine g_metV hJ (by decide) (Nat.le_of_ble_eq_true rfl) ?_
  intro p e s m args below meth c QQ ls C hw hl hret
  replace hl : lv_has ls 3 [(0, .ref (ad 0)), (1, .int x1), (2, .int x2)] := hl
  unfold m_fails at hf
  obtain ⟨H, hH⟩ : ∃ q, q = s.heap := ⟨_, rfl⟩
  obtain ⟨locs, hL⟩ : ∃ q : List Loc, q = [] := ⟨_, rfl⟩
  rw [← hH, ← hL] at hw ⊢
  refine lv_aload_n C.1 C.2.1 dX3_fails_0 rfl (lv_at hl 0 rfl) ?_
  refine mg_fault C hw dX3_fails_1 ?_
  refine lv_if_ne (tgt := 19) C.1 C.2.1 dX3_fails_4 (by decide) (fun h4 => ?_) (fun h4 => ?_)
  · replace hf := hf.2 h4
    exact hret _ _ _ _ _ _ hf hw dX3_fails_19
  · replace hf := hf.1 h4
    refine lv_aload_n C.1 C.2.1 dX3_fails_7 rfl (lv_at hl 0 rfl) ?_
    refine lv_iconst (v := 1) C.1 C.2.1 dX3_fails_8 rfl ?_
    refine lv_bipush (v := 8) C.1 C.2.1 dX3_fails_9 rfl ?_
    refine lv_iload_n C.1 C.2.1 dX3_fails_11 rfl (lv_at hl 2 rfl) ?_
    refine lv_imul C.1 C.2.1 dX3_fails_12 ?_
    refine lv_iadd C.1 C.2.1 dX3_fails_13 ?_
    refine lv_iload_n C.1 C.2.1 dX3_fails_14 rfl (lv_at hl 1 rfl) ?_
    refine lv_iadd C.1 C.2.1 dX3_fails_15 ?_
    refine mp_fault C hw dX3_fails_16 (fun s16 H locs e16 hw => ?_)
    replace hf := hf s16 e16
    exact hret _ _ _ _ _ _ hf hw dX3_fails_19
theorem km_fails {p : Program} {l : Launch} {e : Env} {R : Room} {s : State} {m : MethodId} {args : Array Value} {below : List Frame} {meth : Method} {c : Code} {H : Heap} {locs : List Loc} {Z : State → Prop} {cc : ByteArray} {nL pc : Nat} {ls : Array Slot} {rest : List Value} {D : va_G} {ct : Ct} {ad : Nat → Nat} {σ : St} {x1 : Int32} {x2 : Int32} {Qp : Unit → St → Prop} (C : CallFix p m c cc nL s args lw_all RX3) (hw : gH D ct shM ad s σ H locs) (hsz : ls.size = nL) (hrm : (rest.map fun v => v.category).sum ≤ 8) (hR : rm_m_fails.frames + 1 ≤ R.frames ∧ 8 + (3 + 11) + rm_m_fails.locals ≤ R.locals) (hdg : decode cc pc = .ok (.invokevirtual 205, 3)) (hf : m_fails σ x1 x2 Qp) (kk : ∀ (r : Unit) (σ1 : St) (H1 : Heap) (locs1 : List Loc), Qp r σ1 → gH D ct shM ad s σ1 H1 locs1 → W p l e R s m args below meth c H1 locs1 0 0 Z (F0 m (pc + 3) ls (rest))) : W p l e R s m args below meth c H locs 0 0 Z (F0 m pc ls (.int x2 :: .int x1 :: .ref (ad 0) :: rest)) :=
  g_callV (As := [.int x1, .int x2]) (rest := rest) C hw rfl rfl (met_m_fails l D ct ad hw.2.1 σ x1 x2 Qp hf) (cwV 2 C.2.2.2.2 (lw_V q1587 q1589 qs103 q207 q1590) rfl rfl rfl (by decide +kernel) hR) rfl hsz rfl hrm ⟨Nat.zero_le _, Nat.zero_le _⟩ hdg kk
def m_sign_p38 (σ : St) (Q : Int32 → St → Prop) : Prop :=
  (((σ.1 17) ≤ (σ.1 18) → Q (-1) σ) ∧ (¬ (σ.1 17) ≤ (σ.1 18) → (vp_in (σ.1 18) 400 ∧ Q ((gI σ 20 (σ.1 18)) &&& 255) σ)))
def m_sign_p0 (Q : Int32 → St → Prop) (K0 : St → Prop) (σ : St) : Prop :=
  (((σ.1 17) ≤ (σ.1 18) → (m_sign_p38 σ Q)) ∧ (¬ (σ.1 17) ≤ (σ.1 18) → (vp_in (σ.1 18) 400 ∧ (((gI σ 20 (σ.1 18)) = 32 → (∀ s32 : St, s32 = s_I σ 18 ((σ.1 18) + 1) → K0 s32)) ∧ (¬ (gI σ 20 (σ.1 18)) = 32 → (m_sign_p38 σ Q))))))
def m_sign (σ : St) (Q : Int32 → St → Prop) : Prop :=
  (Lp1 (m_sign_p0 Q) σ)
abbrev rm_m_sign : Room := { frames := 0, cells := 0, slots := 0, locals := 0 }
set_option maxHeartbeats 4000000 in
theorem met_m_sign (l : Launch) (D : va_G) (ct : Ct) (ad : Nat → Nat) (hJ : gJ shM ad ct) (σ : St) (Q : Int32 → St → Prop) (hf : m_sign σ Q) : Met l yX3_sign (ws_ yX3_sign cX3_sign 1 (some .int)) rm_m_sign (va_Pc [.ref (ad 0)] (gP D ct shM ad σ)) (gQ rvI D ct shM ad Q) 0 0 (gA shM ad) := by
  refine g_metI hJ (by decide) (Nat.le_of_ble_eq_true rfl) ?_
  intro p e s m args below meth c QQ ls C hw hl hret
  replace hl : lv_has ls 1 [(0, .ref (ad 0))] := hl
  have J38 : ∀ (σ : St) (H : Heap) (locs : List Loc) (ls : Array Slot), m_sign_p38 σ Q → gH D ct shM ad s σ H locs → lv_has ls 1 [(0, .ref (ad 0))] → W p l e rm_m_sign s m args below meth c H locs 0 0 QQ (F0 m 38 ls []) := by
    intro σ H locs ls hf hw hl
    unfold m_sign_p38 at hf
    refine lv_aload_n C.1 C.2.1 dX3_sign_38 rfl (lv_at hl 0 rfl) ?_
    refine mg_p C hw dX3_sign_39 ?_
    refine lv_aload_n C.1 C.2.1 dX3_sign_42 rfl (lv_at hl 0 rfl) ?_
    refine mg_taped C hw dX3_sign_43 ?_
    refine lv_icmp_ge (tgt := 65) C.1 C.2.1 dX3_sign_46 (by decide) (fun h46 => ?_) (fun h46 => ?_)
    · replace hf := hf.1 h46
      refine lv_iconst (v := (-1)) C.1 C.2.1 dX3_sign_65 rfl ?_
      exact hret _ _ _ _ _ _ hf hw dX3_sign_66
    · replace hf := hf.2 h46
      refine lv_aload_n C.1 C.2.1 dX3_sign_49 rfl (lv_at hl 0 rfl) ?_
      refine mg_tape C hw dX3_sign_50 ?_
      refine lv_aload_n C.1 C.2.1 dX3_sign_53 rfl (lv_at hl 0 rfl) ?_
      refine mg_p C hw dX3_sign_54 ?_
      obtain ⟨b57, hf⟩ := hf
      refine g_bald C hw 20 rfl b57 dX3_sign_57 ?_
      refine lv_sipush (v := 255) C.1 C.2.1 dX3_sign_58 rfl ?_
      refine lv_iand C.1 C.2.1 dX3_sign_61 ?_
      refine lv_goto (tgt := 66) C.1 C.2.1 dX3_sign_62 (by decide) ?_
      exact hret _ _ _ _ _ _ hf hw dX3_sign_66
  have B0 : ∀ (K0 : St → Prop) (_ : ∀ (σ : St) (H : Heap) (locs : List Loc) (ls : Array Slot), K0 σ → gH D ct shM ad s σ H locs → lv_has ls 1 [(0, .ref (ad 0))] → W p l e rm_m_sign s m args below meth c H locs 0 0 QQ (F0 m 0 ls [])) (σ : St) (H : Heap) (locs : List Loc) (ls : Array Slot), m_sign_p0 Q K0 σ → gH D ct shM ad s σ H locs → lv_has ls 1 [(0, .ref (ad 0))] → W p l e rm_m_sign s m args below meth c H locs 0 0 QQ (F0 m 0 ls []) := by
    intro K0 hK0 σ H locs ls hf hw hl
    unfold m_sign_p0 at hf
    refine lv_aload_n C.1 C.2.1 dX3_sign_0 rfl (lv_at hl 0 rfl) ?_
    refine mg_p C hw dX3_sign_1 ?_
    refine lv_aload_n C.1 C.2.1 dX3_sign_4 rfl (lv_at hl 0 rfl) ?_
    refine mg_taped C hw dX3_sign_5 ?_
    refine lv_icmp_ge (tgt := 38) C.1 C.2.1 dX3_sign_8 (by decide) (fun h8 => ?_) (fun h8 => ?_)
    · replace hf := hf.1 h8
      exact J38 _ _ _ _ hf hw (lv_sub hl [0] rfl)
    · replace hf := hf.2 h8
      refine lv_aload_n C.1 C.2.1 dX3_sign_11 rfl (lv_at hl 0 rfl) ?_
      refine mg_tape C hw dX3_sign_12 ?_
      refine lv_aload_n C.1 C.2.1 dX3_sign_15 rfl (lv_at hl 0 rfl) ?_
      refine mg_p C hw dX3_sign_16 ?_
      obtain ⟨b19, hf⟩ := hf
      refine g_bald C hw 20 rfl b19 dX3_sign_19 ?_
      refine lv_bipush (v := 32) C.1 C.2.1 dX3_sign_20 rfl ?_
      refine lv_icmp_ne (tgt := 38) C.1 C.2.1 dX3_sign_22 (by decide) (fun h22 => ?_) (fun h22 => ?_)
      · replace hf := hf.2 h22
        exact J38 _ _ _ _ hf hw (lv_sub hl [0] rfl)
      · replace hf := hf.1 h22
        refine lv_aload_n C.1 C.2.1 dX3_sign_25 rfl (lv_at hl 0 rfl) ?_
        refine lv_dup C.1 C.2.1 dX3_sign_26 rfl ?_
        refine mg_p C hw dX3_sign_27 ?_
        refine lv_iconst (v := 1) C.1 C.2.1 dX3_sign_30 rfl ?_
        refine lv_iadd C.1 C.2.1 dX3_sign_31 ?_
        refine mp_p C hw dX3_sign_32 (fun s32 H locs e32 hw => ?_)
        replace hf := hf s32 e32
        refine lv_goto (tgt := 0) C.1 C.2.1 dX3_sign_35 (by decide) ?_
        exact hK0 _ _ _ _ hf hw (lv_sub hl [0] rfl)
  have P0 : ∀ (n : Nat) (σ : St) (ls : Array Slot) (H : Heap) (locs : List Loc), LL1 (m_sign_p0 Q) n σ → gH D ct shM ad s σ H locs → lv_has ls 1 [(0, .ref (ad 0))] → W p l e rm_m_sign s m args below meth c H locs 0 0 QQ (F0 m 0 ls []) := by
    intro  n
    induction n with
    | zero => intro σ ls H locs hf; exact False.elim hf
    | succ n ih => intro σ ls H locs hf hw hl; exact B0  (LL1 _ n) (fun σ H locs  ls hf hw hl => ih σ ls H locs hf hw hl) σ H locs  ls hf hw hl
  unfold m_sign at hf
  obtain ⟨H, hH⟩ : ∃ q, q = s.heap := ⟨_, rfl⟩
  obtain ⟨locs, hL⟩ : ∃ q : List Loc, q = [] := ⟨_, rfl⟩
  rw [← hH, ← hL] at hw ⊢
  obtain ⟨n, hf⟩ := hf
  exact P0  n _ _ _ _ hf hw (lv_sub hl [0] rfl)
theorem km_sign {p : Program} {l : Launch} {e : Env} {R : Room} {s : State} {m : MethodId} {args : Array Value} {below : List Frame} {meth : Method} {c : Code} {H : Heap} {locs : List Loc} {Z : State → Prop} {cc : ByteArray} {nL pc : Nat} {ls : Array Slot} {rest : List Value} {D : va_G} {ct : Ct} {ad : Nat → Nat} {σ : St} {Qp : Int32 → St → Prop} (C : CallFix p m c cc nL s args lw_all RX3) (hw : gH D ct shM ad s σ H locs) (hsz : ls.size = nL) (hrm : (rest.map fun v => v.category).sum ≤ 8) (hR : rm_m_sign.frames + 1 ≤ R.frames ∧ 8 + (1 + 11) + rm_m_sign.locals ≤ R.locals) (hdg : decode cc pc = .ok (.invokevirtual 193, 3)) (hf : m_sign σ Qp) (kk : ∀ (r : Int32) (σ1 : St) (H1 : Heap) (locs1 : List Loc), Qp r σ1 → gH D ct shM ad s σ1 H1 locs1 → W p l e R s m args below meth c H1 locs1 0 0 Z (F0 m (pc + 3) ls (.int r :: rest))) : W p l e R s m args below meth c H locs 0 0 Z (F0 m pc ls (.ref (ad 0) :: rest)) :=
  g_callV (As := []) (rest := rest) C hw rfl rfl (met_m_sign l D ct ad hw.2.1 σ Qp hf) (cwV 0 C.2.2.2.2 (lw_V q1570 q1572 qs102 q207 q1573) rfl rfl rfl (by decide +kernel) hR) rfl hsz rfl hrm ⟨Nat.zero_le _, Nat.zero_le _⟩ hdg kk
def m_isNewLeft_p2 (σ : St) (x1 : Int32) (x2 : Int32) (Q : Int32 → Prop) (K2 : Int32 → Prop) (x3 : Int32) : Prop :=
  ((x2 ≤ x3 → Q 0) ∧ (¬ x2 ≤ x3 → (vp_in x3 12 ∧ (((gI σ 10 x3) = x1 → Q 1) ∧ (¬ (gI σ 10 x3) = x1 → K2 (x3 + 1))))))
def m_isNewLeft (σ : St) (x1 : Int32) (x2 : Int32) (Q : Int32 → Prop) : Prop :=
  (Lp1 (m_isNewLeft_p2 σ x1 x2 Q) 0)
abbrev rm_m_isNewLeft : Room := { frames := 0, cells := 0, slots := 0, locals := 0 }
set_option maxHeartbeats 4000000 in
theorem met_m_isNewLeft (l : Launch) (D : va_G) (ct : Ct) (ad : Nat → Nat) (hJ : gJ shM ad ct) (σ : St) (x1 : Int32) (x2 : Int32) (Q : Int32 → Prop) (hf : m_isNewLeft σ x1 x2 Q) : Met l yX3_isNewLeft (ws_ yX3_isNewLeft cX3_isNewLeft 4 (some .boolean)) rm_m_isNewLeft (va_Pc [.ref (ad 0), .int x1, .int x2] (gP D ct shM ad σ)) (gR rvI Q) 0 0 (fun _ => False) := by
  refine g_metRZ hJ (by decide) (Nat.le_of_ble_eq_true rfl) ?_
  intro p e s m args below meth c QQ ls H C hw hl hret
  replace hl : lv_has ls 4 [(0, .ref (ad 0)), (1, .int x1), (2, .int x2)] := hl
  have B2 : ∀ (x1 : Int32) (x2 : Int32) (K2 : Int32 → Prop) (_ : ∀ (x3 : Int32) (ls : Array Slot), K2 x3 → lv_has ls 4 [(0, .ref (ad 0)), (1, .int x1), (2, .int x2), (3, .int x3)] → W p l e rm_m_isNewLeft s m args below meth c H [] 0 0 QQ (F0 m 2 ls [])) (x3 : Int32) (ls : Array Slot), m_isNewLeft_p2 σ x1 x2 Q K2 x3 → lv_has ls 4 [(0, .ref (ad 0)), (1, .int x1), (2, .int x2), (3, .int x3)] → W p l e rm_m_isNewLeft s m args below meth c H [] 0 0 QQ (F0 m 2 ls []) := by
    intro x1 x2 K2 hK2 x3 ls hf hl
    unfold m_isNewLeft_p2 at hf
    refine lv_iload_n C.1 C.2.1 dX3_isNewLeft_2 rfl (lv_at hl 3 rfl) ?_
    refine lv_iload_n C.1 C.2.1 dX3_isNewLeft_3 rfl (lv_at hl 2 rfl) ?_
    refine lv_icmp_ge (tgt := 25) C.1 C.2.1 dX3_isNewLeft_4 (by decide) (fun h4 => ?_) (fun h4 => ?_)
    · replace hf := hf.1 h4
      refine lv_iconst (v := 0) C.1 C.2.1 dX3_isNewLeft_25 rfl ?_
      exact hret _ _ _ hf (Or.inl rfl) dX3_isNewLeft_26
    · replace hf := hf.2 h4
      refine lv_aload_n C.1 C.2.1 dX3_isNewLeft_7 rfl (lv_at hl 0 rfl) ?_
      refine mg_newLeft C hw dX3_isNewLeft_8 ?_
      refine lv_iload_n C.1 C.2.1 dX3_isNewLeft_11 rfl (lv_at hl 3 rfl) ?_
      obtain ⟨b12, hf⟩ := hf
      refine g_iald C hw 10 rfl b12 dX3_isNewLeft_12 ?_
      refine lv_iload_n C.1 C.2.1 dX3_isNewLeft_13 rfl (lv_at hl 1 rfl) ?_
      refine lv_icmp_ne (tgt := 19) C.1 C.2.1 dX3_isNewLeft_14 (by decide) (fun h14 => ?_) (fun h14 => ?_)
      · replace hf := hf.2 h14
        refine lv_iinc (v := (x3 + 1)) (lv' := [(3, .int (x3 + 1)), (0, .ref (ad 0)), (1, .int x1), (2, .int x2)]) C.1 C.2.1 dX3_isNewLeft_19 hl (k := 3) rfl rfl (Nat.le_of_ble_eq_true rfl) rfl (fun ls hl => ?_)
        refine lv_goto (tgt := 2) C.1 C.2.1 dX3_isNewLeft_22 (by decide) ?_
        exact hK2 _ _ hf (lv_sub hl [1, 2, 3, 0] rfl)
      · replace hf := hf.1 h14
        refine lv_iconst (v := 1) C.1 C.2.1 dX3_isNewLeft_17 rfl ?_
        exact hret _ _ _ hf (Or.inr rfl) dX3_isNewLeft_18
  have P2 : ∀ (x1 : Int32) (x2 : Int32) (n : Nat) (x3 : Int32) (ls : Array Slot), LL1 (m_isNewLeft_p2 σ x1 x2 Q) n x3 → lv_has ls 4 [(0, .ref (ad 0)), (1, .int x1), (2, .int x2), (3, .int x3)] → W p l e rm_m_isNewLeft s m args below meth c H [] 0 0 QQ (F0 m 2 ls []) := by
    intro x1 x2 n
    induction n with
    | zero => intro x3 ls hf; exact False.elim hf
    | succ n ih => intro x3 ls hf hl; exact B2 x1 x2 (LL1 _ n) ih x3 ls hf hl
  unfold m_isNewLeft at hf
  refine lv_iconst (v := 0) C.1 C.2.1 dX3_isNewLeft_0 rfl ?_
  refine lv_istore_n (lv' := [(3, .int 0), (0, .ref (ad 0)), (1, .int x1), (2, .int x2)]) C.1 C.2.1 dX3_isNewLeft_1 rfl hl (Nat.le_of_ble_eq_true rfl) rfl (fun ls hl => ?_)
  obtain ⟨n, hf⟩ := hf
  exact P2 _ _ n _ _ hf (lv_sub hl [1, 2, 3, 0] rfl)
theorem km_isNewLeft {p : Program} {l : Launch} {e : Env} {R : Room} {s : State} {m : MethodId} {args : Array Value} {below : List Frame} {meth : Method} {c : Code} {H : Heap} {locs : List Loc} {Z : State → Prop} {cc : ByteArray} {nL pc : Nat} {ls : Array Slot} {rest : List Value} {D : va_G} {ct : Ct} {ad : Nat → Nat} {σ : St} {x1 : Int32} {x2 : Int32} {Qp : Int32 → Prop} (C : CallFix p m c cc nL s args lw_all RX3) (hw : gH D ct shM ad s σ H locs) (hsz : ls.size = nL) (hrm : (rest.map fun v => v.category).sum ≤ 8) (hR : rm_m_isNewLeft.frames + 1 ≤ R.frames ∧ 8 + (4 + 11) + rm_m_isNewLeft.locals ≤ R.locals) (hdg : decode cc pc = .ok (.invokevirtual 190, 3)) (hf : m_isNewLeft σ x1 x2 Qp) (kk : ∀ (r : Int32), Qp r → W p l e R s m args below meth c H locs 0 0 Z (F0 m (pc + 3) ls (.int r :: rest))) : W p l e R s m args below meth c H locs 0 0 Z (F0 m pc ls (.int x2 :: .int x1 :: .ref (ad 0) :: rest)) :=
  g_callVR (As := [.int x1, .int x2]) (rest := rest) C hw rfl rfl (met_m_isNewLeft l D ct ad hw.2.1 σ x1 x2 Qp hf) (cwV 2 C.2.2.2.2 (lw_V q1591 q1593 qs104 q207 q1594) rfl rfl rfl (by decide +kernel) hR) rfl hsz rfl hrm ⟨Nat.zero_le _, Nat.zero_le _⟩ hdg kk
def m_sideOf (x0 : Int32) (Q : Int32 → Prop) : Prop :=
  ((x0 = 33 → Q 3) ∧ (¬ x0 = 33 → ((x0 = 60 → Q 1) ∧ (¬ x0 = 60 → ((x0 = 62 → Q 2) ∧ (¬ x0 = 62 → Q 0))))))
abbrev rm_m_sideOf : Room := { frames := 0, cells := 0, slots := 0, locals := 0 }
set_option maxHeartbeats 4000000 in
theorem met_m_sideOf (l : Launch) (x0 : Int32) (Q : Int32 → Prop) (hf : m_sideOf x0 Q) : Met l yX3_sideOf (ws_ yX3_sideOf cX3_sideOf 1 (some .int)) rm_m_sideOf (va_Pc [.int x0] (fun _ => True)) (gR rvI Q) 0 0 (fun _ => False) := by
  refine g_metSI (by decide) (Nat.le_of_ble_eq_true rfl) ?_
  intro p e s m args below meth c QQ ls H C hl hret
  replace hl : lv_has ls 1 [(0, .int x0)] := hl
  unfold m_sideOf at hf
  refine lv_iload_n C.1 C.2.1 dX3_sideOf_0 rfl (lv_at hl 0 rfl) ?_
  by_cases h1_33 : x0 = 33
  · replace hf := hf.1 h1_33
    refine lv_lookup (tgt := 40) C.1 C.2.1 dX3_sideOf_1 (by decide) (by rw [h1_33]; first | done | rfl) (by decide) ?_
    refine lv_iconst (v := 3) C.1 C.2.1 dX3_sideOf_40 rfl ?_
    exact hret _ _ _ hf dX3_sideOf_41
  · replace hf := hf.2 h1_33
    by_cases h1_60 : x0 = 60
    · replace hf := hf.1 h1_60
      refine lv_lookup (tgt := 36) C.1 C.2.1 dX3_sideOf_1 (by decide) (by rw [h1_60]; first | done | rfl) (by decide) ?_
      refine lv_iconst (v := 1) C.1 C.2.1 dX3_sideOf_36 rfl ?_
      exact hret _ _ _ hf dX3_sideOf_37
    · replace hf := hf.2 h1_60
      by_cases h1_62 : x0 = 62
      · replace hf := hf.1 h1_62
        refine lv_lookup (tgt := 38) C.1 C.2.1 dX3_sideOf_1 (by decide) (by rw [h1_62]; first | done | rfl) (by decide) ?_
        refine lv_iconst (v := 2) C.1 C.2.1 dX3_sideOf_38 rfl ?_
        exact hret _ _ _ hf dX3_sideOf_39
      · replace hf := hf.2 h1_62
        refine lv_lookup (tgt := 42) C.1 C.2.1 dX3_sideOf_1 (by decide) (lk_out_33_60_62 h1_33 h1_60 h1_62) (by decide) ?_
        refine lv_iconst (v := 0) C.1 C.2.1 dX3_sideOf_42 rfl ?_
        exact hret _ _ _ hf dX3_sideOf_43
def fm_sideOf (x0 : Int32) : Int32 :=
  (if x0 = 33 then 3 else (if x0 = 60 then 1 else (if x0 = 62 then 2 else 0)))
theorem m_sideOf_f {Q : Int32 → Prop} {x0 : Int32} (h : Q (fm_sideOf x0)) : m_sideOf x0 Q := by
  unfold fm_sideOf at h
  unfold m_sideOf
  refine ⟨fun c => ?_, fun c => ?_⟩
  · rw [if_pos c] at h
    exact h
  · rw [if_neg c] at h
    refine ⟨fun c => ?_, fun c => ?_⟩
    · rw [if_pos c] at h
      exact h
    · rw [if_neg c] at h
      refine ⟨fun c => ?_, fun c => ?_⟩
      · rw [if_pos c] at h
        exact h
      · rw [if_neg c] at h
        exact h
theorem km_sideOf {p : Program} {l : Launch} {e : Env} {R : Room} {s : State} {m : MethodId} {args : Array Value} {below : List Frame} {meth : Method} {c : Code} {H : Heap} {locs : List Loc} {Z : State → Prop} {cc : ByteArray} {nL pc : Nat} {ls : Array Slot} {rest : List Value} {x0 : Int32} (C : CallFix p m c cc nL s args lw_all RX3) (hsz : ls.size = nL) (hrm : (rest.map fun v => v.category).sum ≤ 8) (hR : rm_m_sideOf.frames + 1 ≤ R.frames ∧ 8 + (1 + 11) + rm_m_sideOf.locals ≤ R.locals) (hdg : decode cc pc = .ok (.invokestatic 216, 3)) (kk : W p l e R s m args below meth c H locs 0 0 Z (F0 m (pc + 3) ls (.int (fm_sideOf x0) :: rest))) : W p l e R s m args below meth c H locs 0 0 Z (F0 m pc ls (.int x0 :: rest)) :=
  g_callSRf (As := [.int x0]) (rest := rest) C (met_m_sideOf l x0 (fun r => r = fm_sideOf x0) (m_sideOf_f rfl)) (va_cwS 1 C.2.2.2.2 (lw_S q1609 q1610 q207 q1611) rfl rfl rfl (by decide +kernel) hR) rfl hsz rfl hrm ⟨Nat.zero_le _, Nat.zero_le _⟩ hdg kk
def m_joined (x0 : Int32) (x1 : Int32) (Q : Int32 → Prop) : Prop :=
  ((x0 < (2000000000 - x1) → Q (x0 + x1)) ∧ (¬ x0 < (2000000000 - x1) → Q 2000000000))
abbrev rm_m_joined : Room := { frames := 0, cells := 0, slots := 0, locals := 0 }
set_option maxHeartbeats 4000000 in
theorem met_m_joined (l : Launch) (x0 : Int32) (x1 : Int32) (Q : Int32 → Prop) (hf : m_joined x0 x1 Q) : Met l yX3_joined (ws_ yX3_joined cX3_joined 2 (some .int)) rm_m_joined (va_Pc [.int x0, .int x1] (fun _ => True)) (gR rvI Q) 0 0 (fun _ => False) := by
  refine g_metSI (by decide) (Nat.le_of_ble_eq_true rfl) ?_
  intro p e s m args below meth c QQ ls H C hl hret
  replace hl : lv_has ls 2 [(0, .int x0), (1, .int x1)] := hl
  unfold m_joined at hf
  refine lv_iload_n C.1 C.2.1 dX3_joined_0 rfl (lv_at hl 0 rfl) ?_
  refine lv_ldcw C.1 C.2.1 C.2.2.2.1 (C.2.2.2.2 _ q1760) dX3_joined_1 ?_
  refine lv_iload_n C.1 C.2.1 dX3_joined_4 rfl (lv_at hl 1 rfl) ?_
  refine lv_isub C.1 C.2.1 dX3_joined_5 ?_
  refine lv_icmp_lt (tgt := 15) C.1 C.2.1 dX3_joined_6 (by decide) (fun h6 => ?_) (fun h6 => ?_)
  · replace hf := hf.1 h6
    refine lv_iload_n C.1 C.2.1 dX3_joined_15 rfl (lv_at hl 0 rfl) ?_
    refine lv_iload_n C.1 C.2.1 dX3_joined_16 rfl (lv_at hl 1 rfl) ?_
    refine lv_iadd C.1 C.2.1 dX3_joined_17 ?_
    exact hret _ _ _ hf dX3_joined_18
  · replace hf := hf.2 h6
    refine lv_ldcw C.1 C.2.1 C.2.2.2.1 (C.2.2.2.2 _ q1760) dX3_joined_9 ?_
    refine lv_goto (tgt := 18) C.1 C.2.1 dX3_joined_12 (by decide) ?_
    exact hret _ _ _ hf dX3_joined_18
def fm_joined (x0 : Int32) (x1 : Int32) : Int32 :=
  (if x0 < (2000000000 - x1) then (x0 + x1) else 2000000000)
theorem m_joined_f {Q : Int32 → Prop} {x0 : Int32} {x1 : Int32} (h : Q (fm_joined x0 x1)) : m_joined x0 x1 Q := by
  unfold fm_joined at h
  unfold m_joined
  refine ⟨fun c => ?_, fun c => ?_⟩
  · rw [if_pos c] at h
    exact h
  · rw [if_neg c] at h
    exact h
theorem km_joined {p : Program} {l : Launch} {e : Env} {R : Room} {s : State} {m : MethodId} {args : Array Value} {below : List Frame} {meth : Method} {c : Code} {H : Heap} {locs : List Loc} {Z : State → Prop} {cc : ByteArray} {nL pc : Nat} {ls : Array Slot} {rest : List Value} {x0 : Int32} {x1 : Int32} (C : CallFix p m c cc nL s args lw_all RX3) (hsz : ls.size = nL) (hrm : (rest.map fun v => v.category).sum ≤ 8) (hR : rm_m_joined.frames + 1 ≤ R.frames ∧ 8 + (2 + 11) + rm_m_joined.locals ≤ R.locals) (hdg : decode cc pc = .ok (.invokestatic 328, 3)) (kk : W p l e R s m args below meth c H locs 0 0 Z (F0 m (pc + 3) ls (.int (fm_joined x0 x1) :: rest))) : W p l e R s m args below meth c H locs 0 0 Z (F0 m pc ls (.int x1 :: .int x0 :: rest)) :=
  g_callSRf (As := [.int x0, .int x1]) (rest := rest) C (met_m_joined l x0 x1 (fun r => r = fm_joined x0 x1) (m_joined_f rfl)) (va_cwS 2 C.2.2.2.2 (lw_S q1765 q1766 q207 q1767) rfl rfl rfl (by decide +kernel) hR) rfl hsz rfl hrm ⟨Nat.zero_le _, Nat.zero_le _⟩ hdg kk
def m_point (x0 : Int32) (x1 : Int32) (Q : Int64 → Prop) : Prop :=
  Q (1 <<< (Int32.toInt64 ((5 * x0) + x1) &&& 63))
abbrev rm_m_point : Room := { frames := 0, cells := 0, slots := 0, locals := 0 }
set_option maxHeartbeats 4000000 in
theorem met_m_point (l : Launch) (x0 : Int32) (x1 : Int32) (Q : Int64 → Prop) (hf : m_point x0 x1 Q) : Met l yX3_point (ws_ yX3_point cX3_point 2 (some .long)) rm_m_point (va_Pc [.int x0, .int x1] (fun _ => True)) (gR rvL Q) 0 0 (fun _ => False) := by
  refine g_metSL (by decide) (Nat.le_of_ble_eq_true rfl) ?_
  intro p e s m args below meth c QQ ls H C hl hret
  replace hl : lv_has ls 2 [(0, .int x0), (1, .int x1)] := hl
  unfold m_point at hf
  refine lv_lconst (v := 1) C.1 C.2.1 dX3_point_0 rfl ?_
  refine lv_iconst (v := 5) C.1 C.2.1 dX3_point_1 rfl ?_
  refine lv_iload_n C.1 C.2.1 dX3_point_2 rfl (lv_at hl 0 rfl) ?_
  refine lv_imul C.1 C.2.1 dX3_point_3 ?_
  refine lv_iload_n C.1 C.2.1 dX3_point_4 rfl (lv_at hl 1 rfl) ?_
  refine lv_iadd C.1 C.2.1 dX3_point_5 ?_
  refine lv_lshl C.1 C.2.1 dX3_point_6 rfl ?_
  exact hret _ _ _ hf dX3_point_7
def fm_point (x0 : Int32) (x1 : Int32) : Int64 :=
  (1 <<< (Int32.toInt64 ((5 * x0) + x1) &&& 63))
theorem m_point_f {Q : Int64 → Prop} {x0 : Int32} {x1 : Int32} (h : Q (fm_point x0 x1)) : m_point x0 x1 Q := by
  unfold fm_point at h
  unfold m_point
  exact h
theorem km_point {p : Program} {l : Launch} {e : Env} {R : Room} {s : State} {m : MethodId} {args : Array Value} {below : List Frame} {meth : Method} {c : Code} {H : Heap} {locs : List Loc} {Z : State → Prop} {cc : ByteArray} {nL pc : Nat} {ls : Array Slot} {rest : List Value} {x0 : Int32} {x1 : Int32} (C : CallFix p m c cc nL s args lw_all RX3) (hsz : ls.size = nL) (hrm : (rest.map fun v => v.category).sum ≤ 8) (hR : rm_m_point.frames + 1 ≤ R.frames ∧ 8 + (2 + 11) + rm_m_point.locals ≤ R.locals) (hdg : decode cc pc = .ok (.invokestatic 335, 3)) (kk : W p l e R s m args below meth c H locs 0 0 Z (F0 m (pc + 3) ls (.long (fm_point x0 x1) :: rest))) : W p l e R s m args below meth c H locs 0 0 Z (F0 m pc ls (.int x1 :: .int x0 :: rest)) :=
  g_callSRf (As := [.int x0, .int x1]) (rest := rest) C (met_m_point l x0 x1 (fun r => r = fm_point x0 x1) (m_point_f rfl)) (va_cwS 2 C.2.2.2.2 (lw_S q1642 q1643 q207 q1644) rfl rfl rfl (by decide +kernel) hR) rfl hsz rfl hrm ⟨Nat.zero_le _, Nat.zero_le _⟩ hdg kk
def m_isPoint (x0 : Int64) (x2 : Int32) (x3 : Int32) (Q : Int32 → Prop) : Prop :=
  ((((x0 >>> (Int32.toInt64 ((5 * x2) + x3) &&& 63)) &&& 1) = 1 → Q 1) ∧ (¬ ((x0 >>> (Int32.toInt64 ((5 * x2) + x3) &&& 63)) &&& 1) = 1 → Q 0))
abbrev rm_m_isPoint : Room := { frames := 0, cells := 0, slots := 0, locals := 0 }
set_option maxHeartbeats 4000000 in
theorem met_m_isPoint (l : Launch) (x0 : Int64) (x2 : Int32) (x3 : Int32) (Q : Int32 → Prop) (hf : m_isPoint x0 x2 x3 Q) : Met l yX3_isPoint (ws_ yX3_isPoint cX3_isPoint 4 (some .boolean)) rm_m_isPoint (va_Pc [.long x0, .int x2, .int x3] (fun _ => True)) (gR rvI Q) 0 0 (fun _ => False) := by
  refine g_metSZ (by decide) (Nat.le_of_ble_eq_true rfl) ?_
  intro p e s m args below meth c QQ ls H C hl hret
  replace hl : lv_has ls 4 [(0, .long x0), (2, .int x2), (3, .int x3)] := hl
  unfold m_isPoint at hf
  refine lv_lload_n C.1 C.2.1 dX3_isPoint_0 rfl (lv_at hl 0 rfl) ?_
  refine lv_iconst (v := 5) C.1 C.2.1 dX3_isPoint_1 rfl ?_
  refine lv_iload_n C.1 C.2.1 dX3_isPoint_2 rfl (lv_at hl 1 rfl) ?_
  refine lv_imul C.1 C.2.1 dX3_isPoint_3 ?_
  refine lv_iload_n C.1 C.2.1 dX3_isPoint_4 rfl (lv_at hl 2 rfl) ?_
  refine lv_iadd C.1 C.2.1 dX3_isPoint_5 ?_
  refine lv_lshr C.1 C.2.1 dX3_isPoint_6 rfl ?_
  refine lv_lconst (v := 1) C.1 C.2.1 dX3_isPoint_7 rfl ?_
  refine lv_land C.1 C.2.1 dX3_isPoint_8 ?_
  refine lv_lconst (v := 1) C.1 C.2.1 dX3_isPoint_9 rfl ?_
  refine W.lcmp C.1 C.2.1 dX3_isPoint_10 ?_
  refine lv_if_ne (tgt := 18) C.1 C.2.1 dX3_isPoint_11 (by decide) (fun h11 => ?_) (fun h11 => ?_)
  · replace hf := hf.2 (fun q => h11 ((lg_cmp_eq _ _).mpr q))
    refine lv_iconst (v := 0) C.1 C.2.1 dX3_isPoint_18 rfl ?_
    exact hret _ _ _ hf (Or.inl rfl) dX3_isPoint_19
  · replace hf := hf.1 ((lg_cmp_eq _ _).mp h11)
    refine lv_iconst (v := 1) C.1 C.2.1 dX3_isPoint_14 rfl ?_
    refine lv_goto (tgt := 19) C.1 C.2.1 dX3_isPoint_15 (by decide) ?_
    exact hret _ _ _ hf (Or.inr rfl) dX3_isPoint_19
def fm_isPoint (x0 : Int64) (x2 : Int32) (x3 : Int32) : Int32 :=
  (if ((x0 >>> (Int32.toInt64 ((5 * x2) + x3) &&& 63)) &&& 1) = 1 then 1 else 0)
theorem fm_isPoint_z {x0 : Int64} {x2 : Int32} {x3 : Int32} : zB (fm_isPoint x0 x2 x3) := by
  unfold fm_isPoint
  repeat' split
  all_goals first | exact Or.inl rfl | exact Or.inr rfl
theorem m_isPoint_f {Q : Int32 → Prop} {x0 : Int64} {x2 : Int32} {x3 : Int32} (h : Q (fm_isPoint x0 x2 x3)) : m_isPoint x0 x2 x3 Q := by
  unfold fm_isPoint at h
  unfold m_isPoint
  refine ⟨fun c => ?_, fun c => ?_⟩
  · rw [if_pos c] at h
    exact h
  · rw [if_neg c] at h
    exact h
theorem km_isPoint {p : Program} {l : Launch} {e : Env} {R : Room} {s : State} {m : MethodId} {args : Array Value} {below : List Frame} {meth : Method} {c : Code} {H : Heap} {locs : List Loc} {Z : State → Prop} {cc : ByteArray} {nL pc : Nat} {ls : Array Slot} {rest : List Value} {x0 : Int64} {x2 : Int32} {x3 : Int32} (C : CallFix p m c cc nL s args lw_all RX3) (hsz : ls.size = nL) (hrm : (rest.map fun v => v.category).sum ≤ 8) (hR : rm_m_isPoint.frames + 1 ≤ R.frames ∧ 8 + (4 + 11) + rm_m_isPoint.locals ≤ R.locals) (hdg : decode cc pc = .ok (.invokestatic 339, 3)) (kk : W p l e R s m args below meth c H locs 0 0 Z (F0 m (pc + 3) ls (.int (fm_isPoint x0 x2 x3) :: rest))) : W p l e R s m args below meth c H locs 0 0 Z (F0 m pc ls (.int x3 :: .int x2 :: .long x0 :: rest)) :=
  g_callSRf (As := [.long x0, .int x2, .int x3]) (rest := rest) C (met_m_isPoint l x0 x2 x3 (fun r => r = fm_isPoint x0 x2 x3) (m_isPoint_f rfl)) (va_cwS 3 C.2.2.2.2 (lw_S q1649 q1650 q207 q1651) rfl rfl rfl (by decide +kernel) hR) rfl hsz rfl hrm ⟨Nat.zero_le _, Nat.zero_le _⟩ hdg kk
def m_numberOf_p2 (σ : St) (x1 : Int64) (Q : Int32 → Prop) (K2 : Int32 → Prop) (x3 : Int32) : Prop :=
  (((σ.1 36) ≤ x3 → Q (-1)) ∧ (¬ (σ.1 36) ≤ x3 → (vp_in x3 90 ∧ (((gL σ 34 x3) = x1 → Q x3) ∧ (¬ (gL σ 34 x3) = x1 → K2 (x3 + 1))))))
def m_numberOf (σ : St) (x1 : Int64) (Q : Int32 → Prop) : Prop :=
  (Lp1 (m_numberOf_p2 σ x1 Q) 0)
abbrev rm_m_numberOf : Room := { frames := 0, cells := 0, slots := 0, locals := 0 }
set_option maxHeartbeats 4000000 in
theorem met_m_numberOf (l : Launch) (D : va_G) (ct : Ct) (ad : Nat → Nat) (hJ : gJ shM ad ct) (σ : St) (x1 : Int64) (Q : Int32 → Prop) (hf : m_numberOf σ x1 Q) : Met l yX3_numberOf (ws_ yX3_numberOf cX3_numberOf 4 (some .int)) rm_m_numberOf (va_Pc [.ref (ad 0), .long x1] (gP D ct shM ad σ)) (gR rvI Q) 0 0 (fun _ => False) := by
  refine g_metRI hJ (by decide) (Nat.le_of_ble_eq_true rfl) ?_
  intro p e s m args below meth c QQ ls H C hw hl hret
  replace hl : lv_has ls 4 [(0, .ref (ad 0)), (1, .long x1)] := hl
  have B2 : ∀ (x1 : Int64) (K2 : Int32 → Prop) (_ : ∀ (x3 : Int32) (ls : Array Slot), K2 x3 → lv_has ls 4 [(0, .ref (ad 0)), (1, .long x1), (3, .int x3)] → W p l e rm_m_numberOf s m args below meth c H [] 0 0 QQ (F0 m 2 ls [])) (x3 : Int32) (ls : Array Slot), m_numberOf_p2 σ x1 Q K2 x3 → lv_has ls 4 [(0, .ref (ad 0)), (1, .long x1), (3, .int x3)] → W p l e rm_m_numberOf s m args below meth c H [] 0 0 QQ (F0 m 2 ls []) := by
    intro x1 K2 hK2 x3 ls hf hl
    unfold m_numberOf_p2 at hf
    refine lv_iload_n C.1 C.2.1 dX3_numberOf_2 rfl (lv_at hl 2 rfl) ?_
    refine lv_aload_n C.1 C.2.1 dX3_numberOf_3 rfl (lv_at hl 0 rfl) ?_
    refine mg_manyStates C hw dX3_numberOf_4 ?_
    refine lv_icmp_ge (tgt := 29) C.1 C.2.1 dX3_numberOf_7 (by decide) (fun h7 => ?_) (fun h7 => ?_)
    · replace hf := hf.1 h7
      refine lv_iconst (v := (-1)) C.1 C.2.1 dX3_numberOf_29 rfl ?_
      exact hret _ _ _ hf dX3_numberOf_30
    · replace hf := hf.2 h7
      refine lv_aload_n C.1 C.2.1 dX3_numberOf_10 rfl (lv_at hl 0 rfl) ?_
      refine mg_stateOf C hw dX3_numberOf_11 ?_
      refine lv_iload_n C.1 C.2.1 dX3_numberOf_14 rfl (lv_at hl 2 rfl) ?_
      obtain ⟨b15, hf⟩ := hf
      refine g_lald C hw 34 rfl b15 dX3_numberOf_15 ?_
      refine lv_lload_n C.1 C.2.1 dX3_numberOf_16 rfl (lv_at hl 1 rfl) ?_
      refine W.lcmp C.1 C.2.1 dX3_numberOf_17 ?_
      refine lv_if_ne (tgt := 23) C.1 C.2.1 dX3_numberOf_18 (by decide) (fun h18 => ?_) (fun h18 => ?_)
      · replace hf := hf.2 (fun q => h18 ((lg_cmp_eq _ _).mpr q))
        refine lv_iinc (v := (x3 + 1)) (lv' := [(3, .int (x3 + 1)), (0, .ref (ad 0)), (1, .long x1)]) C.1 C.2.1 dX3_numberOf_23 hl (k := 2) rfl rfl (Nat.le_of_ble_eq_true rfl) rfl (fun ls hl => ?_)
        refine lv_goto (tgt := 2) C.1 C.2.1 dX3_numberOf_26 (by decide) ?_
        exact hK2 _ _ hf (lv_sub hl [1, 2, 0] rfl)
      · replace hf := hf.1 ((lg_cmp_eq _ _).mp h18)
        refine lv_iload_n C.1 C.2.1 dX3_numberOf_21 rfl (lv_at hl 2 rfl) ?_
        exact hret _ _ _ hf dX3_numberOf_22
  have P2 : ∀ (x1 : Int64) (n : Nat) (x3 : Int32) (ls : Array Slot), LL1 (m_numberOf_p2 σ x1 Q) n x3 → lv_has ls 4 [(0, .ref (ad 0)), (1, .long x1), (3, .int x3)] → W p l e rm_m_numberOf s m args below meth c H [] 0 0 QQ (F0 m 2 ls []) := by
    intro x1 n
    induction n with
    | zero => intro x3 ls hf; exact False.elim hf
    | succ n ih => intro x3 ls hf hl; exact B2 x1 (LL1 _ n) ih x3 ls hf hl
  unfold m_numberOf at hf
  refine lv_iconst (v := 0) C.1 C.2.1 dX3_numberOf_0 rfl ?_
  refine lv_istore_n (lv' := [(3, .int 0), (0, .ref (ad 0)), (1, .long x1)]) C.1 C.2.1 dX3_numberOf_1 rfl hl (Nat.le_of_ble_eq_true rfl) rfl (fun ls hl => ?_)
  obtain ⟨n, hf⟩ := hf
  exact P2 _ n _ _ hf (lv_sub hl [1, 2, 0] rfl)
theorem km_numberOf {p : Program} {l : Launch} {e : Env} {R : Room} {s : State} {m : MethodId} {args : Array Value} {below : List Frame} {meth : Method} {c : Code} {H : Heap} {locs : List Loc} {Z : State → Prop} {cc : ByteArray} {nL pc : Nat} {ls : Array Slot} {rest : List Value} {D : va_G} {ct : Ct} {ad : Nat → Nat} {σ : St} {x1 : Int64} {Qp : Int32 → Prop} (C : CallFix p m c cc nL s args lw_all RX3) (hw : gH D ct shM ad s σ H locs) (hsz : ls.size = nL) (hrm : (rest.map fun v => v.category).sum ≤ 8) (hR : rm_m_numberOf.frames + 1 ≤ R.frames ∧ 8 + (4 + 11) + rm_m_numberOf.locals ≤ R.locals) (hdg : decode cc pc = .ok (.invokevirtual 358, 3)) (hf : m_numberOf σ x1 Qp) (kk : ∀ (r : Int32), Qp r → W p l e R s m args below meth c H locs 0 0 Z (F0 m (pc + 3) ls (.int r :: rest))) : W p l e R s m args below meth c H locs 0 0 Z (F0 m pc ls (.long x1 :: .ref (ad 0) :: rest)) :=
  g_callVR (As := [.long x1]) (rest := rest) C hw rfl rfl (met_m_numberOf l D ct ad hw.2.1 σ x1 Qp hf) (cwV 1 C.2.2.2.2 (lw_V q1660 q1662 qs117 q207 q1663) rfl rfl rfl (by decide +kernel) hR) rfl hsz rfl hrm ⟨Nat.zero_le _, Nat.zero_le _⟩ hdg kk
def m_isNew (σ : St) (Q : Unit → St → Prop) : Prop :=
  (∀ s7 : St, s7 = s_I σ 37 ((σ.1 37) &&& 1) → Q () s7)
abbrev rm_m_isNew : Room := { frames := 0, cells := 0, slots := 0, locals := 0 }
set_option maxHeartbeats 4000000 in
theorem met_m_isNew (l : Launch) (D : va_G) (ct : Ct) (ad : Nat → Nat) (hJ : gJ shM ad ct) (σ : St) (Q : Unit → St → Prop) (hf : m_isNew σ Q) : Met l yX3_isNew (ws_ yX3_isNew cX3_isNew 1 (none)) rm_m_isNew (va_Pc [.ref (ad 0)] (gP D ct shM ad σ)) (gQ rvV D ct shM ad Q) 0 0 (gA shM ad) := by
  refine g_metV hJ (by decide) (Nat.le_of_ble_eq_true rfl) ?_
  intro p e s m args below meth c QQ ls C hw hl hret
  replace hl : lv_has ls 1 [(0, .ref (ad 0))] := hl
  unfold m_isNew at hf
  obtain ⟨H, hH⟩ : ∃ q, q = s.heap := ⟨_, rfl⟩
  obtain ⟨locs, hL⟩ : ∃ q : List Loc, q = [] := ⟨_, rfl⟩
  rw [← hH, ← hL] at hw ⊢
  refine lv_aload_n C.1 C.2.1 dX3_isNew_0 rfl (lv_at hl 0 rfl) ?_
  refine lv_dup C.1 C.2.1 dX3_isNew_1 rfl ?_
  refine mg_isLaid C hw dX3_isNew_2 ?_
  refine lv_iconst (v := 1) C.1 C.2.1 dX3_isNew_5 rfl ?_
  refine lv_iand C.1 C.2.1 dX3_isNew_6 ?_
  refine mp_isLaid C hw dX3_isNew_7 (fun s7 H locs e7 hw => ?_)
  replace hf := hf s7 e7
  exact hret _ _ _ _ _ _ hf hw dX3_isNew_10
theorem km_isNew {p : Program} {l : Launch} {e : Env} {R : Room} {s : State} {m : MethodId} {args : Array Value} {below : List Frame} {meth : Method} {c : Code} {H : Heap} {locs : List Loc} {Z : State → Prop} {cc : ByteArray} {nL pc : Nat} {ls : Array Slot} {rest : List Value} {D : va_G} {ct : Ct} {ad : Nat → Nat} {σ : St} {Qp : Unit → St → Prop} (C : CallFix p m c cc nL s args lw_all RX3) (hw : gH D ct shM ad s σ H locs) (hsz : ls.size = nL) (hrm : (rest.map fun v => v.category).sum ≤ 8) (hR : rm_m_isNew.frames + 1 ≤ R.frames ∧ 8 + (1 + 11) + rm_m_isNew.locals ≤ R.locals) (hdg : decode cc pc = .ok (.invokevirtual 393, 3)) (hf : m_isNew σ Qp) (kk : ∀ (r : Unit) (σ1 : St) (H1 : Heap) (locs1 : List Loc), Qp r σ1 → gH D ct shM ad s σ1 H1 locs1 → W p l e R s m args below meth c H1 locs1 0 0 Z (F0 m (pc + 3) ls (rest))) : W p l e R s m args below meth c H locs 0 0 Z (F0 m pc ls (.ref (ad 0) :: rest)) :=
  g_callV (As := []) (rest := rest) C hw rfl rfl (met_m_isNew l D ct ad hw.2.1 σ Qp hf) (cwV 0 C.2.2.2.2 (lw_V q1823 q1825 qs142 q207 q1826) rfl rfl rfl (by decide +kernel) hR) rfl hsz rfl hrm ⟨Nat.zero_le _, Nat.zero_le _⟩ hdg kk
def m_moves_p20 (σ : St) (Q : Int32 → St → Prop) (v0 : Int32) : Prop :=
  (vp_in (σ.1 41) 480 ∧ (∀ s30 : St, s30 = s_A σ 38 (Int32.toNatClampNeg (σ.1 41)) v0 → (∀ s38 : St, s38 = s_I s30 41 ((s30.1 41) + 1) → Q v0 s38)))
def m_moves (σ : St) (x1 : Int32) (Q : Int32 → St → Prop) : Prop :=
  (((σ.1 42) = 0 → (m_moves_p20 σ Q x1)) ∧ (¬ (σ.1 42) = 0 → (vp_in (σ.1 41) 480 ∧ (m_moves_p20 σ Q (gI σ 38 (σ.1 41))))))
abbrev rm_m_moves : Room := { frames := 0, cells := 0, slots := 0, locals := 0 }
set_option maxHeartbeats 4000000 in
theorem met_m_moves (l : Launch) (D : va_G) (ct : Ct) (ad : Nat → Nat) (hJ : gJ shM ad ct) (σ : St) (x1 : Int32) (Q : Int32 → St → Prop) (hf : m_moves σ x1 Q) : Met l yX3_moves (ws_ yX3_moves cX3_moves 3 (some .int)) rm_m_moves (va_Pc [.ref (ad 0), .int x1] (gP D ct shM ad σ)) (gQ rvI D ct shM ad Q) 0 0 (gA shM ad) := by
  refine g_metI hJ (by decide) (Nat.le_of_ble_eq_true rfl) ?_
  intro p e s m args below meth c QQ ls C hw hl hret
  replace hl : lv_has ls 3 [(0, .ref (ad 0)), (1, .int x1)] := hl
  have J20 : ∀ (σ : St) (H : Heap) (locs : List Loc) (v0 : Int32) (ls : Array Slot), m_moves_p20 σ Q v0 → gH D ct shM ad s σ H locs → lv_has ls 3 [(0, .ref (ad 0))] → W p l e rm_m_moves s m args below meth c H locs 0 0 QQ (F0 m 20 ls [.int v0]) := by
    intro σ H locs v0 ls hf hw hl
    unfold m_moves_p20 at hf
    refine lv_istore_n (lv' := [(2, .int v0), (0, .ref (ad 0))]) C.1 C.2.1 dX3_moves_20 rfl hl (Nat.le_of_ble_eq_true rfl) rfl (fun ls hl => ?_)
    refine lv_aload_n C.1 C.2.1 dX3_moves_21 rfl (lv_at hl 1 rfl) ?_
    refine mg_past C hw dX3_moves_22 ?_
    refine lv_aload_n C.1 C.2.1 dX3_moves_25 rfl (lv_at hl 1 rfl) ?_
    refine mg_pastAt C hw dX3_moves_26 ?_
    refine lv_iload_n C.1 C.2.1 dX3_moves_29 rfl (lv_at hl 0 rfl) ?_
    obtain ⟨b30, hf⟩ := hf
    refine g_iast C shM_sep hw 38 rfl b30 dX3_moves_30 (fun s30 H locs e30 hw => ?_)
    replace hf := hf s30 e30
    refine lv_aload_n C.1 C.2.1 dX3_moves_31 rfl (lv_at hl 1 rfl) ?_
    refine lv_dup C.1 C.2.1 dX3_moves_32 rfl ?_
    refine mg_pastAt C hw dX3_moves_33 ?_
    refine lv_iconst (v := 1) C.1 C.2.1 dX3_moves_36 rfl ?_
    refine lv_iadd C.1 C.2.1 dX3_moves_37 ?_
    refine mp_pastAt C hw dX3_moves_38 (fun s38 H locs e38 hw => ?_)
    replace hf := hf s38 e38
    refine lv_iload_n C.1 C.2.1 dX3_moves_41 rfl (lv_at hl 0 rfl) ?_
    exact hret _ _ _ _ _ _ hf hw dX3_moves_42
  unfold m_moves at hf
  obtain ⟨H, hH⟩ : ∃ q, q = s.heap := ⟨_, rfl⟩
  obtain ⟨locs, hL⟩ : ∃ q : List Loc, q = [] := ⟨_, rfl⟩
  rw [← hH, ← hL] at hw ⊢
  refine lv_aload_n C.1 C.2.1 dX3_moves_0 rfl (lv_at hl 0 rfl) ?_
  refine mg_takesBack C hw dX3_moves_1 ?_
  refine lv_if_eq (tgt := 19) C.1 C.2.1 dX3_moves_4 (by decide) (fun h4 => ?_) (fun h4 => ?_)
  · replace hf := hf.1 h4
    refine lv_iload_n C.1 C.2.1 dX3_moves_19 rfl (lv_at hl 1 rfl) ?_
    exact J20 _ _ _ _ _ hf hw (lv_sub hl [0] rfl)
  · replace hf := hf.2 h4
    refine lv_aload_n C.1 C.2.1 dX3_moves_7 rfl (lv_at hl 0 rfl) ?_
    refine mg_past C hw dX3_moves_8 ?_
    refine lv_aload_n C.1 C.2.1 dX3_moves_11 rfl (lv_at hl 0 rfl) ?_
    refine mg_pastAt C hw dX3_moves_12 ?_
    obtain ⟨b15, hf⟩ := hf
    refine g_iald C hw 38 rfl b15 dX3_moves_15 ?_
    refine lv_goto (tgt := 20) C.1 C.2.1 dX3_moves_16 (by decide) ?_
    exact J20 _ _ _ _ _ hf hw (lv_sub hl [0] rfl)
theorem km_moves {p : Program} {l : Launch} {e : Env} {R : Room} {s : State} {m : MethodId} {args : Array Value} {below : List Frame} {meth : Method} {c : Code} {H : Heap} {locs : List Loc} {Z : State → Prop} {cc : ByteArray} {nL pc : Nat} {ls : Array Slot} {rest : List Value} {D : va_G} {ct : Ct} {ad : Nat → Nat} {σ : St} {x1 : Int32} {Qp : Int32 → St → Prop} (C : CallFix p m c cc nL s args lw_all RX3) (hw : gH D ct shM ad s σ H locs) (hsz : ls.size = nL) (hrm : (rest.map fun v => v.category).sum ≤ 8) (hR : rm_m_moves.frames + 1 ≤ R.frames ∧ 8 + (3 + 11) + rm_m_moves.locals ≤ R.locals) (hdg : decode cc pc = .ok (.invokevirtual 382, 3)) (hf : m_moves σ x1 Qp) (kk : ∀ (r : Int32) (σ1 : St) (H1 : Heap) (locs1 : List Loc), Qp r σ1 → gH D ct shM ad s σ1 H1 locs1 → W p l e R s m args below meth c H1 locs1 0 0 Z (F0 m (pc + 3) ls (.int r :: rest))) : W p l e R s m args below meth c H locs 0 0 Z (F0 m pc ls (.int x1 :: .ref (ad 0) :: rest)) :=
  g_callV (As := [.int x1]) (rest := rest) C hw rfl rfl (met_m_moves l D ct ad hw.2.1 σ x1 Qp hf) (cwV 1 C.2.2.2.2 (lw_V q1806 q1808 qs139 q207 q1809) rfl rfl rfl (by decide +kernel) hR) rfl hsz rfl hrm ⟨Nat.zero_le _, Nat.zero_le _⟩ hdg kk
def m_banOf_p2 (σ : St) (x1 : Int32) (Q : Int32 → Prop) (K2 : Int32 → Prop) (x2 : Int32) : Prop :=
  (((gI σ 2 4) ≤ x2 → Q (-1)) ∧ (¬ (gI σ 2 4) ≤ x2 → (vp_in x2 8 ∧ (((gI σ 9 x2) = x1 → Q x2) ∧ (¬ (gI σ 9 x2) = x1 → K2 (x2 + 1))))))
def m_banOf (σ : St) (x1 : Int32) (Q : Int32 → Prop) : Prop :=
  (Lp1 (m_banOf_p2 σ x1 Q) 0)
abbrev rm_m_banOf : Room := { frames := 0, cells := 0, slots := 0, locals := 0 }
set_option maxHeartbeats 4000000 in
theorem met_m_banOf (l : Launch) (D : va_G) (ct : Ct) (ad : Nat → Nat) (hJ : gJ shM ad ct) (σ : St) (x1 : Int32) (Q : Int32 → Prop) (hf : m_banOf σ x1 Q) : Met l yX3_banOf (ws_ yX3_banOf cX3_banOf 3 (some .int)) rm_m_banOf (va_Pc [.ref (ad 0), .int x1] (gP D ct shM ad σ)) (gR rvI Q) 0 0 (fun _ => False) := by
  refine g_metRI hJ (by decide) (Nat.le_of_ble_eq_true rfl) ?_
  intro p e s m args below meth c QQ ls H C hw hl hret
  replace hl : lv_has ls 3 [(0, .ref (ad 0)), (1, .int x1)] := hl
  have B2 : ∀ (x1 : Int32) (K2 : Int32 → Prop) (_ : ∀ (x2 : Int32) (ls : Array Slot), K2 x2 → lv_has ls 3 [(0, .ref (ad 0)), (1, .int x1), (2, .int x2)] → W p l e rm_m_banOf s m args below meth c H [] 0 0 QQ (F0 m 2 ls [])) (x2 : Int32) (ls : Array Slot), m_banOf_p2 σ x1 Q K2 x2 → lv_has ls 3 [(0, .ref (ad 0)), (1, .int x1), (2, .int x2)] → W p l e rm_m_banOf s m args below meth c H [] 0 0 QQ (F0 m 2 ls []) := by
    intro x1 K2 hK2 x2 ls hf hl
    unfold m_banOf_p2 at hf
    refine lv_iload_n C.1 C.2.1 dX3_banOf_2 rfl (lv_at hl 2 rfl) ?_
    refine lv_aload_n C.1 C.2.1 dX3_banOf_3 rfl (lv_at hl 0 rfl) ?_
    refine mg_scalar C hw dX3_banOf_4 ?_
    refine lv_iconst (v := 4) C.1 C.2.1 dX3_banOf_7 rfl ?_
    refine g_iald C hw 2 rfl (vpD rfl) dX3_banOf_8 ?_
    refine lv_icmp_ge (tgt := 30) C.1 C.2.1 dX3_banOf_9 (by decide) (fun h9 => ?_) (fun h9 => ?_)
    · replace hf := hf.1 h9
      refine lv_iconst (v := (-1)) C.1 C.2.1 dX3_banOf_30 rfl ?_
      exact hret _ _ _ hf dX3_banOf_31
    · replace hf := hf.2 h9
      refine lv_aload_n C.1 C.2.1 dX3_banOf_12 rfl (lv_at hl 0 rfl) ?_
      refine mg_bans C hw dX3_banOf_13 ?_
      refine lv_iload_n C.1 C.2.1 dX3_banOf_16 rfl (lv_at hl 2 rfl) ?_
      obtain ⟨b17, hf⟩ := hf
      refine g_iald C hw 9 rfl b17 dX3_banOf_17 ?_
      refine lv_iload_n C.1 C.2.1 dX3_banOf_18 rfl (lv_at hl 1 rfl) ?_
      refine lv_icmp_ne (tgt := 24) C.1 C.2.1 dX3_banOf_19 (by decide) (fun h19 => ?_) (fun h19 => ?_)
      · replace hf := hf.2 h19
        refine lv_iinc (v := (x2 + 1)) (lv' := [(2, .int (x2 + 1)), (0, .ref (ad 0)), (1, .int x1)]) C.1 C.2.1 dX3_banOf_24 hl (k := 2) rfl rfl (Nat.le_of_ble_eq_true rfl) rfl (fun ls hl => ?_)
        refine lv_goto (tgt := 2) C.1 C.2.1 dX3_banOf_27 (by decide) ?_
        exact hK2 _ _ hf (lv_sub hl [1, 2, 0] rfl)
      · replace hf := hf.1 h19
        refine lv_iload_n C.1 C.2.1 dX3_banOf_22 rfl (lv_at hl 2 rfl) ?_
        exact hret _ _ _ hf dX3_banOf_23
  have P2 : ∀ (x1 : Int32) (n : Nat) (x2 : Int32) (ls : Array Slot), LL1 (m_banOf_p2 σ x1 Q) n x2 → lv_has ls 3 [(0, .ref (ad 0)), (1, .int x1), (2, .int x2)] → W p l e rm_m_banOf s m args below meth c H [] 0 0 QQ (F0 m 2 ls []) := by
    intro x1 n
    induction n with
    | zero => intro x2 ls hf; exact False.elim hf
    | succ n ih => intro x2 ls hf hl; exact B2 x1 (LL1 _ n) ih x2 ls hf hl
  unfold m_banOf at hf
  refine lv_iconst (v := 0) C.1 C.2.1 dX3_banOf_0 rfl ?_
  refine lv_istore_n (lv' := [(2, .int 0), (0, .ref (ad 0)), (1, .int x1)]) C.1 C.2.1 dX3_banOf_1 rfl hl (Nat.le_of_ble_eq_true rfl) rfl (fun ls hl => ?_)
  obtain ⟨n, hf⟩ := hf
  exact P2 _ n _ _ hf (lv_sub hl [1, 2, 0] rfl)
theorem km_banOf {p : Program} {l : Launch} {e : Env} {R : Room} {s : State} {m : MethodId} {args : Array Value} {below : List Frame} {meth : Method} {c : Code} {H : Heap} {locs : List Loc} {Z : State → Prop} {cc : ByteArray} {nL pc : Nat} {ls : Array Slot} {rest : List Value} {D : va_G} {ct : Ct} {ad : Nat → Nat} {σ : St} {x1 : Int32} {Qp : Int32 → Prop} (C : CallFix p m c cc nL s args lw_all RX3) (hw : gH D ct shM ad s σ H locs) (hsz : ls.size = nL) (hrm : (rest.map fun v => v.category).sum ≤ 8) (hR : rm_m_banOf.frames + 1 ≤ R.frames ∧ 8 + (3 + 11) + rm_m_banOf.locals ≤ R.locals) (hdg : decode cc pc = .ok (.invokevirtual 401, 3)) (hf : m_banOf σ x1 Qp) (kk : ∀ (r : Int32), Qp r → W p l e R s m args below meth c H locs 0 0 Z (F0 m (pc + 3) ls (.int r :: rest))) : W p l e R s m args below meth c H locs 0 0 Z (F0 m pc ls (.int x1 :: .ref (ad 0) :: rest)) :=
  g_callVR (As := [.int x1]) (rest := rest) C hw rfl rfl (met_m_banOf l D ct ad hw.2.1 σ x1 Qp hf) (cwV 1 C.2.2.2.2 (lw_V q1843 q1845 qs143 q207 q1846) rfl rfl rfl (by decide +kernel) hR) rfl hsz rfl hrm ⟨Nat.zero_le _, Nat.zero_le _⟩ hdg kk
def m_isBySide (σ : St) (x1 : Int32) (x2 : Int32) (Q : Int32 → Prop) : Prop :=
  (vp_in x1 12 ∧ (((gI σ 7 x1) = 1 → ((x2 = 0 → Q 0) ∧ (¬ x2 = 0 → Q 1))) ∧ (¬ (gI σ 7 x1) = 1 → (((gI σ 7 x1) = 2 → (vp_in x1 12 ∧ ((x2 = ((gI σ 4 x1) - 1) → Q 0) ∧ (¬ x2 = ((gI σ 4 x1) - 1) → Q 1)))) ∧ (¬ (gI σ 7 x1) = 2 → (((gI σ 7 x1) = 3 → Q 1) ∧ (¬ (gI σ 7 x1) = 3 → Q 0)))))))
abbrev rm_m_isBySide : Room := { frames := 0, cells := 0, slots := 0, locals := 0 }
set_option maxHeartbeats 4000000 in
theorem met_m_isBySide (l : Launch) (D : va_G) (ct : Ct) (ad : Nat → Nat) (hJ : gJ shM ad ct) (σ : St) (x1 : Int32) (x2 : Int32) (Q : Int32 → Prop) (hf : m_isBySide σ x1 x2 Q) : Met l yX3_isBySide (ws_ yX3_isBySide cX3_isBySide 3 (some .boolean)) rm_m_isBySide (va_Pc [.ref (ad 0), .int x1, .int x2] (gP D ct shM ad σ)) (gR rvI Q) 0 0 (fun _ => False) := by
  refine g_metRZ hJ (by decide) (Nat.le_of_ble_eq_true rfl) ?_
  intro p e s m args below meth c QQ ls H C hw hl hret
  replace hl : lv_has ls 3 [(0, .ref (ad 0)), (1, .int x1), (2, .int x2)] := hl
  unfold m_isBySide at hf
  refine lv_aload_n C.1 C.2.1 dX3_isBySide_0 rfl (lv_at hl 0 rfl) ?_
  refine mg_side C hw dX3_isBySide_1 ?_
  refine lv_iload_n C.1 C.2.1 dX3_isBySide_4 rfl (lv_at hl 1 rfl) ?_
  obtain ⟨b5, hf⟩ := hf
  refine g_iald C hw 7 rfl b5 dX3_isBySide_5 ?_
  by_cases h6_1 : (gI σ 7 x1) = 1
  · replace hf := hf.1 h6_1
    refine lv_tableIn (tgt := 32) C.1 C.2.1 dX3_isBySide_6 (by rw [h6_1]; decide) (by rw [h6_1]; decide) (by rw [h6_1]; rfl) (by decide) ?_
    refine lv_iload_n C.1 C.2.1 dX3_isBySide_32 rfl (lv_at hl 2 rfl) ?_
    refine lv_if_eq (tgt := 40) C.1 C.2.1 dX3_isBySide_33 (by decide) (fun h33 => ?_) (fun h33 => ?_)
    · replace hf := hf.1 h33
      refine lv_iconst (v := 0) C.1 C.2.1 dX3_isBySide_40 rfl ?_
      exact hret _ _ _ hf (Or.inl rfl) dX3_isBySide_41
    · replace hf := hf.2 h33
      refine lv_iconst (v := 1) C.1 C.2.1 dX3_isBySide_36 rfl ?_
      refine lv_goto (tgt := 41) C.1 C.2.1 dX3_isBySide_37 (by decide) ?_
      exact hret _ _ _ hf (Or.inr rfl) dX3_isBySide_41
  · replace hf := hf.2 h6_1
    by_cases h6_2 : (gI σ 7 x1) = 2
    · replace hf := hf.1 h6_2
      refine lv_tableIn (tgt := 42) C.1 C.2.1 dX3_isBySide_6 (by rw [h6_2]; decide) (by rw [h6_2]; decide) (by rw [h6_2]; rfl) (by decide) ?_
      refine lv_iload_n C.1 C.2.1 dX3_isBySide_42 rfl (lv_at hl 2 rfl) ?_
      refine lv_aload_n C.1 C.2.1 dX3_isBySide_43 rfl (lv_at hl 0 rfl) ?_
      refine mg_size C hw dX3_isBySide_44 ?_
      refine lv_iload_n C.1 C.2.1 dX3_isBySide_47 rfl (lv_at hl 1 rfl) ?_
      obtain ⟨b48, hf⟩ := hf
      refine g_iald C hw 4 rfl b48 dX3_isBySide_48 ?_
      refine lv_iconst (v := 1) C.1 C.2.1 dX3_isBySide_49 rfl ?_
      refine lv_isub C.1 C.2.1 dX3_isBySide_50 ?_
      refine lv_icmp_eq (tgt := 58) C.1 C.2.1 dX3_isBySide_51 (by decide) (fun h51 => ?_) (fun h51 => ?_)
      · replace hf := hf.1 h51
        refine lv_iconst (v := 0) C.1 C.2.1 dX3_isBySide_58 rfl ?_
        exact hret _ _ _ hf (Or.inl rfl) dX3_isBySide_59
      · replace hf := hf.2 h51
        refine lv_iconst (v := 1) C.1 C.2.1 dX3_isBySide_54 rfl ?_
        refine lv_goto (tgt := 59) C.1 C.2.1 dX3_isBySide_55 (by decide) ?_
        exact hret _ _ _ hf (Or.inr rfl) dX3_isBySide_59
    · replace hf := hf.2 h6_2
      by_cases h6_3 : (gI σ 7 x1) = 3
      · replace hf := hf.1 h6_3
        refine lv_tableIn (tgt := 60) C.1 C.2.1 dX3_isBySide_6 (by rw [h6_3]; decide) (by rw [h6_3]; decide) (by rw [h6_3]; rfl) (by decide) ?_
        refine lv_iconst (v := 1) C.1 C.2.1 dX3_isBySide_60 rfl ?_
        exact hret _ _ _ hf (Or.inr rfl) dX3_isBySide_61
      · replace hf := hf.2 h6_3
        refine lv_tableOut (tgt := 62) C.1 C.2.1 dX3_isBySide_6 (tb_out_1_3 h6_1 h6_2 h6_3) (by decide) ?_
        refine lv_iconst (v := 0) C.1 C.2.1 dX3_isBySide_62 rfl ?_
        exact hret _ _ _ hf (Or.inl rfl) dX3_isBySide_63
theorem km_isBySide {p : Program} {l : Launch} {e : Env} {R : Room} {s : State} {m : MethodId} {args : Array Value} {below : List Frame} {meth : Method} {c : Code} {H : Heap} {locs : List Loc} {Z : State → Prop} {cc : ByteArray} {nL pc : Nat} {ls : Array Slot} {rest : List Value} {D : va_G} {ct : Ct} {ad : Nat → Nat} {σ : St} {x1 : Int32} {x2 : Int32} {Qp : Int32 → Prop} (C : CallFix p m c cc nL s args lw_all RX3) (hw : gH D ct shM ad s σ H locs) (hsz : ls.size = nL) (hrm : (rest.map fun v => v.category).sum ≤ 8) (hR : rm_m_isBySide.frames + 1 ≤ R.frames ∧ 8 + (3 + 11) + rm_m_isBySide.locals ≤ R.locals) (hdg : decode cc pc = .ok (.invokevirtual 406, 3)) (hf : m_isBySide σ x1 x2 Qp) (kk : ∀ (r : Int32), Qp r → W p l e R s m args below meth c H locs 0 0 Z (F0 m (pc + 3) ls (.int r :: rest))) : W p l e R s m args below meth c H locs 0 0 Z (F0 m pc ls (.int x2 :: .int x1 :: .ref (ad 0) :: rest)) :=
  g_callVR (As := [.int x1, .int x2]) (rest := rest) C hw rfl rfl (met_m_isBySide l D ct ad hw.2.1 σ x1 x2 Qp hf) (cwV 2 C.2.2.2.2 (lw_V q1903 q1905 qs154 q207 q1906) rfl rfl rfl (by decide +kernel) hR) rfl hsz rfl hrm ⟨Nat.zero_le _, Nat.zero_le _⟩ hdg kk
def m_spot (x0 : Int32) (x1 : Int32) (x2 : Int32) (Q : Int32 → Prop) : Prop :=
  Q (((169 * x0) + (13 * x1)) + x2)
abbrev rm_m_spot : Room := { frames := 0, cells := 0, slots := 0, locals := 0 }
set_option maxHeartbeats 4000000 in
theorem met_m_spot (l : Launch) (x0 : Int32) (x1 : Int32) (x2 : Int32) (Q : Int32 → Prop) (hf : m_spot x0 x1 x2 Q) : Met l yX3_spot (ws_ yX3_spot cX3_spot 3 (some .int)) rm_m_spot (va_Pc [.int x0, .int x1, .int x2] (fun _ => True)) (gR rvI Q) 0 0 (fun _ => False) := by
  refine g_metSI (by decide) (Nat.le_of_ble_eq_true rfl) ?_
  intro p e s m args below meth c QQ ls H C hl hret
  replace hl : lv_has ls 3 [(0, .int x0), (1, .int x1), (2, .int x2)] := hl
  unfold m_spot at hf
  refine lv_sipush (v := 169) C.1 C.2.1 dX3_spot_0 rfl ?_
  refine lv_iload_n C.1 C.2.1 dX3_spot_3 rfl (lv_at hl 0 rfl) ?_
  refine lv_imul C.1 C.2.1 dX3_spot_4 ?_
  refine lv_bipush (v := 13) C.1 C.2.1 dX3_spot_5 rfl ?_
  refine lv_iload_n C.1 C.2.1 dX3_spot_7 rfl (lv_at hl 1 rfl) ?_
  refine lv_imul C.1 C.2.1 dX3_spot_8 ?_
  refine lv_iadd C.1 C.2.1 dX3_spot_9 ?_
  refine lv_iload_n C.1 C.2.1 dX3_spot_10 rfl (lv_at hl 2 rfl) ?_
  refine lv_iadd C.1 C.2.1 dX3_spot_11 ?_
  exact hret _ _ _ hf dX3_spot_12
def fm_spot (x0 : Int32) (x1 : Int32) (x2 : Int32) : Int32 :=
  (((169 * x0) + (13 * x1)) + x2)
theorem m_spot_f {Q : Int32 → Prop} {x0 : Int32} {x1 : Int32} {x2 : Int32} (h : Q (fm_spot x0 x1 x2)) : m_spot x0 x1 x2 Q := by
  unfold fm_spot at h
  unfold m_spot
  exact h
theorem km_spot {p : Program} {l : Launch} {e : Env} {R : Room} {s : State} {m : MethodId} {args : Array Value} {below : List Frame} {meth : Method} {c : Code} {H : Heap} {locs : List Loc} {Z : State → Prop} {cc : ByteArray} {nL pc : Nat} {ls : Array Slot} {rest : List Value} {x0 : Int32} {x1 : Int32} {x2 : Int32} (C : CallFix p m c cc nL s args lw_all RX3) (hsz : ls.size = nL) (hrm : (rest.map fun v => v.category).sum ≤ 8) (hR : rm_m_spot.frames + 1 ≤ R.frames ∧ 8 + (3 + 11) + rm_m_spot.locals ≤ R.locals) (hdg : decode cc pc = .ok (.invokestatic 420, 3)) (kk : W p l e R s m args below meth c H locs 0 0 Z (F0 m (pc + 3) ls (.int (fm_spot x0 x1 x2) :: rest))) : W p l e R s m args below meth c H locs 0 0 Z (F0 m pc ls (.int x2 :: .int x1 :: .int x0 :: rest)) :=
  g_callSRf (As := [.int x0, .int x1, .int x2]) (rest := rest) C (met_m_spot l x0 x1 x2 (fun r => r = fm_spot x0 x1 x2) (m_spot_f rfl)) (va_cwS 3 C.2.2.2.2 (lw_S q1876 q1877 q207 q1878) rfl rfl rfl (by decide +kernel) hR) rfl hsz rfl hrm ⟨Nat.zero_le _, Nat.zero_le _⟩ hdg kk
def m_isSmallAt (σ : St) (x1 : Int32) (x2 : Int32) (x3 : Int32) (x4 : Int32) (Q : Int32 → Prop) : Prop :=
  ((x4 = (x3 + 1) → (vp_in x3 12 ∧ (vp_in ((4 * x1) + x2) 48 ∧ (((gI σ 8 x3) = (gI σ 5 ((4 * x1) + x2)) → Q 1) ∧ (¬ (gI σ 8 x3) = (gI σ 5 ((4 * x1) + x2)) → Q 0))))) ∧ (¬ x4 = (x3 + 1) → Q 0))
abbrev rm_m_isSmallAt : Room := { frames := 0, cells := 0, slots := 0, locals := 0 }
set_option maxHeartbeats 4000000 in
theorem met_m_isSmallAt (l : Launch) (D : va_G) (ct : Ct) (ad : Nat → Nat) (hJ : gJ shM ad ct) (σ : St) (x1 : Int32) (x2 : Int32) (x3 : Int32) (x4 : Int32) (Q : Int32 → Prop) (hf : m_isSmallAt σ x1 x2 x3 x4 Q) : Met l yX3_isSmallAt (ws_ yX3_isSmallAt cX3_isSmallAt 5 (some .boolean)) rm_m_isSmallAt (va_Pc [.ref (ad 0), .int x1, .int x2, .int x3, .int x4] (gP D ct shM ad σ)) (gR rvI Q) 0 0 (fun _ => False) := by
  refine g_metRZ hJ (by decide) (Nat.le_of_ble_eq_true rfl) ?_
  intro p e s m args below meth c QQ ls H C hw hl hret
  replace hl : lv_has ls 5 [(0, .ref (ad 0)), (1, .int x1), (2, .int x2), (3, .int x3), (4, .int x4)] := hl
  unfold m_isSmallAt at hf
  refine lv_iload C.1 C.2.1 dX3_isSmallAt_0 (lv_at hl 4 rfl) ?_
  refine lv_iload_n C.1 C.2.1 dX3_isSmallAt_2 rfl (lv_at hl 3 rfl) ?_
  refine lv_iconst (v := 1) C.1 C.2.1 dX3_isSmallAt_3 rfl ?_
  refine lv_iadd C.1 C.2.1 dX3_isSmallAt_4 ?_
  refine lv_icmp_ne (tgt := 31) C.1 C.2.1 dX3_isSmallAt_5 (by decide) (fun h5 => ?_) (fun h5 => ?_)
  · replace hf := hf.2 h5
    refine lv_iconst (v := 0) C.1 C.2.1 dX3_isSmallAt_31 rfl ?_
    exact hret _ _ _ hf (Or.inl rfl) dX3_isSmallAt_32
  · replace hf := hf.1 h5
    refine lv_aload_n C.1 C.2.1 dX3_isSmallAt_8 rfl (lv_at hl 0 rfl) ?_
    refine mg_text C hw dX3_isSmallAt_9 ?_
    refine lv_iload_n C.1 C.2.1 dX3_isSmallAt_12 rfl (lv_at hl 3 rfl) ?_
    obtain ⟨b13, hf⟩ := hf
    refine g_iald C hw 8 rfl b13 dX3_isSmallAt_13 ?_
    refine lv_aload_n C.1 C.2.1 dX3_isSmallAt_14 rfl (lv_at hl 0 rfl) ?_
    refine mg_sym C hw dX3_isSmallAt_15 ?_
    refine lv_iconst (v := 4) C.1 C.2.1 dX3_isSmallAt_18 rfl ?_
    refine lv_iload_n C.1 C.2.1 dX3_isSmallAt_19 rfl (lv_at hl 1 rfl) ?_
    refine lv_imul C.1 C.2.1 dX3_isSmallAt_20 ?_
    refine lv_iload_n C.1 C.2.1 dX3_isSmallAt_21 rfl (lv_at hl 2 rfl) ?_
    refine lv_iadd C.1 C.2.1 dX3_isSmallAt_22 ?_
    obtain ⟨b23, hf⟩ := hf
    refine g_iald C hw 5 rfl b23 dX3_isSmallAt_23 ?_
    refine lv_icmp_ne (tgt := 31) C.1 C.2.1 dX3_isSmallAt_24 (by decide) (fun h24 => ?_) (fun h24 => ?_)
    · replace hf := hf.2 h24
      refine lv_iconst (v := 0) C.1 C.2.1 dX3_isSmallAt_31 rfl ?_
      exact hret _ _ _ hf (Or.inl rfl) dX3_isSmallAt_32
    · replace hf := hf.1 h24
      refine lv_iconst (v := 1) C.1 C.2.1 dX3_isSmallAt_27 rfl ?_
      refine lv_goto (tgt := 32) C.1 C.2.1 dX3_isSmallAt_28 (by decide) ?_
      exact hret _ _ _ hf (Or.inr rfl) dX3_isSmallAt_32
theorem km_isSmallAt {p : Program} {l : Launch} {e : Env} {R : Room} {s : State} {m : MethodId} {args : Array Value} {below : List Frame} {meth : Method} {c : Code} {H : Heap} {locs : List Loc} {Z : State → Prop} {cc : ByteArray} {nL pc : Nat} {ls : Array Slot} {rest : List Value} {D : va_G} {ct : Ct} {ad : Nat → Nat} {σ : St} {x1 : Int32} {x2 : Int32} {x3 : Int32} {x4 : Int32} {Qp : Int32 → Prop} (C : CallFix p m c cc nL s args lw_all RX3) (hw : gH D ct shM ad s σ H locs) (hsz : ls.size = nL) (hrm : (rest.map fun v => v.category).sum ≤ 8) (hR : rm_m_isSmallAt.frames + 1 ≤ R.frames ∧ 8 + (5 + 11) + rm_m_isSmallAt.locals ≤ R.locals) (hdg : decode cc pc = .ok (.invokevirtual 416, 3)) (hf : m_isSmallAt σ x1 x2 x3 x4 Qp) (kk : ∀ (r : Int32), Qp r → W p l e R s m args below meth c H locs 0 0 Z (F0 m (pc + 3) ls (.int r :: rest))) : W p l e R s m args below meth c H locs 0 0 Z (F0 m pc ls (.int x4 :: .int x3 :: .int x2 :: .int x1 :: .ref (ad 0) :: rest)) :=
  g_callVR (As := [.int x1, .int x2, .int x3, .int x4]) (rest := rest) C hw rfl rfl (met_m_isSmallAt l D ct ad hw.2.1 σ x1 x2 x3 x4 Qp hf) (cwV 4 C.2.2.2.2 (lw_V q1891 q1893 qs151 q207 q1894) rfl rfl rfl (by decide +kernel) hR) rfl hsz rfl hrm ⟨Nat.zero_le _, Nat.zero_le _⟩ hdg kk
def m_isPart (σ : St) (x1 : Int32) (x2 : Int32) (Q : Int32 → Prop) : Prop :=
  ((x1 < 0 → Q 0) ∧ (¬ x1 < 0 → ((x2 < x1 → Q 0) ∧ (¬ x2 < x1 → (((gI σ 2 2) < x2 → Q 0) ∧ (¬ (gI σ 2 2) < x2 → Q 1))))))
abbrev rm_m_isPart : Room := { frames := 0, cells := 0, slots := 0, locals := 0 }
set_option maxHeartbeats 4000000 in
theorem met_m_isPart (l : Launch) (D : va_G) (ct : Ct) (ad : Nat → Nat) (hJ : gJ shM ad ct) (σ : St) (x1 : Int32) (x2 : Int32) (Q : Int32 → Prop) (hf : m_isPart σ x1 x2 Q) : Met l yX3_isPart (ws_ yX3_isPart cX3_isPart 3 (some .boolean)) rm_m_isPart (va_Pc [.ref (ad 0), .int x1, .int x2] (gP D ct shM ad σ)) (gR rvI Q) 0 0 (fun _ => False) := by
  refine g_metRZ hJ (by decide) (Nat.le_of_ble_eq_true rfl) ?_
  intro p e s m args below meth c QQ ls H C hw hl hret
  replace hl : lv_has ls 3 [(0, .ref (ad 0)), (1, .int x1), (2, .int x2)] := hl
  unfold m_isPart at hf
  refine lv_iload_n C.1 C.2.1 dX3_isPart_0 rfl (lv_at hl 1 rfl) ?_
  refine lv_if_lt (tgt := 23) C.1 C.2.1 dX3_isPart_1 (by decide) (fun h1 => ?_) (fun h1 => ?_)
  · replace hf := hf.1 h1
    refine lv_iconst (v := 0) C.1 C.2.1 dX3_isPart_23 rfl ?_
    exact hret _ _ _ hf (Or.inl rfl) dX3_isPart_24
  · replace hf := hf.2 h1
    refine lv_iload_n C.1 C.2.1 dX3_isPart_4 rfl (lv_at hl 1 rfl) ?_
    refine lv_iload_n C.1 C.2.1 dX3_isPart_5 rfl (lv_at hl 2 rfl) ?_
    refine lv_icmp_gt (tgt := 23) C.1 C.2.1 dX3_isPart_6 (by decide) (fun h6 => ?_) (fun h6 => ?_)
    · replace hf := hf.1 h6
      refine lv_iconst (v := 0) C.1 C.2.1 dX3_isPart_23 rfl ?_
      exact hret _ _ _ hf (Or.inl rfl) dX3_isPart_24
    · replace hf := hf.2 h6
      refine lv_iload_n C.1 C.2.1 dX3_isPart_9 rfl (lv_at hl 2 rfl) ?_
      refine lv_aload_n C.1 C.2.1 dX3_isPart_10 rfl (lv_at hl 0 rfl) ?_
      refine mg_scalar C hw dX3_isPart_11 ?_
      refine lv_iconst (v := 2) C.1 C.2.1 dX3_isPart_14 rfl ?_
      refine g_iald C hw 2 rfl (vpD rfl) dX3_isPart_15 ?_
      refine lv_icmp_gt (tgt := 23) C.1 C.2.1 dX3_isPart_16 (by decide) (fun h16 => ?_) (fun h16 => ?_)
      · replace hf := hf.1 h16
        refine lv_iconst (v := 0) C.1 C.2.1 dX3_isPart_23 rfl ?_
        exact hret _ _ _ hf (Or.inl rfl) dX3_isPart_24
      · replace hf := hf.2 h16
        refine lv_iconst (v := 1) C.1 C.2.1 dX3_isPart_19 rfl ?_
        refine lv_goto (tgt := 24) C.1 C.2.1 dX3_isPart_20 (by decide) ?_
        exact hret _ _ _ hf (Or.inr rfl) dX3_isPart_24
def fm_isPart (σ : St) (x1 : Int32) (x2 : Int32) : Int32 :=
  (if x1 < 0 then 0 else (if x2 < x1 then 0 else (if (gI σ 2 2) < x2 then 0 else 1)))
theorem fm_isPart_z {σ : St} {x1 : Int32} {x2 : Int32} : zB (fm_isPart σ x1 x2) := by
  unfold fm_isPart
  repeat' split
  all_goals first | exact Or.inl rfl | exact Or.inr rfl
theorem m_isPart_f {Q : Int32 → Prop} {σ : St} {x1 : Int32} {x2 : Int32} (h : Q (fm_isPart σ x1 x2)) : m_isPart σ x1 x2 Q := by
  unfold fm_isPart at h
  unfold m_isPart
  refine ⟨fun c => ?_, fun c => ?_⟩
  · rw [if_pos c] at h
    exact h
  · rw [if_neg c] at h
    refine ⟨fun c => ?_, fun c => ?_⟩
    · rw [if_pos c] at h
      exact h
    · rw [if_neg c] at h
      refine ⟨fun c => ?_, fun c => ?_⟩
      · rw [if_pos c] at h
        exact h
      · rw [if_neg c] at h
        exact h
theorem km_isPart {p : Program} {l : Launch} {e : Env} {R : Room} {s : State} {m : MethodId} {args : Array Value} {below : List Frame} {meth : Method} {c : Code} {H : Heap} {locs : List Loc} {Z : State → Prop} {cc : ByteArray} {nL pc : Nat} {ls : Array Slot} {rest : List Value} {D : va_G} {ct : Ct} {ad : Nat → Nat} {σ : St} {x1 : Int32} {x2 : Int32} (C : CallFix p m c cc nL s args lw_all RX3) (hw : gH D ct shM ad s σ H locs) (hsz : ls.size = nL) (hrm : (rest.map fun v => v.category).sum ≤ 8) (hR : rm_m_isPart.frames + 1 ≤ R.frames ∧ 8 + (3 + 11) + rm_m_isPart.locals ≤ R.locals) (hdg : decode cc pc = .ok (.invokevirtual 440, 3)) (kk : W p l e R s m args below meth c H locs 0 0 Z (F0 m (pc + 3) ls (.int (fm_isPart σ x1 x2) :: rest))) : W p l e R s m args below meth c H locs 0 0 Z (F0 m pc ls (.int x2 :: .int x1 :: .ref (ad 0) :: rest)) :=
  g_callVRf (As := [.int x1, .int x2]) (rest := rest) C hw rfl rfl (met_m_isPart l D ct ad hw.2.1 σ x1 x2 (fun r => r = fm_isPart σ x1 x2) (m_isPart_f rfl)) (cwV 2 C.2.2.2.2 (lw_V q1860 q1862 qs144 q207 q1863) rfl rfl rfl (by decide +kernel) hR) rfl hsz rfl hrm ⟨Nat.zero_le _, Nat.zero_le _⟩ hdg kk
def m_seed (σ : St) (x1 : Int32) (Q : Int32 → St → Prop) : Prop :=
  ((0 ≤ x1 → (∀ s21 : St, s21 = s_A σ 2 (Int32.toNatClampNeg 6) x1 → Q (gI σ 2 6) s21)) ∧ (¬ 0 ≤ x1 → Q (-1) σ))
abbrev rm_m_seed : Room := { frames := 0, cells := 0, slots := 0, locals := 0 }
set_option maxHeartbeats 4000000 in
theorem met_m_seed (l : Launch) (D : va_G) (ct : Ct) (ad : Nat → Nat) (hJ : gJ shM ad ct) (σ : St) (x1 : Int32) (Q : Int32 → St → Prop) (hf : m_seed σ x1 Q) : Met l yX3_seed (ws_ yX3_seed cX3_seed 3 (some .int)) rm_m_seed (va_Pc [.ref (ad 0), .int x1] (gP D ct shM ad σ)) (gQ rvI D ct shM ad Q) 0 0 (gA shM ad) := by
  refine g_metI hJ (by decide) (Nat.le_of_ble_eq_true rfl) ?_
  intro p e s m args below meth c QQ ls C hw hl hret
  replace hl : lv_has ls 3 [(0, .ref (ad 0)), (1, .int x1)] := hl
  unfold m_seed at hf
  obtain ⟨H, hH⟩ : ∃ q, q = s.heap := ⟨_, rfl⟩
  obtain ⟨locs, hL⟩ : ∃ q : List Loc, q = [] := ⟨_, rfl⟩
  rw [← hH, ← hL] at hw ⊢
  refine lv_iload_n C.1 C.2.1 dX3_seed_0 rfl (lv_at hl 1 rfl) ?_
  refine lv_if_ge (tgt := 6) C.1 C.2.1 dX3_seed_1 (by decide) (fun h1 => ?_) (fun h1 => ?_)
  · replace hf := hf.1 h1
    refine lv_aload_n C.1 C.2.1 dX3_seed_6 rfl (lv_at hl 0 rfl) ?_
    refine mg_scalar C hw dX3_seed_7 ?_
    refine lv_bipush (v := 6) C.1 C.2.1 dX3_seed_10 rfl ?_
    refine g_iald C hw 2 rfl (vpD rfl) dX3_seed_12 ?_
    refine lv_istore_n (lv' := [(2, .int (gI σ 2 6)), (0, .ref (ad 0)), (1, .int x1)]) C.1 C.2.1 dX3_seed_13 rfl hl (Nat.le_of_ble_eq_true rfl) rfl (fun ls hl => ?_)
    refine lv_aload_n C.1 C.2.1 dX3_seed_14 rfl (lv_at hl 1 rfl) ?_
    refine mg_scalar C hw dX3_seed_15 ?_
    refine lv_bipush (v := 6) C.1 C.2.1 dX3_seed_18 rfl ?_
    refine lv_iload_n C.1 C.2.1 dX3_seed_20 rfl (lv_at hl 2 rfl) ?_
    refine g_iast C shM_sep hw 2 rfl (vpD rfl) dX3_seed_21 (fun s21 H locs e21 hw => ?_)
    replace hf := hf s21 e21
    refine lv_iload_n C.1 C.2.1 dX3_seed_22 rfl (lv_at hl 0 rfl) ?_
    exact hret _ _ _ _ _ _ hf hw dX3_seed_23
  · replace hf := hf.2 h1
    refine lv_iconst (v := (-1)) C.1 C.2.1 dX3_seed_4 rfl ?_
    exact hret _ _ _ _ _ _ hf hw dX3_seed_5
def m_draws (σ : St) (x1 : Int32) (Q : Int32 → St → Prop) : Prop :=
  (∀ s27 : St, s27 = s_A σ 2 (Int32.toNatClampNeg 6) (Int64.toInt32 ((((Int32.toInt64 (gI σ 2 6)) * 1103515245) + 12345) - (((Int32.toInt64 (gI σ 2 6)) * 1103515245) + 12345) / 2147483648 * 2147483648)) → (¬ x1 = 0 ∧ Q (((gI s27 2 6) / 65536) - ((gI s27 2 6) / 65536) / x1 * x1) s27))
abbrev rm_m_draws : Room := { frames := 0, cells := 0, slots := 0, locals := 0 }
set_option maxHeartbeats 4000000 in
theorem met_m_draws (l : Launch) (D : va_G) (ct : Ct) (ad : Nat → Nat) (hJ : gJ shM ad ct) (σ : St) (x1 : Int32) (Q : Int32 → St → Prop) (hf : m_draws σ x1 Q) : Met l yX3_draws (ws_ yX3_draws cX3_draws 2 (some .int)) rm_m_draws (va_Pc [.ref (ad 0), .int x1] (gP D ct shM ad σ)) (gQ rvI D ct shM ad Q) 0 0 (gA shM ad) := by
  refine g_metI hJ (by decide) (Nat.le_of_ble_eq_true rfl) ?_
  intro p e s m args below meth c QQ ls C hw hl hret
  replace hl : lv_has ls 2 [(0, .ref (ad 0)), (1, .int x1)] := hl
  unfold m_draws at hf
  obtain ⟨H, hH⟩ : ∃ q, q = s.heap := ⟨_, rfl⟩
  obtain ⟨locs, hL⟩ : ∃ q : List Loc, q = [] := ⟨_, rfl⟩
  rw [← hH, ← hL] at hw ⊢
  refine lv_aload_n C.1 C.2.1 dX3_draws_0 rfl (lv_at hl 0 rfl) ?_
  refine mg_scalar C hw dX3_draws_1 ?_
  refine lv_bipush (v := 6) C.1 C.2.1 dX3_draws_4 rfl ?_
  refine lv_aload_n C.1 C.2.1 dX3_draws_6 rfl (lv_at hl 0 rfl) ?_
  refine mg_scalar C hw dX3_draws_7 ?_
  refine lv_bipush (v := 6) C.1 C.2.1 dX3_draws_10 rfl ?_
  refine g_iald C hw 2 rfl (vpD rfl) dX3_draws_12 ?_
  refine lv_i2l C.1 C.2.1 dX3_draws_13 rfl ?_
  refine lv_ldc2 C.1 C.2.1 C.2.2.2.1 (C.2.2.2.2 _ q2125) dX3_draws_14 ?_
  refine lv_lmul C.1 C.2.1 dX3_draws_17 ?_
  refine lv_ldc2 C.1 C.2.1 C.2.2.2.1 (C.2.2.2.2 _ q2126) dX3_draws_18 ?_
  refine lv_ladd C.1 C.2.1 dX3_draws_21 ?_
  refine lv_ldc2 C.1 C.2.1 C.2.2.2.1 (C.2.2.2.2 _ q1991) dX3_draws_22 ?_
  refine lv_lrem C.1 C.2.1 dX3_draws_25 (by decide) ?_
  refine lv_l2i C.1 C.2.1 dX3_draws_26 rfl ?_
  refine g_iast C shM_sep hw 2 rfl (vpD rfl) dX3_draws_27 (fun s27 H locs e27 hw => ?_)
  replace hf := hf s27 e27
  refine lv_aload_n C.1 C.2.1 dX3_draws_28 rfl (lv_at hl 0 rfl) ?_
  refine mg_scalar C hw dX3_draws_29 ?_
  refine lv_bipush (v := 6) C.1 C.2.1 dX3_draws_32 rfl ?_
  refine g_iald C hw 2 rfl (vpD rfl) dX3_draws_34 ?_
  refine lv_ldcw C.1 C.2.1 C.2.2.2.1 (C.2.2.2.2 _ q2127) dX3_draws_35 ?_
  refine lv_idiv C.1 C.2.1 dX3_draws_38 (by decide) ?_
  refine lv_iload_n C.1 C.2.1 dX3_draws_39 rfl (lv_at hl 1 rfl) ?_
  obtain ⟨h40, hf⟩ := hf
  refine lv_irem C.1 C.2.1 dX3_draws_40 h40 ?_
  exact hret _ _ _ _ _ _ hf hw dX3_draws_41
theorem km_draws {p : Program} {l : Launch} {e : Env} {R : Room} {s : State} {m : MethodId} {args : Array Value} {below : List Frame} {meth : Method} {c : Code} {H : Heap} {locs : List Loc} {Z : State → Prop} {cc : ByteArray} {nL pc : Nat} {ls : Array Slot} {rest : List Value} {D : va_G} {ct : Ct} {ad : Nat → Nat} {σ : St} {x1 : Int32} {Qp : Int32 → St → Prop} (C : CallFix p m c cc nL s args lw_all RX3) (hw : gH D ct shM ad s σ H locs) (hsz : ls.size = nL) (hrm : (rest.map fun v => v.category).sum ≤ 8) (hR : rm_m_draws.frames + 1 ≤ R.frames ∧ 8 + (2 + 11) + rm_m_draws.locals ≤ R.locals) (hdg : decode cc pc = .ok (.invokevirtual 603, 3)) (hf : m_draws σ x1 Qp) (kk : ∀ (r : Int32) (σ1 : St) (H1 : Heap) (locs1 : List Loc), Qp r σ1 → gH D ct shM ad s σ1 H1 locs1 → W p l e R s m args below meth c H1 locs1 0 0 Z (F0 m (pc + 3) ls (.int r :: rest))) : W p l e R s m args below meth c H locs 0 0 Z (F0 m pc ls (.int x1 :: .ref (ad 0) :: rest)) :=
  g_callV (As := [.int x1]) (rest := rest) C hw rfl rfl (met_m_draws l D ct ad hw.2.1 σ x1 Qp hf) (cwV 1 C.2.2.2.2 (lw_V q2121 q2123 qs194 q207 q2124) rfl rfl rfl (by decide +kernel) hR) rfl hsz rfl hrm ⟨Nat.zero_le _, Nat.zero_le _⟩ hdg kk
