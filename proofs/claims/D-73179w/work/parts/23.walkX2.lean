set_option maxRecDepth 100000
def x_spanOf (x0 : Int32) (x1 : Int32) (Q : Int32 → Prop) : Prop :=
  Q ((13 * x0) + x1)
abbrev rm_x_spanOf : Room := { frames := 0, cells := 0, slots := 0, locals := 0 }
set_option maxHeartbeats 4000000 in
theorem met_x_spanOf (l : Launch) (x0 : Int32) (x1 : Int32) (Q : Int32 → Prop) (hf : x_spanOf x0 x1 Q) : Met l yX0_spanOf (ws_ yX0_spanOf cX0_spanOf 2 (some .int)) rm_x_spanOf (va_Pc [.int x0, .int x1] (fun _ => True)) (gR rvI Q) 0 0 (fun _ => False) := by
  refine g_metSI (by decide) (Nat.le_of_ble_eq_true rfl) ?_
  intro p e s m args below meth c QQ ls H C hl hret
  replace hl : lv_has ls 2 [(0, .int x0), (1, .int x1)] := hl
  unfold x_spanOf at hf
  refine lv_bipush (v := 13) C.1 C.2.1 dX0_spanOf_0 rfl ?_
  refine lv_iload_n C.1 C.2.1 dX0_spanOf_2 rfl (lv_at hl 0 rfl) ?_
  refine lv_imul C.1 C.2.1 dX0_spanOf_3 ?_
  refine lv_iload_n C.1 C.2.1 dX0_spanOf_4 rfl (lv_at hl 1 rfl) ?_
  refine lv_iadd C.1 C.2.1 dX0_spanOf_5 ?_
  exact hret _ _ _ hf dX0_spanOf_6
def fx_spanOf (x0 : Int32) (x1 : Int32) : Int32 :=
  ((13 * x0) + x1)
theorem x_spanOf_f {Q : Int32 → Prop} {x0 : Int32} {x1 : Int32} (h : Q (fx_spanOf x0 x1)) : x_spanOf x0 x1 Q := by
  unfold fx_spanOf at h
  unfold x_spanOf
  exact h
theorem kx_spanOf {p : Program} {l : Launch} {e : Env} {R : Room} {s : State} {m : MethodId} {args : Array Value} {below : List Frame} {meth : Method} {c : Code} {H : Heap} {locs : List Loc} {Z : State → Prop} {cc : ByteArray} {nL pc : Nat} {ls : Array Slot} {rest : List Value} {x0 : Int32} {x1 : Int32} (C : CallFix p m c cc nL s args lw_all RX0) (hsz : ls.size = nL) (hrm : (rest.map fun v => v.category).sum ≤ 8) (hR : rm_x_spanOf.frames + 1 ≤ R.frames ∧ 8 + (2 + 11) + rm_x_spanOf.locals ≤ R.locals) (hdg : decode cc pc = .ok (.invokestatic 537, 3)) (kk : W p l e R s m args below meth c H locs 0 0 Z (F0 m (pc + 3) ls (.int (fx_spanOf x0 x1) :: rest))) : W p l e R s m args below meth c H locs 0 0 Z (F0 m pc ls (.int x1 :: .int x0 :: rest)) :=
  g_callSRf (As := [.int x0, .int x1]) (rest := rest) C (met_x_spanOf l x0 x1 (fun r => r = fx_spanOf x0 x1) (x_spanOf_f rfl)) (va_cwS 2 C.2.2.2.2 (lw_S q313 q314 q200 q315) rfl rfl rfl (by decide +kernel) hR) rfl hsz rfl hrm ⟨Nat.zero_le _, Nat.zero_le _⟩ hdg kk
def x_isHere (σ : St) (x1 : Int32) (x2 : Int32) (x3 : Int32) (Q : Int32 → Prop) : Prop :=
  ((x3 = (x2 + 1) → (vp_in x2 12 ∧ (((gI σ 3 x2) = x1 → Q 1) ∧ (¬ (gI σ 3 x2) = x1 → Q 0)))) ∧ (¬ x3 = (x2 + 1) → Q 0))
abbrev rm_x_isHere : Room := { frames := 0, cells := 0, slots := 0, locals := 0 }
set_option maxHeartbeats 4000000 in
theorem met_x_isHere (l : Launch) (D : va_G) (ct : Ct) (ad : Nat → Nat) (hJ : gJ shX ad ct) (σ : St) (x1 : Int32) (x2 : Int32) (x3 : Int32) (Q : Int32 → Prop) (hf : x_isHere σ x1 x2 x3 Q) : Met l yX0_isHere (ws_ yX0_isHere cX0_isHere 4 (some .boolean)) rm_x_isHere (va_Pc [.ref (ad 0), .int x1, .int x2, .int x3] (gP D ct shX ad σ)) (gR rvI Q) 0 0 (fun _ => False) := by
  refine g_metRZ hJ (by decide) (Nat.le_of_ble_eq_true rfl) ?_
  intro p e s m args below meth c QQ ls H C hw hl hret
  replace hl : lv_has ls 4 [(0, .ref (ad 0)), (1, .int x1), (2, .int x2), (3, .int x3)] := hl
  unfold x_isHere at hf
  refine lv_iload_n C.1 C.2.1 dX0_isHere_0 rfl (lv_at hl 3 rfl) ?_
  refine lv_iload_n C.1 C.2.1 dX0_isHere_1 rfl (lv_at hl 2 rfl) ?_
  refine lv_iconst (v := 1) C.1 C.2.1 dX0_isHere_2 rfl ?_
  refine lv_iadd C.1 C.2.1 dX0_isHere_3 ?_
  refine lv_icmp_ne (tgt := 21) C.1 C.2.1 dX0_isHere_4 (by decide) (fun h4 => ?_) (fun h4 => ?_)
  · replace hf := hf.2 h4
    refine lv_iconst (v := 0) C.1 C.2.1 dX0_isHere_21 rfl ?_
    exact hret _ _ _ hf (Or.inl rfl) dX0_isHere_22
  · replace hf := hf.1 h4
    refine lv_aload_n C.1 C.2.1 dX0_isHere_7 rfl (lv_at hl 0 rfl) ?_
    refine xg_text C hw dX0_isHere_8 ?_
    refine lv_iload_n C.1 C.2.1 dX0_isHere_11 rfl (lv_at hl 2 rfl) ?_
    obtain ⟨b12, hf⟩ := hf
    refine g_iald C hw 3 rfl b12 dX0_isHere_12 ?_
    refine lv_iload_n C.1 C.2.1 dX0_isHere_13 rfl (lv_at hl 1 rfl) ?_
    refine lv_icmp_ne (tgt := 21) C.1 C.2.1 dX0_isHere_14 (by decide) (fun h14 => ?_) (fun h14 => ?_)
    · replace hf := hf.2 h14
      refine lv_iconst (v := 0) C.1 C.2.1 dX0_isHere_21 rfl ?_
      exact hret _ _ _ hf (Or.inl rfl) dX0_isHere_22
    · replace hf := hf.1 h14
      refine lv_iconst (v := 1) C.1 C.2.1 dX0_isHere_17 rfl ?_
      refine lv_goto (tgt := 22) C.1 C.2.1 dX0_isHere_18 (by decide) ?_
      exact hret _ _ _ hf (Or.inr rfl) dX0_isHere_22
theorem kx_isHere {p : Program} {l : Launch} {e : Env} {R : Room} {s : State} {m : MethodId} {args : Array Value} {below : List Frame} {meth : Method} {c : Code} {H : Heap} {locs : List Loc} {Z : State → Prop} {cc : ByteArray} {nL pc : Nat} {ls : Array Slot} {rest : List Value} {D : va_G} {ct : Ct} {ad : Nat → Nat} {σ : St} {x1 : Int32} {x2 : Int32} {x3 : Int32} {Qp : Int32 → Prop} (C : CallFix p m c cc nL s args lw_all RX0) (hw : gH D ct shX ad s σ H locs) (hsz : ls.size = nL) (hrm : (rest.map fun v => v.category).sum ≤ 8) (hR : rm_x_isHere.frames + 1 ≤ R.frames ∧ 8 + (4 + 11) + rm_x_isHere.locals ≤ R.locals) (hdg : decode cc pc = .ok (.invokevirtual 543, 3)) (hf : x_isHere σ x1 x2 x3 Qp) (kk : ∀ (r : Int32), Qp r → W p l e R s m args below meth c H locs 0 0 Z (F0 m (pc + 3) ls (.int r :: rest))) : W p l e R s m args below meth c H locs 0 0 Z (F0 m pc ls (.int x3 :: .int x2 :: .int x1 :: .ref (ad 0) :: rest)) :=
  g_callVR (As := [.int x1, .int x2, .int x3]) (rest := rest) C hw rfl rfl (met_x_isHere l D ct ad hw.2.1 σ x1 x2 x3 Qp hf) (cwV 3 C.2.2.2.2 (lw_V q319 q321 qs2 q200 q322) rfl rfl rfl (by decide +kernel) hR) rfl hsz rfl hrm ⟨Nat.zero_le _, Nat.zero_le _⟩ hdg kk
def x_plain (x0 : Int32) (x1 : Int32) (Q : Int32 → Prop) : Prop :=
  Q (x0 + x1)
abbrev rm_x_plain : Room := { frames := 0, cells := 0, slots := 0, locals := 0 }
set_option maxHeartbeats 4000000 in
theorem met_x_plain (l : Launch) (x0 : Int32) (x1 : Int32) (Q : Int32 → Prop) (hf : x_plain x0 x1 Q) : Met l yX0_plain (ws_ yX0_plain cX0_plain 2 (some .int)) rm_x_plain (va_Pc [.int x0, .int x1] (fun _ => True)) (gR rvI Q) 0 0 (fun _ => False) := by
  refine g_metSI (by decide) (Nat.le_of_ble_eq_true rfl) ?_
  intro p e s m args below meth c QQ ls H C hl hret
  replace hl : lv_has ls 2 [(0, .int x0), (1, .int x1)] := hl
  unfold x_plain at hf
  refine lv_iload_n C.1 C.2.1 dX0_plain_0 rfl (lv_at hl 0 rfl) ?_
  refine lv_iload_n C.1 C.2.1 dX0_plain_1 rfl (lv_at hl 1 rfl) ?_
  refine lv_iadd C.1 C.2.1 dX0_plain_2 ?_
  exact hret _ _ _ hf dX0_plain_3
def fx_plain (x0 : Int32) (x1 : Int32) : Int32 :=
  (x0 + x1)
theorem x_plain_f {Q : Int32 → Prop} {x0 : Int32} {x1 : Int32} (h : Q (fx_plain x0 x1)) : x_plain x0 x1 Q := by
  unfold fx_plain at h
  unfold x_plain
  exact h
def x_timesPlain (x0 : Int32) (x1 : Int32) (Q : Int32 → Prop) : Prop :=
  Q (x0 * x1)
abbrev rm_x_timesPlain : Room := { frames := 0, cells := 0, slots := 0, locals := 0 }
set_option maxHeartbeats 4000000 in
theorem met_x_timesPlain (l : Launch) (x0 : Int32) (x1 : Int32) (Q : Int32 → Prop) (hf : x_timesPlain x0 x1 Q) : Met l yX0_timesPlain (ws_ yX0_timesPlain cX0_timesPlain 2 (some .int)) rm_x_timesPlain (va_Pc [.int x0, .int x1] (fun _ => True)) (gR rvI Q) 0 0 (fun _ => False) := by
  refine g_metSI (by decide) (Nat.le_of_ble_eq_true rfl) ?_
  intro p e s m args below meth c QQ ls H C hl hret
  replace hl : lv_has ls 2 [(0, .int x0), (1, .int x1)] := hl
  unfold x_timesPlain at hf
  refine lv_iload_n C.1 C.2.1 dX0_timesPlain_0 rfl (lv_at hl 0 rfl) ?_
  refine lv_iload_n C.1 C.2.1 dX0_timesPlain_1 rfl (lv_at hl 1 rfl) ?_
  refine lv_imul C.1 C.2.1 dX0_timesPlain_2 ?_
  exact hret _ _ _ hf dX0_timesPlain_3
def fx_timesPlain (x0 : Int32) (x1 : Int32) : Int32 :=
  (x0 * x1)
theorem x_timesPlain_f {Q : Int32 → Prop} {x0 : Int32} {x1 : Int32} (h : Q (fx_timesPlain x0 x1)) : x_timesPlain x0 x1 Q := by
  unfold fx_timesPlain at h
  unfold x_timesPlain
  exact h
def x_seed (σ : St) (x1 : Int32) (Q : Int32 → St → Prop) : Prop :=
  ((0 ≤ x1 → (∀ s13 : St, s13 = s_I σ 10 x1 → Q (σ.1 10) s13)) ∧ (¬ 0 ≤ x1 → Q (-1) σ))
abbrev rm_x_seed : Room := { frames := 0, cells := 0, slots := 0, locals := 0 }
set_option maxHeartbeats 4000000 in
theorem met_x_seed (l : Launch) (D : va_G) (ct : Ct) (ad : Nat → Nat) (hJ : gJ shX ad ct) (σ : St) (x1 : Int32) (Q : Int32 → St → Prop) (hf : x_seed σ x1 Q) : Met l yX0_seed (ws_ yX0_seed cX0_seed 3 (some .int)) rm_x_seed (va_Pc [.ref (ad 0), .int x1] (gP D ct shX ad σ)) (gQ rvI D ct shX ad Q) 0 0 (gA shX ad) := by
  refine g_metI hJ (by decide) (Nat.le_of_ble_eq_true rfl) ?_
  intro p e s m args below meth c QQ ls C hw hl hret
  replace hl : lv_has ls 3 [(0, .ref (ad 0)), (1, .int x1)] := hl
  unfold x_seed at hf
  obtain ⟨H, hH⟩ : ∃ q, q = s.heap := ⟨_, rfl⟩
  obtain ⟨locs, hL⟩ : ∃ q : List Loc, q = [] := ⟨_, rfl⟩
  rw [← hH, ← hL] at hw ⊢
  refine lv_iload_n C.1 C.2.1 dX0_seed_0 rfl (lv_at hl 1 rfl) ?_
  refine lv_if_ge (tgt := 6) C.1 C.2.1 dX0_seed_1 (by decide) (fun h1 => ?_) (fun h1 => ?_)
  · replace hf := hf.1 h1
    refine lv_aload_n C.1 C.2.1 dX0_seed_6 rfl (lv_at hl 0 rfl) ?_
    refine xg_x C hw dX0_seed_7 ?_
    refine lv_istore_n (lv' := [(2, .int (σ.1 10)), (0, .ref (ad 0)), (1, .int x1)]) C.1 C.2.1 dX0_seed_10 rfl hl (Nat.le_of_ble_eq_true rfl) rfl (fun ls hl => ?_)
    refine lv_aload_n C.1 C.2.1 dX0_seed_11 rfl (lv_at hl 1 rfl) ?_
    refine lv_iload_n C.1 C.2.1 dX0_seed_12 rfl (lv_at hl 2 rfl) ?_
    refine xp_x C hw dX0_seed_13 (fun s13 H locs e13 hw => ?_)
    replace hf := hf s13 e13
    refine lv_iload_n C.1 C.2.1 dX0_seed_16 rfl (lv_at hl 0 rfl) ?_
    exact hret _ _ _ _ _ _ hf hw dX0_seed_17
  · replace hf := hf.2 h1
    refine lv_iconst (v := (-1)) C.1 C.2.1 dX0_seed_4 rfl ?_
    exact hret _ _ _ _ _ _ hf hw dX0_seed_5
def x_drawn (σ : St) (x1 : Int32) (Q : Int32 → St → Prop) : Prop :=
  (∀ s19 : St, s19 = s_I σ 63 (Int64.toInt32 ((((Int32.toInt64 (σ.1 63)) * 1103515245) + 12345) - (((Int32.toInt64 (σ.1 63)) * 1103515245) + 12345) / 2147483648 * 2147483648)) → (¬ x1 = 0 ∧ Q (((s19.1 63) / 65536) - ((s19.1 63) / 65536) / x1 * x1) s19))
abbrev rm_x_drawn : Room := { frames := 0, cells := 0, slots := 0, locals := 0 }
set_option maxHeartbeats 4000000 in
theorem met_x_drawn (l : Launch) (D : va_G) (ct : Ct) (ad : Nat → Nat) (hJ : gJ shX ad ct) (σ : St) (x1 : Int32) (Q : Int32 → St → Prop) (hf : x_drawn σ x1 Q) : Met l yX0_drawn (ws_ yX0_drawn cX0_drawn 2 (some .int)) rm_x_drawn (va_Pc [.ref (ad 0), .int x1] (gP D ct shX ad σ)) (gQ rvI D ct shX ad Q) 0 0 (gA shX ad) := by
  refine g_metI hJ (by decide) (Nat.le_of_ble_eq_true rfl) ?_
  intro p e s m args below meth c QQ ls C hw hl hret
  replace hl : lv_has ls 2 [(0, .ref (ad 0)), (1, .int x1)] := hl
  unfold x_drawn at hf
  obtain ⟨H, hH⟩ : ∃ q, q = s.heap := ⟨_, rfl⟩
  obtain ⟨locs, hL⟩ : ∃ q : List Loc, q = [] := ⟨_, rfl⟩
  rw [← hH, ← hL] at hw ⊢
  refine lv_aload_n C.1 C.2.1 dX0_drawn_0 rfl (lv_at hl 0 rfl) ?_
  refine lv_aload_n C.1 C.2.1 dX0_drawn_1 rfl (lv_at hl 0 rfl) ?_
  refine xg_drawX C hw dX0_drawn_2 ?_
  refine lv_i2l C.1 C.2.1 dX0_drawn_5 rfl ?_
  refine lv_ldc2 C.1 C.2.1 C.2.2.2.1 (C.2.2.2.2 _ q1259) dX0_drawn_6 ?_
  refine lv_lmul C.1 C.2.1 dX0_drawn_9 ?_
  refine lv_ldc2 C.1 C.2.1 C.2.2.2.1 (C.2.2.2.2 _ q1260) dX0_drawn_10 ?_
  refine lv_ladd C.1 C.2.1 dX0_drawn_13 ?_
  refine lv_ldc2 C.1 C.2.1 C.2.2.2.1 (C.2.2.2.2 _ q1261) dX0_drawn_14 ?_
  refine lv_lrem C.1 C.2.1 dX0_drawn_17 (by decide) ?_
  refine lv_l2i C.1 C.2.1 dX0_drawn_18 rfl ?_
  refine xp_drawX C hw dX0_drawn_19 (fun s19 H locs e19 hw => ?_)
  replace hf := hf s19 e19
  refine lv_aload_n C.1 C.2.1 dX0_drawn_22 rfl (lv_at hl 0 rfl) ?_
  refine xg_drawX C hw dX0_drawn_23 ?_
  refine lv_ldcw C.1 C.2.1 C.2.2.2.1 (C.2.2.2.2 _ q1262) dX0_drawn_26 ?_
  refine lv_idiv C.1 C.2.1 dX0_drawn_29 (by decide) ?_
  refine lv_iload_n C.1 C.2.1 dX0_drawn_30 rfl (lv_at hl 1 rfl) ?_
  obtain ⟨h31, hf⟩ := hf
  refine lv_irem C.1 C.2.1 dX0_drawn_31 h31 ?_
  exact hret _ _ _ _ _ _ hf hw dX0_drawn_32
theorem kx_drawn {p : Program} {l : Launch} {e : Env} {R : Room} {s : State} {m : MethodId} {args : Array Value} {below : List Frame} {meth : Method} {c : Code} {H : Heap} {locs : List Loc} {Z : State → Prop} {cc : ByteArray} {nL pc : Nat} {ls : Array Slot} {rest : List Value} {D : va_G} {ct : Ct} {ad : Nat → Nat} {σ : St} {x1 : Int32} {Qp : Int32 → St → Prop} (C : CallFix p m c cc nL s args lw_all RX0) (hw : gH D ct shX ad s σ H locs) (hsz : ls.size = nL) (hrm : (rest.map fun v => v.category).sum ≤ 8) (hR : rm_x_drawn.frames + 1 ≤ R.frames ∧ 8 + (2 + 11) + rm_x_drawn.locals ≤ R.locals) (hdg : decode cc pc = .ok (.invokevirtual 683, 3)) (hf : x_drawn σ x1 Qp) (kk : ∀ (r : Int32) (σ1 : St) (H1 : Heap) (locs1 : List Loc), Qp r σ1 → gH D ct shX ad s σ1 H1 locs1 → W p l e R s m args below meth c H1 locs1 0 0 Z (F0 m (pc + 3) ls (.int r :: rest))) : W p l e R s m args below meth c H locs 0 0 Z (F0 m pc ls (.int x1 :: .ref (ad 0) :: rest)) :=
  g_callV (As := [.int x1]) (rest := rest) C hw rfl rfl (met_x_drawn l D ct ad hw.2.1 σ x1 Qp hf) (cwV 1 C.2.2.2.2 (lw_V q1255 q1257 qs96 q200 q1258) rfl rfl rfl (by decide +kernel) hR) rfl hsz rfl hrm ⟨Nat.zero_le _, Nat.zero_le _⟩ hdg kk
def x_count (σ : St) (x1 : Int32) (Q : Int32 → Prop) : Prop :=
  ((x1 = 0 → Q (σ.1 80)) ∧ (¬ x1 = 0 → ((x1 = 1 → Q (σ.1 82)) ∧ (¬ x1 = 1 → ((x1 = 2 → Q (σ.1 4)) ∧ (¬ x1 = 2 → ((x1 = 3 → Q (σ.1 2)) ∧ (¬ x1 = 3 → ((x1 = 4 → Q (σ.1 7)) ∧ (¬ x1 = 4 → ((x1 = 5 → Q (σ.1 5)) ∧ (¬ x1 = 5 → ((x1 = 6 → Q (σ.1 9)) ∧ (¬ x1 = 6 → ((x1 = 7 → Q (σ.1 10)) ∧ (¬ x1 = 7 → ((x1 = 8 → Q (σ.1 14)) ∧ (¬ x1 = 8 → Q (-1)))))))))))))))))))
abbrev rm_x_count : Room := { frames := 0, cells := 0, slots := 0, locals := 0 }
set_option maxHeartbeats 4000000 in
theorem met_x_count (l : Launch) (D : va_G) (ct : Ct) (ad : Nat → Nat) (hJ : gJ shX ad ct) (σ : St) (x1 : Int32) (Q : Int32 → Prop) (hf : x_count σ x1 Q) : Met l yX0_count (ws_ yX0_count cX0_count 2 (some .int)) rm_x_count (va_Pc [.ref (ad 0), .int x1] (gP D ct shX ad σ)) (gR rvI Q) 0 0 (fun _ => False) := by
  refine g_metRI hJ (by decide) (Nat.le_of_ble_eq_true rfl) ?_
  intro p e s m args below meth c QQ ls H C hw hl hret
  replace hl : lv_has ls 2 [(0, .ref (ad 0)), (1, .int x1)] := hl
  unfold x_count at hf
  refine lv_iload_n C.1 C.2.1 dX0_count_0 rfl (lv_at hl 1 rfl) ?_
  by_cases h1_0 : x1 = 0
  · replace hf := hf.1 h1_0
    refine lv_tableIn (tgt := 52) C.1 C.2.1 dX0_count_1 (by rw [h1_0]; decide) (by rw [h1_0]; decide) (by rw [h1_0]; rfl) (by decide) ?_
    refine lv_aload_n C.1 C.2.1 dX0_count_52 rfl (lv_at hl 0 rfl) ?_
    refine xg_grammar C hw dX0_count_53 ?_
    refine lv_ifnonnull (tgt := 63) C.1 C.2.1 dX0_count_56 (by decide) ?_
    refine lv_aload_n C.1 C.2.1 dX0_count_63 rfl (lv_at hl 0 rfl) ?_
    refine xg_grammar C hw dX0_count_64 ?_
    refine xn_many C hw dX0_count_67 ?_
    exact hret _ _ _ hf dX0_count_70
  · replace hf := hf.2 h1_0
    by_cases h1_1 : x1 = 1
    · replace hf := hf.1 h1_1
      refine lv_tableIn (tgt := 71) C.1 C.2.1 dX0_count_1 (by rw [h1_1]; decide) (by rw [h1_1]; decide) (by rw [h1_1]; rfl) (by decide) ?_
      refine lv_aload_n C.1 C.2.1 dX0_count_71 rfl (lv_at hl 0 rfl) ?_
      refine xg_grammar C hw dX0_count_72 ?_
      refine lv_ifnonnull (tgt := 82) C.1 C.2.1 dX0_count_75 (by decide) ?_
      refine lv_aload_n C.1 C.2.1 dX0_count_82 rfl (lv_at hl 0 rfl) ?_
      refine xg_grammar C hw dX0_count_83 ?_
      refine xn_start C hw dX0_count_86 ?_
      exact hret _ _ _ hf dX0_count_89
    · replace hf := hf.2 h1_1
      by_cases h1_2 : x1 = 2
      · replace hf := hf.1 h1_2
        refine lv_tableIn (tgt := 90) C.1 C.2.1 dX0_count_1 (by rw [h1_2]; decide) (by rw [h1_2]; decide) (by rw [h1_2]; rfl) (by decide) ?_
        refine lv_aload_n C.1 C.2.1 dX0_count_90 rfl (lv_at hl 0 rfl) ?_
        refine xg_textMany C hw dX0_count_91 ?_
        exact hret _ _ _ hf dX0_count_94
      · replace hf := hf.2 h1_2
        by_cases h1_3 : x1 = 3
        · replace hf := hf.1 h1_3
          refine lv_tableIn (tgt := 95) C.1 C.2.1 dX0_count_1 (by rw [h1_3]; decide) (by rw [h1_3]; decide) (by rw [h1_3]; rfl) (by decide) ?_
          refine lv_aload_n C.1 C.2.1 dX0_count_95 rfl (lv_at hl 0 rfl) ?_
          refine xg_struck C hw dX0_count_96 ?_
          exact hret _ _ _ hf dX0_count_99
        · replace hf := hf.2 h1_3
          by_cases h1_4 : x1 = 4
          · replace hf := hf.1 h1_4
            refine lv_tableIn (tgt := 100) C.1 C.2.1 dX0_count_1 (by rw [h1_4]; decide) (by rw [h1_4]; decide) (by rw [h1_4]; rfl) (by decide) ?_
            refine lv_aload_n C.1 C.2.1 dX0_count_100 rfl (lv_at hl 0 rfl) ?_
            refine xg_banMany C hw dX0_count_101 ?_
            exact hret _ _ _ hf dX0_count_104
          · replace hf := hf.2 h1_4
            by_cases h1_5 : x1 = 5
            · replace hf := hf.1 h1_5
              refine lv_tableIn (tgt := 105) C.1 C.2.1 dX0_count_1 (by rw [h1_5]; decide) (by rw [h1_5]; decide) (by rw [h1_5]; rfl) (by decide) ?_
              refine lv_aload_n C.1 C.2.1 dX0_count_105 rfl (lv_at hl 0 rfl) ?_
              refine xg_filters C hw dX0_count_106 ?_
              exact hret _ _ _ hf dX0_count_109
            · replace hf := hf.2 h1_5
              by_cases h1_6 : x1 = 6
              · replace hf := hf.1 h1_6
                refine lv_tableIn (tgt := 110) C.1 C.2.1 dX0_count_1 (by rw [h1_6]; decide) (by rw [h1_6]; decide) (by rw [h1_6]; rfl) (by decide) ?_
                refine lv_aload_n C.1 C.2.1 dX0_count_110 rfl (lv_at hl 0 rfl) ?_
                refine xg_stepMany C hw dX0_count_111 ?_
                exact hret _ _ _ hf dX0_count_114
              · replace hf := hf.2 h1_6
                by_cases h1_7 : x1 = 7
                · replace hf := hf.1 h1_7
                  refine lv_tableIn (tgt := 115) C.1 C.2.1 dX0_count_1 (by rw [h1_7]; decide) (by rw [h1_7]; decide) (by rw [h1_7]; rfl) (by decide) ?_
                  refine lv_aload_n C.1 C.2.1 dX0_count_115 rfl (lv_at hl 0 rfl) ?_
                  refine xg_x C hw dX0_count_116 ?_
                  exact hret _ _ _ hf dX0_count_119
                · replace hf := hf.2 h1_7
                  by_cases h1_8 : x1 = 8
                  · replace hf := hf.1 h1_8
                    refine lv_tableIn (tgt := 120) C.1 C.2.1 dX0_count_1 (by rw [h1_8]; decide) (by rw [h1_8]; decide) (by rw [h1_8]; rfl) (by decide) ?_
                    refine lv_aload_n C.1 C.2.1 dX0_count_120 rfl (lv_at hl 0 rfl) ?_
                    refine xg_taped C hw dX0_count_121 ?_
                    exact hret _ _ _ hf dX0_count_124
                  · replace hf := hf.2 h1_8
                    refine lv_tableOut (tgt := 125) C.1 C.2.1 dX0_count_1 (tb_out_0_8 h1_0 h1_1 h1_2 h1_3 h1_4 h1_5 h1_6 h1_7 h1_8) (by decide) ?_
                    refine lv_iconst (v := (-1)) C.1 C.2.1 dX0_count_125 rfl ?_
                    exact hret _ _ _ hf dX0_count_126
def fx_count (σ : St) (x1 : Int32) : Int32 :=
  (if x1 = 0 then (σ.1 80) else (if x1 = 1 then (σ.1 82) else (if x1 = 2 then (σ.1 4) else (if x1 = 3 then (σ.1 2) else (if x1 = 4 then (σ.1 7) else (if x1 = 5 then (σ.1 5) else (if x1 = 6 then (σ.1 9) else (if x1 = 7 then (σ.1 10) else (if x1 = 8 then (σ.1 14) else (-1))))))))))
theorem x_count_f {Q : Int32 → Prop} {σ : St} {x1 : Int32} (h : Q (fx_count σ x1)) : x_count σ x1 Q := by
  unfold fx_count at h
  unfold x_count
  refine ⟨fun c => ?_, fun c => ?_⟩
  · rw [if_pos c] at h
    exact h
  · rw [if_neg c] at h
    refine ⟨fun c => ?_, fun c => ?_⟩
    · rw [if_pos c] at h
      exact h
    · rw [if_neg c] at h
      refine ⟨fun c => ?_, fun c => ?_⟩
      · rw [if_pos c] at h
        exact h
      · rw [if_neg c] at h
        refine ⟨fun c => ?_, fun c => ?_⟩
        · rw [if_pos c] at h
          exact h
        · rw [if_neg c] at h
          refine ⟨fun c => ?_, fun c => ?_⟩
          · rw [if_pos c] at h
            exact h
          · rw [if_neg c] at h
            refine ⟨fun c => ?_, fun c => ?_⟩
            · rw [if_pos c] at h
              exact h
            · rw [if_neg c] at h
              refine ⟨fun c => ?_, fun c => ?_⟩
              · rw [if_pos c] at h
                exact h
              · rw [if_neg c] at h
                refine ⟨fun c => ?_, fun c => ?_⟩
                · rw [if_pos c] at h
                  exact h
                · rw [if_neg c] at h
                  refine ⟨fun c => ?_, fun c => ?_⟩
                  · rw [if_pos c] at h
                    exact h
                  · rw [if_neg c] at h
                    exact h
def x_lesser (x0 : Int32) (x1 : Int32) (Q : Int32 → Prop) : Prop :=
  Q (fj_min x0 x1)
abbrev rm_x_lesser : Room := { frames := 1, cells := 0, slots := 0, locals := 21 }
set_option maxHeartbeats 4000000 in
theorem met_x_lesser (l : Launch) (x0 : Int32) (x1 : Int32) (Q : Int32 → Prop) (hf : x_lesser x0 x1 Q) : Met l yX0_lesser (ws_ yX0_lesser cX0_lesser 2 (some .int)) rm_x_lesser (va_Pc [.int x0, .int x1] (fun _ => True)) (gR rvI Q) 0 0 (fun _ => False) := by
  refine g_metSI (by decide) (Nat.le_of_ble_eq_true rfl) ?_
  intro p e s m args below meth c QQ ls H C hl hret
  replace hl : lv_has ls 2 [(0, .int x0), (1, .int x1)] := hl
  unfold x_lesser at hf
  refine lv_iload_n C.1 C.2.1 dX0_lesser_0 rfl (lv_at hl 0 rfl) ?_
  refine lv_iload_n C.1 C.2.1 dX0_lesser_1 rfl (lv_at hl 1 rfl) ?_
  refine kxj_min C hl.1 (Nat.le_of_ble_eq_true rfl) ⟨Nat.le_of_ble_eq_true rfl, Nat.le_of_ble_eq_true rfl⟩ dX0_lesser_2 ?_
  exact hret _ _ _ hf dX0_lesser_5
def fx_lesser (x0 : Int32) (x1 : Int32) : Int32 :=
  (fj_min x0 x1)
theorem x_lesser_f {Q : Int32 → Prop} {x0 : Int32} {x1 : Int32} (h : Q (fx_lesser x0 x1)) : x_lesser x0 x1 Q := by
  unfold fx_lesser at h
  unfold x_lesser
  exact h
theorem kx_lesser {p : Program} {l : Launch} {e : Env} {R : Room} {s : State} {m : MethodId} {args : Array Value} {below : List Frame} {meth : Method} {c : Code} {H : Heap} {locs : List Loc} {Z : State → Prop} {cc : ByteArray} {nL pc : Nat} {ls : Array Slot} {rest : List Value} {x0 : Int32} {x1 : Int32} (C : CallFix p m c cc nL s args lw_all RX0) (hsz : ls.size = nL) (hrm : (rest.map fun v => v.category).sum ≤ 8) (hR : rm_x_lesser.frames + 1 ≤ R.frames ∧ 8 + (2 + 11) + rm_x_lesser.locals ≤ R.locals) (hdg : decode cc pc = .ok (.invokestatic 348, 3)) (kk : W p l e R s m args below meth c H locs 0 0 Z (F0 m (pc + 3) ls (.int (fx_lesser x0 x1) :: rest))) : W p l e R s m args below meth c H locs 0 0 Z (F0 m pc ls (.int x1 :: .int x0 :: rest)) :=
  g_callSRf (As := [.int x0, .int x1]) (rest := rest) C (met_x_lesser l x0 x1 (fun r => r = fx_lesser x0 x1) (x_lesser_f rfl)) (va_cwS 2 C.2.2.2.2 (lw_S q356 q357 q200 q358) rfl rfl rfl (by decide +kernel) hR) rfl hsz rfl hrm ⟨Nat.zero_le _, Nat.zero_le _⟩ hdg kk
def x_isOn (σ : St) (x1 : Int32) (Q : Int32 → Prop) : Prop :=
  (((fx_has (σ.1 2) x1) = 0 → Q 1) ∧ (¬ (fx_has (σ.1 2) x1) = 0 → Q 0))
abbrev rm_x_isOn : Room := { frames := 1, cells := 0, slots := 0, locals := 21 }
set_option maxHeartbeats 4000000 in
theorem met_x_isOn (l : Launch) (D : va_G) (ct : Ct) (ad : Nat → Nat) (hJ : gJ shX ad ct) (σ : St) (x1 : Int32) (Q : Int32 → Prop) (hf : x_isOn σ x1 Q) : Met l yX0_isOn (ws_ yX0_isOn cX0_isOn 2 (some .boolean)) rm_x_isOn (va_Pc [.ref (ad 0), .int x1] (gP D ct shX ad σ)) (gR rvI Q) 0 0 (fun _ => False) := by
  refine g_metRZ hJ (by decide) (Nat.le_of_ble_eq_true rfl) ?_
  intro p e s m args below meth c QQ ls H C hw hl hret
  replace hl : lv_has ls 2 [(0, .ref (ad 0)), (1, .int x1)] := hl
  unfold x_isOn at hf
  refine lv_aload_n C.1 C.2.1 dX0_isOn_0 rfl (lv_at hl 0 rfl) ?_
  refine xg_struck C hw dX0_isOn_1 ?_
  refine lv_iload_n C.1 C.2.1 dX0_isOn_4 rfl (lv_at hl 1 rfl) ?_
  refine kx_has C hl.1 (Nat.le_of_ble_eq_true rfl) ⟨Nat.le_of_ble_eq_true rfl, Nat.le_of_ble_eq_true rfl⟩ dX0_isOn_5 ?_
  refine lv_if_ne (tgt := 15) C.1 C.2.1 dX0_isOn_8 (by decide) (fun h8 => ?_) (fun h8 => ?_)
  · replace hf := hf.2 h8
    refine lv_iconst (v := 0) C.1 C.2.1 dX0_isOn_15 rfl ?_
    exact hret _ _ _ hf (Or.inl rfl) dX0_isOn_16
  · replace hf := hf.1 h8
    refine lv_iconst (v := 1) C.1 C.2.1 dX0_isOn_11 rfl ?_
    refine lv_goto (tgt := 16) C.1 C.2.1 dX0_isOn_12 (by decide) ?_
    exact hret _ _ _ hf (Or.inr rfl) dX0_isOn_16
def fx_isOn (σ : St) (x1 : Int32) : Int32 :=
  (if (fx_has (σ.1 2) x1) = 0 then 1 else 0)
theorem fx_isOn_z {σ : St} {x1 : Int32} : zB (fx_isOn σ x1) := by
  unfold fx_isOn
  repeat' split
  all_goals first | exact Or.inl rfl | exact Or.inr rfl | exact fx_has_z
theorem x_isOn_f {Q : Int32 → Prop} {σ : St} {x1 : Int32} (h : Q (fx_isOn σ x1)) : x_isOn σ x1 Q := by
  unfold fx_isOn at h
  unfold x_isOn
  refine ⟨fun c => ?_, fun c => ?_⟩
  · rw [if_pos c] at h
    exact h
  · rw [if_neg c] at h
    exact h
theorem kx_isOn {p : Program} {l : Launch} {e : Env} {R : Room} {s : State} {m : MethodId} {args : Array Value} {below : List Frame} {meth : Method} {c : Code} {H : Heap} {locs : List Loc} {Z : State → Prop} {cc : ByteArray} {nL pc : Nat} {ls : Array Slot} {rest : List Value} {D : va_G} {ct : Ct} {ad : Nat → Nat} {σ : St} {x1 : Int32} (C : CallFix p m c cc nL s args lw_all RX0) (hw : gH D ct shX ad s σ H locs) (hsz : ls.size = nL) (hrm : (rest.map fun v => v.category).sum ≤ 8) (hR : rm_x_isOn.frames + 1 ≤ R.frames ∧ 8 + (2 + 11) + rm_x_isOn.locals ≤ R.locals) (hdg : decode cc pc = .ok (.invokevirtual 351, 3)) (kk : W p l e R s m args below meth c H locs 0 0 Z (F0 m (pc + 3) ls (.int (fx_isOn σ x1) :: rest))) : W p l e R s m args below meth c H locs 0 0 Z (F0 m pc ls (.int x1 :: .ref (ad 0) :: rest)) :=
  g_callVRf (As := [.int x1]) (rest := rest) C hw rfl rfl (met_x_isOn l D ct ad hw.2.1 σ x1 (fun r => r = fx_isOn σ x1) (x_isOn_f rfl)) (cwV 1 C.2.2.2.2 (lw_V q333 q335 qs5 q200 q336) rfl rfl rfl (by decide +kernel) hR) rfl hsz rfl hrm ⟨Nat.zero_le _, Nat.zero_le _⟩ hdg kk
def x_isLeft (σ : St) (x1 : Int32) (Q : Int32 → Prop) : Prop :=
  (((fx_in (Int32.toInt64 x1) 26 51) = 0 → Q 0) ∧ (¬ (fx_in (Int32.toInt64 x1) 26 51) = 0 → (((fx_has (σ.1 81) (x1 - 26)) = 0 → Q 0) ∧ (¬ (fx_has (σ.1 81) (x1 - 26)) = 0 → Q 1))))
abbrev rm_x_isLeft : Room := { frames := 1, cells := 0, slots := 0, locals := 25 }
set_option maxHeartbeats 4000000 in
theorem met_x_isLeft (l : Launch) (D : va_G) (ct : Ct) (ad : Nat → Nat) (hJ : gJ shX ad ct) (σ : St) (x1 : Int32) (Q : Int32 → Prop) (hf : x_isLeft σ x1 Q) : Met l yX0_isLeft (ws_ yX0_isLeft cX0_isLeft 2 (some .boolean)) rm_x_isLeft (va_Pc [.ref (ad 0), .int x1] (gP D ct shX ad σ)) (gR rvI Q) 0 0 (fun _ => False) := by
  refine g_metRZ hJ (by decide) (Nat.le_of_ble_eq_true rfl) ?_
  intro p e s m args below meth c QQ ls H C hw hl hret
  replace hl : lv_has ls 2 [(0, .ref (ad 0)), (1, .int x1)] := hl
  unfold x_isLeft at hf
  refine lv_aload_n C.1 C.2.1 dX0_isLeft_0 rfl (lv_at hl 0 rfl) ?_
  refine xg_grammar C hw dX0_isLeft_1 ?_
  refine lv_ifnull C.1 C.2.1 dX0_isLeft_4 ?_
  refine lv_iload_n C.1 C.2.1 dX0_isLeft_7 rfl (lv_at hl 1 rfl) ?_
  refine lv_i2l C.1 C.2.1 dX0_isLeft_8 rfl ?_
  refine lv_ldc2 C.1 C.2.1 C.2.2.2.1 (C.2.2.2.2 _ q860) dX0_isLeft_9 ?_
  refine lv_ldc2 C.1 C.2.1 C.2.2.2.1 (C.2.2.2.2 _ q861) dX0_isLeft_12 ?_
  refine kx_in C hl.1 (Nat.le_of_ble_eq_true rfl) ⟨Nat.le_of_ble_eq_true rfl, Nat.le_of_ble_eq_true rfl⟩ dX0_isLeft_15 ?_
  refine lv_if_eq (tgt := 42) C.1 C.2.1 dX0_isLeft_18 (by decide) (fun h18 => ?_) (fun h18 => ?_)
  · replace hf := hf.1 h18
    refine lv_iconst (v := 0) C.1 C.2.1 dX0_isLeft_42 rfl ?_
    exact hret _ _ _ hf (Or.inl rfl) dX0_isLeft_43
  · replace hf := hf.2 h18
    refine lv_aload_n C.1 C.2.1 dX0_isLeft_21 rfl (lv_at hl 0 rfl) ?_
    refine xg_grammar C hw dX0_isLeft_22 ?_
    refine xn_lefts C hw dX0_isLeft_25 ?_
    refine lv_iload_n C.1 C.2.1 dX0_isLeft_28 rfl (lv_at hl 1 rfl) ?_
    refine lv_bipush (v := 26) C.1 C.2.1 dX0_isLeft_29 rfl ?_
    refine lv_isub C.1 C.2.1 dX0_isLeft_31 ?_
    refine kx_has C hl.1 (Nat.le_of_ble_eq_true rfl) ⟨Nat.le_of_ble_eq_true rfl, Nat.le_of_ble_eq_true rfl⟩ dX0_isLeft_32 ?_
    refine lv_if_eq (tgt := 42) C.1 C.2.1 dX0_isLeft_35 (by decide) (fun h35 => ?_) (fun h35 => ?_)
    · replace hf := hf.1 h35
      refine lv_iconst (v := 0) C.1 C.2.1 dX0_isLeft_42 rfl ?_
      exact hret _ _ _ hf (Or.inl rfl) dX0_isLeft_43
    · replace hf := hf.2 h35
      refine lv_iconst (v := 1) C.1 C.2.1 dX0_isLeft_38 rfl ?_
      refine lv_goto (tgt := 43) C.1 C.2.1 dX0_isLeft_39 (by decide) ?_
      exact hret _ _ _ hf (Or.inr rfl) dX0_isLeft_43
def fx_isLeft (σ : St) (x1 : Int32) : Int32 :=
  (if (fx_in (Int32.toInt64 x1) 26 51) = 0 then 0 else (if (fx_has (σ.1 81) (x1 - 26)) = 0 then 0 else 1))
theorem fx_isLeft_z {σ : St} {x1 : Int32} : zB (fx_isLeft σ x1) := by
  unfold fx_isLeft
  repeat' split
  all_goals first | exact Or.inl rfl | exact Or.inr rfl | exact fx_in_z | exact fx_has_z
theorem x_isLeft_f {Q : Int32 → Prop} {σ : St} {x1 : Int32} (h : Q (fx_isLeft σ x1)) : x_isLeft σ x1 Q := by
  unfold fx_isLeft at h
  unfold x_isLeft
  refine ⟨fun c => ?_, fun c => ?_⟩
  · rw [if_pos c] at h
    exact h
  · rw [if_neg c] at h
    refine ⟨fun c => ?_, fun c => ?_⟩
    · rw [if_pos c] at h
      exact h
    · rw [if_neg c] at h
      exact h
theorem kx_isLeft {p : Program} {l : Launch} {e : Env} {R : Room} {s : State} {m : MethodId} {args : Array Value} {below : List Frame} {meth : Method} {c : Code} {H : Heap} {locs : List Loc} {Z : State → Prop} {cc : ByteArray} {nL pc : Nat} {ls : Array Slot} {rest : List Value} {D : va_G} {ct : Ct} {ad : Nat → Nat} {σ : St} {x1 : Int32} (C : CallFix p m c cc nL s args lw_all RX0) (hw : gH D ct shX ad s σ H locs) (hsz : ls.size = nL) (hrm : (rest.map fun v => v.category).sum ≤ 8) (hR : rm_x_isLeft.frames + 1 ≤ R.frames ∧ 8 + (2 + 11) + rm_x_isLeft.locals ≤ R.locals) (hdg : decode cc pc = .ok (.invokevirtual 378, 3)) (kk : W p l e R s m args below meth c H locs 0 0 Z (F0 m (pc + 3) ls (.int (fx_isLeft σ x1) :: rest))) : W p l e R s m args below meth c H locs 0 0 Z (F0 m pc ls (.int x1 :: .ref (ad 0) :: rest)) :=
  g_callVRf (As := [.int x1]) (rest := rest) C hw rfl rfl (met_x_isLeft l D ct ad hw.2.1 σ x1 (fun r => r = fx_isLeft σ x1) (x_isLeft_f rfl)) (cwV 1 C.2.2.2.2 (lw_V q856 q858 qs44 q200 q859) rfl rfl rfl (by decide +kernel) hR) rfl hsz rfl hrm ⟨Nat.zero_le _, Nat.zero_le _⟩ hdg kk
def x_isBanned (σ : St) (x1 : Int32) (x2 : Int32) (x3 : Int32) (Q : Int32 → Prop) : Prop :=
  (x_banOf σ x1 x2 x3 (fun r4 => ((r4 = (-1) → Q 0) ∧ (¬ r4 = (-1) → Q 1))))
abbrev rm_x_isBanned : Room := { frames := 1, cells := 0, slots := 0, locals := 24 }
set_option maxHeartbeats 4000000 in
theorem met_x_isBanned (l : Launch) (D : va_G) (ct : Ct) (ad : Nat → Nat) (hJ : gJ shX ad ct) (σ : St) (x1 : Int32) (x2 : Int32) (x3 : Int32) (Q : Int32 → Prop) (hf : x_isBanned σ x1 x2 x3 Q) : Met l yX0_isBanned (ws_ yX0_isBanned cX0_isBanned 4 (some .boolean)) rm_x_isBanned (va_Pc [.ref (ad 0), .int x1, .int x2, .int x3] (gP D ct shX ad σ)) (gR rvI Q) 0 0 (fun _ => False) := by
  refine g_metRZ hJ (by decide) (Nat.le_of_ble_eq_true rfl) ?_
  intro p e s m args below meth c QQ ls H C hw hl hret
  replace hl : lv_has ls 4 [(0, .ref (ad 0)), (1, .int x1), (2, .int x2), (3, .int x3)] := hl
  unfold x_isBanned at hf
  refine lv_aload_n C.1 C.2.1 dX0_isBanned_0 rfl (lv_at hl 0 rfl) ?_
  refine lv_iload_n C.1 C.2.1 dX0_isBanned_1 rfl (lv_at hl 1 rfl) ?_
  refine lv_iload_n C.1 C.2.1 dX0_isBanned_2 rfl (lv_at hl 2 rfl) ?_
  refine lv_iload_n C.1 C.2.1 dX0_isBanned_3 rfl (lv_at hl 3 rfl) ?_
  refine kx_banOf C hw hl.1 (Nat.le_of_ble_eq_true rfl) ⟨Nat.le_of_ble_eq_true rfl, Nat.le_of_ble_eq_true rfl⟩ dX0_isBanned_4 hf (fun r4 hf => ?_)
  refine lv_iconst (v := (-1)) C.1 C.2.1 dX0_isBanned_7 rfl ?_
  refine lv_icmp_eq (tgt := 15) C.1 C.2.1 dX0_isBanned_8 (by decide) (fun h8 => ?_) (fun h8 => ?_)
  · replace hf := hf.1 h8
    refine lv_iconst (v := 0) C.1 C.2.1 dX0_isBanned_15 rfl ?_
    exact hret _ _ _ hf (Or.inl rfl) dX0_isBanned_16
  · replace hf := hf.2 h8
    refine lv_iconst (v := 1) C.1 C.2.1 dX0_isBanned_11 rfl ?_
    refine lv_goto (tgt := 16) C.1 C.2.1 dX0_isBanned_12 (by decide) ?_
    exact hret _ _ _ hf (Or.inr rfl) dX0_isBanned_16
theorem kx_isBanned {p : Program} {l : Launch} {e : Env} {R : Room} {s : State} {m : MethodId} {args : Array Value} {below : List Frame} {meth : Method} {c : Code} {H : Heap} {locs : List Loc} {Z : State → Prop} {cc : ByteArray} {nL pc : Nat} {ls : Array Slot} {rest : List Value} {D : va_G} {ct : Ct} {ad : Nat → Nat} {σ : St} {x1 : Int32} {x2 : Int32} {x3 : Int32} {Qp : Int32 → Prop} (C : CallFix p m c cc nL s args lw_all RX0) (hw : gH D ct shX ad s σ H locs) (hsz : ls.size = nL) (hrm : (rest.map fun v => v.category).sum ≤ 8) (hR : rm_x_isBanned.frames + 1 ≤ R.frames ∧ 8 + (4 + 11) + rm_x_isBanned.locals ≤ R.locals) (hdg : decode cc pc = .ok (.invokevirtual 479, 3)) (hf : x_isBanned σ x1 x2 x3 Qp) (kk : ∀ (r : Int32), Qp r → W p l e R s m args below meth c H locs 0 0 Z (F0 m (pc + 3) ls (.int r :: rest))) : W p l e R s m args below meth c H locs 0 0 Z (F0 m pc ls (.int x3 :: .int x2 :: .int x1 :: .ref (ad 0) :: rest)) :=
  g_callVR (As := [.int x1, .int x2, .int x3]) (rest := rest) C hw rfl rfl (met_x_isBanned l D ct ad hw.2.1 σ x1 x2 x3 Qp hf) (cwV 3 C.2.2.2.2 (lw_V q990 q401 qs12 q200 q402) rfl rfl rfl (by decide +kernel) hR) rfl hsz rfl hrm ⟨Nat.zero_le _, Nat.zero_le _⟩ hdg kk
def x_feed (σ : St) (x1 : Int32) (x2 : Int32) (x3 : Int32) (x4 : Int32) (x5 : Int32) (Q : Int32 → St → Prop) : Prop :=
  ((((σ.1 14) + 20) ≤ 400 → (x_four σ x1 (fun _ s17 => (x_four s17 x2 (fun _ s22 => (x_four s22 x3 (fun _ s27 => (x_four s27 x4 (fun _ s33 => (x_four s33 x5 (fun _ s39 => Q (s39.1 14) s39))))))))))) ∧ (¬ ((σ.1 14) + 20) ≤ 400 → Q (-1) σ))
abbrev rm_x_feed : Room := { frames := 1, cells := 0, slots := 0, locals := 22 }
set_option maxHeartbeats 4000000 in
theorem met_x_feed (l : Launch) (D : va_G) (ct : Ct) (ad : Nat → Nat) (hJ : gJ shX ad ct) (σ : St) (x1 : Int32) (x2 : Int32) (x3 : Int32) (x4 : Int32) (x5 : Int32) (Q : Int32 → St → Prop) (hf : x_feed σ x1 x2 x3 x4 x5 Q) : Met l yX0_feed (ws_ yX0_feed cX0_feed 6 (some .int)) rm_x_feed (va_Pc [.ref (ad 0), .int x1, .int x2, .int x3, .int x4, .int x5] (gP D ct shX ad σ)) (gQ rvI D ct shX ad Q) 0 0 (gA shX ad) := by
  refine g_metI hJ (by decide) (Nat.le_of_ble_eq_true rfl) ?_
  intro p e s m args below meth c QQ ls C hw hl hret
  replace hl : lv_has ls 6 [(0, .ref (ad 0)), (1, .int x1), (2, .int x2), (3, .int x3), (4, .int x4), (5, .int x5)] := hl
  unfold x_feed at hf
  obtain ⟨H, hH⟩ : ∃ q, q = s.heap := ⟨_, rfl⟩
  obtain ⟨locs, hL⟩ : ∃ q : List Loc, q = [] := ⟨_, rfl⟩
  rw [← hH, ← hL] at hw ⊢
  refine lv_aload_n C.1 C.2.1 dX0_feed_0 rfl (lv_at hl 0 rfl) ?_
  refine xg_taped C hw dX0_feed_1 ?_
  refine lv_bipush (v := 20) C.1 C.2.1 dX0_feed_4 rfl ?_
  refine lv_iadd C.1 C.2.1 dX0_feed_6 ?_
  refine lv_sipush (v := 400) C.1 C.2.1 dX0_feed_7 rfl ?_
  refine lv_icmp_le (tgt := 15) C.1 C.2.1 dX0_feed_10 (by decide) (fun h10 => ?_) (fun h10 => ?_)
  · replace hf := hf.1 h10
    refine lv_aload_n C.1 C.2.1 dX0_feed_15 rfl (lv_at hl 0 rfl) ?_
    refine lv_iload_n C.1 C.2.1 dX0_feed_16 rfl (lv_at hl 1 rfl) ?_
    refine kx_four C hw hl.1 (Nat.le_of_ble_eq_true rfl) ⟨Nat.le_of_ble_eq_true rfl, Nat.le_of_ble_eq_true rfl⟩ dX0_feed_17 hf (fun _ s17 H locs hf hw => ?_)
    refine lv_aload_n C.1 C.2.1 dX0_feed_20 rfl (lv_at hl 0 rfl) ?_
    refine lv_iload_n C.1 C.2.1 dX0_feed_21 rfl (lv_at hl 2 rfl) ?_
    refine kx_four C hw hl.1 (Nat.le_of_ble_eq_true rfl) ⟨Nat.le_of_ble_eq_true rfl, Nat.le_of_ble_eq_true rfl⟩ dX0_feed_22 hf (fun _ s22 H locs hf hw => ?_)
    refine lv_aload_n C.1 C.2.1 dX0_feed_25 rfl (lv_at hl 0 rfl) ?_
    refine lv_iload_n C.1 C.2.1 dX0_feed_26 rfl (lv_at hl 3 rfl) ?_
    refine kx_four C hw hl.1 (Nat.le_of_ble_eq_true rfl) ⟨Nat.le_of_ble_eq_true rfl, Nat.le_of_ble_eq_true rfl⟩ dX0_feed_27 hf (fun _ s27 H locs hf hw => ?_)
    refine lv_aload_n C.1 C.2.1 dX0_feed_30 rfl (lv_at hl 0 rfl) ?_
    refine lv_iload C.1 C.2.1 dX0_feed_31 (lv_at hl 4 rfl) ?_
    refine kx_four C hw hl.1 (Nat.le_of_ble_eq_true rfl) ⟨Nat.le_of_ble_eq_true rfl, Nat.le_of_ble_eq_true rfl⟩ dX0_feed_33 hf (fun _ s33 H locs hf hw => ?_)
    refine lv_aload_n C.1 C.2.1 dX0_feed_36 rfl (lv_at hl 0 rfl) ?_
    refine lv_iload C.1 C.2.1 dX0_feed_37 (lv_at hl 5 rfl) ?_
    refine kx_four C hw hl.1 (Nat.le_of_ble_eq_true rfl) ⟨Nat.le_of_ble_eq_true rfl, Nat.le_of_ble_eq_true rfl⟩ dX0_feed_39 hf (fun _ s39 H locs hf hw => ?_)
    refine lv_aload_n C.1 C.2.1 dX0_feed_42 rfl (lv_at hl 0 rfl) ?_
    refine xg_taped C hw dX0_feed_43 ?_
    exact hret _ _ _ _ _ _ hf hw dX0_feed_46
  · replace hf := hf.2 h10
    refine lv_iconst (v := (-1)) C.1 C.2.1 dX0_feed_13 rfl ?_
    exact hret _ _ _ _ _ _ hf hw dX0_feed_14
def x_rule (σ : St) (x1 : Int32) (x2 : Int32) (Q : Int32 → Prop) : Prop :=
  (((fx_isRule σ x1) = 0 → Q (-1)) ∧ (¬ (fx_isRule σ x1) = 0 → ((x2 = 0 → (vp_in x1 12 ∧ Q (gI σ 83 x1))) ∧ (¬ x2 = 0 → ((x2 = 1 → (vp_in x1 12 ∧ Q (gI σ 84 x1))) ∧ (¬ x2 = 1 → ((x2 = 2 → (vp_in x1 12 ∧ Q (gI σ 85 x1))) ∧ (¬ x2 = 2 → ((x2 = 3 → (vp_in x1 12 ∧ Q (gI σ 86 x1))) ∧ (¬ x2 = 3 → ((x2 = 4 → Q (((σ.1 2) >>> (x1 &&& 31)) &&& 1)) ∧ (¬ x2 = 4 → Q (-1)))))))))))))
abbrev rm_x_rule : Room := { frames := 1, cells := 0, slots := 0, locals := 21 }
set_option maxHeartbeats 4000000 in
theorem met_x_rule (l : Launch) (D : va_G) (ct : Ct) (ad : Nat → Nat) (hJ : gJ shX ad ct) (σ : St) (x1 : Int32) (x2 : Int32) (Q : Int32 → Prop) (hf : x_rule σ x1 x2 Q) : Met l yX0_rule (ws_ yX0_rule cX0_rule 3 (some .int)) rm_x_rule (va_Pc [.ref (ad 0), .int x1, .int x2] (gP D ct shX ad σ)) (gR rvI Q) 0 0 (fun _ => False) := by
  refine g_metRI hJ (by decide) (Nat.le_of_ble_eq_true rfl) ?_
  intro p e s m args below meth c QQ ls H C hw hl hret
  replace hl : lv_has ls 3 [(0, .ref (ad 0)), (1, .int x1), (2, .int x2)] := hl
  unfold x_rule at hf
  refine lv_aload_n C.1 C.2.1 dX0_rule_0 rfl (lv_at hl 0 rfl) ?_
  refine lv_iload_n C.1 C.2.1 dX0_rule_1 rfl (lv_at hl 1 rfl) ?_
  refine kx_isRule C hw hl.1 (Nat.le_of_ble_eq_true rfl) ⟨Nat.le_of_ble_eq_true rfl, Nat.le_of_ble_eq_true rfl⟩ dX0_rule_2 ?_
  refine lv_if_ne (tgt := 10) C.1 C.2.1 dX0_rule_5 (by decide) (fun h5 => ?_) (fun h5 => ?_)
  · replace hf := hf.2 h5
    refine lv_iload_n C.1 C.2.1 dX0_rule_10 rfl (lv_at hl 2 rfl) ?_
    by_cases h11_0 : x2 = 0
    · replace hf := hf.1 h11_0
      refine lv_tableIn (tgt := 44) C.1 C.2.1 dX0_rule_11 (by rw [h11_0]; decide) (by rw [h11_0]; decide) (by rw [h11_0]; rfl) (by decide) ?_
      refine lv_aload_n C.1 C.2.1 dX0_rule_44 rfl (lv_at hl 0 rfl) ?_
      refine xg_grammar C hw dX0_rule_45 ?_
      refine xn_left C hw dX0_rule_48 ?_
      refine lv_iload_n C.1 C.2.1 dX0_rule_51 rfl (lv_at hl 1 rfl) ?_
      obtain ⟨b52, hf⟩ := hf
      refine g_iald C hw 83 rfl b52 dX0_rule_52 ?_
      exact hret _ _ _ hf dX0_rule_53
    · replace hf := hf.2 h11_0
      by_cases h11_1 : x2 = 1
      · replace hf := hf.1 h11_1
        refine lv_tableIn (tgt := 54) C.1 C.2.1 dX0_rule_11 (by rw [h11_1]; decide) (by rw [h11_1]; decide) (by rw [h11_1]; rfl) (by decide) ?_
        refine lv_aload_n C.1 C.2.1 dX0_rule_54 rfl (lv_at hl 0 rfl) ?_
        refine xg_grammar C hw dX0_rule_55 ?_
        refine xn_size C hw dX0_rule_58 ?_
        refine lv_iload_n C.1 C.2.1 dX0_rule_61 rfl (lv_at hl 1 rfl) ?_
        obtain ⟨b62, hf⟩ := hf
        refine g_iald C hw 84 rfl b62 dX0_rule_62 ?_
        exact hret _ _ _ hf dX0_rule_63
      · replace hf := hf.2 h11_1
        by_cases h11_2 : x2 = 2
        · replace hf := hf.1 h11_2
          refine lv_tableIn (tgt := 64) C.1 C.2.1 dX0_rule_11 (by rw [h11_2]; decide) (by rw [h11_2]; decide) (by rw [h11_2]; rfl) (by decide) ?_
          refine lv_aload_n C.1 C.2.1 dX0_rule_64 rfl (lv_at hl 0 rfl) ?_
          refine xg_grammar C hw dX0_rule_65 ?_
          refine xn_rank C hw dX0_rule_68 ?_
          refine lv_iload_n C.1 C.2.1 dX0_rule_71 rfl (lv_at hl 1 rfl) ?_
          obtain ⟨b72, hf⟩ := hf
          refine g_iald C hw 85 rfl b72 dX0_rule_72 ?_
          exact hret _ _ _ hf dX0_rule_73
        · replace hf := hf.2 h11_2
          by_cases h11_3 : x2 = 3
          · replace hf := hf.1 h11_3
            refine lv_tableIn (tgt := 74) C.1 C.2.1 dX0_rule_11 (by rw [h11_3]; decide) (by rw [h11_3]; decide) (by rw [h11_3]; rfl) (by decide) ?_
            refine lv_aload_n C.1 C.2.1 dX0_rule_74 rfl (lv_at hl 0 rfl) ?_
            refine xg_grammar C hw dX0_rule_75 ?_
            refine xn_side C hw dX0_rule_78 ?_
            refine lv_iload_n C.1 C.2.1 dX0_rule_81 rfl (lv_at hl 1 rfl) ?_
            obtain ⟨b82, hf⟩ := hf
            refine g_iald C hw 86 rfl b82 dX0_rule_82 ?_
            exact hret _ _ _ hf dX0_rule_83
          · replace hf := hf.2 h11_3
            by_cases h11_4 : x2 = 4
            · replace hf := hf.1 h11_4
              refine lv_tableIn (tgt := 84) C.1 C.2.1 dX0_rule_11 (by rw [h11_4]; decide) (by rw [h11_4]; decide) (by rw [h11_4]; rfl) (by decide) ?_
              refine lv_aload_n C.1 C.2.1 dX0_rule_84 rfl (lv_at hl 0 rfl) ?_
              refine xg_struck C hw dX0_rule_85 ?_
              refine lv_iload_n C.1 C.2.1 dX0_rule_88 rfl (lv_at hl 1 rfl) ?_
              refine lv_ishr C.1 C.2.1 dX0_rule_89 ?_
              refine lv_iconst (v := 1) C.1 C.2.1 dX0_rule_90 rfl ?_
              refine lv_iand C.1 C.2.1 dX0_rule_91 ?_
              exact hret _ _ _ hf dX0_rule_92
            · replace hf := hf.2 h11_4
              refine lv_tableOut (tgt := 93) C.1 C.2.1 dX0_rule_11 (tb_out_0_4 h11_0 h11_1 h11_2 h11_3 h11_4) (by decide) ?_
              refine lv_iconst (v := (-1)) C.1 C.2.1 dX0_rule_93 rfl ?_
              exact hret _ _ _ hf dX0_rule_94
  · replace hf := hf.1 h5
    refine lv_iconst (v := (-1)) C.1 C.2.1 dX0_rule_8 rfl ?_
    exact hret _ _ _ hf dX0_rule_9
def x_symbol (σ : St) (x1 : Int32) (x2 : Int32) (Q : Int32 → Prop) : Prop :=
  (((fx_isRule σ x1) = 0 → Q (-1)) ∧ (¬ (fx_isRule σ x1) = 0 → ((x2 < 0 → Q (-1)) ∧ (¬ x2 < 0 → (vp_in x1 12 ∧ (((gI σ 84 x1) ≤ x2 → Q (-1)) ∧ (¬ (gI σ 84 x1) ≤ x2 → (x_at σ x1 x2 (fun r31 => Q r31)))))))))
abbrev rm_x_symbol : Room := { frames := 1, cells := 0, slots := 0, locals := 22 }
set_option maxHeartbeats 4000000 in
theorem met_x_symbol (l : Launch) (D : va_G) (ct : Ct) (ad : Nat → Nat) (hJ : gJ shX ad ct) (σ : St) (x1 : Int32) (x2 : Int32) (Q : Int32 → Prop) (hf : x_symbol σ x1 x2 Q) : Met l yX0_symbol (ws_ yX0_symbol cX0_symbol 3 (some .int)) rm_x_symbol (va_Pc [.ref (ad 0), .int x1, .int x2] (gP D ct shX ad σ)) (gR rvI Q) 0 0 (fun _ => False) := by
  refine g_metRI hJ (by decide) (Nat.le_of_ble_eq_true rfl) ?_
  intro p e s m args below meth c QQ ls H C hw hl hret
  replace hl : lv_has ls 3 [(0, .ref (ad 0)), (1, .int x1), (2, .int x2)] := hl
  unfold x_symbol at hf
  refine lv_aload_n C.1 C.2.1 dX0_symbol_0 rfl (lv_at hl 0 rfl) ?_
  refine lv_iload_n C.1 C.2.1 dX0_symbol_1 rfl (lv_at hl 1 rfl) ?_
  refine kx_isRule C hw hl.1 (Nat.le_of_ble_eq_true rfl) ⟨Nat.le_of_ble_eq_true rfl, Nat.le_of_ble_eq_true rfl⟩ dX0_symbol_2 ?_
  refine lv_if_eq (tgt := 37) C.1 C.2.1 dX0_symbol_5 (by decide) (fun h5 => ?_) (fun h5 => ?_)
  · replace hf := hf.1 h5
    refine lv_iconst (v := (-1)) C.1 C.2.1 dX0_symbol_37 rfl ?_
    exact hret _ _ _ hf dX0_symbol_38
  · replace hf := hf.2 h5
    refine lv_iload_n C.1 C.2.1 dX0_symbol_8 rfl (lv_at hl 2 rfl) ?_
    refine lv_if_lt (tgt := 37) C.1 C.2.1 dX0_symbol_9 (by decide) (fun h9 => ?_) (fun h9 => ?_)
    · replace hf := hf.1 h9
      refine lv_iconst (v := (-1)) C.1 C.2.1 dX0_symbol_37 rfl ?_
      exact hret _ _ _ hf dX0_symbol_38
    · replace hf := hf.2 h9
      refine lv_iload_n C.1 C.2.1 dX0_symbol_12 rfl (lv_at hl 2 rfl) ?_
      refine lv_aload_n C.1 C.2.1 dX0_symbol_13 rfl (lv_at hl 0 rfl) ?_
      refine xg_grammar C hw dX0_symbol_14 ?_
      refine xn_size C hw dX0_symbol_17 ?_
      refine lv_iload_n C.1 C.2.1 dX0_symbol_20 rfl (lv_at hl 1 rfl) ?_
      obtain ⟨b21, hf⟩ := hf
      refine g_iald C hw 84 rfl b21 dX0_symbol_21 ?_
      refine lv_icmp_ge (tgt := 37) C.1 C.2.1 dX0_symbol_22 (by decide) (fun h22 => ?_) (fun h22 => ?_)
      · replace hf := hf.1 h22
        refine lv_iconst (v := (-1)) C.1 C.2.1 dX0_symbol_37 rfl ?_
        exact hret _ _ _ hf dX0_symbol_38
      · replace hf := hf.2 h22
        refine lv_aload_n C.1 C.2.1 dX0_symbol_25 rfl (lv_at hl 0 rfl) ?_
        refine xg_grammar C hw dX0_symbol_26 ?_
        refine lv_iload_n C.1 C.2.1 dX0_symbol_29 rfl (lv_at hl 1 rfl) ?_
        refine lv_iload_n C.1 C.2.1 dX0_symbol_30 rfl (lv_at hl 2 rfl) ?_
        refine kx_at C hw hl.1 (Nat.le_of_ble_eq_true rfl) ⟨Nat.le_of_ble_eq_true rfl, Nat.le_of_ble_eq_true rfl⟩ dX0_symbol_31 hf (fun r31 hf => ?_)
        refine lv_goto (tgt := 38) C.1 C.2.1 dX0_symbol_34 (by decide) ?_
        exact hret _ _ _ hf dX0_symbol_38
def x_isEmpty (σ : St) (x1 : Int32) (Q : Int32 → Prop) : Prop :=
  (((fx_isCapital x1) = 0 → Q 0) ∧ (¬ (fx_isCapital x1) = 0 → (((fx_has (σ.1 15) (x1 - 26)) = 0 → Q 0) ∧ (¬ (fx_has (σ.1 15) (x1 - 26)) = 0 → Q 1))))
abbrev rm_x_isEmpty : Room := { frames := 1, cells := 0, slots := 0, locals := 21 }
set_option maxHeartbeats 4000000 in
theorem met_x_isEmpty (l : Launch) (D : va_G) (ct : Ct) (ad : Nat → Nat) (hJ : gJ shX ad ct) (σ : St) (x1 : Int32) (Q : Int32 → Prop) (hf : x_isEmpty σ x1 Q) : Met l yX0_isEmpty (ws_ yX0_isEmpty cX0_isEmpty 2 (some .boolean)) rm_x_isEmpty (va_Pc [.ref (ad 0), .int x1] (gP D ct shX ad σ)) (gR rvI Q) 0 0 (fun _ => False) := by
  refine g_metRZ hJ (by decide) (Nat.le_of_ble_eq_true rfl) ?_
  intro p e s m args below meth c QQ ls H C hw hl hret
  replace hl : lv_has ls 2 [(0, .ref (ad 0)), (1, .int x1)] := hl
  unfold x_isEmpty at hf
  refine lv_iload_n C.1 C.2.1 dX0_isEmpty_0 rfl (lv_at hl 1 rfl) ?_
  refine kx_isCapital C hl.1 (Nat.le_of_ble_eq_true rfl) ⟨Nat.le_of_ble_eq_true rfl, Nat.le_of_ble_eq_true rfl⟩ dX0_isEmpty_1 ?_
  refine lv_if_eq (tgt := 25) C.1 C.2.1 dX0_isEmpty_4 (by decide) (fun h4 => ?_) (fun h4 => ?_)
  · replace hf := hf.1 h4
    refine lv_iconst (v := 0) C.1 C.2.1 dX0_isEmpty_25 rfl ?_
    exact hret _ _ _ hf (Or.inl rfl) dX0_isEmpty_26
  · replace hf := hf.2 h4
    refine lv_aload_n C.1 C.2.1 dX0_isEmpty_7 rfl (lv_at hl 0 rfl) ?_
    refine xg_empties C hw dX0_isEmpty_8 ?_
    refine lv_iload_n C.1 C.2.1 dX0_isEmpty_11 rfl (lv_at hl 1 rfl) ?_
    refine lv_bipush (v := 26) C.1 C.2.1 dX0_isEmpty_12 rfl ?_
    refine lv_isub C.1 C.2.1 dX0_isEmpty_14 ?_
    refine kx_has C hl.1 (Nat.le_of_ble_eq_true rfl) ⟨Nat.le_of_ble_eq_true rfl, Nat.le_of_ble_eq_true rfl⟩ dX0_isEmpty_15 ?_
    refine lv_if_eq (tgt := 25) C.1 C.2.1 dX0_isEmpty_18 (by decide) (fun h18 => ?_) (fun h18 => ?_)
    · replace hf := hf.1 h18
      refine lv_iconst (v := 0) C.1 C.2.1 dX0_isEmpty_25 rfl ?_
      exact hret _ _ _ hf (Or.inl rfl) dX0_isEmpty_26
    · replace hf := hf.2 h18
      refine lv_iconst (v := 1) C.1 C.2.1 dX0_isEmpty_21 rfl ?_
      refine lv_goto (tgt := 26) C.1 C.2.1 dX0_isEmpty_22 (by decide) ?_
      exact hret _ _ _ hf (Or.inr rfl) dX0_isEmpty_26
def fx_isEmpty (σ : St) (x1 : Int32) : Int32 :=
  (if (fx_isCapital x1) = 0 then 0 else (if (fx_has (σ.1 15) (x1 - 26)) = 0 then 0 else 1))
theorem fx_isEmpty_z {σ : St} {x1 : Int32} : zB (fx_isEmpty σ x1) := by
  unfold fx_isEmpty
  repeat' split
  all_goals first | exact Or.inl rfl | exact Or.inr rfl | exact fx_isCapital_z | exact fx_has_z
theorem x_isEmpty_f {Q : Int32 → Prop} {σ : St} {x1 : Int32} (h : Q (fx_isEmpty σ x1)) : x_isEmpty σ x1 Q := by
  unfold fx_isEmpty at h
  unfold x_isEmpty
  refine ⟨fun c => ?_, fun c => ?_⟩
  · rw [if_pos c] at h
    exact h
  · rw [if_neg c] at h
    refine ⟨fun c => ?_, fun c => ?_⟩
    · rw [if_pos c] at h
      exact h
    · rw [if_neg c] at h
      exact h
theorem kx_isEmpty {p : Program} {l : Launch} {e : Env} {R : Room} {s : State} {m : MethodId} {args : Array Value} {below : List Frame} {meth : Method} {c : Code} {H : Heap} {locs : List Loc} {Z : State → Prop} {cc : ByteArray} {nL pc : Nat} {ls : Array Slot} {rest : List Value} {D : va_G} {ct : Ct} {ad : Nat → Nat} {σ : St} {x1 : Int32} (C : CallFix p m c cc nL s args lw_all RX0) (hw : gH D ct shX ad s σ H locs) (hsz : ls.size = nL) (hrm : (rest.map fun v => v.category).sum ≤ 8) (hR : rm_x_isEmpty.frames + 1 ≤ R.frames ∧ 8 + (2 + 11) + rm_x_isEmpty.locals ≤ R.locals) (hdg : decode cc pc = .ok (.invokevirtual 317, 3)) (kk : W p l e R s m args below meth c H locs 0 0 Z (F0 m (pc + 3) ls (.int (fx_isEmpty σ x1) :: rest))) : W p l e R s m args below meth c H locs 0 0 Z (F0 m pc ls (.int x1 :: .ref (ad 0) :: rest)) :=
  g_callVRf (As := [.int x1]) (rest := rest) C hw rfl rfl (met_x_isEmpty l D ct ad hw.2.1 σ x1 (fun r => r = fx_isEmpty σ x1) (x_isEmpty_f rfl)) (cwV 1 C.2.2.2.2 (lw_V q772 q774 qs29 q200 q775) rfl rfl rfl (by decide +kernel) hR) rfl hsz rfl hrm ⟨Nat.zero_le _, Nat.zero_le _⟩ hdg kk
def x_doEnd_p2 (σ : St) (x1 : Int32) (Q : Int32 → Prop) (K2 : Int32 → Prop) (x2 : Int32) : Prop :=
  (vp_in x1 12 ∧ (((gI σ 84 x1) ≤ x2 → Q 1) ∧ (¬ (gI σ 84 x1) ≤ x2 → (x_at σ x1 x2 (fun r21 => (((fx_isCapital r21) = 0 → K2 (x2 + 1)) ∧ (¬ (fx_isCapital r21) = 0 → (x_at σ x1 x2 (fun r40 => (((fx_has (σ.1 16) (r40 - 26)) = 0 → Q 0) ∧ (¬ (fx_has (σ.1 16) (r40 - 26)) = 0 → K2 (x2 + 1))))))))))))
def x_doEnd (σ : St) (x1 : Int32) (Q : Int32 → Prop) : Prop :=
  (Lp1 (x_doEnd_p2 σ x1 Q) 0)
abbrev rm_x_doEnd : Room := { frames := 1, cells := 0, slots := 0, locals := 22 }
set_option maxHeartbeats 4000000 in
theorem met_x_doEnd (l : Launch) (D : va_G) (ct : Ct) (ad : Nat → Nat) (hJ : gJ shX ad ct) (σ : St) (x1 : Int32) (Q : Int32 → Prop) (hf : x_doEnd σ x1 Q) : Met l yX0_doEnd (ws_ yX0_doEnd cX0_doEnd 3 (some .boolean)) rm_x_doEnd (va_Pc [.ref (ad 0), .int x1] (gP D ct shX ad σ)) (gR rvI Q) 0 0 (fun _ => False) := by
  refine g_metRZ hJ (by decide) (Nat.le_of_ble_eq_true rfl) ?_
  intro p e s m args below meth c QQ ls H C hw hl hret
  replace hl : lv_has ls 3 [(0, .ref (ad 0)), (1, .int x1)] := hl
  have B2 : ∀ (x1 : Int32) (K2 : Int32 → Prop) (_ : ∀ (x2 : Int32) (ls : Array Slot), K2 x2 → lv_has ls 3 [(0, .ref (ad 0)), (1, .int x1), (2, .int x2)] → W p l e rm_x_doEnd s m args below meth c H [] 0 0 QQ (F0 m 2 ls [])) (x2 : Int32) (ls : Array Slot), x_doEnd_p2 σ x1 Q K2 x2 → lv_has ls 3 [(0, .ref (ad 0)), (1, .int x1), (2, .int x2)] → W p l e rm_x_doEnd s m args below meth c H [] 0 0 QQ (F0 m 2 ls []) := by
    intro x1 K2 hK2 x2 ls hf hl
    unfold x_doEnd_p2 at hf
    refine lv_iload_n C.1 C.2.1 dX0_doEnd_2 rfl (lv_at hl 2 rfl) ?_
    refine lv_aload_n C.1 C.2.1 dX0_doEnd_3 rfl (lv_at hl 0 rfl) ?_
    refine xg_grammar C hw dX0_doEnd_4 ?_
    refine xn_size C hw dX0_doEnd_7 ?_
    refine lv_iload_n C.1 C.2.1 dX0_doEnd_10 rfl (lv_at hl 1 rfl) ?_
    obtain ⟨b11, hf⟩ := hf
    refine g_iald C hw 84 rfl b11 dX0_doEnd_11 ?_
    refine lv_icmp_ge (tgt := 60) C.1 C.2.1 dX0_doEnd_12 (by decide) (fun h12 => ?_) (fun h12 => ?_)
    · replace hf := hf.1 h12
      refine lv_iconst (v := 1) C.1 C.2.1 dX0_doEnd_60 rfl ?_
      exact hret _ _ _ hf (Or.inr rfl) dX0_doEnd_61
    · replace hf := hf.2 h12
      refine lv_aload_n C.1 C.2.1 dX0_doEnd_15 rfl (lv_at hl 0 rfl) ?_
      refine xg_grammar C hw dX0_doEnd_16 ?_
      refine lv_iload_n C.1 C.2.1 dX0_doEnd_19 rfl (lv_at hl 1 rfl) ?_
      refine lv_iload_n C.1 C.2.1 dX0_doEnd_20 rfl (lv_at hl 2 rfl) ?_
      refine kx_at C hw hl.1 (Nat.le_of_ble_eq_true rfl) ⟨Nat.le_of_ble_eq_true rfl, Nat.le_of_ble_eq_true rfl⟩ dX0_doEnd_21 hf (fun r21 hf => ?_)
      refine kx_isCapital C hl.1 (Nat.le_of_ble_eq_true rfl) ⟨Nat.le_of_ble_eq_true rfl, Nat.le_of_ble_eq_true rfl⟩ dX0_doEnd_24 ?_
      refine lv_if_eq (tgt := 54) C.1 C.2.1 dX0_doEnd_27 (by decide) (fun h27 => ?_) (fun h27 => ?_)
      · replace hf := hf.1 h27
        refine lv_iinc (v := (x2 + 1)) (lv' := [(2, .int (x2 + 1)), (0, .ref (ad 0)), (1, .int x1)]) C.1 C.2.1 dX0_doEnd_54 hl (k := 2) rfl rfl (Nat.le_of_ble_eq_true rfl) rfl (fun ls hl => ?_)
        refine lv_goto (tgt := 2) C.1 C.2.1 dX0_doEnd_57 (by decide) ?_
        exact hK2 _ _ hf (lv_sub hl [1, 2, 0] rfl)
      · replace hf := hf.2 h27
        refine lv_aload_n C.1 C.2.1 dX0_doEnd_30 rfl (lv_at hl 0 rfl) ?_
        refine xg_ending C hw dX0_doEnd_31 ?_
        refine lv_aload_n C.1 C.2.1 dX0_doEnd_34 rfl (lv_at hl 0 rfl) ?_
        refine xg_grammar C hw dX0_doEnd_35 ?_
        refine lv_iload_n C.1 C.2.1 dX0_doEnd_38 rfl (lv_at hl 1 rfl) ?_
        refine lv_iload_n C.1 C.2.1 dX0_doEnd_39 rfl (lv_at hl 2 rfl) ?_
        refine kx_at C hw hl.1 (Nat.le_of_ble_eq_true rfl) ⟨Nat.le_of_ble_eq_true rfl, Nat.le_of_ble_eq_true rfl⟩ dX0_doEnd_40 hf (fun r40 hf => ?_)
        refine lv_bipush (v := 26) C.1 C.2.1 dX0_doEnd_43 rfl ?_
        refine lv_isub C.1 C.2.1 dX0_doEnd_45 ?_
        refine kx_has C hl.1 (Nat.le_of_ble_eq_true rfl) ⟨Nat.le_of_ble_eq_true rfl, Nat.le_of_ble_eq_true rfl⟩ dX0_doEnd_46 ?_
        refine lv_if_ne (tgt := 54) C.1 C.2.1 dX0_doEnd_49 (by decide) (fun h49 => ?_) (fun h49 => ?_)
        · replace hf := hf.2 h49
          refine lv_iinc (v := (x2 + 1)) (lv' := [(2, .int (x2 + 1)), (0, .ref (ad 0)), (1, .int x1)]) C.1 C.2.1 dX0_doEnd_54 hl (k := 2) rfl rfl (Nat.le_of_ble_eq_true rfl) rfl (fun ls hl => ?_)
          refine lv_goto (tgt := 2) C.1 C.2.1 dX0_doEnd_57 (by decide) ?_
          exact hK2 _ _ hf (lv_sub hl [1, 2, 0] rfl)
        · replace hf := hf.1 h49
          refine lv_iconst (v := 0) C.1 C.2.1 dX0_doEnd_52 rfl ?_
          exact hret _ _ _ hf (Or.inl rfl) dX0_doEnd_53
  have P2 : ∀ (x1 : Int32) (n : Nat) (x2 : Int32) (ls : Array Slot), LL1 (x_doEnd_p2 σ x1 Q) n x2 → lv_has ls 3 [(0, .ref (ad 0)), (1, .int x1), (2, .int x2)] → W p l e rm_x_doEnd s m args below meth c H [] 0 0 QQ (F0 m 2 ls []) := by
    intro x1 n
    induction n with
    | zero => intro x2 ls hf; exact False.elim hf
    | succ n ih => intro x2 ls hf hl; exact B2 x1 (LL1 _ n) ih x2 ls hf hl
  unfold x_doEnd at hf
  refine lv_iconst (v := 0) C.1 C.2.1 dX0_doEnd_0 rfl ?_
  refine lv_istore_n (lv' := [(2, .int 0), (0, .ref (ad 0)), (1, .int x1)]) C.1 C.2.1 dX0_doEnd_1 rfl hl (Nat.le_of_ble_eq_true rfl) rfl (fun ls hl => ?_)
  obtain ⟨n, hf⟩ := hf
  exact P2 _ n _ _ hf (lv_sub hl [1, 2, 0] rfl)
theorem kx_doEnd {p : Program} {l : Launch} {e : Env} {R : Room} {s : State} {m : MethodId} {args : Array Value} {below : List Frame} {meth : Method} {c : Code} {H : Heap} {locs : List Loc} {Z : State → Prop} {cc : ByteArray} {nL pc : Nat} {ls : Array Slot} {rest : List Value} {D : va_G} {ct : Ct} {ad : Nat → Nat} {σ : St} {x1 : Int32} {Qp : Int32 → Prop} (C : CallFix p m c cc nL s args lw_all RX0) (hw : gH D ct shX ad s σ H locs) (hsz : ls.size = nL) (hrm : (rest.map fun v => v.category).sum ≤ 8) (hR : rm_x_doEnd.frames + 1 ≤ R.frames ∧ 8 + (3 + 11) + rm_x_doEnd.locals ≤ R.locals) (hdg : decode cc pc = .ok (.invokevirtual 336, 3)) (hf : x_doEnd σ x1 Qp) (kk : ∀ (r : Int32), Qp r → W p l e R s m args below meth c H locs 0 0 Z (F0 m (pc + 3) ls (.int r :: rest))) : W p l e R s m args below meth c H locs 0 0 Z (F0 m pc ls (.int x1 :: .ref (ad 0) :: rest)) :=
  g_callVR (As := [.int x1]) (rest := rest) C hw rfl rfl (met_x_doEnd l D ct ad hw.2.1 σ x1 Qp hf) (cwV 1 C.2.2.2.2 (lw_V q776 q778 qs30 q200 q779) rfl rfl rfl (by decide +kernel) hR) rfl hsz rfl hrm ⟨Nat.zero_le _, Nat.zero_le _⟩ hdg kk
def x_rightCapitals_p4 (σ : St) (x1 : Int32) (Q : Int32 → Prop) (K4 : Int32 → Int32 → Prop) (x2 : Int32) (x3 : Int32) : Prop :=
  (vp_in x1 12 ∧ (((gI σ 84 x1) ≤ x3 → Q x2) ∧ (¬ (gI σ 84 x1) ≤ x3 → (x_at σ x1 x3 (fun r24 => (((fx_isCapital r24) = 0 → K4 (x2 ||| 0) (x3 + 1)) ∧ (¬ (fx_isCapital r24) = 0 → (x_at σ x1 x3 (fun r40 => K4 (x2 ||| (1 <<< ((r40 - 26) &&& 31))) (x3 + 1))))))))))
def x_rightCapitals (σ : St) (x1 : Int32) (Q : Int32 → Prop) : Prop :=
  (Lp2 (x_rightCapitals_p4 σ x1 Q) 0 0)
abbrev rm_x_rightCapitals : Room := { frames := 1, cells := 0, slots := 0, locals := 22 }
set_option maxHeartbeats 4000000 in
theorem met_x_rightCapitals (l : Launch) (D : va_G) (ct : Ct) (ad : Nat → Nat) (hJ : gJ shX ad ct) (σ : St) (x1 : Int32) (Q : Int32 → Prop) (hf : x_rightCapitals σ x1 Q) : Met l yX0_rightCapitals (ws_ yX0_rightCapitals cX0_rightCapitals 4 (some .int)) rm_x_rightCapitals (va_Pc [.ref (ad 0), .int x1] (gP D ct shX ad σ)) (gR rvI Q) 0 0 (fun _ => False) := by
  refine g_metRI hJ (by decide) (Nat.le_of_ble_eq_true rfl) ?_
  intro p e s m args below meth c QQ ls H C hw hl hret
  replace hl : lv_has ls 4 [(0, .ref (ad 0)), (1, .int x1)] := hl
  have B4 : ∀ (x1 : Int32) (K4 : Int32 → Int32 → Prop) (_ : ∀ (x2 : Int32) (x3 : Int32) (ls : Array Slot), K4 x2 x3 → lv_has ls 4 [(0, .ref (ad 0)), (1, .int x1), (2, .int x2), (3, .int x3)] → W p l e rm_x_rightCapitals s m args below meth c H [] 0 0 QQ (F0 m 4 ls [])) (x2 : Int32) (x3 : Int32) (ls : Array Slot), x_rightCapitals_p4 σ x1 Q K4 x2 x3 → lv_has ls 4 [(0, .ref (ad 0)), (1, .int x1), (2, .int x2), (3, .int x3)] → W p l e rm_x_rightCapitals s m args below meth c H [] 0 0 QQ (F0 m 4 ls []) := by
    intro x1 K4 hK4 x2 x3 ls hf hl
    unfold x_rightCapitals_p4 at hf
    refine lv_iload_n C.1 C.2.1 dX0_rightCapitals_4 rfl (lv_at hl 3 rfl) ?_
    refine lv_aload_n C.1 C.2.1 dX0_rightCapitals_5 rfl (lv_at hl 0 rfl) ?_
    refine xg_grammar C hw dX0_rightCapitals_6 ?_
    refine xn_size C hw dX0_rightCapitals_9 ?_
    refine lv_iload_n C.1 C.2.1 dX0_rightCapitals_12 rfl (lv_at hl 1 rfl) ?_
    obtain ⟨b13, hf⟩ := hf
    refine g_iald C hw 84 rfl b13 dX0_rightCapitals_13 ?_
    refine lv_icmp_ge (tgt := 59) C.1 C.2.1 dX0_rightCapitals_14 (by decide) (fun h14 => ?_) (fun h14 => ?_)
    · replace hf := hf.1 h14
      refine lv_iload_n C.1 C.2.1 dX0_rightCapitals_59 rfl (lv_at hl 2 rfl) ?_
      exact hret _ _ _ hf dX0_rightCapitals_60
    · replace hf := hf.2 h14
      refine lv_iload_n C.1 C.2.1 dX0_rightCapitals_17 rfl (lv_at hl 2 rfl) ?_
      refine lv_aload_n C.1 C.2.1 dX0_rightCapitals_18 rfl (lv_at hl 0 rfl) ?_
      refine xg_grammar C hw dX0_rightCapitals_19 ?_
      refine lv_iload_n C.1 C.2.1 dX0_rightCapitals_22 rfl (lv_at hl 1 rfl) ?_
      refine lv_iload_n C.1 C.2.1 dX0_rightCapitals_23 rfl (lv_at hl 3 rfl) ?_
      refine kx_at C hw hl.1 (Nat.le_of_ble_eq_true rfl) ⟨Nat.le_of_ble_eq_true rfl, Nat.le_of_ble_eq_true rfl⟩ dX0_rightCapitals_24 hf (fun r24 hf => ?_)
      refine kx_isCapital C hl.1 (Nat.le_of_ble_eq_true rfl) ⟨Nat.le_of_ble_eq_true rfl, Nat.le_of_ble_eq_true rfl⟩ dX0_rightCapitals_27 ?_
      refine lv_if_eq (tgt := 50) C.1 C.2.1 dX0_rightCapitals_30 (by decide) (fun h30 => ?_) (fun h30 => ?_)
      · replace hf := hf.1 h30
        refine lv_iconst (v := 0) C.1 C.2.1 dX0_rightCapitals_50 rfl ?_
        refine lv_ior C.1 C.2.1 dX0_rightCapitals_51 ?_
        refine lv_istore_n (lv' := [(2, .int (x2 ||| 0)), (0, .ref (ad 0)), (1, .int x1), (3, .int x3)]) C.1 C.2.1 dX0_rightCapitals_52 rfl hl (Nat.le_of_ble_eq_true rfl) rfl (fun ls hl => ?_)
        refine lv_iinc (v := (x3 + 1)) (lv' := [(3, .int (x3 + 1)), (2, .int (x2 ||| 0)), (0, .ref (ad 0)), (1, .int x1)]) C.1 C.2.1 dX0_rightCapitals_53 hl (k := 3) rfl rfl (Nat.le_of_ble_eq_true rfl) rfl (fun ls hl => ?_)
        refine lv_goto (tgt := 4) C.1 C.2.1 dX0_rightCapitals_56 (by decide) ?_
        exact hK4 _ _ _ hf (lv_sub hl [2, 3, 1, 0] rfl)
      · replace hf := hf.2 h30
        refine lv_iconst (v := 1) C.1 C.2.1 dX0_rightCapitals_33 rfl ?_
        refine lv_aload_n C.1 C.2.1 dX0_rightCapitals_34 rfl (lv_at hl 0 rfl) ?_
        refine xg_grammar C hw dX0_rightCapitals_35 ?_
        refine lv_iload_n C.1 C.2.1 dX0_rightCapitals_38 rfl (lv_at hl 1 rfl) ?_
        refine lv_iload_n C.1 C.2.1 dX0_rightCapitals_39 rfl (lv_at hl 3 rfl) ?_
        refine kx_at C hw hl.1 (Nat.le_of_ble_eq_true rfl) ⟨Nat.le_of_ble_eq_true rfl, Nat.le_of_ble_eq_true rfl⟩ dX0_rightCapitals_40 hf (fun r40 hf => ?_)
        refine lv_bipush (v := 26) C.1 C.2.1 dX0_rightCapitals_43 rfl ?_
        refine lv_isub C.1 C.2.1 dX0_rightCapitals_45 ?_
        refine lv_ishl C.1 C.2.1 dX0_rightCapitals_46 ?_
        refine lv_goto (tgt := 51) C.1 C.2.1 dX0_rightCapitals_47 (by decide) ?_
        refine lv_ior C.1 C.2.1 dX0_rightCapitals_51 ?_
        refine lv_istore_n (lv' := [(2, .int (x2 ||| (1 <<< ((r40 - 26) &&& 31)))), (0, .ref (ad 0)), (1, .int x1), (3, .int x3)]) C.1 C.2.1 dX0_rightCapitals_52 rfl hl (Nat.le_of_ble_eq_true rfl) rfl (fun ls hl => ?_)
        refine lv_iinc (v := (x3 + 1)) (lv' := [(3, .int (x3 + 1)), (2, .int (x2 ||| (1 <<< ((r40 - 26) &&& 31)))), (0, .ref (ad 0)), (1, .int x1)]) C.1 C.2.1 dX0_rightCapitals_53 hl (k := 3) rfl rfl (Nat.le_of_ble_eq_true rfl) rfl (fun ls hl => ?_)
        refine lv_goto (tgt := 4) C.1 C.2.1 dX0_rightCapitals_56 (by decide) ?_
        exact hK4 _ _ _ hf (lv_sub hl [2, 3, 1, 0] rfl)
  have P4 : ∀ (x1 : Int32) (n : Nat) (x2 : Int32) (x3 : Int32) (ls : Array Slot), LL2 (x_rightCapitals_p4 σ x1 Q) n x2 x3 → lv_has ls 4 [(0, .ref (ad 0)), (1, .int x1), (2, .int x2), (3, .int x3)] → W p l e rm_x_rightCapitals s m args below meth c H [] 0 0 QQ (F0 m 4 ls []) := by
    intro x1 n
    induction n with
    | zero => intro x2 x3 ls hf; exact False.elim hf
    | succ n ih => intro x2 x3 ls hf hl; exact B4 x1 (LL2 _ n) ih x2 x3 ls hf hl
  unfold x_rightCapitals at hf
  refine lv_iconst (v := 0) C.1 C.2.1 dX0_rightCapitals_0 rfl ?_
  refine lv_istore_n (lv' := [(2, .int 0), (0, .ref (ad 0)), (1, .int x1)]) C.1 C.2.1 dX0_rightCapitals_1 rfl hl (Nat.le_of_ble_eq_true rfl) rfl (fun ls hl => ?_)
  refine lv_iconst (v := 0) C.1 C.2.1 dX0_rightCapitals_2 rfl ?_
  refine lv_istore_n (lv' := [(3, .int 0), (2, .int 0), (0, .ref (ad 0)), (1, .int x1)]) C.1 C.2.1 dX0_rightCapitals_3 rfl hl (Nat.le_of_ble_eq_true rfl) rfl (fun ls hl => ?_)
  obtain ⟨n, hf⟩ := hf
  exact P4 _ n _ _ _ hf (lv_sub hl [2, 3, 1, 0] rfl)
theorem kx_rightCapitals {p : Program} {l : Launch} {e : Env} {R : Room} {s : State} {m : MethodId} {args : Array Value} {below : List Frame} {meth : Method} {c : Code} {H : Heap} {locs : List Loc} {Z : State → Prop} {cc : ByteArray} {nL pc : Nat} {ls : Array Slot} {rest : List Value} {D : va_G} {ct : Ct} {ad : Nat → Nat} {σ : St} {x1 : Int32} {Qp : Int32 → Prop} (C : CallFix p m c cc nL s args lw_all RX0) (hw : gH D ct shX ad s σ H locs) (hsz : ls.size = nL) (hrm : (rest.map fun v => v.category).sum ≤ 8) (hR : rm_x_rightCapitals.frames + 1 ≤ R.frames ∧ 8 + (4 + 11) + rm_x_rightCapitals.locals ≤ R.locals) (hdg : decode cc pc = .ok (.invokevirtual 339, 3)) (hf : x_rightCapitals σ x1 Qp) (kk : ∀ (r : Int32), Qp r → W p l e R s m args below meth c H locs 0 0 Z (F0 m (pc + 3) ls (.int r :: rest))) : W p l e R s m args below meth c H locs 0 0 Z (F0 m pc ls (.int x1 :: .ref (ad 0) :: rest)) :=
  g_callVR (As := [.int x1]) (rest := rest) C hw rfl rfl (met_x_rightCapitals l D ct ad hw.2.1 σ x1 Qp hf) (cwV 1 C.2.2.2.2 (lw_V q780 q782 qs31 q200 q783) rfl rfl rfl (by decide +kernel) hR) rfl hsz rfl hrm ⟨Nat.zero_le _, Nat.zero_le _⟩ hdg kk
def x_shortBy_p54 (σ : St) (x1 : Int32) (x3 : Int32) (Q : Int32 → Prop) (K4 : Int32 → Int32 → Prop) (v0 : Int32) (v1 : Int32) : Prop :=
  K4 (fx_together v1 v0) (x3 + 1)
def x_shortBy_p4 (σ : St) (x1 : Int32) (Q : Int32 → Prop) (K4 : Int32 → Int32 → Prop) (x2 : Int32) (x3 : Int32) : Prop :=
  (vp_in x1 12 ∧ (((gI σ 84 x1) ≤ x3 → Q x2) ∧ (¬ (gI σ 84 x1) ≤ x3 → (x_at σ x1 x3 (fun r24 => (((fx_isCapital r24) = 0 → (x_shortBy_p54 σ x1 x3 Q K4 1 x2)) ∧ (¬ (fx_isCapital r24) = 0 → (x_at σ x1 x3 (fun r43 => (vp_in (r43 - 26) 26 ∧ (x_shortBy_p54 σ x1 x3 Q K4 (gI σ 22 (r43 - 26)) x2)))))))))))
def x_shortBy (σ : St) (x1 : Int32) (Q : Int32 → Prop) : Prop :=
  (Lp2 (x_shortBy_p4 σ x1 Q) 0 0)
abbrev rm_x_shortBy : Room := { frames := 1, cells := 0, slots := 0, locals := 22 }
set_option maxHeartbeats 4000000 in
theorem met_x_shortBy (l : Launch) (D : va_G) (ct : Ct) (ad : Nat → Nat) (hJ : gJ shX ad ct) (σ : St) (x1 : Int32) (Q : Int32 → Prop) (hf : x_shortBy σ x1 Q) : Met l yX0_shortBy (ws_ yX0_shortBy cX0_shortBy 4 (some .int)) rm_x_shortBy (va_Pc [.ref (ad 0), .int x1] (gP D ct shX ad σ)) (gR rvI Q) 0 0 (fun _ => False) := by
  refine g_metRI hJ (by decide) (Nat.le_of_ble_eq_true rfl) ?_
  intro p e s m args below meth c QQ ls H C hw hl hret
  replace hl : lv_has ls 4 [(0, .ref (ad 0)), (1, .int x1)] := hl
  have J54 : ∀ (x1 : Int32) (x3 : Int32) (v0 : Int32) (v1 : Int32) (K4 : Int32 → Int32 → Prop) (_ : ∀ (x2 : Int32) (x3 : Int32) (ls : Array Slot), K4 x2 x3 → lv_has ls 4 [(0, .ref (ad 0)), (1, .int x1), (2, .int x2), (3, .int x3)] → W p l e rm_x_shortBy s m args below meth c H [] 0 0 QQ (F0 m 4 ls [])) (ls : Array Slot), x_shortBy_p54 σ x1 x3 Q K4 v0 v1 → lv_has ls 4 [(0, .ref (ad 0)), (1, .int x1), (3, .int x3)] → W p l e rm_x_shortBy s m args below meth c H [] 0 0 QQ (F0 m 54 ls [.int v0, .int v1]) := by
    intro x1 x3 v0 v1 K4 hK4 ls hf hl
    unfold x_shortBy_p54 at hf
    refine kx_together C hl.1 (Nat.le_of_ble_eq_true rfl) ⟨Nat.le_of_ble_eq_true rfl, Nat.le_of_ble_eq_true rfl⟩ dX0_shortBy_54 ?_
    refine lv_istore_n (lv' := [(2, .int (fx_together v1 v0)), (0, .ref (ad 0)), (1, .int x1), (3, .int x3)]) C.1 C.2.1 dX0_shortBy_57 rfl hl (Nat.le_of_ble_eq_true rfl) rfl (fun ls hl => ?_)
    refine lv_iinc (v := (x3 + 1)) (lv' := [(3, .int (x3 + 1)), (2, .int (fx_together v1 v0)), (0, .ref (ad 0)), (1, .int x1)]) C.1 C.2.1 dX0_shortBy_58 hl (k := 3) rfl rfl (Nat.le_of_ble_eq_true rfl) rfl (fun ls hl => ?_)
    refine lv_goto (tgt := 4) C.1 C.2.1 dX0_shortBy_61 (by decide) ?_
    exact hK4 _ _ _ hf (lv_sub hl [2, 3, 1, 0] rfl)
  have B4 : ∀ (x1 : Int32) (K4 : Int32 → Int32 → Prop) (_ : ∀ (x2 : Int32) (x3 : Int32) (ls : Array Slot), K4 x2 x3 → lv_has ls 4 [(0, .ref (ad 0)), (1, .int x1), (2, .int x2), (3, .int x3)] → W p l e rm_x_shortBy s m args below meth c H [] 0 0 QQ (F0 m 4 ls [])) (x2 : Int32) (x3 : Int32) (ls : Array Slot), x_shortBy_p4 σ x1 Q K4 x2 x3 → lv_has ls 4 [(0, .ref (ad 0)), (1, .int x1), (2, .int x2), (3, .int x3)] → W p l e rm_x_shortBy s m args below meth c H [] 0 0 QQ (F0 m 4 ls []) := by
    intro x1 K4 hK4 x2 x3 ls hf hl
    unfold x_shortBy_p4 at hf
    refine lv_iload_n C.1 C.2.1 dX0_shortBy_4 rfl (lv_at hl 3 rfl) ?_
    refine lv_aload_n C.1 C.2.1 dX0_shortBy_5 rfl (lv_at hl 0 rfl) ?_
    refine xg_grammar C hw dX0_shortBy_6 ?_
    refine xn_size C hw dX0_shortBy_9 ?_
    refine lv_iload_n C.1 C.2.1 dX0_shortBy_12 rfl (lv_at hl 1 rfl) ?_
    obtain ⟨b13, hf⟩ := hf
    refine g_iald C hw 84 rfl b13 dX0_shortBy_13 ?_
    refine lv_icmp_ge (tgt := 64) C.1 C.2.1 dX0_shortBy_14 (by decide) (fun h14 => ?_) (fun h14 => ?_)
    · replace hf := hf.1 h14
      refine lv_iload_n C.1 C.2.1 dX0_shortBy_64 rfl (lv_at hl 2 rfl) ?_
      exact hret _ _ _ hf dX0_shortBy_65
    · replace hf := hf.2 h14
      refine lv_iload_n C.1 C.2.1 dX0_shortBy_17 rfl (lv_at hl 2 rfl) ?_
      refine lv_aload_n C.1 C.2.1 dX0_shortBy_18 rfl (lv_at hl 0 rfl) ?_
      refine xg_grammar C hw dX0_shortBy_19 ?_
      refine lv_iload_n C.1 C.2.1 dX0_shortBy_22 rfl (lv_at hl 1 rfl) ?_
      refine lv_iload_n C.1 C.2.1 dX0_shortBy_23 rfl (lv_at hl 3 rfl) ?_
      refine kx_at C hw hl.1 (Nat.le_of_ble_eq_true rfl) ⟨Nat.le_of_ble_eq_true rfl, Nat.le_of_ble_eq_true rfl⟩ dX0_shortBy_24 hf (fun r24 hf => ?_)
      refine kx_isCapital C hl.1 (Nat.le_of_ble_eq_true rfl) ⟨Nat.le_of_ble_eq_true rfl, Nat.le_of_ble_eq_true rfl⟩ dX0_shortBy_27 ?_
      refine lv_if_eq (tgt := 53) C.1 C.2.1 dX0_shortBy_30 (by decide) (fun h30 => ?_) (fun h30 => ?_)
      · replace hf := hf.1 h30
        refine lv_iconst (v := 1) C.1 C.2.1 dX0_shortBy_53 rfl ?_
        exact J54 _ _ _ _ _ hK4 _ hf (lv_sub hl [0, 1, 3] rfl)
      · replace hf := hf.2 h30
        refine lv_aload_n C.1 C.2.1 dX0_shortBy_33 rfl (lv_at hl 0 rfl) ?_
        refine xg_shortOf C hw dX0_shortBy_34 ?_
        refine lv_aload_n C.1 C.2.1 dX0_shortBy_37 rfl (lv_at hl 0 rfl) ?_
        refine xg_grammar C hw dX0_shortBy_38 ?_
        refine lv_iload_n C.1 C.2.1 dX0_shortBy_41 rfl (lv_at hl 1 rfl) ?_
        refine lv_iload_n C.1 C.2.1 dX0_shortBy_42 rfl (lv_at hl 3 rfl) ?_
        refine kx_at C hw hl.1 (Nat.le_of_ble_eq_true rfl) ⟨Nat.le_of_ble_eq_true rfl, Nat.le_of_ble_eq_true rfl⟩ dX0_shortBy_43 hf (fun r43 hf => ?_)
        refine lv_bipush (v := 26) C.1 C.2.1 dX0_shortBy_46 rfl ?_
        refine lv_isub C.1 C.2.1 dX0_shortBy_48 ?_
        obtain ⟨b49, hf⟩ := hf
        refine g_iald C hw 22 rfl b49 dX0_shortBy_49 ?_
        refine lv_goto (tgt := 54) C.1 C.2.1 dX0_shortBy_50 (by decide) ?_
        exact J54 _ _ _ _ _ hK4 _ hf (lv_sub hl [0, 1, 3] rfl)
  have P4 : ∀ (x1 : Int32) (n : Nat) (x2 : Int32) (x3 : Int32) (ls : Array Slot), LL2 (x_shortBy_p4 σ x1 Q) n x2 x3 → lv_has ls 4 [(0, .ref (ad 0)), (1, .int x1), (2, .int x2), (3, .int x3)] → W p l e rm_x_shortBy s m args below meth c H [] 0 0 QQ (F0 m 4 ls []) := by
    intro x1 n
    induction n with
    | zero => intro x2 x3 ls hf; exact False.elim hf
    | succ n ih => intro x2 x3 ls hf hl; exact B4 x1 (LL2 _ n) ih x2 x3 ls hf hl
  unfold x_shortBy at hf
  refine lv_iconst (v := 0) C.1 C.2.1 dX0_shortBy_0 rfl ?_
  refine lv_istore_n (lv' := [(2, .int 0), (0, .ref (ad 0)), (1, .int x1)]) C.1 C.2.1 dX0_shortBy_1 rfl hl (Nat.le_of_ble_eq_true rfl) rfl (fun ls hl => ?_)
  refine lv_iconst (v := 0) C.1 C.2.1 dX0_shortBy_2 rfl ?_
  refine lv_istore_n (lv' := [(3, .int 0), (2, .int 0), (0, .ref (ad 0)), (1, .int x1)]) C.1 C.2.1 dX0_shortBy_3 rfl hl (Nat.le_of_ble_eq_true rfl) rfl (fun ls hl => ?_)
  obtain ⟨n, hf⟩ := hf
  exact P4 _ n _ _ _ hf (lv_sub hl [2, 3, 1, 0] rfl)
theorem kx_shortBy {p : Program} {l : Launch} {e : Env} {R : Room} {s : State} {m : MethodId} {args : Array Value} {below : List Frame} {meth : Method} {c : Code} {H : Heap} {locs : List Loc} {Z : State → Prop} {cc : ByteArray} {nL pc : Nat} {ls : Array Slot} {rest : List Value} {D : va_G} {ct : Ct} {ad : Nat → Nat} {σ : St} {x1 : Int32} {Qp : Int32 → Prop} (C : CallFix p m c cc nL s args lw_all RX0) (hw : gH D ct shX ad s σ H locs) (hsz : ls.size = nL) (hrm : (rest.map fun v => v.category).sum ≤ 8) (hR : rm_x_shortBy.frames + 1 ≤ R.frames ∧ 8 + (4 + 11) + rm_x_shortBy.locals ≤ R.locals) (hdg : decode cc pc = .ok (.invokevirtual 345, 3)) (hf : x_shortBy σ x1 Qp) (kk : ∀ (r : Int32), Qp r → W p l e R s m args below meth c H locs 0 0 Z (F0 m (pc + 3) ls (.int r :: rest))) : W p l e R s m args below meth c H locs 0 0 Z (F0 m pc ls (.int x1 :: .ref (ad 0) :: rest)) :=
  g_callVR (As := [.int x1]) (rest := rest) C hw rfl rfl (met_x_shortBy l D ct ad hw.2.1 σ x1 Qp hf) (cwV 1 C.2.2.2.2 (lw_V q788 q790 qs33 q200 q791) rfl rfl rfl (by decide +kernel) hR) rfl hsz rfl hrm ⟨Nat.zero_le _, Nat.zero_le _⟩ hdg kk
def x_hasPoint (σ : St) (x1 : Int64) (x3 : Int32) (x4 : Int32) (Q : Int32 → Prop) : Prop :=
  (((x1 &&& (fx_pointOf x3 x4)) = 0 → Q 0) ∧ (¬ (x1 &&& (fx_pointOf x3 x4)) = 0 → Q 1))
abbrev rm_x_hasPoint : Room := { frames := 1, cells := 0, slots := 0, locals := 21 }
set_option maxHeartbeats 4000000 in
theorem met_x_hasPoint (l : Launch) (D : va_G) (ct : Ct) (ad : Nat → Nat) (hJ : gJ shX ad ct) (σ : St) (x1 : Int64) (x3 : Int32) (x4 : Int32) (Q : Int32 → Prop) (hf : x_hasPoint σ x1 x3 x4 Q) : Met l yX0_hasPoint (ws_ yX0_hasPoint cX0_hasPoint 5 (some .boolean)) rm_x_hasPoint (va_Pc [.ref (ad 0), .long x1, .int x3, .int x4] (gP D ct shX ad σ)) (gR rvI Q) 0 0 (fun _ => False) := by
  refine g_metRZ hJ (by decide) (Nat.le_of_ble_eq_true rfl) ?_
  intro p e s m args below meth c QQ ls H C hw hl hret
  replace hl : lv_has ls 5 [(0, .ref (ad 0)), (1, .long x1), (3, .int x3), (4, .int x4)] := hl
  unfold x_hasPoint at hf
  refine lv_lload_n C.1 C.2.1 dX0_hasPoint_0 rfl (lv_at hl 1 rfl) ?_
  refine lv_iload_n C.1 C.2.1 dX0_hasPoint_1 rfl (lv_at hl 2 rfl) ?_
  refine lv_iload C.1 C.2.1 dX0_hasPoint_2 (lv_at hl 3 rfl) ?_
  refine kx_pointOf C hl.1 (Nat.le_of_ble_eq_true rfl) ⟨Nat.le_of_ble_eq_true rfl, Nat.le_of_ble_eq_true rfl⟩ dX0_hasPoint_4 ?_
  refine lv_land C.1 C.2.1 dX0_hasPoint_7 ?_
  refine lv_lconst (v := 0) C.1 C.2.1 dX0_hasPoint_8 rfl ?_
  refine W.lcmp C.1 C.2.1 dX0_hasPoint_9 ?_
  refine lv_if_eq (tgt := 17) C.1 C.2.1 dX0_hasPoint_10 (by decide) (fun h10 => ?_) (fun h10 => ?_)
  · replace hf := hf.1 ((lg_cmp_eq _ _).mp h10)
    refine lv_iconst (v := 0) C.1 C.2.1 dX0_hasPoint_17 rfl ?_
    exact hret _ _ _ hf (Or.inl rfl) dX0_hasPoint_18
  · replace hf := hf.2 (fun q => h10 ((lg_cmp_eq _ _).mpr q))
    refine lv_iconst (v := 1) C.1 C.2.1 dX0_hasPoint_13 rfl ?_
    refine lv_goto (tgt := 18) C.1 C.2.1 dX0_hasPoint_14 (by decide) ?_
    exact hret _ _ _ hf (Or.inr rfl) dX0_hasPoint_18
def fx_hasPoint (σ : St) (x1 : Int64) (x3 : Int32) (x4 : Int32) : Int32 :=
  (if (x1 &&& (fx_pointOf x3 x4)) = 0 then 0 else 1)
theorem fx_hasPoint_z {σ : St} {x1 : Int64} {x3 : Int32} {x4 : Int32} : zB (fx_hasPoint σ x1 x3 x4) := by
  unfold fx_hasPoint
  repeat' split
  all_goals first | exact Or.inl rfl | exact Or.inr rfl | exact fx_pointOf_z
theorem x_hasPoint_f {Q : Int32 → Prop} {σ : St} {x1 : Int64} {x3 : Int32} {x4 : Int32} (h : Q (fx_hasPoint σ x1 x3 x4)) : x_hasPoint σ x1 x3 x4 Q := by
  unfold fx_hasPoint at h
  unfold x_hasPoint
  refine ⟨fun c => ?_, fun c => ?_⟩
  · rw [if_pos c] at h
    exact h
  · rw [if_neg c] at h
    exact h
theorem kx_hasPoint {p : Program} {l : Launch} {e : Env} {R : Room} {s : State} {m : MethodId} {args : Array Value} {below : List Frame} {meth : Method} {c : Code} {H : Heap} {locs : List Loc} {Z : State → Prop} {cc : ByteArray} {nL pc : Nat} {ls : Array Slot} {rest : List Value} {D : va_G} {ct : Ct} {ad : Nat → Nat} {σ : St} {x1 : Int64} {x3 : Int32} {x4 : Int32} (C : CallFix p m c cc nL s args lw_all RX0) (hw : gH D ct shX ad s σ H locs) (hsz : ls.size = nL) (hrm : (rest.map fun v => v.category).sum ≤ 8) (hR : rm_x_hasPoint.frames + 1 ≤ R.frames ∧ 8 + (5 + 11) + rm_x_hasPoint.locals ≤ R.locals) (hdg : decode cc pc = .ok (.invokevirtual 387, 3)) (kk : W p l e R s m args below meth c H locs 0 0 Z (F0 m (pc + 3) ls (.int (fx_hasPoint σ x1 x3 x4) :: rest))) : W p l e R s m args below meth c H locs 0 0 Z (F0 m pc ls (.int x4 :: .int x3 :: .long x1 :: .ref (ad 0) :: rest)) :=
  g_callVRf (As := [.long x1, .int x3, .int x4]) (rest := rest) C hw rfl rfl (met_x_hasPoint l D ct ad hw.2.1 σ x1 x3 x4 (fun r => r = fx_hasPoint σ x1 x3 x4) (x_hasPoint_f rfl)) (cwV 3 C.2.2.2.2 (lw_V q821 q823 qs40 q200 q824) rfl rfl rfl (by decide +kernel) hR) rfl hsz rfl hrm ⟨Nat.zero_le _, Nat.zero_le _⟩ hdg kk
def x_goes (σ : St) (x1 : Int32) (x2 : Int32) (Q : Int32 → Prop) : Prop :=
  (((fx_isState σ x1) = 0 → Q (-1)) ∧ (¬ (fx_isState σ x1) = 0 → (((fx_in (Int32.toInt64 x2) 0 51) = 0 → Q (-1)) ∧ (¬ (fx_in (Int32.toInt64 x2) 0 51) = 0 → (vp_in ((52 * x1) + x2) 4732 ∧ Q (gI σ 24 ((52 * x1) + x2)))))))
abbrev rm_x_goes : Room := { frames := 1, cells := 0, slots := 0, locals := 25 }
set_option maxHeartbeats 4000000 in
theorem met_x_goes (l : Launch) (D : va_G) (ct : Ct) (ad : Nat → Nat) (hJ : gJ shX ad ct) (σ : St) (x1 : Int32) (x2 : Int32) (Q : Int32 → Prop) (hf : x_goes σ x1 x2 Q) : Met l yX0_goes (ws_ yX0_goes cX0_goes 3 (some .int)) rm_x_goes (va_Pc [.ref (ad 0), .int x1, .int x2] (gP D ct shX ad σ)) (gR rvI Q) 0 0 (fun _ => False) := by
  refine g_metRI hJ (by decide) (Nat.le_of_ble_eq_true rfl) ?_
  intro p e s m args below meth c QQ ls H C hw hl hret
  replace hl : lv_has ls 3 [(0, .ref (ad 0)), (1, .int x1), (2, .int x2)] := hl
  unfold x_goes at hf
  refine lv_aload_n C.1 C.2.1 dX0_goes_0 rfl (lv_at hl 0 rfl) ?_
  refine lv_iload_n C.1 C.2.1 dX0_goes_1 rfl (lv_at hl 1 rfl) ?_
  refine kx_isState C hw hl.1 (Nat.le_of_ble_eq_true rfl) ⟨Nat.le_of_ble_eq_true rfl, Nat.le_of_ble_eq_true rfl⟩ dX0_goes_2 ?_
  refine lv_if_eq (tgt := 34) C.1 C.2.1 dX0_goes_5 (by decide) (fun h5 => ?_) (fun h5 => ?_)
  · replace hf := hf.1 h5
    refine lv_iconst (v := (-1)) C.1 C.2.1 dX0_goes_34 rfl ?_
    exact hret _ _ _ hf dX0_goes_35
  · replace hf := hf.2 h5
    refine lv_iload_n C.1 C.2.1 dX0_goes_8 rfl (lv_at hl 2 rfl) ?_
    refine lv_i2l C.1 C.2.1 dX0_goes_9 rfl ?_
    refine lv_lconst (v := 0) C.1 C.2.1 dX0_goes_10 rfl ?_
    refine lv_ldc2 C.1 C.2.1 C.2.2.2.1 (C.2.2.2.2 _ q861) dX0_goes_11 ?_
    refine kx_in C hl.1 (Nat.le_of_ble_eq_true rfl) ⟨Nat.le_of_ble_eq_true rfl, Nat.le_of_ble_eq_true rfl⟩ dX0_goes_14 ?_
    refine lv_if_eq (tgt := 34) C.1 C.2.1 dX0_goes_17 (by decide) (fun h17 => ?_) (fun h17 => ?_)
    · replace hf := hf.1 h17
      refine lv_iconst (v := (-1)) C.1 C.2.1 dX0_goes_34 rfl ?_
      exact hret _ _ _ hf dX0_goes_35
    · replace hf := hf.2 h17
      refine lv_aload_n C.1 C.2.1 dX0_goes_20 rfl (lv_at hl 0 rfl) ?_
      refine xg_goesTo C hw dX0_goes_21 ?_
      refine lv_bipush (v := 52) C.1 C.2.1 dX0_goes_24 rfl ?_
      refine lv_iload_n C.1 C.2.1 dX0_goes_26 rfl (lv_at hl 1 rfl) ?_
      refine lv_imul C.1 C.2.1 dX0_goes_27 ?_
      refine lv_iload_n C.1 C.2.1 dX0_goes_28 rfl (lv_at hl 2 rfl) ?_
      refine lv_iadd C.1 C.2.1 dX0_goes_29 ?_
      obtain ⟨b30, hf⟩ := hf
      refine g_iald C hw 24 rfl b30 dX0_goes_30 ?_
      refine lv_goto (tgt := 35) C.1 C.2.1 dX0_goes_31 (by decide) ?_
      exact hret _ _ _ hf dX0_goes_35
def x_points (σ : St) (x1 : Int32) (x2 : Int32) (Q : Int32 → Prop) : Prop :=
  (((fx_isState σ x1) = 0 → Q (-1)) ∧ (¬ (fx_isState σ x1) = 0 → (((fx_isRule σ x2) = 0 → Q (-1)) ∧ (¬ (fx_isRule σ x2) = 0 → (vp_in x1 91 ∧ Q (Int64.toInt32 (((gL σ 23 x1) >>> (Int32.toInt64 (5 * x2) &&& 63)) &&& 31)))))))
abbrev rm_x_points : Room := { frames := 1, cells := 0, slots := 0, locals := 21 }
set_option maxHeartbeats 4000000 in
theorem met_x_points (l : Launch) (D : va_G) (ct : Ct) (ad : Nat → Nat) (hJ : gJ shX ad ct) (σ : St) (x1 : Int32) (x2 : Int32) (Q : Int32 → Prop) (hf : x_points σ x1 x2 Q) : Met l yX0_points (ws_ yX0_points cX0_points 3 (some .int)) rm_x_points (va_Pc [.ref (ad 0), .int x1, .int x2] (gP D ct shX ad σ)) (gR rvI Q) 0 0 (fun _ => False) := by
  refine g_metRI hJ (by decide) (Nat.le_of_ble_eq_true rfl) ?_
  intro p e s m args below meth c QQ ls H C hw hl hret
  replace hl : lv_has ls 3 [(0, .ref (ad 0)), (1, .int x1), (2, .int x2)] := hl
  unfold x_points at hf
  refine lv_aload_n C.1 C.2.1 dX0_points_0 rfl (lv_at hl 0 rfl) ?_
  refine lv_iload_n C.1 C.2.1 dX0_points_1 rfl (lv_at hl 1 rfl) ?_
  refine kx_isState C hw hl.1 (Nat.le_of_ble_eq_true rfl) ⟨Nat.le_of_ble_eq_true rfl, Nat.le_of_ble_eq_true rfl⟩ dX0_points_2 ?_
  refine lv_if_eq (tgt := 34) C.1 C.2.1 dX0_points_5 (by decide) (fun h5 => ?_) (fun h5 => ?_)
  · replace hf := hf.1 h5
    refine lv_iconst (v := (-1)) C.1 C.2.1 dX0_points_34 rfl ?_
    exact hret _ _ _ hf dX0_points_35
  · replace hf := hf.2 h5
    refine lv_aload_n C.1 C.2.1 dX0_points_8 rfl (lv_at hl 0 rfl) ?_
    refine lv_iload_n C.1 C.2.1 dX0_points_9 rfl (lv_at hl 2 rfl) ?_
    refine kx_isRule C hw hl.1 (Nat.le_of_ble_eq_true rfl) ⟨Nat.le_of_ble_eq_true rfl, Nat.le_of_ble_eq_true rfl⟩ dX0_points_10 ?_
    refine lv_if_eq (tgt := 34) C.1 C.2.1 dX0_points_13 (by decide) (fun h13 => ?_) (fun h13 => ?_)
    · replace hf := hf.1 h13
      refine lv_iconst (v := (-1)) C.1 C.2.1 dX0_points_34 rfl ?_
      exact hret _ _ _ hf dX0_points_35
    · replace hf := hf.2 h13
      refine lv_aload_n C.1 C.2.1 dX0_points_16 rfl (lv_at hl 0 rfl) ?_
      refine xg_points C hw dX0_points_17 ?_
      refine lv_iload_n C.1 C.2.1 dX0_points_20 rfl (lv_at hl 1 rfl) ?_
      obtain ⟨b21, hf⟩ := hf
      refine g_lald C hw 23 rfl b21 dX0_points_21 ?_
      refine lv_iconst (v := 5) C.1 C.2.1 dX0_points_22 rfl ?_
      refine lv_iload_n C.1 C.2.1 dX0_points_23 rfl (lv_at hl 2 rfl) ?_
      refine lv_imul C.1 C.2.1 dX0_points_24 ?_
      refine lv_lshr C.1 C.2.1 dX0_points_25 rfl ?_
      refine lv_ldc2 C.1 C.2.1 C.2.2.2.1 (C.2.2.2.2 _ q887) dX0_points_26 ?_
      refine lv_land C.1 C.2.1 dX0_points_29 ?_
      refine lv_l2i C.1 C.2.1 dX0_points_30 rfl ?_
      refine lv_goto (tgt := 35) C.1 C.2.1 dX0_points_31 (by decide) ?_
      exact hret _ _ _ hf dX0_points_35
def x_takesLast (σ : St) (Q : Unit → St → Prop) : Prop :=
  (∀ s7 : St, s7 = s_I σ 4 ((σ.1 4) - 1) → (x_changes s7 (fun _ s11 => Q () s11)))
abbrev rm_x_takesLast : Room := { frames := 1, cells := 0, slots := 0, locals := 20 }
set_option maxHeartbeats 4000000 in
theorem met_x_takesLast (l : Launch) (D : va_G) (ct : Ct) (ad : Nat → Nat) (hJ : gJ shX ad ct) (σ : St) (Q : Unit → St → Prop) (hf : x_takesLast σ Q) : Met l yX0_takesLast (ws_ yX0_takesLast cX0_takesLast 1 (none)) rm_x_takesLast (va_Pc [.ref (ad 0)] (gP D ct shX ad σ)) (gQ rvV D ct shX ad Q) 0 0 (gA shX ad) := by
  refine g_metV hJ (by decide) (Nat.le_of_ble_eq_true rfl) ?_
  intro p e s m args below meth c QQ ls C hw hl hret
  replace hl : lv_has ls 1 [(0, .ref (ad 0))] := hl
  unfold x_takesLast at hf
  obtain ⟨H, hH⟩ : ∃ q, q = s.heap := ⟨_, rfl⟩
  obtain ⟨locs, hL⟩ : ∃ q : List Loc, q = [] := ⟨_, rfl⟩
  rw [← hH, ← hL] at hw ⊢
  refine lv_aload_n C.1 C.2.1 dX0_takesLast_0 rfl (lv_at hl 0 rfl) ?_
  refine lv_dup C.1 C.2.1 dX0_takesLast_1 rfl ?_
  refine xg_textMany C hw dX0_takesLast_2 ?_
  refine lv_iconst (v := 1) C.1 C.2.1 dX0_takesLast_5 rfl ?_
  refine lv_isub C.1 C.2.1 dX0_takesLast_6 ?_
  refine xp_textMany C hw dX0_takesLast_7 (fun s7 H locs e7 hw => ?_)
  replace hf := hf s7 e7
  refine lv_aload_n C.1 C.2.1 dX0_takesLast_10 rfl (lv_at hl 0 rfl) ?_
  refine kx_changes C hw hl.1 (Nat.le_of_ble_eq_true rfl) ⟨Nat.le_of_ble_eq_true rfl, Nat.le_of_ble_eq_true rfl⟩ dX0_takesLast_11 hf (fun _ s11 H locs hf hw => ?_)
  exact hret _ _ _ _ _ _ hf hw dX0_takesLast_14
theorem kx_takesLast {p : Program} {l : Launch} {e : Env} {R : Room} {s : State} {m : MethodId} {args : Array Value} {below : List Frame} {meth : Method} {c : Code} {H : Heap} {locs : List Loc} {Z : State → Prop} {cc : ByteArray} {nL pc : Nat} {ls : Array Slot} {rest : List Value} {D : va_G} {ct : Ct} {ad : Nat → Nat} {σ : St} {Qp : Unit → St → Prop} (C : CallFix p m c cc nL s args lw_all RX0) (hw : gH D ct shX ad s σ H locs) (hsz : ls.size = nL) (hrm : (rest.map fun v => v.category).sum ≤ 8) (hR : rm_x_takesLast.frames + 1 ≤ R.frames ∧ 8 + (1 + 11) + rm_x_takesLast.locals ≤ R.locals) (hdg : decode cc pc = .ok (.invokevirtual 469, 3)) (hf : x_takesLast σ Qp) (kk : ∀ (r : Unit) (σ1 : St) (H1 : Heap) (locs1 : List Loc), Qp r σ1 → gH D ct shX ad s σ1 H1 locs1 → W p l e R s m args below meth c H1 locs1 0 0 Z (F0 m (pc + 3) ls (rest))) : W p l e R s m args below meth c H locs 0 0 Z (F0 m pc ls (.ref (ad 0) :: rest)) :=
  g_callV (As := []) (rest := rest) C hw rfl rfl (met_x_takesLast l D ct ad hw.2.1 σ Qp hf) (cwV 0 C.2.2.2.2 (lw_V q963 q925 qs49 q200 q926) rfl rfl rfl (by decide +kernel) hR) rfl hsz rfl hrm ⟨Nat.zero_le _, Nat.zero_le _⟩ hdg kk
def x_laysAt (σ : St) (x1 : Int32) (x2 : Int32) (Q : Unit → St → Prop) : Prop :=
  (vp_in x1 12 ∧ (∀ s6 : St, s6 = s_A σ 3 (Int32.toNatClampNeg x1) x2 → (x_changes s6 (fun _ s8 => Q () s8))))
abbrev rm_x_laysAt : Room := { frames := 1, cells := 0, slots := 0, locals := 20 }
set_option maxHeartbeats 4000000 in
theorem met_x_laysAt (l : Launch) (D : va_G) (ct : Ct) (ad : Nat → Nat) (hJ : gJ shX ad ct) (σ : St) (x1 : Int32) (x2 : Int32) (Q : Unit → St → Prop) (hf : x_laysAt σ x1 x2 Q) : Met l yX0_laysAt (ws_ yX0_laysAt cX0_laysAt 3 (none)) rm_x_laysAt (va_Pc [.ref (ad 0), .int x1, .int x2] (gP D ct shX ad σ)) (gQ rvV D ct shX ad Q) 0 0 (gA shX ad) := by
  refine g_metV hJ (by decide) (Nat.le_of_ble_eq_true rfl) ?_
  intro p e s m args below meth c QQ ls C hw hl hret
  replace hl : lv_has ls 3 [(0, .ref (ad 0)), (1, .int x1), (2, .int x2)] := hl
  unfold x_laysAt at hf
  obtain ⟨H, hH⟩ : ∃ q, q = s.heap := ⟨_, rfl⟩
  obtain ⟨locs, hL⟩ : ∃ q : List Loc, q = [] := ⟨_, rfl⟩
  rw [← hH, ← hL] at hw ⊢
  refine lv_aload_n C.1 C.2.1 dX0_laysAt_0 rfl (lv_at hl 0 rfl) ?_
  refine xg_text C hw dX0_laysAt_1 ?_
  refine lv_iload_n C.1 C.2.1 dX0_laysAt_4 rfl (lv_at hl 1 rfl) ?_
  refine lv_iload_n C.1 C.2.1 dX0_laysAt_5 rfl (lv_at hl 2 rfl) ?_
  obtain ⟨b6, hf⟩ := hf
  refine g_iast C shX_sep hw 3 rfl b6 dX0_laysAt_6 (fun s6 H locs e6 hw => ?_)
  replace hf := hf s6 e6
  refine lv_aload_n C.1 C.2.1 dX0_laysAt_7 rfl (lv_at hl 0 rfl) ?_
  refine kx_changes C hw hl.1 (Nat.le_of_ble_eq_true rfl) ⟨Nat.le_of_ble_eq_true rfl, Nat.le_of_ble_eq_true rfl⟩ dX0_laysAt_8 hf (fun _ s8 H locs hf hw => ?_)
  exact hret _ _ _ _ _ _ hf hw dX0_laysAt_11
theorem kx_laysAt {p : Program} {l : Launch} {e : Env} {R : Room} {s : State} {m : MethodId} {args : Array Value} {below : List Frame} {meth : Method} {c : Code} {H : Heap} {locs : List Loc} {Z : State → Prop} {cc : ByteArray} {nL pc : Nat} {ls : Array Slot} {rest : List Value} {D : va_G} {ct : Ct} {ad : Nat → Nat} {σ : St} {x1 : Int32} {x2 : Int32} {Qp : Unit → St → Prop} (C : CallFix p m c cc nL s args lw_all RX0) (hw : gH D ct shX ad s σ H locs) (hsz : ls.size = nL) (hrm : (rest.map fun v => v.category).sum ≤ 8) (hR : rm_x_laysAt.frames + 1 ≤ R.frames ∧ 8 + (3 + 11) + rm_x_laysAt.locals ≤ R.locals) (hdg : decode cc pc = .ok (.invokevirtual 448, 3)) (hf : x_laysAt σ x1 x2 Qp) (kk : ∀ (r : Unit) (σ1 : St) (H1 : Heap) (locs1 : List Loc), Qp r σ1 → gH D ct shX ad s σ1 H1 locs1 → W p l e R s m args below meth c H1 locs1 0 0 Z (F0 m (pc + 3) ls (rest))) : W p l e R s m args below meth c H locs 0 0 Z (F0 m pc ls (.int x2 :: .int x1 :: .ref (ad 0) :: rest)) :=
  g_callV (As := [.int x1, .int x2]) (rest := rest) C hw rfl rfl (met_x_laysAt l D ct ad hw.2.1 σ x1 x2 Qp hf) (cwV 2 C.2.2.2.2 (lw_V q952 q954 qs53 q200 q955) rfl rfl rfl (by decide +kernel) hR) rfl hsz rfl hrm ⟨Nat.zero_le _, Nat.zero_le _⟩ hdg kk
def x_isSmall (x0 : Int32) (Q : Int32 → Prop) : Prop :=
  (zB (fx_in (Int32.toInt64 x0) 0 25) ∧ Q (fx_in (Int32.toInt64 x0) 0 25))
abbrev rm_x_isSmall : Room := { frames := 1, cells := 0, slots := 0, locals := 25 }
set_option maxHeartbeats 4000000 in
theorem met_x_isSmall (l : Launch) (x0 : Int32) (Q : Int32 → Prop) (hf : x_isSmall x0 Q) : Met l yX0_isSmall (ws_ yX0_isSmall cX0_isSmall 1 (some .boolean)) rm_x_isSmall (va_Pc [.int x0] (fun _ => True)) (gR rvI Q) 0 0 (fun _ => False) := by
  refine g_metSZ (by decide) (Nat.le_of_ble_eq_true rfl) ?_
  intro p e s m args below meth c QQ ls H C hl hret
  replace hl : lv_has ls 1 [(0, .int x0)] := hl
  unfold x_isSmall at hf
  refine lv_iload_n C.1 C.2.1 dX0_isSmall_0 rfl (lv_at hl 0 rfl) ?_
  refine lv_i2l C.1 C.2.1 dX0_isSmall_1 rfl ?_
  refine lv_lconst (v := 0) C.1 C.2.1 dX0_isSmall_2 rfl ?_
  refine lv_ldc2 C.1 C.2.1 C.2.2.2.1 (C.2.2.2.2 _ q923) dX0_isSmall_3 ?_
  refine kx_in C hl.1 (Nat.le_of_ble_eq_true rfl) ⟨Nat.le_of_ble_eq_true rfl, Nat.le_of_ble_eq_true rfl⟩ dX0_isSmall_6 ?_
  obtain ⟨hz, hf⟩ := hf
  exact hret _ _ _ hf hz dX0_isSmall_9
def fx_isSmall (x0 : Int32) : Int32 :=
  (fx_in (Int32.toInt64 x0) 0 25)
theorem fx_isSmall_z {x0 : Int32} : zB (fx_isSmall x0) := by
  unfold fx_isSmall
  repeat' split
  all_goals first | exact Or.inl rfl | exact Or.inr rfl | exact fx_in_z
theorem x_isSmall_f {Q : Int32 → Prop} {x0 : Int32} (h : Q (fx_isSmall x0)) : x_isSmall x0 Q := by
  unfold fx_isSmall at h
  unfold x_isSmall
  exact ⟨fx_in_z, h⟩
theorem kx_isSmall {p : Program} {l : Launch} {e : Env} {R : Room} {s : State} {m : MethodId} {args : Array Value} {below : List Frame} {meth : Method} {c : Code} {H : Heap} {locs : List Loc} {Z : State → Prop} {cc : ByteArray} {nL pc : Nat} {ls : Array Slot} {rest : List Value} {x0 : Int32} (C : CallFix p m c cc nL s args lw_all RX0) (hsz : ls.size = nL) (hrm : (rest.map fun v => v.category).sum ≤ 8) (hR : rm_x_isSmall.frames + 1 ≤ R.frames ∧ 8 + (1 + 11) + rm_x_isSmall.locals ≤ R.locals) (hdg : decode cc pc = .ok (.invokestatic 454, 3)) (kk : W p l e R s m args below meth c H locs 0 0 Z (F0 m (pc + 3) ls (.int (fx_isSmall x0) :: rest))) : W p l e R s m args below meth c H locs 0 0 Z (F0 m pc ls (.int x0 :: rest)) :=
  g_callSRf (As := [.int x0]) (rest := rest) C (met_x_isSmall l x0 (fun r => r = fx_isSmall x0) (x_isSmall_f rfl)) (va_cwS 1 C.2.2.2.2 (lw_S q920 q921 q200 q922) rfl rfl rfl (by decide +kernel) hR) rfl hsz rfl hrm ⟨Nat.zero_le _, Nat.zero_le _⟩ hdg kk
def x_switches (σ : St) (x1 : Int32) (Q : Unit → St → Prop) : Prop :=
  (∀ s9 : St, s9 = s_I σ 5 ((σ.1 5) ^^^ (1 <<< (x1 &&& 31))) → (x_changes s9 (fun _ s13 => Q () s13)))
abbrev rm_x_switches : Room := { frames := 1, cells := 0, slots := 0, locals := 20 }
set_option maxHeartbeats 4000000 in
theorem met_x_switches (l : Launch) (D : va_G) (ct : Ct) (ad : Nat → Nat) (hJ : gJ shX ad ct) (σ : St) (x1 : Int32) (Q : Unit → St → Prop) (hf : x_switches σ x1 Q) : Met l yX0_switches (ws_ yX0_switches cX0_switches 2 (none)) rm_x_switches (va_Pc [.ref (ad 0), .int x1] (gP D ct shX ad σ)) (gQ rvV D ct shX ad Q) 0 0 (gA shX ad) := by
  refine g_metV hJ (by decide) (Nat.le_of_ble_eq_true rfl) ?_
  intro p e s m args below meth c QQ ls C hw hl hret
  replace hl : lv_has ls 2 [(0, .ref (ad 0)), (1, .int x1)] := hl
  unfold x_switches at hf
  obtain ⟨H, hH⟩ : ∃ q, q = s.heap := ⟨_, rfl⟩
  obtain ⟨locs, hL⟩ : ∃ q : List Loc, q = [] := ⟨_, rfl⟩
  rw [← hH, ← hL] at hw ⊢
  refine lv_aload_n C.1 C.2.1 dX0_switches_0 rfl (lv_at hl 0 rfl) ?_
  refine lv_dup C.1 C.2.1 dX0_switches_1 rfl ?_
  refine xg_filters C hw dX0_switches_2 ?_
  refine lv_iconst (v := 1) C.1 C.2.1 dX0_switches_5 rfl ?_
  refine lv_iload_n C.1 C.2.1 dX0_switches_6 rfl (lv_at hl 1 rfl) ?_
  refine lv_ishl C.1 C.2.1 dX0_switches_7 ?_
  refine lv_ixor C.1 C.2.1 dX0_switches_8 ?_
  refine xp_filters C hw dX0_switches_9 (fun s9 H locs e9 hw => ?_)
  replace hf := hf s9 e9
  refine lv_aload_n C.1 C.2.1 dX0_switches_12 rfl (lv_at hl 0 rfl) ?_
  refine kx_changes C hw hl.1 (Nat.le_of_ble_eq_true rfl) ⟨Nat.le_of_ble_eq_true rfl, Nat.le_of_ble_eq_true rfl⟩ dX0_switches_13 hf (fun _ s13 H locs hf hw => ?_)
  exact hret _ _ _ _ _ _ hf hw dX0_switches_16
theorem kx_switches {p : Program} {l : Launch} {e : Env} {R : Room} {s : State} {m : MethodId} {args : Array Value} {below : List Frame} {meth : Method} {c : Code} {H : Heap} {locs : List Loc} {Z : State → Prop} {cc : ByteArray} {nL pc : Nat} {ls : Array Slot} {rest : List Value} {D : va_G} {ct : Ct} {ad : Nat → Nat} {σ : St} {x1 : Int32} {Qp : Unit → St → Prop} (C : CallFix p m c cc nL s args lw_all RX0) (hw : gH D ct shX ad s σ H locs) (hsz : ls.size = nL) (hrm : (rest.map fun v => v.category).sum ≤ 8) (hR : rm_x_switches.frames + 1 ≤ R.frames ∧ 8 + (2 + 11) + rm_x_switches.locals ≤ R.locals) (hdg : decode cc pc = .ok (.invokevirtual 500, 3)) (hf : x_switches σ x1 Qp) (kk : ∀ (r : Unit) (σ1 : St) (H1 : Heap) (locs1 : List Loc), Qp r σ1 → gH D ct shX ad s σ1 H1 locs1 → W p l e R s m args below meth c H1 locs1 0 0 Z (F0 m (pc + 3) ls (rest))) : W p l e R s m args below meth c H locs 0 0 Z (F0 m pc ls (.int x1 :: .ref (ad 0) :: rest)) :=
  g_callV (As := [.int x1]) (rest := rest) C hw rfl rfl (met_x_switches l D ct ad hw.2.1 σ x1 Qp hf) (cwV 1 C.2.2.2.2 (lw_V q1013 q1015 qs62 q200 q1016) rfl rfl rfl (by decide +kernel) hR) rfl hsz rfl hrm ⟨Nat.zero_le _, Nat.zero_le _⟩ hdg kk
def x_joins (σ : St) (x1 : Int32) (x2 : Int32) (x3 : Int32) (x4 : Int32) (Q : Int32 → St → Prop) : Prop :=
  (vp_in ((13 * x1) + x2) 60840 ∧ (((fx_has (gI σ 31 ((13 * x1) + x2)) x3) = 0 → (∀ s37 : St, s37 = s_A σ 31 (Int32.toNatClampNeg ((13 * x1) + x2)) ((gI σ 31 ((13 * x1) + x2)) ||| (1 <<< (x3 &&& 31))) → (vp_in x1 4680 ∧ (vp_in (gI s37 30 x1) 90 ∧ (∀ s54 : St, s54 = s_A s37 32 (Int32.toNatClampNeg (gI s37 30 x1)) ((gI s37 32 (gI s37 30 x1)) ||| (1 <<< (x3 &&& 31))) → Q 1 s54))))) ∧ (¬ (fx_has (gI σ 31 ((13 * x1) + x2)) x3) = 0 → (zB x4 ∧ Q x4 σ))))
abbrev rm_x_joins : Room := { frames := 1, cells := 0, slots := 0, locals := 21 }
set_option maxHeartbeats 4000000 in
theorem met_x_joins (l : Launch) (D : va_G) (ct : Ct) (ad : Nat → Nat) (hJ : gJ shX ad ct) (σ : St) (x1 : Int32) (x2 : Int32) (x3 : Int32) (x4 : Int32) (Q : Int32 → St → Prop) (hf : x_joins σ x1 x2 x3 x4 Q) : Met l yX0_joins (ws_ yX0_joins cX0_joins 5 (some .boolean)) rm_x_joins (va_Pc [.ref (ad 0), .int x1, .int x2, .int x3, .int x4] (gP D ct shX ad σ)) (gQ rvI D ct shX ad Q) 0 0 (gA shX ad) := by
  refine g_metZ hJ (by decide) (Nat.le_of_ble_eq_true rfl) ?_
  intro p e s m args below meth c QQ ls C hw hl hret
  replace hl : lv_has ls 5 [(0, .ref (ad 0)), (1, .int x1), (2, .int x2), (3, .int x3), (4, .int x4)] := hl
  unfold x_joins at hf
  obtain ⟨H, hH⟩ : ∃ q, q = s.heap := ⟨_, rfl⟩
  obtain ⟨locs, hL⟩ : ∃ q : List Loc, q = [] := ⟨_, rfl⟩
  rw [← hH, ← hL] at hw ⊢
  refine lv_aload_n C.1 C.2.1 dX0_joins_0 rfl (lv_at hl 0 rfl) ?_
  refine xg_linkOf C hw dX0_joins_1 ?_
  refine lv_bipush (v := 13) C.1 C.2.1 dX0_joins_4 rfl ?_
  refine lv_iload_n C.1 C.2.1 dX0_joins_6 rfl (lv_at hl 1 rfl) ?_
  refine lv_imul C.1 C.2.1 dX0_joins_7 ?_
  refine lv_iload_n C.1 C.2.1 dX0_joins_8 rfl (lv_at hl 2 rfl) ?_
  refine lv_iadd C.1 C.2.1 dX0_joins_9 ?_
  obtain ⟨b10, hf⟩ := hf
  refine g_iald C hw 31 rfl b10 dX0_joins_10 ?_
  refine lv_iload_n C.1 C.2.1 dX0_joins_11 rfl (lv_at hl 3 rfl) ?_
  refine kx_has C hl.1 (Nat.le_of_ble_eq_true rfl) ⟨Nat.le_of_ble_eq_true rfl, Nat.le_of_ble_eq_true rfl⟩ dX0_joins_12 ?_
  refine lv_if_eq (tgt := 21) C.1 C.2.1 dX0_joins_15 (by decide) (fun h15 => ?_) (fun h15 => ?_)
  · replace hf := hf.1 h15
    refine lv_aload_n C.1 C.2.1 dX0_joins_21 rfl (lv_at hl 0 rfl) ?_
    refine xg_linkOf C hw dX0_joins_22 ?_
    refine lv_bipush (v := 13) C.1 C.2.1 dX0_joins_25 rfl ?_
    refine lv_iload_n C.1 C.2.1 dX0_joins_27 rfl (lv_at hl 1 rfl) ?_
    refine lv_imul C.1 C.2.1 dX0_joins_28 ?_
    refine lv_iload_n C.1 C.2.1 dX0_joins_29 rfl (lv_at hl 2 rfl) ?_
    refine lv_iadd C.1 C.2.1 dX0_joins_30 ?_
    refine lv_dup2_11 C.1 C.2.1 dX0_joins_31 rfl rfl ?_
    refine g_iald C hw 31 rfl b10 dX0_joins_32 ?_
    refine lv_iconst (v := 1) C.1 C.2.1 dX0_joins_33 rfl ?_
    refine lv_iload_n C.1 C.2.1 dX0_joins_34 rfl (lv_at hl 3 rfl) ?_
    refine lv_ishl C.1 C.2.1 dX0_joins_35 ?_
    refine lv_ior C.1 C.2.1 dX0_joins_36 ?_
    refine g_iast C shX_sep hw 31 rfl b10 dX0_joins_37 (fun s37 H locs e37 hw => ?_)
    replace hf := hf s37 e37
    refine lv_aload_n C.1 C.2.1 dX0_joins_38 rfl (lv_at hl 0 rfl) ?_
    refine xg_aliveOf C hw dX0_joins_39 ?_
    refine lv_aload_n C.1 C.2.1 dX0_joins_42 rfl (lv_at hl 0 rfl) ?_
    refine xg_toOf C hw dX0_joins_43 ?_
    refine lv_iload_n C.1 C.2.1 dX0_joins_46 rfl (lv_at hl 1 rfl) ?_
    obtain ⟨b47, hf⟩ := hf
    refine g_iald C hw 30 rfl b47 dX0_joins_47 ?_
    refine lv_dup2_11 C.1 C.2.1 dX0_joins_48 rfl rfl ?_
    obtain ⟨b49, hf⟩ := hf
    refine g_iald C hw 32 rfl b49 dX0_joins_49 ?_
    refine lv_iconst (v := 1) C.1 C.2.1 dX0_joins_50 rfl ?_
    refine lv_iload_n C.1 C.2.1 dX0_joins_51 rfl (lv_at hl 3 rfl) ?_
    refine lv_ishl C.1 C.2.1 dX0_joins_52 ?_
    refine lv_ior C.1 C.2.1 dX0_joins_53 ?_
    refine g_iast C shX_sep hw 32 rfl b49 dX0_joins_54 (fun s54 H locs e54 hw => ?_)
    replace hf := hf s54 e54
    refine lv_iconst (v := 1) C.1 C.2.1 dX0_joins_55 rfl ?_
    exact hret _ _ _ _ _ _ hf hw (Or.inr rfl) dX0_joins_56
  · replace hf := hf.2 h15
    refine lv_iload C.1 C.2.1 dX0_joins_18 (lv_at hl 4 rfl) ?_
    obtain ⟨hz, hf⟩ := hf
    exact hret _ _ _ _ _ _ hf hw hz dX0_joins_20
theorem kx_joins {p : Program} {l : Launch} {e : Env} {R : Room} {s : State} {m : MethodId} {args : Array Value} {below : List Frame} {meth : Method} {c : Code} {H : Heap} {locs : List Loc} {Z : State → Prop} {cc : ByteArray} {nL pc : Nat} {ls : Array Slot} {rest : List Value} {D : va_G} {ct : Ct} {ad : Nat → Nat} {σ : St} {x1 : Int32} {x2 : Int32} {x3 : Int32} {x4 : Int32} {Qp : Int32 → St → Prop} (C : CallFix p m c cc nL s args lw_all RX0) (hw : gH D ct shX ad s σ H locs) (hsz : ls.size = nL) (hrm : (rest.map fun v => v.category).sum ≤ 8) (hR : rm_x_joins.frames + 1 ≤ R.frames ∧ 8 + (5 + 11) + rm_x_joins.locals ≤ R.locals) (hdg : decode cc pc = .ok (.invokevirtual 509, 3)) (hf : x_joins σ x1 x2 x3 x4 Qp) (kk : ∀ (r : Int32) (σ1 : St) (H1 : Heap) (locs1 : List Loc), Qp r σ1 → gH D ct shX ad s σ1 H1 locs1 → W p l e R s m args below meth c H1 locs1 0 0 Z (F0 m (pc + 3) ls (.int r :: rest))) : W p l e R s m args below meth c H locs 0 0 Z (F0 m pc ls (.int x4 :: .int x3 :: .int x2 :: .int x1 :: .ref (ad 0) :: rest)) :=
  g_callV (As := [.int x1, .int x2, .int x3, .int x4]) (rest := rest) C hw rfl rfl (met_x_joins l D ct ad hw.2.1 σ x1 x2 x3 x4 Qp hf) (cwV 4 C.2.2.2.2 (lw_V q1045 q1047 qs68 q200 q1048) rfl rfl rfl (by decide +kernel) hR) rfl hsz rfl hrm ⟨Nat.zero_le _, Nat.zero_le _⟩ hdg kk
def x_pieceOf (x0 : Int32) (x1 : Int32) (x2 : Int32) (Q : Int32 → Prop) : Prop :=
  Q ((169 * x0) + (fx_spanOf x1 x2))
abbrev rm_x_pieceOf : Room := { frames := 1, cells := 0, slots := 0, locals := 21 }
set_option maxHeartbeats 4000000 in
theorem met_x_pieceOf (l : Launch) (x0 : Int32) (x1 : Int32) (x2 : Int32) (Q : Int32 → Prop) (hf : x_pieceOf x0 x1 x2 Q) : Met l yX0_pieceOf (ws_ yX0_pieceOf cX0_pieceOf 3 (some .int)) rm_x_pieceOf (va_Pc [.int x0, .int x1, .int x2] (fun _ => True)) (gR rvI Q) 0 0 (fun _ => False) := by
  refine g_metSI (by decide) (Nat.le_of_ble_eq_true rfl) ?_
  intro p e s m args below meth c QQ ls H C hl hret
  replace hl : lv_has ls 3 [(0, .int x0), (1, .int x1), (2, .int x2)] := hl
  unfold x_pieceOf at hf
  refine lv_sipush (v := 169) C.1 C.2.1 dX0_pieceOf_0 rfl ?_
  refine lv_iload_n C.1 C.2.1 dX0_pieceOf_3 rfl (lv_at hl 0 rfl) ?_
  refine lv_imul C.1 C.2.1 dX0_pieceOf_4 ?_
  refine lv_iload_n C.1 C.2.1 dX0_pieceOf_5 rfl (lv_at hl 1 rfl) ?_
  refine lv_iload_n C.1 C.2.1 dX0_pieceOf_6 rfl (lv_at hl 2 rfl) ?_
  refine kx_spanOf C hl.1 (Nat.le_of_ble_eq_true rfl) ⟨Nat.le_of_ble_eq_true rfl, Nat.le_of_ble_eq_true rfl⟩ dX0_pieceOf_7 ?_
  refine lv_iadd C.1 C.2.1 dX0_pieceOf_10 ?_
  exact hret _ _ _ hf dX0_pieceOf_11
def fx_pieceOf (x0 : Int32) (x1 : Int32) (x2 : Int32) : Int32 :=
  ((169 * x0) + (fx_spanOf x1 x2))
theorem x_pieceOf_f {Q : Int32 → Prop} {x0 : Int32} {x1 : Int32} {x2 : Int32} (h : Q (fx_pieceOf x0 x1 x2)) : x_pieceOf x0 x1 x2 Q := by
  unfold fx_pieceOf at h
  unfold x_pieceOf
  exact h
theorem kx_pieceOf {p : Program} {l : Launch} {e : Env} {R : Room} {s : State} {m : MethodId} {args : Array Value} {below : List Frame} {meth : Method} {c : Code} {H : Heap} {locs : List Loc} {Z : State → Prop} {cc : ByteArray} {nL pc : Nat} {ls : Array Slot} {rest : List Value} {x0 : Int32} {x1 : Int32} {x2 : Int32} (C : CallFix p m c cc nL s args lw_all RX0) (hsz : ls.size = nL) (hrm : (rest.map fun v => v.category).sum ≤ 8) (hR : rm_x_pieceOf.frames + 1 ≤ R.frames ∧ 8 + (3 + 11) + rm_x_pieceOf.locals ≤ R.locals) (hdg : decode cc pc = .ok (.invokestatic 546, 3)) (kk : W p l e R s m args below meth c H locs 0 0 Z (F0 m (pc + 3) ls (.int (fx_pieceOf x0 x1 x2) :: rest))) : W p l e R s m args below meth c H locs 0 0 Z (F0 m pc ls (.int x2 :: .int x1 :: .int x0 :: rest)) :=
  g_callSRf (As := [.int x0, .int x1, .int x2]) (rest := rest) C (met_x_pieceOf l x0 x1 x2 (fun r => r = fx_pieceOf x0 x1 x2) (x_pieceOf_f rfl)) (va_cwS 3 C.2.2.2.2 (lw_S q326 q327 q200 q328) rfl rfl rfl (by decide +kernel) hR) rfl hsz rfl hrm ⟨Nat.zero_le _, Nat.zero_le _⟩ hdg kk
def x_partDerives (σ : St) (x1 : Int32) (x2 : Int32) (x3 : Int32) (x4 : Int32) (Q : Int32 → Prop) : Prop :=
  (x_at σ x1 x2 (fun r6 => (((fx_isCapital r6) = 0 → (x_isHere σ r6 x3 x4 (fun r50 => ((r50 = 0 → Q 0) ∧ (¬ r50 = 0 → Q 1))))) ∧ (¬ (fx_isCapital r6) = 0 → (vp_in (fx_spanOf x3 x4) 169 ∧ (((fx_has (gI σ 55 (fx_spanOf x3 x4)) (r6 - 26)) = 0 → Q 0) ∧ (¬ (fx_has (gI σ 55 (fx_spanOf x3 x4)) (r6 - 26)) = 0 → Q 1)))))))
abbrev rm_x_partDerives : Room := { frames := 1, cells := 0, slots := 0, locals := 23 }
set_option maxHeartbeats 4000000 in
theorem met_x_partDerives (l : Launch) (D : va_G) (ct : Ct) (ad : Nat → Nat) (hJ : gJ shX ad ct) (σ : St) (x1 : Int32) (x2 : Int32) (x3 : Int32) (x4 : Int32) (Q : Int32 → Prop) (hf : x_partDerives σ x1 x2 x3 x4 Q) : Met l yX0_partDerives (ws_ yX0_partDerives cX0_partDerives 6 (some .int)) rm_x_partDerives (va_Pc [.ref (ad 0), .int x1, .int x2, .int x3, .int x4] (gP D ct shX ad σ)) (gR rvI Q) 0 0 (fun _ => False) := by
  refine g_metRI hJ (by decide) (Nat.le_of_ble_eq_true rfl) ?_
  intro p e s m args below meth c QQ ls H C hw hl hret
  replace hl : lv_has ls 6 [(0, .ref (ad 0)), (1, .int x1), (2, .int x2), (3, .int x3), (4, .int x4)] := hl
  unfold x_partDerives at hf
  refine lv_aload_n C.1 C.2.1 dX0_partDerives_0 rfl (lv_at hl 0 rfl) ?_
  refine xg_grammar C hw dX0_partDerives_1 ?_
  refine lv_iload_n C.1 C.2.1 dX0_partDerives_4 rfl (lv_at hl 1 rfl) ?_
  refine lv_iload_n C.1 C.2.1 dX0_partDerives_5 rfl (lv_at hl 2 rfl) ?_
  refine kx_at C hw hl.1 (Nat.le_of_ble_eq_true rfl) ⟨Nat.le_of_ble_eq_true rfl, Nat.le_of_ble_eq_true rfl⟩ dX0_partDerives_6 hf (fun r6 hf => ?_)
  refine lv_istore (lv' := [(5, .int r6), (0, .ref (ad 0)), (1, .int x1), (2, .int x2), (3, .int x3), (4, .int x4)]) C.1 C.2.1 dX0_partDerives_9 hl (Nat.le_of_ble_eq_true rfl) rfl (fun ls hl => ?_)
  refine lv_iload C.1 C.2.1 dX0_partDerives_11 (lv_at hl 0 rfl) ?_
  refine kx_isCapital C hl.1 (Nat.le_of_ble_eq_true rfl) ⟨Nat.le_of_ble_eq_true rfl, Nat.le_of_ble_eq_true rfl⟩ dX0_partDerives_13 ?_
  refine lv_if_eq (tgt := 44) C.1 C.2.1 dX0_partDerives_16 (by decide) (fun h16 => ?_) (fun h16 => ?_)
  · replace hf := hf.1 h16
    refine lv_aload_n C.1 C.2.1 dX0_partDerives_44 rfl (lv_at hl 1 rfl) ?_
    refine lv_iload C.1 C.2.1 dX0_partDerives_45 (lv_at hl 0 rfl) ?_
    refine lv_iload_n C.1 C.2.1 dX0_partDerives_47 rfl (lv_at hl 4 rfl) ?_
    refine lv_iload C.1 C.2.1 dX0_partDerives_48 (lv_at hl 5 rfl) ?_
    refine kx_isHere C hw hl.1 (Nat.le_of_ble_eq_true rfl) ⟨Nat.le_of_ble_eq_true rfl, Nat.le_of_ble_eq_true rfl⟩ dX0_partDerives_50 hf (fun r50 hf => ?_)
    refine lv_if_eq (tgt := 60) C.1 C.2.1 dX0_partDerives_53 (by decide) (fun h53 => ?_) (fun h53 => ?_)
    · replace hf := hf.1 h53
      refine lv_iconst (v := 0) C.1 C.2.1 dX0_partDerives_60 rfl ?_
      exact hret _ _ _ hf dX0_partDerives_61
    · replace hf := hf.2 h53
      refine lv_iconst (v := 1) C.1 C.2.1 dX0_partDerives_56 rfl ?_
      refine lv_goto (tgt := 61) C.1 C.2.1 dX0_partDerives_57 (by decide) ?_
      exact hret _ _ _ hf dX0_partDerives_61
  · replace hf := hf.2 h16
    refine lv_aload_n C.1 C.2.1 dX0_partDerives_19 rfl (lv_at hl 1 rfl) ?_
    refine xg_derivesOf C hw dX0_partDerives_20 ?_
    refine lv_iload_n C.1 C.2.1 dX0_partDerives_23 rfl (lv_at hl 4 rfl) ?_
    refine lv_iload C.1 C.2.1 dX0_partDerives_24 (lv_at hl 5 rfl) ?_
    refine kx_spanOf C hl.1 (Nat.le_of_ble_eq_true rfl) ⟨Nat.le_of_ble_eq_true rfl, Nat.le_of_ble_eq_true rfl⟩ dX0_partDerives_26 ?_
    obtain ⟨b29, hf⟩ := hf
    refine g_iald C hw 55 rfl b29 dX0_partDerives_29 ?_
    refine lv_iload C.1 C.2.1 dX0_partDerives_30 (lv_at hl 0 rfl) ?_
    refine lv_bipush (v := 26) C.1 C.2.1 dX0_partDerives_32 rfl ?_
    refine lv_isub C.1 C.2.1 dX0_partDerives_34 ?_
    refine kx_has C hl.1 (Nat.le_of_ble_eq_true rfl) ⟨Nat.le_of_ble_eq_true rfl, Nat.le_of_ble_eq_true rfl⟩ dX0_partDerives_35 ?_
    refine lv_if_eq (tgt := 60) C.1 C.2.1 dX0_partDerives_38 (by decide) (fun h38 => ?_) (fun h38 => ?_)
    · replace hf := hf.1 h38
      refine lv_iconst (v := 0) C.1 C.2.1 dX0_partDerives_60 rfl ?_
      exact hret _ _ _ hf dX0_partDerives_61
    · replace hf := hf.2 h38
      refine lv_goto (tgt := 56) C.1 C.2.1 dX0_partDerives_41 (by decide) ?_
      refine lv_iconst (v := 1) C.1 C.2.1 dX0_partDerives_56 rfl ?_
      refine lv_goto (tgt := 61) C.1 C.2.1 dX0_partDerives_57 (by decide) ?_
      exact hret _ _ _ hf dX0_partDerives_61
def x_partCost_p44 (σ : St) (x3 : Int32) (x4 : Int32) (x5 : Int32) (Q : Int32 → Prop) (K44 : Int32 → Prop) (x6 : Int32) : Prop :=
  ((x4 ≤ x6 → Q (fj_max 1 (x4 - x3))) ∧ (¬ x4 ≤ x6 → (vp_in x6 12 ∧ (((gI σ 3 x6) = x5 → Q ((x4 - x3) - 1)) ∧ (¬ (gI σ 3 x6) = x5 → K44 (x6 + 1))))))
def x_partCost (σ : St) (x1 : Int32) (x2 : Int32) (x3 : Int32) (x4 : Int32) (Q : Int32 → Prop) : Prop :=
  (x_at σ x1 x2 (fun r6 => (((fx_isCapital r6) = 0 → (Lp1 (x_partCost_p44 σ x3 x4 r6 Q) x3)) ∧ (¬ (fx_isCapital r6) = 0 → (vp_in ((169 * (r6 - 26)) + (fx_spanOf x3 x4)) 4394 ∧ Q (gI σ 56 ((169 * (r6 - 26)) + (fx_spanOf x3 x4))))))))
abbrev rm_x_partCost : Room := { frames := 1, cells := 0, slots := 0, locals := 22 }
set_option maxHeartbeats 4000000 in
theorem met_x_partCost (l : Launch) (D : va_G) (ct : Ct) (ad : Nat → Nat) (hJ : gJ shX ad ct) (σ : St) (x1 : Int32) (x2 : Int32) (x3 : Int32) (x4 : Int32) (Q : Int32 → Prop) (hf : x_partCost σ x1 x2 x3 x4 Q) : Met l yX0_partCost (ws_ yX0_partCost cX0_partCost 7 (some .int)) rm_x_partCost (va_Pc [.ref (ad 0), .int x1, .int x2, .int x3, .int x4] (gP D ct shX ad σ)) (gR rvI Q) 0 0 (fun _ => False) := by
  refine g_metRI hJ (by decide) (Nat.le_of_ble_eq_true rfl) ?_
  intro p e s m args below meth c QQ ls H C hw hl hret
  replace hl : lv_has ls 7 [(0, .ref (ad 0)), (1, .int x1), (2, .int x2), (3, .int x3), (4, .int x4)] := hl
  have B44 : ∀ (x3 : Int32) (x4 : Int32) (x5 : Int32) (K44 : Int32 → Prop) (_ : ∀ (x6 : Int32) (ls : Array Slot), K44 x6 → lv_has ls 7 [(0, .ref (ad 0)), (3, .int x3), (4, .int x4), (5, .int x5), (6, .int x6)] → W p l e rm_x_partCost s m args below meth c H [] 0 0 QQ (F0 m 44 ls [])) (x6 : Int32) (ls : Array Slot), x_partCost_p44 σ x3 x4 x5 Q K44 x6 → lv_has ls 7 [(0, .ref (ad 0)), (3, .int x3), (4, .int x4), (5, .int x5), (6, .int x6)] → W p l e rm_x_partCost s m args below meth c H [] 0 0 QQ (F0 m 44 ls []) := by
    intro x3 x4 x5 K44 hK44 x6 ls hf hl
    unfold x_partCost_p44 at hf
    refine lv_iload C.1 C.2.1 dX0_partCost_44 (lv_at hl 4 rfl) ?_
    refine lv_iload C.1 C.2.1 dX0_partCost_46 (lv_at hl 2 rfl) ?_
    refine lv_icmp_ge (tgt := 76) C.1 C.2.1 dX0_partCost_48 (by decide) (fun h48 => ?_) (fun h48 => ?_)
    · replace hf := hf.1 h48
      refine lv_iconst (v := 1) C.1 C.2.1 dX0_partCost_76 rfl ?_
      refine lv_iload C.1 C.2.1 dX0_partCost_77 (lv_at hl 2 rfl) ?_
      refine lv_iload_n C.1 C.2.1 dX0_partCost_79 rfl (lv_at hl 1 rfl) ?_
      refine lv_isub C.1 C.2.1 dX0_partCost_80 ?_
      refine kxj_max C hl.1 (Nat.le_of_ble_eq_true rfl) ⟨Nat.le_of_ble_eq_true rfl, Nat.le_of_ble_eq_true rfl⟩ dX0_partCost_81 ?_
      exact hret _ _ _ hf dX0_partCost_84
    · replace hf := hf.2 h48
      refine lv_aload_n C.1 C.2.1 dX0_partCost_51 rfl (lv_at hl 0 rfl) ?_
      refine xg_text C hw dX0_partCost_52 ?_
      refine lv_iload C.1 C.2.1 dX0_partCost_55 (lv_at hl 4 rfl) ?_
      obtain ⟨b57, hf⟩ := hf
      refine g_iald C hw 3 rfl b57 dX0_partCost_57 ?_
      refine lv_iload C.1 C.2.1 dX0_partCost_58 (lv_at hl 3 rfl) ?_
      refine lv_icmp_ne (tgt := 70) C.1 C.2.1 dX0_partCost_60 (by decide) (fun h60 => ?_) (fun h60 => ?_)
      · replace hf := hf.2 h60
        refine lv_iinc (v := (x6 + 1)) (lv' := [(6, .int (x6 + 1)), (0, .ref (ad 0)), (3, .int x3), (4, .int x4), (5, .int x5)]) C.1 C.2.1 dX0_partCost_70 hl (k := 4) rfl rfl (Nat.le_of_ble_eq_true rfl) rfl (fun ls hl => ?_)
        refine lv_goto (tgt := 44) C.1 C.2.1 dX0_partCost_73 (by decide) ?_
        exact hK44 _ _ hf (lv_sub hl [1, 2, 3, 4, 0] rfl)
      · replace hf := hf.1 h60
        refine lv_iload C.1 C.2.1 dX0_partCost_63 (lv_at hl 2 rfl) ?_
        refine lv_iload_n C.1 C.2.1 dX0_partCost_65 rfl (lv_at hl 1 rfl) ?_
        refine lv_isub C.1 C.2.1 dX0_partCost_66 ?_
        refine lv_iconst (v := 1) C.1 C.2.1 dX0_partCost_67 rfl ?_
        refine lv_isub C.1 C.2.1 dX0_partCost_68 ?_
        exact hret _ _ _ hf dX0_partCost_69
  have P44 : ∀ (x3 : Int32) (x4 : Int32) (x5 : Int32) (n : Nat) (x6 : Int32) (ls : Array Slot), LL1 (x_partCost_p44 σ x3 x4 x5 Q) n x6 → lv_has ls 7 [(0, .ref (ad 0)), (3, .int x3), (4, .int x4), (5, .int x5), (6, .int x6)] → W p l e rm_x_partCost s m args below meth c H [] 0 0 QQ (F0 m 44 ls []) := by
    intro x3 x4 x5 n
    induction n with
    | zero => intro x6 ls hf; exact False.elim hf
    | succ n ih => intro x6 ls hf hl; exact B44 x3 x4 x5 (LL1 _ n) ih x6 ls hf hl
  unfold x_partCost at hf
  refine lv_aload_n C.1 C.2.1 dX0_partCost_0 rfl (lv_at hl 0 rfl) ?_
  refine xg_grammar C hw dX0_partCost_1 ?_
  refine lv_iload_n C.1 C.2.1 dX0_partCost_4 rfl (lv_at hl 1 rfl) ?_
  refine lv_iload_n C.1 C.2.1 dX0_partCost_5 rfl (lv_at hl 2 rfl) ?_
  refine kx_at C hw hl.1 (Nat.le_of_ble_eq_true rfl) ⟨Nat.le_of_ble_eq_true rfl, Nat.le_of_ble_eq_true rfl⟩ dX0_partCost_6 hf (fun r6 hf => ?_)
  refine lv_istore (lv' := [(5, .int r6), (0, .ref (ad 0)), (1, .int x1), (2, .int x2), (3, .int x3), (4, .int x4)]) C.1 C.2.1 dX0_partCost_9 hl (Nat.le_of_ble_eq_true rfl) rfl (fun ls hl => ?_)
  refine lv_iload C.1 C.2.1 dX0_partCost_11 (lv_at hl 0 rfl) ?_
  refine kx_isCapital C hl.1 (Nat.le_of_ble_eq_true rfl) ⟨Nat.le_of_ble_eq_true rfl, Nat.le_of_ble_eq_true rfl⟩ dX0_partCost_13 ?_
  refine lv_if_eq (tgt := 41) C.1 C.2.1 dX0_partCost_16 (by decide) (fun h16 => ?_) (fun h16 => ?_)
  · replace hf := hf.1 h16
    refine lv_iload_n C.1 C.2.1 dX0_partCost_41 rfl (lv_at hl 4 rfl) ?_
    refine lv_istore (lv' := [(6, .int x3), (5, .int r6), (0, .ref (ad 0)), (1, .int x1), (2, .int x2), (3, .int x3), (4, .int x4)]) C.1 C.2.1 dX0_partCost_42 hl (Nat.le_of_ble_eq_true rfl) rfl (fun ls hl => ?_)
    obtain ⟨n, hf⟩ := hf
    exact P44 _ _ _ n _ _ hf (lv_sub hl [2, 5, 6, 1, 0] rfl)
  · replace hf := hf.2 h16
    refine lv_aload_n C.1 C.2.1 dX0_partCost_19 rfl (lv_at hl 1 rfl) ?_
    refine xg_costOf C hw dX0_partCost_20 ?_
    refine lv_sipush (v := 169) C.1 C.2.1 dX0_partCost_23 rfl ?_
    refine lv_iload C.1 C.2.1 dX0_partCost_26 (lv_at hl 0 rfl) ?_
    refine lv_bipush (v := 26) C.1 C.2.1 dX0_partCost_28 rfl ?_
    refine lv_isub C.1 C.2.1 dX0_partCost_30 ?_
    refine lv_imul C.1 C.2.1 dX0_partCost_31 ?_
    refine lv_iload_n C.1 C.2.1 dX0_partCost_32 rfl (lv_at hl 4 rfl) ?_
    refine lv_iload C.1 C.2.1 dX0_partCost_33 (lv_at hl 5 rfl) ?_
    refine kx_spanOf C hl.1 (Nat.le_of_ble_eq_true rfl) ⟨Nat.le_of_ble_eq_true rfl, Nat.le_of_ble_eq_true rfl⟩ dX0_partCost_35 ?_
    refine lv_iadd C.1 C.2.1 dX0_partCost_38 ?_
    obtain ⟨b39, hf⟩ := hf
    refine g_iald C hw 56 rfl b39 dX0_partCost_39 ?_
    exact hret _ _ _ hf dX0_partCost_40
