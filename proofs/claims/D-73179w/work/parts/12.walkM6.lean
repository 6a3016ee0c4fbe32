set_option maxRecDepth 100000
def m_isState (σ : St) (x1 : Int32) (Q : Int32 → St → Prop) : Prop :=
  (((fm_isGrammar σ) = 0 → Q 0 σ) ∧ (¬ (fm_isGrammar σ) = 0 → (m_laysStates σ (fun r8 s8 => ((r8 = 0 → Q 0 s8) ∧ (¬ r8 = 0 → (((fm_in (Int32.toInt64 x1) 0 (Int32.toInt64 ((s8.1 36) - 1))) = 0 → Q 0 s8) ∧ (¬ (fm_in (Int32.toInt64 x1) 0 (Int32.toInt64 ((s8.1 36) - 1))) = 0 → Q 1 s8))))))))
abbrev rm_m_isState : Room := { frames := 7, cells := 0, slots := 0, locals := 169 }
set_option maxHeartbeats 4000000 in
theorem met_m_isState (l : Launch) (D : va_G) (ct : Ct) (ad : Nat → Nat) (hJ : gJ shM ad ct) (σ : St) (x1 : Int32) (Q : Int32 → St → Prop) (hf : m_isState σ x1 Q) : Met l yX3_isState (ws_ yX3_isState cX3_isState 2 (some .boolean)) rm_m_isState (va_Pc [.ref (ad 0), .int x1] (gP D ct shM ad σ)) (gQ rvI D ct shM ad Q) 0 0 (gA shM ad) := by
  refine g_metZ hJ (by decide) (Nat.le_of_ble_eq_true rfl) ?_
  intro p e s m args below meth c QQ ls C hw hl hret
  replace hl : lv_has ls 2 [(0, .ref (ad 0)), (1, .int x1)] := hl
  unfold m_isState at hf
  obtain ⟨H, hH⟩ : ∃ q, q = s.heap := ⟨_, rfl⟩
  obtain ⟨locs, hL⟩ : ∃ q : List Loc, q = [] := ⟨_, rfl⟩
  rw [← hH, ← hL] at hw ⊢
  refine lv_aload_n C.1 C.2.1 dX3_isState_0 rfl (lv_at hl 0 rfl) ?_
  refine km_isGrammar C hw hl.1 (Nat.le_of_ble_eq_true rfl) ⟨Nat.le_of_ble_eq_true rfl, Nat.le_of_ble_eq_true rfl⟩ dX3_isState_1 ?_
  refine lv_if_eq (tgt := 34) C.1 C.2.1 dX3_isState_4 (by decide) (fun h4 => ?_) (fun h4 => ?_)
  · replace hf := hf.1 h4
    refine lv_iconst (v := 0) C.1 C.2.1 dX3_isState_34 rfl ?_
    exact hret _ _ _ _ _ _ hf hw (Or.inl rfl) dX3_isState_35
  · replace hf := hf.2 h4
    refine lv_aload_n C.1 C.2.1 dX3_isState_7 rfl (lv_at hl 0 rfl) ?_
    refine km_laysStates C hw hl.1 (Nat.le_of_ble_eq_true rfl) ⟨Nat.le_of_ble_eq_true rfl, Nat.le_of_ble_eq_true rfl⟩ dX3_isState_8 hf (fun r8 s8 H locs hf hw => ?_)
    refine lv_if_eq (tgt := 34) C.1 C.2.1 dX3_isState_11 (by decide) (fun h11 => ?_) (fun h11 => ?_)
    · replace hf := hf.1 h11
      refine lv_iconst (v := 0) C.1 C.2.1 dX3_isState_34 rfl ?_
      exact hret _ _ _ _ _ _ hf hw (Or.inl rfl) dX3_isState_35
    · replace hf := hf.2 h11
      refine lv_iload_n C.1 C.2.1 dX3_isState_14 rfl (lv_at hl 1 rfl) ?_
      refine lv_i2l C.1 C.2.1 dX3_isState_15 rfl ?_
      refine lv_lconst (v := 0) C.1 C.2.1 dX3_isState_16 rfl ?_
      refine lv_aload_n C.1 C.2.1 dX3_isState_17 rfl (lv_at hl 0 rfl) ?_
      refine mg_manyStates C hw dX3_isState_18 ?_
      refine lv_iconst (v := 1) C.1 C.2.1 dX3_isState_21 rfl ?_
      refine lv_isub C.1 C.2.1 dX3_isState_22 ?_
      refine lv_i2l C.1 C.2.1 dX3_isState_23 rfl ?_
      refine km_in C hl.1 (Nat.le_of_ble_eq_true rfl) ⟨Nat.le_of_ble_eq_true rfl, Nat.le_of_ble_eq_true rfl⟩ dX3_isState_24 ?_
      refine lv_if_eq (tgt := 34) C.1 C.2.1 dX3_isState_27 (by decide) (fun h27 => ?_) (fun h27 => ?_)
      · replace hf := hf.1 h27
        refine lv_iconst (v := 0) C.1 C.2.1 dX3_isState_34 rfl ?_
        exact hret _ _ _ _ _ _ hf hw (Or.inl rfl) dX3_isState_35
      · replace hf := hf.2 h27
        refine lv_iconst (v := 1) C.1 C.2.1 dX3_isState_30 rfl ?_
        refine lv_goto (tgt := 35) C.1 C.2.1 dX3_isState_31 (by decide) ?_
        exact hret _ _ _ _ _ _ hf hw (Or.inr rfl) dX3_isState_35
theorem km_isState {p : Program} {l : Launch} {e : Env} {R : Room} {s : State} {m : MethodId} {args : Array Value} {below : List Frame} {meth : Method} {c : Code} {H : Heap} {locs : List Loc} {Z : State → Prop} {cc : ByteArray} {nL pc : Nat} {ls : Array Slot} {rest : List Value} {D : va_G} {ct : Ct} {ad : Nat → Nat} {σ : St} {x1 : Int32} {Qp : Int32 → St → Prop} (C : CallFix p m c cc nL s args lw_all RX3) (hw : gH D ct shM ad s σ H locs) (hsz : ls.size = nL) (hrm : (rest.map fun v => v.category).sum ≤ 8) (hR : rm_m_isState.frames + 1 ≤ R.frames ∧ 8 + (2 + 11) + rm_m_isState.locals ≤ R.locals) (hdg : decode cc pc = .ok (.invokevirtual 365, 3)) (hf : m_isState σ x1 Qp) (kk : ∀ (r : Int32) (σ1 : St) (H1 : Heap) (locs1 : List Loc), Qp r σ1 → gH D ct shM ad s σ1 H1 locs1 → W p l e R s m args below meth c H1 locs1 0 0 Z (F0 m (pc + 3) ls (.int r :: rest))) : W p l e R s m args below meth c H locs 0 0 Z (F0 m pc ls (.int x1 :: .ref (ad 0) :: rest)) :=
  g_callV (As := [.int x1]) (rest := rest) C hw rfl rfl (met_m_isState l D ct ad hw.2.1 σ x1 Qp hf) (cwV 1 C.2.2.2.2 (lw_V q1776 q1778 qs136 q207 q1779) rfl rfl rfl (by decide +kernel) hR) rfl hsz rfl hrm ⟨Nat.zero_le _, Nat.zero_le _⟩ hdg kk
def m_states (σ : St) (Q : Int32 → St → Prop) : Prop :=
  (((fm_isGrammar σ) = 0 → Q (-1) σ) ∧ (¬ (fm_isGrammar σ) = 0 → (m_laysStates σ (fun r8 s8 => ((r8 = 0 → Q (-1) s8) ∧ (¬ r8 = 0 → Q (s8.1 36) s8))))))
abbrev rm_m_states : Room := { frames := 7, cells := 0, slots := 0, locals := 169 }
set_option maxHeartbeats 4000000 in
theorem met_m_states (l : Launch) (D : va_G) (ct : Ct) (ad : Nat → Nat) (hJ : gJ shM ad ct) (σ : St) (Q : Int32 → St → Prop) (hf : m_states σ Q) : Met l yX3_states (ws_ yX3_states cX3_states 1 (some .int)) rm_m_states (va_Pc [.ref (ad 0)] (gP D ct shM ad σ)) (gQ rvI D ct shM ad Q) 0 0 (gA shM ad) := by
  refine g_metI hJ (by decide) (Nat.le_of_ble_eq_true rfl) ?_
  intro p e s m args below meth c QQ ls C hw hl hret
  replace hl : lv_has ls 1 [(0, .ref (ad 0))] := hl
  unfold m_states at hf
  obtain ⟨H, hH⟩ : ∃ q, q = s.heap := ⟨_, rfl⟩
  obtain ⟨locs, hL⟩ : ∃ q : List Loc, q = [] := ⟨_, rfl⟩
  rw [← hH, ← hL] at hw ⊢
  refine lv_aload_n C.1 C.2.1 dX3_states_0 rfl (lv_at hl 0 rfl) ?_
  refine km_isGrammar C hw hl.1 (Nat.le_of_ble_eq_true rfl) ⟨Nat.le_of_ble_eq_true rfl, Nat.le_of_ble_eq_true rfl⟩ dX3_states_1 ?_
  refine lv_if_eq (tgt := 21) C.1 C.2.1 dX3_states_4 (by decide) (fun h4 => ?_) (fun h4 => ?_)
  · replace hf := hf.1 h4
    refine lv_iconst (v := (-1)) C.1 C.2.1 dX3_states_21 rfl ?_
    exact hret _ _ _ _ _ _ hf hw dX3_states_22
  · replace hf := hf.2 h4
    refine lv_aload_n C.1 C.2.1 dX3_states_7 rfl (lv_at hl 0 rfl) ?_
    refine km_laysStates C hw hl.1 (Nat.le_of_ble_eq_true rfl) ⟨Nat.le_of_ble_eq_true rfl, Nat.le_of_ble_eq_true rfl⟩ dX3_states_8 hf (fun r8 s8 H locs hf hw => ?_)
    refine lv_if_eq (tgt := 21) C.1 C.2.1 dX3_states_11 (by decide) (fun h11 => ?_) (fun h11 => ?_)
    · replace hf := hf.1 h11
      refine lv_iconst (v := (-1)) C.1 C.2.1 dX3_states_21 rfl ?_
      exact hret _ _ _ _ _ _ hf hw dX3_states_22
    · replace hf := hf.2 h11
      refine lv_aload_n C.1 C.2.1 dX3_states_14 rfl (lv_at hl 0 rfl) ?_
      refine mg_manyStates C hw dX3_states_15 ?_
      refine lv_goto (tgt := 22) C.1 C.2.1 dX3_states_18 (by decide) ?_
      exact hret _ _ _ _ _ _ hf hw dX3_states_22
def m_clashes_p22 (σ : St) (Q : Int32 → St → Prop) (K22 : Int32 → Int32 → Prop) (x1 : Int32) (x2 : Int32) : Prop :=
  (((σ.1 36) ≤ x2 → Q x1 σ) ∧ (¬ (σ.1 36) ≤ x2 → (m_doesClash σ x2 (fun r33 => ((r33 = 0 → K22 (x1 + 0) (x2 + 1)) ∧ (¬ r33 = 0 → K22 (x1 + 1) (x2 + 1)))))))
def m_clashes (σ : St) (Q : Int32 → St → Prop) : Prop :=
  (((fm_isGrammar σ) = 0 → Q (-1) σ) ∧ (¬ (fm_isGrammar σ) = 0 → (m_laysStates σ (fun r10 s10 => (m_laysFollow s10 (fun _ s15 => (Lp2 (m_clashes_p22 s15 Q) 0 0)))))))
abbrev rm_m_clashes : Room := { frames := 7, cells := 0, slots := 0, locals := 169 }
set_option maxHeartbeats 4000000 in
theorem met_m_clashes (l : Launch) (D : va_G) (ct : Ct) (ad : Nat → Nat) (hJ : gJ shM ad ct) (σ : St) (Q : Int32 → St → Prop) (hf : m_clashes σ Q) : Met l yX3_clashes (ws_ yX3_clashes cX3_clashes 3 (some .int)) rm_m_clashes (va_Pc [.ref (ad 0)] (gP D ct shM ad σ)) (gQ rvI D ct shM ad Q) 0 0 (gA shM ad) := by
  refine g_metI hJ (by decide) (Nat.le_of_ble_eq_true rfl) ?_
  intro p e s m args below meth c QQ ls C hw hl hret
  replace hl : lv_has ls 3 [(0, .ref (ad 0))] := hl
  have B22 : ∀ (σ : St) (H : Heap) (locs : List Loc) (K22 : Int32 → Int32 → Prop) (_ : ∀ (x1 : Int32) (x2 : Int32) (ls : Array Slot), K22 x1 x2 → lv_has ls 3 [(0, .ref (ad 0)), (1, .int x1), (2, .int x2)] → W p l e rm_m_clashes s m args below meth c H locs 0 0 QQ (F0 m 22 ls [])) (x1 : Int32) (x2 : Int32) (ls : Array Slot), m_clashes_p22 σ Q K22 x1 x2 → gH D ct shM ad s σ H locs → lv_has ls 3 [(0, .ref (ad 0)), (1, .int x1), (2, .int x2)] → W p l e rm_m_clashes s m args below meth c H locs 0 0 QQ (F0 m 22 ls []) := by
    intro σ H locs K22 hK22 x1 x2 ls hf hw hl
    unfold m_clashes_p22 at hf
    refine lv_iload_n C.1 C.2.1 dX3_clashes_22 rfl (lv_at hl 2 rfl) ?_
    refine lv_aload_n C.1 C.2.1 dX3_clashes_23 rfl (lv_at hl 0 rfl) ?_
    refine mg_manyStates C hw dX3_clashes_24 ?_
    refine lv_icmp_ge (tgt := 52) C.1 C.2.1 dX3_clashes_27 (by decide) (fun h27 => ?_) (fun h27 => ?_)
    · replace hf := hf.1 h27
      refine lv_iload_n C.1 C.2.1 dX3_clashes_52 rfl (lv_at hl 1 rfl) ?_
      exact hret _ _ _ _ _ _ hf hw dX3_clashes_53
    · replace hf := hf.2 h27
      refine lv_iload_n C.1 C.2.1 dX3_clashes_30 rfl (lv_at hl 1 rfl) ?_
      refine lv_aload_n C.1 C.2.1 dX3_clashes_31 rfl (lv_at hl 0 rfl) ?_
      refine lv_iload_n C.1 C.2.1 dX3_clashes_32 rfl (lv_at hl 2 rfl) ?_
      refine km_doesClash C hw hl.1 (Nat.le_of_ble_eq_true rfl) ⟨Nat.le_of_ble_eq_true rfl, Nat.le_of_ble_eq_true rfl⟩ dX3_clashes_33 hf (fun r33 hf => ?_)
      refine lv_if_eq (tgt := 43) C.1 C.2.1 dX3_clashes_36 (by decide) (fun h36 => ?_) (fun h36 => ?_)
      · replace hf := hf.1 h36
        refine lv_iconst (v := 0) C.1 C.2.1 dX3_clashes_43 rfl ?_
        refine lv_iadd C.1 C.2.1 dX3_clashes_44 ?_
        refine lv_istore_n (lv' := [(1, .int (x1 + 0)), (0, .ref (ad 0)), (2, .int x2)]) C.1 C.2.1 dX3_clashes_45 rfl hl (Nat.le_of_ble_eq_true rfl) rfl (fun ls hl => ?_)
        refine lv_iinc (v := (x2 + 1)) (lv' := [(2, .int (x2 + 1)), (1, .int (x1 + 0)), (0, .ref (ad 0))]) C.1 C.2.1 dX3_clashes_46 hl (k := 2) rfl rfl (Nat.le_of_ble_eq_true rfl) rfl (fun ls hl => ?_)
        refine lv_goto (tgt := 22) C.1 C.2.1 dX3_clashes_49 (by decide) ?_
        exact hK22 _ _ _ hf (lv_sub hl [2, 1, 0] rfl)
      · replace hf := hf.2 h36
        refine lv_iconst (v := 1) C.1 C.2.1 dX3_clashes_39 rfl ?_
        refine lv_goto (tgt := 44) C.1 C.2.1 dX3_clashes_40 (by decide) ?_
        refine lv_iadd C.1 C.2.1 dX3_clashes_44 ?_
        refine lv_istore_n (lv' := [(1, .int (x1 + 1)), (0, .ref (ad 0)), (2, .int x2)]) C.1 C.2.1 dX3_clashes_45 rfl hl (Nat.le_of_ble_eq_true rfl) rfl (fun ls hl => ?_)
        refine lv_iinc (v := (x2 + 1)) (lv' := [(2, .int (x2 + 1)), (1, .int (x1 + 1)), (0, .ref (ad 0))]) C.1 C.2.1 dX3_clashes_46 hl (k := 2) rfl rfl (Nat.le_of_ble_eq_true rfl) rfl (fun ls hl => ?_)
        refine lv_goto (tgt := 22) C.1 C.2.1 dX3_clashes_49 (by decide) ?_
        exact hK22 _ _ _ hf (lv_sub hl [2, 1, 0] rfl)
  have P22 : ∀ (σ : St) (H : Heap) (locs : List Loc) (n : Nat) (x1 : Int32) (x2 : Int32) (ls : Array Slot), LL2 (m_clashes_p22 σ Q) n x1 x2 → gH D ct shM ad s σ H locs → lv_has ls 3 [(0, .ref (ad 0)), (1, .int x1), (2, .int x2)] → W p l e rm_m_clashes s m args below meth c H locs 0 0 QQ (F0 m 22 ls []) := by
    intro σ H locs n
    induction n with
    | zero => intro x1 x2 ls hf; exact False.elim hf
    | succ n ih => intro x1 x2 ls hf hw hl; exact B22 σ H locs (LL2 _ n) (fun x1 x2 ls hf hl => ih x1 x2 ls hf hw hl) x1 x2 ls hf hw hl
  unfold m_clashes at hf
  obtain ⟨H, hH⟩ : ∃ q, q = s.heap := ⟨_, rfl⟩
  obtain ⟨locs, hL⟩ : ∃ q : List Loc, q = [] := ⟨_, rfl⟩
  rw [← hH, ← hL] at hw ⊢
  refine lv_aload_n C.1 C.2.1 dX3_clashes_0 rfl (lv_at hl 0 rfl) ?_
  refine km_isGrammar C hw hl.1 (Nat.le_of_ble_eq_true rfl) ⟨Nat.le_of_ble_eq_true rfl, Nat.le_of_ble_eq_true rfl⟩ dX3_clashes_1 ?_
  refine lv_if_ne (tgt := 9) C.1 C.2.1 dX3_clashes_4 (by decide) (fun h4 => ?_) (fun h4 => ?_)
  · replace hf := hf.2 h4
    refine lv_aload_n C.1 C.2.1 dX3_clashes_9 rfl (lv_at hl 0 rfl) ?_
    refine km_laysStates C hw hl.1 (Nat.le_of_ble_eq_true rfl) ⟨Nat.le_of_ble_eq_true rfl, Nat.le_of_ble_eq_true rfl⟩ dX3_clashes_10 hf (fun r10 s10 H locs hf hw => ?_)
    refine lv_pop C.1 C.2.1 dX3_clashes_13 rfl ?_
    refine lv_aload_n C.1 C.2.1 dX3_clashes_14 rfl (lv_at hl 0 rfl) ?_
    refine km_laysFollow C hw hl.1 (Nat.le_of_ble_eq_true rfl) ⟨Nat.le_of_ble_eq_true rfl, Nat.le_of_ble_eq_true rfl⟩ dX3_clashes_15 hf (fun _ s15 H locs hf hw => ?_)
    refine lv_iconst (v := 0) C.1 C.2.1 dX3_clashes_18 rfl ?_
    refine lv_istore_n (lv' := [(1, .int 0), (0, .ref (ad 0))]) C.1 C.2.1 dX3_clashes_19 rfl hl (Nat.le_of_ble_eq_true rfl) rfl (fun ls hl => ?_)
    refine lv_iconst (v := 0) C.1 C.2.1 dX3_clashes_20 rfl ?_
    refine lv_istore_n (lv' := [(2, .int 0), (1, .int 0), (0, .ref (ad 0))]) C.1 C.2.1 dX3_clashes_21 rfl hl (Nat.le_of_ble_eq_true rfl) rfl (fun ls hl => ?_)
    obtain ⟨n, hf⟩ := hf
    exact P22 _ _ _ n _ _ _ hf hw (lv_sub hl [2, 1, 0] rfl)
  · replace hf := hf.1 h4
    refine lv_iconst (v := (-1)) C.1 C.2.1 dX3_clashes_7 rfl ?_
    exact hret _ _ _ _ _ _ hf hw dX3_clashes_8
def m_strike (σ : St) (x1 : Int32) (Q : Int32 → St → Prop) : Prop :=
  (((fm_isRule σ x1) = 0 → Q (-1) σ) ∧ (¬ (fm_isRule σ x1) = 0 → (∀ s21 : St, s21 = s_A σ 2 (Int32.toNatClampNeg 3) ((gI σ 2 3) ^^^ (1 <<< (x1 &&& 31))) → (∀ s24 : St, s24 = s_I s21 37 0 → (m_laysStates s24 (fun r28 s28 => (∀ s43 : St, s43 = s_A s28 2 (Int32.toNatClampNeg 3) ((gI s28 2 3) ^^^ (1 <<< (x1 &&& 31))) → (∀ s46 : St, s46 = s_I s43 37 0 → ((r28 = 0 → Q (-2) s46) ∧ (¬ r28 = 0 → (m_keepsAct s46 (fun _ s57 => (∀ s71 : St, s71 = s_A s57 2 (Int32.toNatClampNeg 3) ((gI s57 2 3) ^^^ (1 <<< (x1 &&& 31))) → (m_laysStates s71 (fun r73 s73 => Q (s73.1 36) s73)))))))))))))))
abbrev rm_m_strike : Room := { frames := 7, cells := 0, slots := 0, locals := 169 }
set_option maxHeartbeats 4000000 in
theorem met_m_strike (l : Launch) (D : va_G) (ct : Ct) (ad : Nat → Nat) (hJ : gJ shM ad ct) (σ : St) (x1 : Int32) (Q : Int32 → St → Prop) (hf : m_strike σ x1 Q) : Met l yX3_strike (ws_ yX3_strike cX3_strike 3 (some .int)) rm_m_strike (va_Pc [.ref (ad 0), .int x1] (gP D ct shM ad σ)) (gQ rvI D ct shM ad Q) 0 0 (gA shM ad) := by
  refine g_metI hJ (by decide) (Nat.le_of_ble_eq_true rfl) ?_
  intro p e s m args below meth c QQ ls C hw hl hret
  replace hl : lv_has ls 3 [(0, .ref (ad 0)), (1, .int x1)] := hl
  unfold m_strike at hf
  obtain ⟨H, hH⟩ : ∃ q, q = s.heap := ⟨_, rfl⟩
  obtain ⟨locs, hL⟩ : ∃ q : List Loc, q = [] := ⟨_, rfl⟩
  rw [← hH, ← hL] at hw ⊢
  refine lv_aload_n C.1 C.2.1 dX3_strike_0 rfl (lv_at hl 0 rfl) ?_
  refine lv_iload_n C.1 C.2.1 dX3_strike_1 rfl (lv_at hl 1 rfl) ?_
  refine km_isRule C hw hl.1 (Nat.le_of_ble_eq_true rfl) ⟨Nat.le_of_ble_eq_true rfl, Nat.le_of_ble_eq_true rfl⟩ dX3_strike_2 ?_
  refine lv_if_ne (tgt := 10) C.1 C.2.1 dX3_strike_5 (by decide) (fun h5 => ?_) (fun h5 => ?_)
  · replace hf := hf.2 h5
    refine lv_aload_n C.1 C.2.1 dX3_strike_10 rfl (lv_at hl 0 rfl) ?_
    refine mg_scalar C hw dX3_strike_11 ?_
    refine lv_iconst (v := 3) C.1 C.2.1 dX3_strike_14 rfl ?_
    refine lv_dup2_11 C.1 C.2.1 dX3_strike_15 rfl rfl ?_
    refine g_iald C hw 2 rfl (vpD rfl) dX3_strike_16 ?_
    refine lv_iconst (v := 1) C.1 C.2.1 dX3_strike_17 rfl ?_
    refine lv_iload_n C.1 C.2.1 dX3_strike_18 rfl (lv_at hl 1 rfl) ?_
    refine lv_ishl C.1 C.2.1 dX3_strike_19 ?_
    refine lv_ixor C.1 C.2.1 dX3_strike_20 ?_
    refine g_iast C shM_sep hw 2 rfl (vpD rfl) dX3_strike_21 (fun s21 H locs e21 hw => ?_)
    replace hf := hf s21 e21
    refine lv_aload_n C.1 C.2.1 dX3_strike_22 rfl (lv_at hl 0 rfl) ?_
    refine lv_iconst (v := 0) C.1 C.2.1 dX3_strike_23 rfl ?_
    refine mp_isLaid C hw dX3_strike_24 (fun s24 H locs e24 hw => ?_)
    replace hf := hf s24 e24
    refine lv_aload_n C.1 C.2.1 dX3_strike_27 rfl (lv_at hl 0 rfl) ?_
    refine km_laysStates C hw hl.1 (Nat.le_of_ble_eq_true rfl) ⟨Nat.le_of_ble_eq_true rfl, Nat.le_of_ble_eq_true rfl⟩ dX3_strike_28 hf (fun r28 s28 H locs hf hw => ?_)
    refine lv_istore_n (lv' := [(2, .int r28), (0, .ref (ad 0)), (1, .int x1)]) C.1 C.2.1 dX3_strike_31 rfl hl (Nat.le_of_ble_eq_true rfl) rfl (fun ls hl => ?_)
    refine lv_aload_n C.1 C.2.1 dX3_strike_32 rfl (lv_at hl 1 rfl) ?_
    refine mg_scalar C hw dX3_strike_33 ?_
    refine lv_iconst (v := 3) C.1 C.2.1 dX3_strike_36 rfl ?_
    refine lv_dup2_11 C.1 C.2.1 dX3_strike_37 rfl rfl ?_
    refine g_iald C hw 2 rfl (vpD rfl) dX3_strike_38 ?_
    refine lv_iconst (v := 1) C.1 C.2.1 dX3_strike_39 rfl ?_
    refine lv_iload_n C.1 C.2.1 dX3_strike_40 rfl (lv_at hl 2 rfl) ?_
    refine lv_ishl C.1 C.2.1 dX3_strike_41 ?_
    refine lv_ixor C.1 C.2.1 dX3_strike_42 ?_
    refine g_iast C shM_sep hw 2 rfl (vpD rfl) dX3_strike_43 (fun s43 H locs e43 hw => ?_)
    replace hf := hf s43 e43
    refine lv_aload_n C.1 C.2.1 dX3_strike_44 rfl (lv_at hl 1 rfl) ?_
    refine lv_iconst (v := 0) C.1 C.2.1 dX3_strike_45 rfl ?_
    refine mp_isLaid C hw dX3_strike_46 (fun s46 H locs e46 hw => ?_)
    replace hf := hf s46 e46
    refine lv_iload_n C.1 C.2.1 dX3_strike_49 rfl (lv_at hl 0 rfl) ?_
    refine lv_if_ne (tgt := 56) C.1 C.2.1 dX3_strike_50 (by decide) (fun h50 => ?_) (fun h50 => ?_)
    · replace hf := hf.2 h50
      refine lv_aload_n C.1 C.2.1 dX3_strike_56 rfl (lv_at hl 1 rfl) ?_
      refine km_keepsAct C hw hl.1 (Nat.le_of_ble_eq_true rfl) ⟨Nat.le_of_ble_eq_true rfl, Nat.le_of_ble_eq_true rfl⟩ dX3_strike_57 hf (fun _ s57 H locs hf hw => ?_)
      refine lv_aload_n C.1 C.2.1 dX3_strike_60 rfl (lv_at hl 1 rfl) ?_
      refine mg_scalar C hw dX3_strike_61 ?_
      refine lv_iconst (v := 3) C.1 C.2.1 dX3_strike_64 rfl ?_
      refine lv_dup2_11 C.1 C.2.1 dX3_strike_65 rfl rfl ?_
      refine g_iald C hw 2 rfl (vpD rfl) dX3_strike_66 ?_
      refine lv_iconst (v := 1) C.1 C.2.1 dX3_strike_67 rfl ?_
      refine lv_iload_n C.1 C.2.1 dX3_strike_68 rfl (lv_at hl 2 rfl) ?_
      refine lv_ishl C.1 C.2.1 dX3_strike_69 ?_
      refine lv_ixor C.1 C.2.1 dX3_strike_70 ?_
      refine g_iast C shM_sep hw 2 rfl (vpD rfl) dX3_strike_71 (fun s71 H locs e71 hw => ?_)
      replace hf := hf s71 e71
      refine lv_aload_n C.1 C.2.1 dX3_strike_72 rfl (lv_at hl 1 rfl) ?_
      refine km_laysStates C hw hl.1 (Nat.le_of_ble_eq_true rfl) ⟨Nat.le_of_ble_eq_true rfl, Nat.le_of_ble_eq_true rfl⟩ dX3_strike_73 hf (fun r73 s73 H locs hf hw => ?_)
      refine lv_pop C.1 C.2.1 dX3_strike_76 rfl ?_
      refine lv_aload_n C.1 C.2.1 dX3_strike_77 rfl (lv_at hl 1 rfl) ?_
      refine mg_manyStates C hw dX3_strike_78 ?_
      exact hret _ _ _ _ _ _ hf hw dX3_strike_81
    · replace hf := hf.1 h50
      refine lv_bipush (v := (-2)) C.1 C.2.1 dX3_strike_53 rfl ?_
      exact hret _ _ _ _ _ _ hf hw dX3_strike_55
  · replace hf := hf.1 h5
    refine lv_iconst (v := (-1)) C.1 C.2.1 dX3_strike_8 rfl ?_
    exact hret _ _ _ _ _ _ hf hw dX3_strike_9
def m_laysMade_p63 (x1 : Int32) (x2 : Int32) (x3 : Int32) (Q : Unit → St → Prop) (K50 : St → Int32 → Prop) (K63 : St → Int32 → Prop) (σ : St) (x4 : Int32) : Prop :=
  ((x4 = 0 → K50 σ (x3 + 1)) ∧ (¬ x4 = 0 → (m_makesOf σ x1 x3 (fun r71 s71 => K63 s71 r71))))
def m_laysMade_p50 (x1 : Int32) (x2 : Int32) (Q : Unit → St → Prop) (K50 : St → Int32 → Prop) (σ : St) (x3 : Int32) : Prop :=
  (((gI σ 2 2) < x3 → (∀ s92 : St, s92 = s_I σ 37 ((σ.1 37) ||| x2) → Q () s92)) ∧ (¬ (gI σ 2 2) < x3 → (Lp2 (m_laysMade_p63 x1 x2 x3 Q K50) σ 1)))
def m_laysMade_p22 (x1 : Int32) (x2 : Int32) (Q : Unit → St → Prop) (K22 : St → Int32 → Prop) (σ : St) (x3 : Int32) : Prop :=
  ((2028 ≤ x3 → (Lp2 (m_laysMade_p50 x1 x2 Q) σ 0)) ∧ (¬ 2028 ≤ x3 → (vp_in ((2028 * x1) + x3) 4056 ∧ (∀ s41 : St, s41 = s_A σ 43 (Int32.toNatClampNeg ((2028 * x1) + x3)) 0 → K22 s41 (x3 + 1)))))
def m_laysMade_p9 (σ : St) (x1 : Int32) (Q : Unit → St → Prop) (v0 : Int32) : Prop :=
  ((((σ.1 37) &&& v0) = 0 → (Lp2 (m_laysMade_p22 x1 v0 Q) σ 0)) ∧ (¬ ((σ.1 37) &&& v0) = 0 → Q () σ))
def m_laysMade (σ : St) (x1 : Int32) (Q : Unit → St → Prop) : Prop :=
  ((x1 = 0 → (m_laysMade_p9 σ x1 Q 2)) ∧ (¬ x1 = 0 → (m_laysMade_p9 σ x1 Q 4)))
abbrev rm_m_laysMade : Room := { frames := 7, cells := 0, slots := 0, locals := 174 }
set_option maxHeartbeats 4000000 in
theorem met_m_laysMade (l : Launch) (D : va_G) (ct : Ct) (ad : Nat → Nat) (hJ : gJ shM ad ct) (σ : St) (x1 : Int32) (Q : Unit → St → Prop) (hf : m_laysMade σ x1 Q) : Met l yX3_laysMade (ws_ yX3_laysMade cX3_laysMade 5 (none)) rm_m_laysMade (va_Pc [.ref (ad 0), .int x1] (gP D ct shM ad σ)) (gQ rvV D ct shM ad Q) 0 0 (gA shM ad) := by
  refine g_metV hJ (by decide) (Nat.le_of_ble_eq_true rfl) ?_
  intro p e s m args below meth c QQ ls C hw hl hret
  replace hl : lv_has ls 5 [(0, .ref (ad 0)), (1, .int x1)] := hl
  have B63 : ∀ (x1 : Int32) (x2 : Int32) (x3 : Int32) (K50 : St → Int32 → Prop) (_ : ∀ (σ : St) (H : Heap) (locs : List Loc) (x3 : Int32) (ls : Array Slot), K50 σ x3 → gH D ct shM ad s σ H locs → lv_has ls 5 [(0, .ref (ad 0)), (1, .int x1), (2, .int x2), (3, .int x3)] → W p l e rm_m_laysMade s m args below meth c H locs 0 0 QQ (F0 m 50 ls [])) (K63 : St → Int32 → Prop) (_ : ∀ (σ : St) (H : Heap) (locs : List Loc) (x4 : Int32) (ls : Array Slot), K63 σ x4 → gH D ct shM ad s σ H locs → lv_has ls 5 [(0, .ref (ad 0)), (1, .int x1), (2, .int x2), (3, .int x3), (4, .int x4)] → W p l e rm_m_laysMade s m args below meth c H locs 0 0 QQ (F0 m 63 ls [])) (σ : St) (H : Heap) (locs : List Loc) (x4 : Int32) (ls : Array Slot), m_laysMade_p63 x1 x2 x3 Q K50 K63 σ x4 → gH D ct shM ad s σ H locs → lv_has ls 5 [(0, .ref (ad 0)), (1, .int x1), (2, .int x2), (3, .int x3), (4, .int x4)] → W p l e rm_m_laysMade s m args below meth c H locs 0 0 QQ (F0 m 63 ls []) := by
    intro x1 x2 x3 K50 hK50 K63 hK63 σ H locs x4 ls hf hw hl
    unfold m_laysMade_p63 at hf
    refine lv_iload C.1 C.2.1 dX3_laysMade_63 (lv_at hl 4 rfl) ?_
    refine lv_if_eq (tgt := 79) C.1 C.2.1 dX3_laysMade_65 (by decide) (fun h65 => ?_) (fun h65 => ?_)
    · replace hf := hf.1 h65
      refine lv_iinc (v := (x3 + 1)) (lv' := [(3, .int (x3 + 1)), (0, .ref (ad 0)), (1, .int x1), (2, .int x2), (4, .int x4)]) C.1 C.2.1 dX3_laysMade_79 hl (k := 3) rfl rfl (Nat.le_of_ble_eq_true rfl) rfl (fun ls hl => ?_)
      refine lv_goto (tgt := 50) C.1 C.2.1 dX3_laysMade_82 (by decide) ?_
      exact hK50 _ _ _ _ _ hf hw (lv_sub hl [1, 2, 3, 0] rfl)
    · replace hf := hf.2 h65
      refine lv_aload_n C.1 C.2.1 dX3_laysMade_68 rfl (lv_at hl 0 rfl) ?_
      refine lv_iload_n C.1 C.2.1 dX3_laysMade_69 rfl (lv_at hl 1 rfl) ?_
      refine lv_iload_n C.1 C.2.1 dX3_laysMade_70 rfl (lv_at hl 3 rfl) ?_
      refine km_makesOf C hw hl.1 (Nat.le_of_ble_eq_true rfl) ⟨Nat.le_of_ble_eq_true rfl, Nat.le_of_ble_eq_true rfl⟩ dX3_laysMade_71 hf (fun r71 s71 H locs hf hw => ?_)
      refine lv_istore (lv' := [(4, .int r71), (0, .ref (ad 0)), (1, .int x1), (2, .int x2), (3, .int x3)]) C.1 C.2.1 dX3_laysMade_74 hl (Nat.le_of_ble_eq_true rfl) rfl (fun ls hl => ?_)
      refine lv_goto (tgt := 63) C.1 C.2.1 dX3_laysMade_76 (by decide) ?_
      exact hK63 _ _ _ _ _ hf hw (lv_sub hl [1, 2, 3, 4, 0] rfl)
  have P63 : ∀ (x1 : Int32) (x2 : Int32) (x3 : Int32) (K50 : St → Int32 → Prop) (_ : ∀ (σ : St) (H : Heap) (locs : List Loc) (x3 : Int32) (ls : Array Slot), K50 σ x3 → gH D ct shM ad s σ H locs → lv_has ls 5 [(0, .ref (ad 0)), (1, .int x1), (2, .int x2), (3, .int x3)] → W p l e rm_m_laysMade s m args below meth c H locs 0 0 QQ (F0 m 50 ls [])) (n : Nat) (σ : St) (x4 : Int32) (ls : Array Slot) (H : Heap) (locs : List Loc), LL2 (m_laysMade_p63 x1 x2 x3 Q K50) n σ x4 → gH D ct shM ad s σ H locs → lv_has ls 5 [(0, .ref (ad 0)), (1, .int x1), (2, .int x2), (3, .int x3), (4, .int x4)] → W p l e rm_m_laysMade s m args below meth c H locs 0 0 QQ (F0 m 63 ls []) := by
    intro x1 x2 x3 K50 hK50 n
    induction n with
    | zero => intro σ x4 ls H locs hf; exact False.elim hf
    | succ n ih => intro σ x4 ls H locs hf hw hl; exact B63 x1 x2 x3 K50 hK50 (LL2 _ n) (fun σ H locs x4 ls hf hw hl => ih σ x4 ls H locs hf hw hl) σ H locs x4 ls hf hw hl
  have B50 : ∀ (x1 : Int32) (x2 : Int32) (K50 : St → Int32 → Prop) (_ : ∀ (σ : St) (H : Heap) (locs : List Loc) (x3 : Int32) (ls : Array Slot), K50 σ x3 → gH D ct shM ad s σ H locs → lv_has ls 5 [(0, .ref (ad 0)), (1, .int x1), (2, .int x2), (3, .int x3)] → W p l e rm_m_laysMade s m args below meth c H locs 0 0 QQ (F0 m 50 ls [])) (σ : St) (H : Heap) (locs : List Loc) (x3 : Int32) (ls : Array Slot), m_laysMade_p50 x1 x2 Q K50 σ x3 → gH D ct shM ad s σ H locs → lv_has ls 5 [(0, .ref (ad 0)), (1, .int x1), (2, .int x2), (3, .int x3)] → W p l e rm_m_laysMade s m args below meth c H locs 0 0 QQ (F0 m 50 ls []) := by
    intro x1 x2 K50 hK50 σ H locs x3 ls hf hw hl
    unfold m_laysMade_p50 at hf
    refine lv_iload_n C.1 C.2.1 dX3_laysMade_50 rfl (lv_at hl 3 rfl) ?_
    refine lv_aload_n C.1 C.2.1 dX3_laysMade_51 rfl (lv_at hl 0 rfl) ?_
    refine mg_scalar C hw dX3_laysMade_52 ?_
    refine lv_iconst (v := 2) C.1 C.2.1 dX3_laysMade_55 rfl ?_
    refine g_iald C hw 2 rfl (vpD rfl) dX3_laysMade_56 ?_
    refine lv_icmp_gt (tgt := 85) C.1 C.2.1 dX3_laysMade_57 (by decide) (fun h57 => ?_) (fun h57 => ?_)
    · replace hf := hf.1 h57
      refine lv_aload_n C.1 C.2.1 dX3_laysMade_85 rfl (lv_at hl 0 rfl) ?_
      refine lv_dup C.1 C.2.1 dX3_laysMade_86 rfl ?_
      refine mg_isLaid C hw dX3_laysMade_87 ?_
      refine lv_iload_n C.1 C.2.1 dX3_laysMade_90 rfl (lv_at hl 2 rfl) ?_
      refine lv_ior C.1 C.2.1 dX3_laysMade_91 ?_
      refine mp_isLaid C hw dX3_laysMade_92 (fun s92 H locs e92 hw => ?_)
      replace hf := hf s92 e92
      exact hret _ _ _ _ _ _ hf hw dX3_laysMade_95
    · replace hf := hf.2 h57
      refine lv_iconst (v := 1) C.1 C.2.1 dX3_laysMade_60 rfl ?_
      refine lv_istore (lv' := [(4, .int 1), (0, .ref (ad 0)), (1, .int x1), (2, .int x2), (3, .int x3)]) C.1 C.2.1 dX3_laysMade_61 hl (Nat.le_of_ble_eq_true rfl) rfl (fun ls hl => ?_)
      obtain ⟨n, hf⟩ := hf
      exact P63 _ _ _ _ hK50 n _ _ _ _ _ hf hw (lv_sub hl [1, 2, 3, 4, 0] rfl)
  have P50 : ∀ (x1 : Int32) (x2 : Int32) (n : Nat) (σ : St) (x3 : Int32) (ls : Array Slot) (H : Heap) (locs : List Loc), LL2 (m_laysMade_p50 x1 x2 Q) n σ x3 → gH D ct shM ad s σ H locs → lv_has ls 5 [(0, .ref (ad 0)), (1, .int x1), (2, .int x2), (3, .int x3)] → W p l e rm_m_laysMade s m args below meth c H locs 0 0 QQ (F0 m 50 ls []) := by
    intro x1 x2 n
    induction n with
    | zero => intro σ x3 ls H locs hf; exact False.elim hf
    | succ n ih => intro σ x3 ls H locs hf hw hl; exact B50 x1 x2 (LL2 _ n) (fun σ H locs x3 ls hf hw hl => ih σ x3 ls H locs hf hw hl) σ H locs x3 ls hf hw hl
  have B22 : ∀ (x1 : Int32) (x2 : Int32) (K22 : St → Int32 → Prop) (_ : ∀ (σ : St) (H : Heap) (locs : List Loc) (x3 : Int32) (ls : Array Slot), K22 σ x3 → gH D ct shM ad s σ H locs → lv_has ls 5 [(0, .ref (ad 0)), (1, .int x1), (2, .int x2), (3, .int x3)] → W p l e rm_m_laysMade s m args below meth c H locs 0 0 QQ (F0 m 22 ls [])) (σ : St) (H : Heap) (locs : List Loc) (x3 : Int32) (ls : Array Slot), m_laysMade_p22 x1 x2 Q K22 σ x3 → gH D ct shM ad s σ H locs → lv_has ls 5 [(0, .ref (ad 0)), (1, .int x1), (2, .int x2), (3, .int x3)] → W p l e rm_m_laysMade s m args below meth c H locs 0 0 QQ (F0 m 22 ls []) := by
    intro x1 x2 K22 hK22 σ H locs x3 ls hf hw hl
    unfold m_laysMade_p22 at hf
    refine lv_iload_n C.1 C.2.1 dX3_laysMade_22 rfl (lv_at hl 3 rfl) ?_
    refine lv_sipush (v := 2028) C.1 C.2.1 dX3_laysMade_23 rfl ?_
    refine lv_icmp_ge (tgt := 48) C.1 C.2.1 dX3_laysMade_26 (by decide) (fun h26 => ?_) (fun h26 => ?_)
    · replace hf := hf.1 h26
      refine lv_iconst (v := 0) C.1 C.2.1 dX3_laysMade_48 rfl ?_
      refine lv_istore_n (lv' := [(3, .int 0), (0, .ref (ad 0)), (1, .int x1), (2, .int x2)]) C.1 C.2.1 dX3_laysMade_49 rfl hl (Nat.le_of_ble_eq_true rfl) rfl (fun ls hl => ?_)
      obtain ⟨n, hf⟩ := hf
      exact P50 _ _ n _ _ _ _ _ hf hw (lv_sub hl [1, 2, 3, 0] rfl)
    · replace hf := hf.2 h26
      refine lv_aload_n C.1 C.2.1 dX3_laysMade_29 rfl (lv_at hl 0 rfl) ?_
      refine mg_made C hw dX3_laysMade_30 ?_
      refine lv_sipush (v := 2028) C.1 C.2.1 dX3_laysMade_33 rfl ?_
      refine lv_iload_n C.1 C.2.1 dX3_laysMade_36 rfl (lv_at hl 1 rfl) ?_
      refine lv_imul C.1 C.2.1 dX3_laysMade_37 ?_
      refine lv_iload_n C.1 C.2.1 dX3_laysMade_38 rfl (lv_at hl 3 rfl) ?_
      refine lv_iadd C.1 C.2.1 dX3_laysMade_39 ?_
      refine lv_iconst (v := 0) C.1 C.2.1 dX3_laysMade_40 rfl ?_
      obtain ⟨b41, hf⟩ := hf
      refine g_zast C shM_sep hw 43 rfl (Or.inl rfl) b41 dX3_laysMade_41 (fun s41 H locs e41 hw => ?_)
      replace hf := hf s41 e41
      refine lv_iinc (v := (x3 + 1)) (lv' := [(3, .int (x3 + 1)), (0, .ref (ad 0)), (1, .int x1), (2, .int x2)]) C.1 C.2.1 dX3_laysMade_42 hl (k := 3) rfl rfl (Nat.le_of_ble_eq_true rfl) rfl (fun ls hl => ?_)
      refine lv_goto (tgt := 22) C.1 C.2.1 dX3_laysMade_45 (by decide) ?_
      exact hK22 _ _ _ _ _ hf hw (lv_sub hl [1, 2, 3, 0] rfl)
  have P22 : ∀ (x1 : Int32) (x2 : Int32) (n : Nat) (σ : St) (x3 : Int32) (ls : Array Slot) (H : Heap) (locs : List Loc), LL2 (m_laysMade_p22 x1 x2 Q) n σ x3 → gH D ct shM ad s σ H locs → lv_has ls 5 [(0, .ref (ad 0)), (1, .int x1), (2, .int x2), (3, .int x3)] → W p l e rm_m_laysMade s m args below meth c H locs 0 0 QQ (F0 m 22 ls []) := by
    intro x1 x2 n
    induction n with
    | zero => intro σ x3 ls H locs hf; exact False.elim hf
    | succ n ih => intro σ x3 ls H locs hf hw hl; exact B22 x1 x2 (LL2 _ n) (fun σ H locs x3 ls hf hw hl => ih σ x3 ls H locs hf hw hl) σ H locs x3 ls hf hw hl
  have J9 : ∀ (σ : St) (H : Heap) (locs : List Loc) (x1 : Int32) (v0 : Int32) (ls : Array Slot), m_laysMade_p9 σ x1 Q v0 → gH D ct shM ad s σ H locs → lv_has ls 5 [(0, .ref (ad 0)), (1, .int x1)] → W p l e rm_m_laysMade s m args below meth c H locs 0 0 QQ (F0 m 9 ls [.int v0]) := by
    intro σ H locs x1 v0 ls hf hw hl
    unfold m_laysMade_p9 at hf
    refine lv_istore_n (lv' := [(2, .int v0), (0, .ref (ad 0)), (1, .int x1)]) C.1 C.2.1 dX3_laysMade_9 rfl hl (Nat.le_of_ble_eq_true rfl) rfl (fun ls hl => ?_)
    refine lv_aload_n C.1 C.2.1 dX3_laysMade_10 rfl (lv_at hl 1 rfl) ?_
    refine mg_isLaid C hw dX3_laysMade_11 ?_
    refine lv_iload_n C.1 C.2.1 dX3_laysMade_14 rfl (lv_at hl 0 rfl) ?_
    refine lv_iand C.1 C.2.1 dX3_laysMade_15 ?_
    refine lv_if_eq (tgt := 20) C.1 C.2.1 dX3_laysMade_16 (by decide) (fun h16 => ?_) (fun h16 => ?_)
    · replace hf := hf.1 h16
      refine lv_iconst (v := 0) C.1 C.2.1 dX3_laysMade_20 rfl ?_
      refine lv_istore_n (lv' := [(3, .int 0), (2, .int v0), (0, .ref (ad 0)), (1, .int x1)]) C.1 C.2.1 dX3_laysMade_21 rfl hl (Nat.le_of_ble_eq_true rfl) rfl (fun ls hl => ?_)
      obtain ⟨n, hf⟩ := hf
      exact P22 _ _ n _ _ _ _ _ hf hw (lv_sub hl [2, 3, 1, 0] rfl)
    · replace hf := hf.2 h16
      exact hret _ _ _ _ _ _ hf hw dX3_laysMade_19
  unfold m_laysMade at hf
  obtain ⟨H, hH⟩ : ∃ q, q = s.heap := ⟨_, rfl⟩
  obtain ⟨locs, hL⟩ : ∃ q : List Loc, q = [] := ⟨_, rfl⟩
  rw [← hH, ← hL] at hw ⊢
  refine lv_iload_n C.1 C.2.1 dX3_laysMade_0 rfl (lv_at hl 1 rfl) ?_
  refine lv_if_ne (tgt := 8) C.1 C.2.1 dX3_laysMade_1 (by decide) (fun h1 => ?_) (fun h1 => ?_)
  · replace hf := hf.2 h1
    refine lv_iconst (v := 4) C.1 C.2.1 dX3_laysMade_8 rfl ?_
    exact J9 _ _ _ _ _ _ hf hw (lv_sub hl [0, 1] rfl)
  · replace hf := hf.1 h1
    refine lv_iconst (v := 2) C.1 C.2.1 dX3_laysMade_4 rfl ?_
    refine lv_goto (tgt := 9) C.1 C.2.1 dX3_laysMade_5 (by decide) ?_
    exact J9 _ _ _ _ _ _ hf hw (lv_sub hl [0, 1] rfl)
theorem km_laysMade {p : Program} {l : Launch} {e : Env} {R : Room} {s : State} {m : MethodId} {args : Array Value} {below : List Frame} {meth : Method} {c : Code} {H : Heap} {locs : List Loc} {Z : State → Prop} {cc : ByteArray} {nL pc : Nat} {ls : Array Slot} {rest : List Value} {D : va_G} {ct : Ct} {ad : Nat → Nat} {σ : St} {x1 : Int32} {Qp : Unit → St → Prop} (C : CallFix p m c cc nL s args lw_all RX3) (hw : gH D ct shM ad s σ H locs) (hsz : ls.size = nL) (hrm : (rest.map fun v => v.category).sum ≤ 8) (hR : rm_m_laysMade.frames + 1 ≤ R.frames ∧ 8 + (5 + 11) + rm_m_laysMade.locals ≤ R.locals) (hdg : decode cc pc = .ok (.invokevirtual 443, 3)) (hf : m_laysMade σ x1 Qp) (kk : ∀ (r : Unit) (σ1 : St) (H1 : Heap) (locs1 : List Loc), Qp r σ1 → gH D ct shM ad s σ1 H1 locs1 → W p l e R s m args below meth c H1 locs1 0 0 Z (F0 m (pc + 3) ls (rest))) : W p l e R s m args below meth c H locs 0 0 Z (F0 m pc ls (.int x1 :: .ref (ad 0) :: rest)) :=
  g_callV (As := [.int x1]) (rest := rest) C hw rfl rfl (met_m_laysMade l D ct ad hw.2.1 σ x1 Qp hf) (cwV 1 C.2.2.2.2 (lw_V q1864 q1866 qs145 q207 q1867) rfl rfl rfl (by decide +kernel) hR) rfl hsz rfl hrm ⟨Nat.zero_le _, Nat.zero_le _⟩ hdg kk
def m_laysTreesOf_p24 (x1 : Int32) (x2 : Int32) (Q : Unit → St → Prop) (K24 : St → Int32 → Prop) (σ : St) (x3 : Int32) : Prop :=
  ((x3 = 0 → Q () σ) ∧ (¬ x3 = 0 → (m_countsAll σ x1 x2 (fun r31 s31 => K24 s31 r31))))
def m_laysTreesOf_p8 (x1 : Int32) (x2 : Int32) (Q : Unit → St → Prop) (K8 : St → Int32 → Prop) (σ : St) (x3 : Int32) : Prop :=
  ((x3 = 0 → (Lp2 (m_laysTreesOf_p24 x1 x2 Q) σ 1)) ∧ (¬ x3 = 0 → (m_endsNot σ x1 x2 (fun r15 s15 => K8 s15 r15))))
def m_laysTreesOf (σ : St) (x1 : Int32) (x2 : Int32) (Q : Unit → St → Prop) : Prop :=
  (m_laysRings σ x1 x2 (fun _ s3 => (Lp2 (m_laysTreesOf_p8 x1 x2 Q) s3 1)))
abbrev rm_m_laysTreesOf : Room := { frames := 7, cells := 0, slots := 0, locals := 176 }
set_option maxHeartbeats 4000000 in
theorem met_m_laysTreesOf (l : Launch) (D : va_G) (ct : Ct) (ad : Nat → Nat) (hJ : gJ shM ad ct) (σ : St) (x1 : Int32) (x2 : Int32) (Q : Unit → St → Prop) (hf : m_laysTreesOf σ x1 x2 Q) : Met l yX3_laysTreesOf (ws_ yX3_laysTreesOf cX3_laysTreesOf 4 (none)) rm_m_laysTreesOf (va_Pc [.ref (ad 0), .int x1, .int x2] (gP D ct shM ad σ)) (gQ rvV D ct shM ad Q) 0 0 (gA shM ad) := by
  refine g_metV hJ (by decide) (Nat.le_of_ble_eq_true rfl) ?_
  intro p e s m args below meth c QQ ls C hw hl hret
  replace hl : lv_has ls 4 [(0, .ref (ad 0)), (1, .int x1), (2, .int x2)] := hl
  have B24 : ∀ (x1 : Int32) (x2 : Int32) (K24 : St → Int32 → Prop) (_ : ∀ (σ : St) (H : Heap) (locs : List Loc) (x3 : Int32) (ls : Array Slot), K24 σ x3 → gH D ct shM ad s σ H locs → lv_has ls 4 [(0, .ref (ad 0)), (1, .int x1), (2, .int x2), (3, .int x3)] → W p l e rm_m_laysTreesOf s m args below meth c H locs 0 0 QQ (F0 m 24 ls [])) (σ : St) (H : Heap) (locs : List Loc) (x3 : Int32) (ls : Array Slot), m_laysTreesOf_p24 x1 x2 Q K24 σ x3 → gH D ct shM ad s σ H locs → lv_has ls 4 [(0, .ref (ad 0)), (1, .int x1), (2, .int x2), (3, .int x3)] → W p l e rm_m_laysTreesOf s m args below meth c H locs 0 0 QQ (F0 m 24 ls []) := by
    intro x1 x2 K24 hK24 σ H locs x3 ls hf hw hl
    unfold m_laysTreesOf_p24 at hf
    refine lv_iload_n C.1 C.2.1 dX3_laysTreesOf_24 rfl (lv_at hl 3 rfl) ?_
    refine lv_if_eq (tgt := 38) C.1 C.2.1 dX3_laysTreesOf_25 (by decide) (fun h25 => ?_) (fun h25 => ?_)
    · replace hf := hf.1 h25
      exact hret _ _ _ _ _ _ hf hw dX3_laysTreesOf_38
    · replace hf := hf.2 h25
      refine lv_aload_n C.1 C.2.1 dX3_laysTreesOf_28 rfl (lv_at hl 0 rfl) ?_
      refine lv_iload_n C.1 C.2.1 dX3_laysTreesOf_29 rfl (lv_at hl 1 rfl) ?_
      refine lv_iload_n C.1 C.2.1 dX3_laysTreesOf_30 rfl (lv_at hl 2 rfl) ?_
      refine km_countsAll C hw hl.1 (Nat.le_of_ble_eq_true rfl) ⟨Nat.le_of_ble_eq_true rfl, Nat.le_of_ble_eq_true rfl⟩ dX3_laysTreesOf_31 hf (fun r31 s31 H locs hf hw => ?_)
      refine lv_istore_n (lv' := [(3, .int r31), (0, .ref (ad 0)), (1, .int x1), (2, .int x2)]) C.1 C.2.1 dX3_laysTreesOf_34 rfl hl (Nat.le_of_ble_eq_true rfl) rfl (fun ls hl => ?_)
      refine lv_goto (tgt := 24) C.1 C.2.1 dX3_laysTreesOf_35 (by decide) ?_
      exact hK24 _ _ _ _ _ hf hw (lv_sub hl [1, 2, 3, 0] rfl)
  have P24 : ∀ (x1 : Int32) (x2 : Int32) (n : Nat) (σ : St) (x3 : Int32) (ls : Array Slot) (H : Heap) (locs : List Loc), LL2 (m_laysTreesOf_p24 x1 x2 Q) n σ x3 → gH D ct shM ad s σ H locs → lv_has ls 4 [(0, .ref (ad 0)), (1, .int x1), (2, .int x2), (3, .int x3)] → W p l e rm_m_laysTreesOf s m args below meth c H locs 0 0 QQ (F0 m 24 ls []) := by
    intro x1 x2 n
    induction n with
    | zero => intro σ x3 ls H locs hf; exact False.elim hf
    | succ n ih => intro σ x3 ls H locs hf hw hl; exact B24 x1 x2 (LL2 _ n) (fun σ H locs x3 ls hf hw hl => ih σ x3 ls H locs hf hw hl) σ H locs x3 ls hf hw hl
  have B8 : ∀ (x1 : Int32) (x2 : Int32) (K8 : St → Int32 → Prop) (_ : ∀ (σ : St) (H : Heap) (locs : List Loc) (x3 : Int32) (ls : Array Slot), K8 σ x3 → gH D ct shM ad s σ H locs → lv_has ls 4 [(0, .ref (ad 0)), (1, .int x1), (2, .int x2), (3, .int x3)] → W p l e rm_m_laysTreesOf s m args below meth c H locs 0 0 QQ (F0 m 8 ls [])) (σ : St) (H : Heap) (locs : List Loc) (x3 : Int32) (ls : Array Slot), m_laysTreesOf_p8 x1 x2 Q K8 σ x3 → gH D ct shM ad s σ H locs → lv_has ls 4 [(0, .ref (ad 0)), (1, .int x1), (2, .int x2), (3, .int x3)] → W p l e rm_m_laysTreesOf s m args below meth c H locs 0 0 QQ (F0 m 8 ls []) := by
    intro x1 x2 K8 hK8 σ H locs x3 ls hf hw hl
    unfold m_laysTreesOf_p8 at hf
    refine lv_iload_n C.1 C.2.1 dX3_laysTreesOf_8 rfl (lv_at hl 3 rfl) ?_
    refine lv_if_eq (tgt := 22) C.1 C.2.1 dX3_laysTreesOf_9 (by decide) (fun h9 => ?_) (fun h9 => ?_)
    · replace hf := hf.1 h9
      refine lv_iconst (v := 1) C.1 C.2.1 dX3_laysTreesOf_22 rfl ?_
      refine lv_istore_n (lv' := [(3, .int 1), (0, .ref (ad 0)), (1, .int x1), (2, .int x2)]) C.1 C.2.1 dX3_laysTreesOf_23 rfl hl (Nat.le_of_ble_eq_true rfl) rfl (fun ls hl => ?_)
      obtain ⟨n, hf⟩ := hf
      exact P24 _ _ n _ _ _ _ _ hf hw (lv_sub hl [1, 2, 3, 0] rfl)
    · replace hf := hf.2 h9
      refine lv_aload_n C.1 C.2.1 dX3_laysTreesOf_12 rfl (lv_at hl 0 rfl) ?_
      refine lv_iload_n C.1 C.2.1 dX3_laysTreesOf_13 rfl (lv_at hl 1 rfl) ?_
      refine lv_iload_n C.1 C.2.1 dX3_laysTreesOf_14 rfl (lv_at hl 2 rfl) ?_
      refine km_endsNot C hw hl.1 (Nat.le_of_ble_eq_true rfl) ⟨Nat.le_of_ble_eq_true rfl, Nat.le_of_ble_eq_true rfl⟩ dX3_laysTreesOf_15 hf (fun r15 s15 H locs hf hw => ?_)
      refine lv_istore_n (lv' := [(3, .int r15), (0, .ref (ad 0)), (1, .int x1), (2, .int x2)]) C.1 C.2.1 dX3_laysTreesOf_18 rfl hl (Nat.le_of_ble_eq_true rfl) rfl (fun ls hl => ?_)
      refine lv_goto (tgt := 8) C.1 C.2.1 dX3_laysTreesOf_19 (by decide) ?_
      exact hK8 _ _ _ _ _ hf hw (lv_sub hl [1, 2, 3, 0] rfl)
  have P8 : ∀ (x1 : Int32) (x2 : Int32) (n : Nat) (σ : St) (x3 : Int32) (ls : Array Slot) (H : Heap) (locs : List Loc), LL2 (m_laysTreesOf_p8 x1 x2 Q) n σ x3 → gH D ct shM ad s σ H locs → lv_has ls 4 [(0, .ref (ad 0)), (1, .int x1), (2, .int x2), (3, .int x3)] → W p l e rm_m_laysTreesOf s m args below meth c H locs 0 0 QQ (F0 m 8 ls []) := by
    intro x1 x2 n
    induction n with
    | zero => intro σ x3 ls H locs hf; exact False.elim hf
    | succ n ih => intro σ x3 ls H locs hf hw hl; exact B8 x1 x2 (LL2 _ n) (fun σ H locs x3 ls hf hw hl => ih σ x3 ls H locs hf hw hl) σ H locs x3 ls hf hw hl
  unfold m_laysTreesOf at hf
  obtain ⟨H, hH⟩ : ∃ q, q = s.heap := ⟨_, rfl⟩
  obtain ⟨locs, hL⟩ : ∃ q : List Loc, q = [] := ⟨_, rfl⟩
  rw [← hH, ← hL] at hw ⊢
  refine lv_aload_n C.1 C.2.1 dX3_laysTreesOf_0 rfl (lv_at hl 0 rfl) ?_
  refine lv_iload_n C.1 C.2.1 dX3_laysTreesOf_1 rfl (lv_at hl 1 rfl) ?_
  refine lv_iload_n C.1 C.2.1 dX3_laysTreesOf_2 rfl (lv_at hl 2 rfl) ?_
  refine km_laysRings C hw hl.1 (Nat.le_of_ble_eq_true rfl) ⟨Nat.le_of_ble_eq_true rfl, Nat.le_of_ble_eq_true rfl⟩ dX3_laysTreesOf_3 hf (fun _ s3 H locs hf hw => ?_)
  refine lv_iconst (v := 1) C.1 C.2.1 dX3_laysTreesOf_6 rfl ?_
  refine lv_istore_n (lv' := [(3, .int 1), (0, .ref (ad 0)), (1, .int x1), (2, .int x2)]) C.1 C.2.1 dX3_laysTreesOf_7 rfl hl (Nat.le_of_ble_eq_true rfl) rfl (fun ls hl => ?_)
  obtain ⟨n, hf⟩ := hf
  exact P8 _ _ n _ _ _ _ _ hf hw (lv_sub hl [1, 2, 3, 0] rfl)
theorem km_laysTreesOf {p : Program} {l : Launch} {e : Env} {R : Room} {s : State} {m : MethodId} {args : Array Value} {below : List Frame} {meth : Method} {c : Code} {H : Heap} {locs : List Loc} {Z : State → Prop} {cc : ByteArray} {nL pc : Nat} {ls : Array Slot} {rest : List Value} {D : va_G} {ct : Ct} {ad : Nat → Nat} {σ : St} {x1 : Int32} {x2 : Int32} {Qp : Unit → St → Prop} (C : CallFix p m c cc nL s args lw_all RX3) (hw : gH D ct shM ad s σ H locs) (hsz : ls.size = nL) (hrm : (rest.map fun v => v.category).sum ≤ 8) (hR : rm_m_laysTreesOf.frames + 1 ≤ R.frames ∧ 8 + (4 + 11) + rm_m_laysTreesOf.locals ≤ R.locals) (hdg : decode cc pc = .ok (.invokevirtual 493, 3)) (hf : m_laysTreesOf σ x1 x2 Qp) (kk : ∀ (r : Unit) (σ1 : St) (H1 : Heap) (locs1 : List Loc), Qp r σ1 → gH D ct shM ad s σ1 H1 locs1 → W p l e R s m args below meth c H1 locs1 0 0 Z (F0 m (pc + 3) ls (rest))) : W p l e R s m args below meth c H locs 0 0 Z (F0 m pc ls (.int x2 :: .int x1 :: .ref (ad 0) :: rest)) :=
  g_callV (As := [.int x1, .int x2]) (rest := rest) C hw rfl rfl (met_m_laysTreesOf l D ct ad hw.2.1 σ x1 x2 Qp hf) (cwV 2 C.2.2.2.2 (lw_V q1955 q1957 qs162 q207 q1958) rfl rfl rfl (by decide +kernel) hR) rfl hsz rfl hrm ⟨Nat.zero_le _, Nat.zero_le _⟩ hdg kk
def m_goes (σ : St) (x1 : Int32) (x2 : Int32) (Q : Int32 → St → Prop) : Prop :=
  (m_isState σ x1 (fun r2 s2 => ((r2 = 0 → Q (-1) s2) ∧ (¬ r2 = 0 → (((fm_in (Int32.toInt64 x2) 0 51) = 0 → Q (-1) s2) ∧ (¬ (fm_in (Int32.toInt64 x2) 0 51) = 0 → (vp_in ((52 * x1) + x2) 4680 ∧ (((gI s2 35 ((52 * x1) + x2)) = (-1) → Q (-2) s2) ∧ (¬ (gI s2 35 ((52 * x1) + x2)) = (-1) → Q (gI s2 35 ((52 * x1) + x2)) s2)))))))))
abbrev rm_m_goes : Room := { frames := 8, cells := 0, slots := 0, locals := 190 }
set_option maxHeartbeats 4000000 in
theorem met_m_goes (l : Launch) (D : va_G) (ct : Ct) (ad : Nat → Nat) (hJ : gJ shM ad ct) (σ : St) (x1 : Int32) (x2 : Int32) (Q : Int32 → St → Prop) (hf : m_goes σ x1 x2 Q) : Met l yX3_goes (ws_ yX3_goes cX3_goes 4 (some .int)) rm_m_goes (va_Pc [.ref (ad 0), .int x1, .int x2] (gP D ct shM ad σ)) (gQ rvI D ct shM ad Q) 0 0 (gA shM ad) := by
  refine g_metI hJ (by decide) (Nat.le_of_ble_eq_true rfl) ?_
  intro p e s m args below meth c QQ ls C hw hl hret
  replace hl : lv_has ls 4 [(0, .ref (ad 0)), (1, .int x1), (2, .int x2)] := hl
  unfold m_goes at hf
  obtain ⟨H, hH⟩ : ∃ q, q = s.heap := ⟨_, rfl⟩
  obtain ⟨locs, hL⟩ : ∃ q : List Loc, q = [] := ⟨_, rfl⟩
  rw [← hH, ← hL] at hw ⊢
  refine lv_aload_n C.1 C.2.1 dX3_goes_0 rfl (lv_at hl 0 rfl) ?_
  refine lv_iload_n C.1 C.2.1 dX3_goes_1 rfl (lv_at hl 1 rfl) ?_
  refine km_isState C hw hl.1 (Nat.le_of_ble_eq_true rfl) ⟨Nat.le_of_ble_eq_true rfl, Nat.le_of_ble_eq_true rfl⟩ dX3_goes_2 hf (fun r2 s2 H locs hf hw => ?_)
  refine lv_if_eq (tgt := 20) C.1 C.2.1 dX3_goes_5 (by decide) (fun h5 => ?_) (fun h5 => ?_)
  · replace hf := hf.1 h5
    refine lv_iconst (v := (-1)) C.1 C.2.1 dX3_goes_20 rfl ?_
    exact hret _ _ _ _ _ _ hf hw dX3_goes_21
  · replace hf := hf.2 h5
    refine lv_iload_n C.1 C.2.1 dX3_goes_8 rfl (lv_at hl 2 rfl) ?_
    refine lv_i2l C.1 C.2.1 dX3_goes_9 rfl ?_
    refine lv_lconst (v := 0) C.1 C.2.1 dX3_goes_10 rfl ?_
    refine lv_ldc2 C.1 C.2.1 C.2.2.2.1 (C.2.2.2.2 _ q1780) dX3_goes_11 ?_
    refine km_in C hl.1 (Nat.le_of_ble_eq_true rfl) ⟨Nat.le_of_ble_eq_true rfl, Nat.le_of_ble_eq_true rfl⟩ dX3_goes_14 ?_
    refine lv_if_ne (tgt := 22) C.1 C.2.1 dX3_goes_17 (by decide) (fun h17 => ?_) (fun h17 => ?_)
    · replace hf := hf.2 h17
      refine lv_aload_n C.1 C.2.1 dX3_goes_22 rfl (lv_at hl 0 rfl) ?_
      refine mg_goTo C hw dX3_goes_23 ?_
      refine lv_bipush (v := 52) C.1 C.2.1 dX3_goes_26 rfl ?_
      refine lv_iload_n C.1 C.2.1 dX3_goes_28 rfl (lv_at hl 1 rfl) ?_
      refine lv_imul C.1 C.2.1 dX3_goes_29 ?_
      refine lv_iload_n C.1 C.2.1 dX3_goes_30 rfl (lv_at hl 2 rfl) ?_
      refine lv_iadd C.1 C.2.1 dX3_goes_31 ?_
      obtain ⟨b32, hf⟩ := hf
      refine g_iald C hw 35 rfl b32 dX3_goes_32 ?_
      refine lv_istore_n (lv' := [(3, .int (gI s2 35 ((52 * x1) + x2))), (0, .ref (ad 0)), (1, .int x1), (2, .int x2)]) C.1 C.2.1 dX3_goes_33 rfl hl (Nat.le_of_ble_eq_true rfl) rfl (fun ls hl => ?_)
      refine lv_iload_n C.1 C.2.1 dX3_goes_34 rfl (lv_at hl 0 rfl) ?_
      refine lv_iconst (v := (-1)) C.1 C.2.1 dX3_goes_35 rfl ?_
      refine lv_icmp_ne (tgt := 44) C.1 C.2.1 dX3_goes_36 (by decide) (fun h36 => ?_) (fun h36 => ?_)
      · replace hf := hf.2 h36
        refine lv_iload_n C.1 C.2.1 dX3_goes_44 rfl (lv_at hl 0 rfl) ?_
        exact hret _ _ _ _ _ _ hf hw dX3_goes_45
      · replace hf := hf.1 h36
        refine lv_bipush (v := (-2)) C.1 C.2.1 dX3_goes_39 rfl ?_
        refine lv_goto (tgt := 45) C.1 C.2.1 dX3_goes_41 (by decide) ?_
        exact hret _ _ _ _ _ _ hf hw dX3_goes_45
    · replace hf := hf.1 h17
      refine lv_iconst (v := (-1)) C.1 C.2.1 dX3_goes_20 rfl ?_
      exact hret _ _ _ _ _ _ hf hw dX3_goes_21
def m_points (σ : St) (x1 : Int32) (x2 : Int32) (Q : Int32 → St → Prop) : Prop :=
  (m_isState σ x1 (fun r2 s2 => ((r2 = 0 → Q (-1) s2) ∧ (¬ r2 = 0 → (((fm_isRule s2 x2) = 0 → Q (-1) s2) ∧ (¬ (fm_isRule s2 x2) = 0 → (vp_in x1 90 ∧ Q (Int64.toInt32 (((gL s2 34 x1) >>> (Int32.toInt64 (5 * x2) &&& 63)) &&& 31)) s2)))))))
abbrev rm_m_points : Room := { frames := 8, cells := 0, slots := 0, locals := 190 }
set_option maxHeartbeats 4000000 in
theorem met_m_points (l : Launch) (D : va_G) (ct : Ct) (ad : Nat → Nat) (hJ : gJ shM ad ct) (σ : St) (x1 : Int32) (x2 : Int32) (Q : Int32 → St → Prop) (hf : m_points σ x1 x2 Q) : Met l yX3_points (ws_ yX3_points cX3_points 3 (some .int)) rm_m_points (va_Pc [.ref (ad 0), .int x1, .int x2] (gP D ct shM ad σ)) (gQ rvI D ct shM ad Q) 0 0 (gA shM ad) := by
  refine g_metI hJ (by decide) (Nat.le_of_ble_eq_true rfl) ?_
  intro p e s m args below meth c QQ ls C hw hl hret
  replace hl : lv_has ls 3 [(0, .ref (ad 0)), (1, .int x1), (2, .int x2)] := hl
  unfold m_points at hf
  obtain ⟨H, hH⟩ : ∃ q, q = s.heap := ⟨_, rfl⟩
  obtain ⟨locs, hL⟩ : ∃ q : List Loc, q = [] := ⟨_, rfl⟩
  rw [← hH, ← hL] at hw ⊢
  refine lv_aload_n C.1 C.2.1 dX3_points_0 rfl (lv_at hl 0 rfl) ?_
  refine lv_iload_n C.1 C.2.1 dX3_points_1 rfl (lv_at hl 1 rfl) ?_
  refine km_isState C hw hl.1 (Nat.le_of_ble_eq_true rfl) ⟨Nat.le_of_ble_eq_true rfl, Nat.le_of_ble_eq_true rfl⟩ dX3_points_2 hf (fun r2 s2 H locs hf hw => ?_)
  refine lv_if_eq (tgt := 16) C.1 C.2.1 dX3_points_5 (by decide) (fun h5 => ?_) (fun h5 => ?_)
  · replace hf := hf.1 h5
    refine lv_iconst (v := (-1)) C.1 C.2.1 dX3_points_16 rfl ?_
    exact hret _ _ _ _ _ _ hf hw dX3_points_17
  · replace hf := hf.2 h5
    refine lv_aload_n C.1 C.2.1 dX3_points_8 rfl (lv_at hl 0 rfl) ?_
    refine lv_iload_n C.1 C.2.1 dX3_points_9 rfl (lv_at hl 2 rfl) ?_
    refine km_isRule C hw hl.1 (Nat.le_of_ble_eq_true rfl) ⟨Nat.le_of_ble_eq_true rfl, Nat.le_of_ble_eq_true rfl⟩ dX3_points_10 ?_
    refine lv_if_ne (tgt := 18) C.1 C.2.1 dX3_points_13 (by decide) (fun h13 => ?_) (fun h13 => ?_)
    · replace hf := hf.2 h13
      refine lv_aload_n C.1 C.2.1 dX3_points_18 rfl (lv_at hl 0 rfl) ?_
      refine mg_stateOf C hw dX3_points_19 ?_
      refine lv_iload_n C.1 C.2.1 dX3_points_22 rfl (lv_at hl 1 rfl) ?_
      obtain ⟨b23, hf⟩ := hf
      refine g_lald C hw 34 rfl b23 dX3_points_23 ?_
      refine lv_iconst (v := 5) C.1 C.2.1 dX3_points_24 rfl ?_
      refine lv_iload_n C.1 C.2.1 dX3_points_25 rfl (lv_at hl 2 rfl) ?_
      refine lv_imul C.1 C.2.1 dX3_points_26 ?_
      refine lv_lshr C.1 C.2.1 dX3_points_27 rfl ?_
      refine lv_ldc2 C.1 C.2.1 C.2.2.2.1 (C.2.2.2.2 _ q1785) dX3_points_28 ?_
      refine lv_land C.1 C.2.1 dX3_points_31 ?_
      refine lv_l2i C.1 C.2.1 dX3_points_32 rfl ?_
      exact hret _ _ _ _ _ _ hf hw dX3_points_33
    · replace hf := hf.1 h13
      refine lv_iconst (v := (-1)) C.1 C.2.1 dX3_points_16 rfl ?_
      exact hret _ _ _ _ _ _ hf hw dX3_points_17
def m_done_p83 (σ : St) (x1 : Int32) (x2 : Int32) (x3 : Int32) (x4 : Int32) (Q : Int32 → St → Prop) (K18 : Int32 → Int32 → Prop) (K31 : Int32 → Int32 → Prop) (v0 : Int32) : Prop :=
  ((v0 = 0 → K31 (x2 ||| 0) (x4 + 1)) ∧ (¬ v0 = 0 → K31 (x2 ||| (1 <<< (x3 &&& 31))) (x4 + 1)))
def m_done_p82 (σ : St) (x1 : Int32) (x2 : Int32) (x3 : Int32) (x4 : Int32) (Q : Int32 → St → Prop) (K18 : Int32 → Int32 → Prop) (K31 : Int32 → Int32 → Prop) : Prop :=
  (m_done_p83 σ x1 x2 x3 x4 Q K18 K31 0)
def m_done_p31 (σ : St) (x1 : Int32) (x3 : Int32) (Q : Int32 → St → Prop) (K18 : Int32 → Int32 → Prop) (K31 : Int32 → Int32 → Prop) (x2 : Int32) (x4 : Int32) : Prop :=
  (vp_in x3 12 ∧ (((gI σ 4 x3) < x4 → K18 x2 (x3 + 1)) ∧ (¬ (gI σ 4 x3) < x4 → (vp_in x1 90 ∧ (((fm_isPoint (gL σ 34 x1) x3 x4) = 0 → (m_done_p82 σ x1 x2 x3 x4 Q K18 K31)) ∧ (¬ (fm_isPoint (gL σ 34 x1) x3 x4) = 0 → (m_areIn σ (σ.1 27) x3 x4 (gI σ 4 x3) (-1) (fun r72 => ((r72 = 0 → (m_done_p82 σ x1 x2 x3 x4 Q K18 K31)) ∧ (¬ r72 = 0 → (m_done_p83 σ x1 x2 x3 x4 Q K18 K31 1)))))))))))
def m_done_p18 (σ : St) (x1 : Int32) (Q : Int32 → St → Prop) (K18 : Int32 → Int32 → Prop) (x2 : Int32) (x3 : Int32) : Prop :=
  (((gI σ 2 0) ≤ x3 → Q x2 σ) ∧ (¬ (gI σ 2 0) ≤ x3 → (Lp2 (m_done_p31 σ x1 x3 Q K18) x2 0)))
def m_done (σ : St) (x1 : Int32) (Q : Int32 → St → Prop) : Prop :=
  (m_isState σ x1 (fun r2 s2 => ((r2 = 0 → Q (-1) s2) ∧ (¬ r2 = 0 → (m_laysFacts s2 (fun _ s11 => (Lp2 (m_done_p18 s11 x1 Q) 0 0)))))))
abbrev rm_m_done : Room := { frames := 8, cells := 0, slots := 0, locals := 190 }
set_option maxHeartbeats 4000000 in
theorem met_m_done (l : Launch) (D : va_G) (ct : Ct) (ad : Nat → Nat) (hJ : gJ shM ad ct) (σ : St) (x1 : Int32) (Q : Int32 → St → Prop) (hf : m_done σ x1 Q) : Met l yX3_done (ws_ yX3_done cX3_done 6 (some .int)) rm_m_done (va_Pc [.ref (ad 0), .int x1] (gP D ct shM ad σ)) (gQ rvI D ct shM ad Q) 0 0 (gA shM ad) := by
  refine g_metI hJ (by decide) (Nat.le_of_ble_eq_true rfl) ?_
  intro p e s m args below meth c QQ ls C hw hl hret
  replace hl : lv_has ls 6 [(0, .ref (ad 0)), (1, .int x1)] := hl
  have J83 : ∀ (σ : St) (H : Heap) (locs : List Loc) (x1 : Int32) (x2 : Int32) (x3 : Int32) (x4 : Int32) (v0 : Int32) (K18 : Int32 → Int32 → Prop) (_ : ∀ (x2 : Int32) (x3 : Int32) (ls : Array Slot), K18 x2 x3 → lv_has ls 6 [(0, .ref (ad 0)), (1, .int x1), (2, .int x2), (3, .int x3)] → W p l e rm_m_done s m args below meth c H locs 0 0 QQ (F0 m 18 ls [])) (K31 : Int32 → Int32 → Prop) (_ : ∀ (x2 : Int32) (x4 : Int32) (ls : Array Slot), K31 x2 x4 → lv_has ls 6 [(0, .ref (ad 0)), (1, .int x1), (2, .int x2), (3, .int x3), (4, .int x4)] → W p l e rm_m_done s m args below meth c H locs 0 0 QQ (F0 m 31 ls [])) (ls : Array Slot), m_done_p83 σ x1 x2 x3 x4 Q K18 K31 v0 → gH D ct shM ad s σ H locs → lv_has ls 6 [(0, .ref (ad 0)), (1, .int x1), (2, .int x2), (3, .int x3), (4, .int x4)] → W p l e rm_m_done s m args below meth c H locs 0 0 QQ (F0 m 83 ls [.int v0]) := by
    intro σ H locs x1 x2 x3 x4 v0 K18 hK18 K31 hK31 ls hf hw hl
    unfold m_done_p83 at hf
    refine lv_istore (lv' := [(5, .int v0), (0, .ref (ad 0)), (1, .int x1), (2, .int x2), (3, .int x3), (4, .int x4)]) C.1 C.2.1 dX3_done_83 hl (Nat.le_of_ble_eq_true rfl) rfl (fun ls hl => ?_)
    refine lv_iload_n C.1 C.2.1 dX3_done_85 rfl (lv_at hl 3 rfl) ?_
    refine lv_iload C.1 C.2.1 dX3_done_86 (lv_at hl 0 rfl) ?_
    refine lv_if_eq (tgt := 97) C.1 C.2.1 dX3_done_88 (by decide) (fun h88 => ?_) (fun h88 => ?_)
    · replace hf := hf.1 h88
      refine lv_iconst (v := 0) C.1 C.2.1 dX3_done_97 rfl ?_
      refine lv_ior C.1 C.2.1 dX3_done_98 ?_
      refine lv_istore_n (lv' := [(2, .int (x2 ||| 0)), (5, .int v0), (0, .ref (ad 0)), (1, .int x1), (3, .int x3), (4, .int x4)]) C.1 C.2.1 dX3_done_99 rfl hl (Nat.le_of_ble_eq_true rfl) rfl (fun ls hl => ?_)
      refine lv_iinc (v := (x4 + 1)) (lv' := [(4, .int (x4 + 1)), (2, .int (x2 ||| 0)), (5, .int v0), (0, .ref (ad 0)), (1, .int x1), (3, .int x3)]) C.1 C.2.1 dX3_done_100 hl (k := 5) rfl rfl (Nat.le_of_ble_eq_true rfl) rfl (fun ls hl => ?_)
      refine lv_goto (tgt := 31) C.1 C.2.1 dX3_done_103 (by decide) ?_
      exact hK31 _ _ _ hf (lv_sub hl [3, 4, 1, 5, 0] rfl)
    · replace hf := hf.2 h88
      refine lv_iconst (v := 1) C.1 C.2.1 dX3_done_91 rfl ?_
      refine lv_iload_n C.1 C.2.1 dX3_done_92 rfl (lv_at hl 4 rfl) ?_
      refine lv_ishl C.1 C.2.1 dX3_done_93 ?_
      refine lv_goto (tgt := 98) C.1 C.2.1 dX3_done_94 (by decide) ?_
      refine lv_ior C.1 C.2.1 dX3_done_98 ?_
      refine lv_istore_n (lv' := [(2, .int (x2 ||| (1 <<< (x3 &&& 31)))), (5, .int v0), (0, .ref (ad 0)), (1, .int x1), (3, .int x3), (4, .int x4)]) C.1 C.2.1 dX3_done_99 rfl hl (Nat.le_of_ble_eq_true rfl) rfl (fun ls hl => ?_)
      refine lv_iinc (v := (x4 + 1)) (lv' := [(4, .int (x4 + 1)), (2, .int (x2 ||| (1 <<< (x3 &&& 31)))), (5, .int v0), (0, .ref (ad 0)), (1, .int x1), (3, .int x3)]) C.1 C.2.1 dX3_done_100 hl (k := 5) rfl rfl (Nat.le_of_ble_eq_true rfl) rfl (fun ls hl => ?_)
      refine lv_goto (tgt := 31) C.1 C.2.1 dX3_done_103 (by decide) ?_
      exact hK31 _ _ _ hf (lv_sub hl [3, 4, 1, 5, 0] rfl)
  have J82 : ∀ (σ : St) (H : Heap) (locs : List Loc) (x1 : Int32) (x2 : Int32) (x3 : Int32) (x4 : Int32) (K18 : Int32 → Int32 → Prop) (_ : ∀ (x2 : Int32) (x3 : Int32) (ls : Array Slot), K18 x2 x3 → lv_has ls 6 [(0, .ref (ad 0)), (1, .int x1), (2, .int x2), (3, .int x3)] → W p l e rm_m_done s m args below meth c H locs 0 0 QQ (F0 m 18 ls [])) (K31 : Int32 → Int32 → Prop) (_ : ∀ (x2 : Int32) (x4 : Int32) (ls : Array Slot), K31 x2 x4 → lv_has ls 6 [(0, .ref (ad 0)), (1, .int x1), (2, .int x2), (3, .int x3), (4, .int x4)] → W p l e rm_m_done s m args below meth c H locs 0 0 QQ (F0 m 31 ls [])) (ls : Array Slot), m_done_p82 σ x1 x2 x3 x4 Q K18 K31 → gH D ct shM ad s σ H locs → lv_has ls 6 [(0, .ref (ad 0)), (1, .int x1), (2, .int x2), (3, .int x3), (4, .int x4)] → W p l e rm_m_done s m args below meth c H locs 0 0 QQ (F0 m 82 ls []) := by
    intro σ H locs x1 x2 x3 x4 K18 hK18 K31 hK31 ls hf hw hl
    unfold m_done_p82 at hf
    refine lv_iconst (v := 0) C.1 C.2.1 dX3_done_82 rfl ?_
    exact J83 _ _ _ _ _ _ _ _ _ hK18 _ hK31 _ hf hw (lv_sub hl [0, 1, 2, 3, 4] rfl)
  have B31 : ∀ (σ : St) (H : Heap) (locs : List Loc) (x1 : Int32) (x3 : Int32) (K18 : Int32 → Int32 → Prop) (_ : ∀ (x2 : Int32) (x3 : Int32) (ls : Array Slot), K18 x2 x3 → lv_has ls 6 [(0, .ref (ad 0)), (1, .int x1), (2, .int x2), (3, .int x3)] → W p l e rm_m_done s m args below meth c H locs 0 0 QQ (F0 m 18 ls [])) (K31 : Int32 → Int32 → Prop) (_ : ∀ (x2 : Int32) (x4 : Int32) (ls : Array Slot), K31 x2 x4 → lv_has ls 6 [(0, .ref (ad 0)), (1, .int x1), (2, .int x2), (3, .int x3), (4, .int x4)] → W p l e rm_m_done s m args below meth c H locs 0 0 QQ (F0 m 31 ls [])) (x2 : Int32) (x4 : Int32) (ls : Array Slot), m_done_p31 σ x1 x3 Q K18 K31 x2 x4 → gH D ct shM ad s σ H locs → lv_has ls 6 [(0, .ref (ad 0)), (1, .int x1), (2, .int x2), (3, .int x3), (4, .int x4)] → W p l e rm_m_done s m args below meth c H locs 0 0 QQ (F0 m 31 ls []) := by
    intro σ H locs x1 x3 K18 hK18 K31 hK31 x2 x4 ls hf hw hl
    unfold m_done_p31 at hf
    refine lv_iload C.1 C.2.1 dX3_done_31 (lv_at hl 4 rfl) ?_
    refine lv_aload_n C.1 C.2.1 dX3_done_33 rfl (lv_at hl 0 rfl) ?_
    refine mg_size C hw dX3_done_34 ?_
    refine lv_iload_n C.1 C.2.1 dX3_done_37 rfl (lv_at hl 3 rfl) ?_
    obtain ⟨b38, hf⟩ := hf
    refine g_iald C hw 4 rfl b38 dX3_done_38 ?_
    refine lv_icmp_gt (tgt := 106) C.1 C.2.1 dX3_done_39 (by decide) (fun h39 => ?_) (fun h39 => ?_)
    · replace hf := hf.1 h39
      refine lv_iinc (v := (x3 + 1)) (lv' := [(3, .int (x3 + 1)), (0, .ref (ad 0)), (1, .int x1), (2, .int x2), (4, .int x4)]) C.1 C.2.1 dX3_done_106 hl (k := 3) rfl rfl (Nat.le_of_ble_eq_true rfl) rfl (fun ls hl => ?_)
      refine lv_goto (tgt := 18) C.1 C.2.1 dX3_done_109 (by decide) ?_
      exact hK18 _ _ _ hf (lv_sub hl [1, 2, 3, 0] rfl)
    · replace hf := hf.2 h39
      refine lv_aload_n C.1 C.2.1 dX3_done_42 rfl (lv_at hl 0 rfl) ?_
      refine mg_stateOf C hw dX3_done_43 ?_
      refine lv_iload_n C.1 C.2.1 dX3_done_46 rfl (lv_at hl 1 rfl) ?_
      obtain ⟨b47, hf⟩ := hf
      refine g_lald C hw 34 rfl b47 dX3_done_47 ?_
      refine lv_iload_n C.1 C.2.1 dX3_done_48 rfl (lv_at hl 3 rfl) ?_
      refine lv_iload C.1 C.2.1 dX3_done_49 (lv_at hl 4 rfl) ?_
      refine km_isPoint C hl.1 (Nat.le_of_ble_eq_true rfl) ⟨Nat.le_of_ble_eq_true rfl, Nat.le_of_ble_eq_true rfl⟩ dX3_done_51 ?_
      refine lv_if_eq (tgt := 82) C.1 C.2.1 dX3_done_54 (by decide) (fun h54 => ?_) (fun h54 => ?_)
      · replace hf := hf.1 h54
        exact J82 _ _ _ _ _ _ _ _ hK18 _ hK31 _ hf hw (lv_sub hl [0, 1, 2, 3, 4] rfl)
      · replace hf := hf.2 h54
        refine lv_aload_n C.1 C.2.1 dX3_done_57 rfl (lv_at hl 0 rfl) ?_
        refine lv_aload_n C.1 C.2.1 dX3_done_58 rfl (lv_at hl 0 rfl) ?_
        refine mg_empties C hw dX3_done_59 ?_
        refine lv_iload_n C.1 C.2.1 dX3_done_62 rfl (lv_at hl 3 rfl) ?_
        refine lv_iload C.1 C.2.1 dX3_done_63 (lv_at hl 4 rfl) ?_
        refine lv_aload_n C.1 C.2.1 dX3_done_65 rfl (lv_at hl 0 rfl) ?_
        refine mg_size C hw dX3_done_66 ?_
        refine lv_iload_n C.1 C.2.1 dX3_done_69 rfl (lv_at hl 3 rfl) ?_
        refine g_iald C hw 4 rfl b38 dX3_done_70 ?_
        refine lv_iconst (v := (-1)) C.1 C.2.1 dX3_done_71 rfl ?_
        refine km_areIn C hw hl.1 (Nat.le_of_ble_eq_true rfl) ⟨Nat.le_of_ble_eq_true rfl, Nat.le_of_ble_eq_true rfl⟩ dX3_done_72 hf (fun r72 hf => ?_)
        refine lv_if_eq (tgt := 82) C.1 C.2.1 dX3_done_75 (by decide) (fun h75 => ?_) (fun h75 => ?_)
        · replace hf := hf.1 h75
          exact J82 _ _ _ _ _ _ _ _ hK18 _ hK31 _ hf hw (lv_sub hl [0, 1, 2, 3, 4] rfl)
        · replace hf := hf.2 h75
          refine lv_iconst (v := 1) C.1 C.2.1 dX3_done_78 rfl ?_
          refine lv_goto (tgt := 83) C.1 C.2.1 dX3_done_79 (by decide) ?_
          exact J83 _ _ _ _ _ _ _ _ _ hK18 _ hK31 _ hf hw (lv_sub hl [0, 1, 2, 3, 4] rfl)
  have P31 : ∀ (σ : St) (H : Heap) (locs : List Loc) (x1 : Int32) (x3 : Int32) (K18 : Int32 → Int32 → Prop) (_ : ∀ (x2 : Int32) (x3 : Int32) (ls : Array Slot), K18 x2 x3 → lv_has ls 6 [(0, .ref (ad 0)), (1, .int x1), (2, .int x2), (3, .int x3)] → W p l e rm_m_done s m args below meth c H locs 0 0 QQ (F0 m 18 ls [])) (n : Nat) (x2 : Int32) (x4 : Int32) (ls : Array Slot), LL2 (m_done_p31 σ x1 x3 Q K18) n x2 x4 → gH D ct shM ad s σ H locs → lv_has ls 6 [(0, .ref (ad 0)), (1, .int x1), (2, .int x2), (3, .int x3), (4, .int x4)] → W p l e rm_m_done s m args below meth c H locs 0 0 QQ (F0 m 31 ls []) := by
    intro σ H locs x1 x3 K18 hK18 n
    induction n with
    | zero => intro x2 x4 ls hf; exact False.elim hf
    | succ n ih => intro x2 x4 ls hf hw hl; exact B31 σ H locs x1 x3 K18 hK18 (LL2 _ n) (fun x2 x4 ls hf hl => ih x2 x4 ls hf hw hl) x2 x4 ls hf hw hl
  have B18 : ∀ (σ : St) (H : Heap) (locs : List Loc) (x1 : Int32) (K18 : Int32 → Int32 → Prop) (_ : ∀ (x2 : Int32) (x3 : Int32) (ls : Array Slot), K18 x2 x3 → lv_has ls 6 [(0, .ref (ad 0)), (1, .int x1), (2, .int x2), (3, .int x3)] → W p l e rm_m_done s m args below meth c H locs 0 0 QQ (F0 m 18 ls [])) (x2 : Int32) (x3 : Int32) (ls : Array Slot), m_done_p18 σ x1 Q K18 x2 x3 → gH D ct shM ad s σ H locs → lv_has ls 6 [(0, .ref (ad 0)), (1, .int x1), (2, .int x2), (3, .int x3)] → W p l e rm_m_done s m args below meth c H locs 0 0 QQ (F0 m 18 ls []) := by
    intro σ H locs x1 K18 hK18 x2 x3 ls hf hw hl
    unfold m_done_p18 at hf
    refine lv_iload_n C.1 C.2.1 dX3_done_18 rfl (lv_at hl 3 rfl) ?_
    refine lv_aload_n C.1 C.2.1 dX3_done_19 rfl (lv_at hl 0 rfl) ?_
    refine mg_scalar C hw dX3_done_20 ?_
    refine lv_iconst (v := 0) C.1 C.2.1 dX3_done_23 rfl ?_
    refine g_iald C hw 2 rfl (vpD rfl) dX3_done_24 ?_
    refine lv_icmp_ge (tgt := 112) C.1 C.2.1 dX3_done_25 (by decide) (fun h25 => ?_) (fun h25 => ?_)
    · replace hf := hf.1 h25
      refine lv_iload_n C.1 C.2.1 dX3_done_112 rfl (lv_at hl 2 rfl) ?_
      exact hret _ _ _ _ _ _ hf hw dX3_done_113
    · replace hf := hf.2 h25
      refine lv_iconst (v := 0) C.1 C.2.1 dX3_done_28 rfl ?_
      refine lv_istore (lv' := [(4, .int 0), (0, .ref (ad 0)), (1, .int x1), (2, .int x2), (3, .int x3)]) C.1 C.2.1 dX3_done_29 hl (Nat.le_of_ble_eq_true rfl) rfl (fun ls hl => ?_)
      obtain ⟨n, hf⟩ := hf
      exact P31 _ _ _ _ _ _ hK18 n _ _ _ hf hw (lv_sub hl [1, 2, 3, 4, 0] rfl)
  have P18 : ∀ (σ : St) (H : Heap) (locs : List Loc) (x1 : Int32) (n : Nat) (x2 : Int32) (x3 : Int32) (ls : Array Slot), LL2 (m_done_p18 σ x1 Q) n x2 x3 → gH D ct shM ad s σ H locs → lv_has ls 6 [(0, .ref (ad 0)), (1, .int x1), (2, .int x2), (3, .int x3)] → W p l e rm_m_done s m args below meth c H locs 0 0 QQ (F0 m 18 ls []) := by
    intro σ H locs x1 n
    induction n with
    | zero => intro x2 x3 ls hf; exact False.elim hf
    | succ n ih => intro x2 x3 ls hf hw hl; exact B18 σ H locs x1 (LL2 _ n) (fun x2 x3 ls hf hl => ih x2 x3 ls hf hw hl) x2 x3 ls hf hw hl
  unfold m_done at hf
  obtain ⟨H, hH⟩ : ∃ q, q = s.heap := ⟨_, rfl⟩
  obtain ⟨locs, hL⟩ : ∃ q : List Loc, q = [] := ⟨_, rfl⟩
  rw [← hH, ← hL] at hw ⊢
  refine lv_aload_n C.1 C.2.1 dX3_done_0 rfl (lv_at hl 0 rfl) ?_
  refine lv_iload_n C.1 C.2.1 dX3_done_1 rfl (lv_at hl 1 rfl) ?_
  refine km_isState C hw hl.1 (Nat.le_of_ble_eq_true rfl) ⟨Nat.le_of_ble_eq_true rfl, Nat.le_of_ble_eq_true rfl⟩ dX3_done_2 hf (fun r2 s2 H locs hf hw => ?_)
  refine lv_if_ne (tgt := 10) C.1 C.2.1 dX3_done_5 (by decide) (fun h5 => ?_) (fun h5 => ?_)
  · replace hf := hf.2 h5
    refine lv_aload_n C.1 C.2.1 dX3_done_10 rfl (lv_at hl 0 rfl) ?_
    refine km_laysFacts C hw hl.1 (Nat.le_of_ble_eq_true rfl) ⟨Nat.le_of_ble_eq_true rfl, Nat.le_of_ble_eq_true rfl⟩ dX3_done_11 hf (fun _ s11 H locs hf hw => ?_)
    refine lv_iconst (v := 0) C.1 C.2.1 dX3_done_14 rfl ?_
    refine lv_istore_n (lv' := [(2, .int 0), (0, .ref (ad 0)), (1, .int x1)]) C.1 C.2.1 dX3_done_15 rfl hl (Nat.le_of_ble_eq_true rfl) rfl (fun ls hl => ?_)
    refine lv_iconst (v := 0) C.1 C.2.1 dX3_done_16 rfl ?_
    refine lv_istore_n (lv' := [(3, .int 0), (2, .int 0), (0, .ref (ad 0)), (1, .int x1)]) C.1 C.2.1 dX3_done_17 rfl hl (Nat.le_of_ble_eq_true rfl) rfl (fun ls hl => ?_)
    obtain ⟨n, hf⟩ := hf
    exact P18 _ _ _ _ n _ _ _ hf hw (lv_sub hl [2, 3, 1, 0] rfl)
  · replace hf := hf.1 h5
    refine lv_iconst (v := (-1)) C.1 C.2.1 dX3_done_8 rfl ?_
    exact hret _ _ _ _ _ _ hf hw dX3_done_9
def m_derives (σ : St) (x1 : Int32) (x2 : Int32) (x3 : Int32) (Q : Int32 → St → Prop) : Prop :=
  (m_isLeft σ x1 (fun r2 => ((r2 = 0 → Q (-1) σ) ∧ (¬ r2 = 0 → (((fm_isPart σ x2 x3) = 0 → Q (-1) σ) ∧ (¬ (fm_isPart σ x2 x3) = 0 → (m_laysMade σ 0 (fun _ s21 => (m_isMadeOf s21 x1 x2 x3 (fun r28 => ((r28 = 0 → Q 0 s21) ∧ (¬ r28 = 0 → Q 1 s21))))))))))))
abbrev rm_m_derives : Room := { frames := 8, cells := 0, slots := 0, locals := 198 }
set_option maxHeartbeats 4000000 in
theorem met_m_derives (l : Launch) (D : va_G) (ct : Ct) (ad : Nat → Nat) (hJ : gJ shM ad ct) (σ : St) (x1 : Int32) (x2 : Int32) (x3 : Int32) (Q : Int32 → St → Prop) (hf : m_derives σ x1 x2 x3 Q) : Met l yX3_derives (ws_ yX3_derives cX3_derives 4 (some .int)) rm_m_derives (va_Pc [.ref (ad 0), .int x1, .int x2, .int x3] (gP D ct shM ad σ)) (gQ rvI D ct shM ad Q) 0 0 (gA shM ad) := by
  refine g_metI hJ (by decide) (Nat.le_of_ble_eq_true rfl) ?_
  intro p e s m args below meth c QQ ls C hw hl hret
  replace hl : lv_has ls 4 [(0, .ref (ad 0)), (1, .int x1), (2, .int x2), (3, .int x3)] := hl
  unfold m_derives at hf
  obtain ⟨H, hH⟩ : ∃ q, q = s.heap := ⟨_, rfl⟩
  obtain ⟨locs, hL⟩ : ∃ q : List Loc, q = [] := ⟨_, rfl⟩
  rw [← hH, ← hL] at hw ⊢
  refine lv_aload_n C.1 C.2.1 dX3_derives_0 rfl (lv_at hl 0 rfl) ?_
  refine lv_iload_n C.1 C.2.1 dX3_derives_1 rfl (lv_at hl 1 rfl) ?_
  refine km_isLeft C hw hl.1 (Nat.le_of_ble_eq_true rfl) ⟨Nat.le_of_ble_eq_true rfl, Nat.le_of_ble_eq_true rfl⟩ dX3_derives_2 hf (fun r2 hf => ?_)
  refine lv_if_eq (tgt := 17) C.1 C.2.1 dX3_derives_5 (by decide) (fun h5 => ?_) (fun h5 => ?_)
  · replace hf := hf.1 h5
    refine lv_iconst (v := (-1)) C.1 C.2.1 dX3_derives_17 rfl ?_
    exact hret _ _ _ _ _ _ hf hw dX3_derives_18
  · replace hf := hf.2 h5
    refine lv_aload_n C.1 C.2.1 dX3_derives_8 rfl (lv_at hl 0 rfl) ?_
    refine lv_iload_n C.1 C.2.1 dX3_derives_9 rfl (lv_at hl 2 rfl) ?_
    refine lv_iload_n C.1 C.2.1 dX3_derives_10 rfl (lv_at hl 3 rfl) ?_
    refine km_isPart C hw hl.1 (Nat.le_of_ble_eq_true rfl) ⟨Nat.le_of_ble_eq_true rfl, Nat.le_of_ble_eq_true rfl⟩ dX3_derives_11 ?_
    refine lv_if_ne (tgt := 19) C.1 C.2.1 dX3_derives_14 (by decide) (fun h14 => ?_) (fun h14 => ?_)
    · replace hf := hf.2 h14
      refine lv_aload_n C.1 C.2.1 dX3_derives_19 rfl (lv_at hl 0 rfl) ?_
      refine lv_iconst (v := 0) C.1 C.2.1 dX3_derives_20 rfl ?_
      refine km_laysMade C hw hl.1 (Nat.le_of_ble_eq_true rfl) ⟨Nat.le_of_ble_eq_true rfl, Nat.le_of_ble_eq_true rfl⟩ dX3_derives_21 hf (fun _ s21 H locs hf hw => ?_)
      refine lv_aload_n C.1 C.2.1 dX3_derives_24 rfl (lv_at hl 0 rfl) ?_
      refine lv_iload_n C.1 C.2.1 dX3_derives_25 rfl (lv_at hl 1 rfl) ?_
      refine lv_iload_n C.1 C.2.1 dX3_derives_26 rfl (lv_at hl 2 rfl) ?_
      refine lv_iload_n C.1 C.2.1 dX3_derives_27 rfl (lv_at hl 3 rfl) ?_
      refine km_isMadeOf C hw hl.1 (Nat.le_of_ble_eq_true rfl) ⟨Nat.le_of_ble_eq_true rfl, Nat.le_of_ble_eq_true rfl⟩ dX3_derives_28 hf (fun r28 hf => ?_)
      refine lv_if_eq (tgt := 38) C.1 C.2.1 dX3_derives_31 (by decide) (fun h31 => ?_) (fun h31 => ?_)
      · replace hf := hf.1 h31
        refine lv_iconst (v := 0) C.1 C.2.1 dX3_derives_38 rfl ?_
        exact hret _ _ _ _ _ _ hf hw dX3_derives_39
      · replace hf := hf.2 h31
        refine lv_iconst (v := 1) C.1 C.2.1 dX3_derives_34 rfl ?_
        refine lv_goto (tgt := 39) C.1 C.2.1 dX3_derives_35 (by decide) ?_
        exact hret _ _ _ _ _ _ hf hw dX3_derives_39
    · replace hf := hf.1 h14
      refine lv_iconst (v := (-1)) C.1 C.2.1 dX3_derives_17 rfl ?_
      exact hret _ _ _ _ _ _ hf hw dX3_derives_18
def m_whole_p21 (σ : St) (Q : Int32 → St → Prop) (K21 : Int32 → Prop) (x1 : Int32) : Prop :=
  ((x1 < 0 → Q (-2) σ) ∧ (¬ x1 < 0 → (m_isMadeOf σ (gI σ 2 1) 0 x1 (fun r34 => ((r34 = 0 → K21 (x1 + (-1))) ∧ (¬ r34 = 0 → Q x1 σ))))))
def m_whole (σ : St) (Q : Int32 → St → Prop) : Prop :=
  (((fm_isGrammar σ) = 0 → Q (-1) σ) ∧ (¬ (fm_isGrammar σ) = 0 → (m_laysMade σ 0 (fun _ s11 => (Lp1 (m_whole_p21 s11 Q) (gI s11 2 2))))))
abbrev rm_m_whole : Room := { frames := 8, cells := 0, slots := 0, locals := 198 }
set_option maxHeartbeats 4000000 in
theorem met_m_whole (l : Launch) (D : va_G) (ct : Ct) (ad : Nat → Nat) (hJ : gJ shM ad ct) (σ : St) (Q : Int32 → St → Prop) (hf : m_whole σ Q) : Met l yX3_whole (ws_ yX3_whole cX3_whole 2 (some .int)) rm_m_whole (va_Pc [.ref (ad 0)] (gP D ct shM ad σ)) (gQ rvI D ct shM ad Q) 0 0 (gA shM ad) := by
  refine g_metI hJ (by decide) (Nat.le_of_ble_eq_true rfl) ?_
  intro p e s m args below meth c QQ ls C hw hl hret
  replace hl : lv_has ls 2 [(0, .ref (ad 0))] := hl
  have B21 : ∀ (σ : St) (H : Heap) (locs : List Loc) (K21 : Int32 → Prop) (_ : ∀ (x1 : Int32) (ls : Array Slot), K21 x1 → lv_has ls 2 [(0, .ref (ad 0)), (1, .int x1)] → W p l e rm_m_whole s m args below meth c H locs 0 0 QQ (F0 m 21 ls [])) (x1 : Int32) (ls : Array Slot), m_whole_p21 σ Q K21 x1 → gH D ct shM ad s σ H locs → lv_has ls 2 [(0, .ref (ad 0)), (1, .int x1)] → W p l e rm_m_whole s m args below meth c H locs 0 0 QQ (F0 m 21 ls []) := by
    intro σ H locs K21 hK21 x1 ls hf hw hl
    unfold m_whole_p21 at hf
    refine lv_iload_n C.1 C.2.1 dX3_whole_21 rfl (lv_at hl 1 rfl) ?_
    refine lv_if_lt (tgt := 48) C.1 C.2.1 dX3_whole_22 (by decide) (fun h22 => ?_) (fun h22 => ?_)
    · replace hf := hf.1 h22
      refine lv_bipush (v := (-2)) C.1 C.2.1 dX3_whole_48 rfl ?_
      exact hret _ _ _ _ _ _ hf hw dX3_whole_50
    · replace hf := hf.2 h22
      refine lv_aload_n C.1 C.2.1 dX3_whole_25 rfl (lv_at hl 0 rfl) ?_
      refine lv_aload_n C.1 C.2.1 dX3_whole_26 rfl (lv_at hl 0 rfl) ?_
      refine mg_scalar C hw dX3_whole_27 ?_
      refine lv_iconst (v := 1) C.1 C.2.1 dX3_whole_30 rfl ?_
      refine g_iald C hw 2 rfl (vpD rfl) dX3_whole_31 ?_
      refine lv_iconst (v := 0) C.1 C.2.1 dX3_whole_32 rfl ?_
      refine lv_iload_n C.1 C.2.1 dX3_whole_33 rfl (lv_at hl 1 rfl) ?_
      refine km_isMadeOf C hw hl.1 (Nat.le_of_ble_eq_true rfl) ⟨Nat.le_of_ble_eq_true rfl, Nat.le_of_ble_eq_true rfl⟩ dX3_whole_34 hf (fun r34 hf => ?_)
      refine lv_if_eq (tgt := 42) C.1 C.2.1 dX3_whole_37 (by decide) (fun h37 => ?_) (fun h37 => ?_)
      · replace hf := hf.1 h37
        refine lv_iinc (v := (x1 + (-1))) (lv' := [(1, .int (x1 + (-1))), (0, .ref (ad 0))]) C.1 C.2.1 dX3_whole_42 hl (k := 1) rfl rfl (Nat.le_of_ble_eq_true rfl) rfl (fun ls hl => ?_)
        refine lv_goto (tgt := 21) C.1 C.2.1 dX3_whole_45 (by decide) ?_
        exact hK21 _ _ hf (lv_sub hl [1, 0] rfl)
      · replace hf := hf.2 h37
        refine lv_iload_n C.1 C.2.1 dX3_whole_40 rfl (lv_at hl 1 rfl) ?_
        exact hret _ _ _ _ _ _ hf hw dX3_whole_41
  have P21 : ∀ (σ : St) (H : Heap) (locs : List Loc) (n : Nat) (x1 : Int32) (ls : Array Slot), LL1 (m_whole_p21 σ Q) n x1 → gH D ct shM ad s σ H locs → lv_has ls 2 [(0, .ref (ad 0)), (1, .int x1)] → W p l e rm_m_whole s m args below meth c H locs 0 0 QQ (F0 m 21 ls []) := by
    intro σ H locs n
    induction n with
    | zero => intro x1 ls hf; exact False.elim hf
    | succ n ih => intro x1 ls hf hw hl; exact B21 σ H locs (LL1 _ n) (fun x1 ls hf hl => ih x1 ls hf hw hl) x1 ls hf hw hl
  unfold m_whole at hf
  obtain ⟨H, hH⟩ : ∃ q, q = s.heap := ⟨_, rfl⟩
  obtain ⟨locs, hL⟩ : ∃ q : List Loc, q = [] := ⟨_, rfl⟩
  rw [← hH, ← hL] at hw ⊢
  refine lv_aload_n C.1 C.2.1 dX3_whole_0 rfl (lv_at hl 0 rfl) ?_
  refine km_isGrammar C hw hl.1 (Nat.le_of_ble_eq_true rfl) ⟨Nat.le_of_ble_eq_true rfl, Nat.le_of_ble_eq_true rfl⟩ dX3_whole_1 ?_
  refine lv_if_ne (tgt := 9) C.1 C.2.1 dX3_whole_4 (by decide) (fun h4 => ?_) (fun h4 => ?_)
  · replace hf := hf.2 h4
    refine lv_aload_n C.1 C.2.1 dX3_whole_9 rfl (lv_at hl 0 rfl) ?_
    refine lv_iconst (v := 0) C.1 C.2.1 dX3_whole_10 rfl ?_
    refine km_laysMade C hw hl.1 (Nat.le_of_ble_eq_true rfl) ⟨Nat.le_of_ble_eq_true rfl, Nat.le_of_ble_eq_true rfl⟩ dX3_whole_11 hf (fun _ s11 H locs hf hw => ?_)
    refine lv_aload_n C.1 C.2.1 dX3_whole_14 rfl (lv_at hl 0 rfl) ?_
    refine mg_scalar C hw dX3_whole_15 ?_
    refine lv_iconst (v := 2) C.1 C.2.1 dX3_whole_18 rfl ?_
    refine g_iald C hw 2 rfl (vpD rfl) dX3_whole_19 ?_
    refine lv_istore_n (lv' := [(1, .int (gI s11 2 2)), (0, .ref (ad 0))]) C.1 C.2.1 dX3_whole_20 rfl hl (Nat.le_of_ble_eq_true rfl) rfl (fun ls hl => ?_)
    obtain ⟨n, hf⟩ := hf
    exact P21 _ _ _ n _ _ hf hw (lv_sub hl [1, 0] rfl)
  · replace hf := hf.1 h4
    refine lv_iconst (v := (-1)) C.1 C.2.1 dX3_whole_7 rfl ?_
    exact hret _ _ _ _ _ _ hf hw dX3_whole_8
def m_laysAlive_p65 (x1 : Int32) (Q : Unit → St → Prop) (K53 : St → Int32 → Prop) (K65 : St → Int32 → Prop) (σ : St) (x2 : Int32) : Prop :=
  ((x2 = 0 → K53 σ (x1 + 1)) ∧ (¬ x2 = 0 → (m_wakes σ x1 (fun r71 s71 => K65 s71 r71))))
def m_laysAlive_p53 (Q : Unit → St → Prop) (K53 : St → Int32 → Prop) (σ : St) (x1 : Int32) : Prop :=
  (((gI σ 2 2) < x1 → (∀ s92 : St, s92 = s_I σ 37 ((σ.1 37) ||| 8) → Q () s92)) ∧ (¬ (gI σ 2 2) < x1 → (Lp2 (m_laysAlive_p65 x1 Q K53) σ 1)))
def m_laysAlive_p44 (σ : St) (x1 : Int32) (Q : Unit → St → Prop) (K23 : St → Int32 → Prop) (v0 : Int32) (v1 : Int32) : Prop :=
  (vp_in v1 1170 ∧ (zB v0 ∧ (∀ s44 : St, s44 = s_A σ 46 (Int32.toNatClampNeg v1) v0 → K23 s44 (x1 + 1))))
def m_laysAlive_p23 (Q : Unit → St → Prop) (K23 : St → Int32 → Prop) (σ : St) (x1 : Int32) : Prop :=
  ((1170 ≤ x1 → (Lp2 (m_laysAlive_p53 Q) σ 0)) ∧ (¬ 1170 ≤ x1 → ((x1 = 0 → (m_laysAlive_p44 σ x1 Q K23 1 x1)) ∧ (¬ x1 = 0 → (m_laysAlive_p44 σ x1 Q K23 0 x1)))))
def m_laysAlive (σ : St) (Q : Unit → St → Prop) : Prop :=
  ((((σ.1 37) &&& 8) = 0 → (m_laysStates σ (fun r12 s12 => (m_laysMade s12 0 (fun _ s18 => (Lp2 (m_laysAlive_p23 Q) s18 0)))))) ∧ (¬ ((σ.1 37) &&& 8) = 0 → Q () σ))
abbrev rm_m_laysAlive : Room := { frames := 8, cells := 0, slots := 0, locals := 198 }
set_option maxHeartbeats 4000000 in
theorem met_m_laysAlive (l : Launch) (D : va_G) (ct : Ct) (ad : Nat → Nat) (hJ : gJ shM ad ct) (σ : St) (Q : Unit → St → Prop) (hf : m_laysAlive σ Q) : Met l yX3_laysAlive (ws_ yX3_laysAlive cX3_laysAlive 3 (none)) rm_m_laysAlive (va_Pc [.ref (ad 0)] (gP D ct shM ad σ)) (gQ rvV D ct shM ad Q) 0 0 (gA shM ad) := by
  refine g_metV hJ (by decide) (Nat.le_of_ble_eq_true rfl) ?_
  intro p e s m args below meth c QQ ls C hw hl hret
  replace hl : lv_has ls 3 [(0, .ref (ad 0))] := hl
  have B65 : ∀ (x1 : Int32) (K53 : St → Int32 → Prop) (_ : ∀ (σ : St) (H : Heap) (locs : List Loc) (x1 : Int32) (ls : Array Slot), K53 σ x1 → gH D ct shM ad s σ H locs → lv_has ls 3 [(0, .ref (ad 0)), (1, .int x1)] → W p l e rm_m_laysAlive s m args below meth c H locs 0 0 QQ (F0 m 53 ls [])) (K65 : St → Int32 → Prop) (_ : ∀ (σ : St) (H : Heap) (locs : List Loc) (x2 : Int32) (ls : Array Slot), K65 σ x2 → gH D ct shM ad s σ H locs → lv_has ls 3 [(0, .ref (ad 0)), (1, .int x1), (2, .int x2)] → W p l e rm_m_laysAlive s m args below meth c H locs 0 0 QQ (F0 m 65 ls [])) (σ : St) (H : Heap) (locs : List Loc) (x2 : Int32) (ls : Array Slot), m_laysAlive_p65 x1 Q K53 K65 σ x2 → gH D ct shM ad s σ H locs → lv_has ls 3 [(0, .ref (ad 0)), (1, .int x1), (2, .int x2)] → W p l e rm_m_laysAlive s m args below meth c H locs 0 0 QQ (F0 m 65 ls []) := by
    intro x1 K53 hK53 K65 hK65 σ H locs x2 ls hf hw hl
    unfold m_laysAlive_p65 at hf
    refine lv_iload_n C.1 C.2.1 dX3_laysAlive_65 rfl (lv_at hl 2 rfl) ?_
    refine lv_if_eq (tgt := 78) C.1 C.2.1 dX3_laysAlive_66 (by decide) (fun h66 => ?_) (fun h66 => ?_)
    · replace hf := hf.1 h66
      refine lv_iinc (v := (x1 + 1)) (lv' := [(1, .int (x1 + 1)), (0, .ref (ad 0)), (2, .int x2)]) C.1 C.2.1 dX3_laysAlive_78 hl (k := 1) rfl rfl (Nat.le_of_ble_eq_true rfl) rfl (fun ls hl => ?_)
      refine lv_goto (tgt := 53) C.1 C.2.1 dX3_laysAlive_81 (by decide) ?_
      exact hK53 _ _ _ _ _ hf hw (lv_sub hl [1, 0] rfl)
    · replace hf := hf.2 h66
      refine lv_aload_n C.1 C.2.1 dX3_laysAlive_69 rfl (lv_at hl 0 rfl) ?_
      refine lv_iload_n C.1 C.2.1 dX3_laysAlive_70 rfl (lv_at hl 1 rfl) ?_
      refine km_wakes C hw hl.1 (Nat.le_of_ble_eq_true rfl) ⟨Nat.le_of_ble_eq_true rfl, Nat.le_of_ble_eq_true rfl⟩ dX3_laysAlive_71 hf (fun r71 s71 H locs hf hw => ?_)
      refine lv_istore_n (lv' := [(2, .int r71), (0, .ref (ad 0)), (1, .int x1)]) C.1 C.2.1 dX3_laysAlive_74 rfl hl (Nat.le_of_ble_eq_true rfl) rfl (fun ls hl => ?_)
      refine lv_goto (tgt := 65) C.1 C.2.1 dX3_laysAlive_75 (by decide) ?_
      exact hK65 _ _ _ _ _ hf hw (lv_sub hl [1, 2, 0] rfl)
  have P65 : ∀ (x1 : Int32) (K53 : St → Int32 → Prop) (_ : ∀ (σ : St) (H : Heap) (locs : List Loc) (x1 : Int32) (ls : Array Slot), K53 σ x1 → gH D ct shM ad s σ H locs → lv_has ls 3 [(0, .ref (ad 0)), (1, .int x1)] → W p l e rm_m_laysAlive s m args below meth c H locs 0 0 QQ (F0 m 53 ls [])) (n : Nat) (σ : St) (x2 : Int32) (ls : Array Slot) (H : Heap) (locs : List Loc), LL2 (m_laysAlive_p65 x1 Q K53) n σ x2 → gH D ct shM ad s σ H locs → lv_has ls 3 [(0, .ref (ad 0)), (1, .int x1), (2, .int x2)] → W p l e rm_m_laysAlive s m args below meth c H locs 0 0 QQ (F0 m 65 ls []) := by
    intro x1 K53 hK53 n
    induction n with
    | zero => intro σ x2 ls H locs hf; exact False.elim hf
    | succ n ih => intro σ x2 ls H locs hf hw hl; exact B65 x1 K53 hK53 (LL2 _ n) (fun σ H locs x2 ls hf hw hl => ih σ x2 ls H locs hf hw hl) σ H locs x2 ls hf hw hl
  have B53 : ∀ (K53 : St → Int32 → Prop) (_ : ∀ (σ : St) (H : Heap) (locs : List Loc) (x1 : Int32) (ls : Array Slot), K53 σ x1 → gH D ct shM ad s σ H locs → lv_has ls 3 [(0, .ref (ad 0)), (1, .int x1)] → W p l e rm_m_laysAlive s m args below meth c H locs 0 0 QQ (F0 m 53 ls [])) (σ : St) (H : Heap) (locs : List Loc) (x1 : Int32) (ls : Array Slot), m_laysAlive_p53 Q K53 σ x1 → gH D ct shM ad s σ H locs → lv_has ls 3 [(0, .ref (ad 0)), (1, .int x1)] → W p l e rm_m_laysAlive s m args below meth c H locs 0 0 QQ (F0 m 53 ls []) := by
    intro K53 hK53 σ H locs x1 ls hf hw hl
    unfold m_laysAlive_p53 at hf
    refine lv_iload_n C.1 C.2.1 dX3_laysAlive_53 rfl (lv_at hl 1 rfl) ?_
    refine lv_aload_n C.1 C.2.1 dX3_laysAlive_54 rfl (lv_at hl 0 rfl) ?_
    refine mg_scalar C hw dX3_laysAlive_55 ?_
    refine lv_iconst (v := 2) C.1 C.2.1 dX3_laysAlive_58 rfl ?_
    refine g_iald C hw 2 rfl (vpD rfl) dX3_laysAlive_59 ?_
    refine lv_icmp_gt (tgt := 84) C.1 C.2.1 dX3_laysAlive_60 (by decide) (fun h60 => ?_) (fun h60 => ?_)
    · replace hf := hf.1 h60
      refine lv_aload_n C.1 C.2.1 dX3_laysAlive_84 rfl (lv_at hl 0 rfl) ?_
      refine lv_dup C.1 C.2.1 dX3_laysAlive_85 rfl ?_
      refine mg_isLaid C hw dX3_laysAlive_86 ?_
      refine lv_bipush (v := 8) C.1 C.2.1 dX3_laysAlive_89 rfl ?_
      refine lv_ior C.1 C.2.1 dX3_laysAlive_91 ?_
      refine mp_isLaid C hw dX3_laysAlive_92 (fun s92 H locs e92 hw => ?_)
      replace hf := hf s92 e92
      exact hret _ _ _ _ _ _ hf hw dX3_laysAlive_95
    · replace hf := hf.2 h60
      refine lv_iconst (v := 1) C.1 C.2.1 dX3_laysAlive_63 rfl ?_
      refine lv_istore_n (lv' := [(2, .int 1), (0, .ref (ad 0)), (1, .int x1)]) C.1 C.2.1 dX3_laysAlive_64 rfl hl (Nat.le_of_ble_eq_true rfl) rfl (fun ls hl => ?_)
      obtain ⟨n, hf⟩ := hf
      exact P65 _ _ hK53 n _ _ _ _ _ hf hw (lv_sub hl [1, 2, 0] rfl)
  have P53 : ∀ (n : Nat) (σ : St) (x1 : Int32) (ls : Array Slot) (H : Heap) (locs : List Loc), LL2 (m_laysAlive_p53 Q) n σ x1 → gH D ct shM ad s σ H locs → lv_has ls 3 [(0, .ref (ad 0)), (1, .int x1)] → W p l e rm_m_laysAlive s m args below meth c H locs 0 0 QQ (F0 m 53 ls []) := by
    intro  n
    induction n with
    | zero => intro σ x1 ls H locs hf; exact False.elim hf
    | succ n ih => intro σ x1 ls H locs hf hw hl; exact B53  (LL2 _ n) (fun σ H locs x1 ls hf hw hl => ih σ x1 ls H locs hf hw hl) σ H locs x1 ls hf hw hl
  have J44 : ∀ (σ : St) (H : Heap) (locs : List Loc) (x1 : Int32) (v0 : Int32) (v1 : Int32) (K23 : St → Int32 → Prop) (_ : ∀ (σ : St) (H : Heap) (locs : List Loc) (x1 : Int32) (ls : Array Slot), K23 σ x1 → gH D ct shM ad s σ H locs → lv_has ls 3 [(0, .ref (ad 0)), (1, .int x1)] → W p l e rm_m_laysAlive s m args below meth c H locs 0 0 QQ (F0 m 23 ls [])) (ls : Array Slot), m_laysAlive_p44 σ x1 Q K23 v0 v1 → gH D ct shM ad s σ H locs → lv_has ls 3 [(0, .ref (ad 0)), (1, .int x1)] → W p l e rm_m_laysAlive s m args below meth c H locs 0 0 QQ (F0 m 44 ls [.int v0, .int v1, .ref (ad 46)]) := by
    intro σ H locs x1 v0 v1 K23 hK23 ls hf hw hl
    unfold m_laysAlive_p44 at hf
    obtain ⟨b44, hf⟩ := hf
    obtain ⟨hz44, hf⟩ := hf
    refine g_zast C shM_sep hw 46 rfl hz44 b44 dX3_laysAlive_44 (fun s44 H locs e44 hw => ?_)
    replace hf := hf s44 e44
    refine lv_iinc (v := (x1 + 1)) (lv' := [(1, .int (x1 + 1)), (0, .ref (ad 0))]) C.1 C.2.1 dX3_laysAlive_45 hl (k := 1) rfl rfl (Nat.le_of_ble_eq_true rfl) rfl (fun ls hl => ?_)
    refine lv_goto (tgt := 23) C.1 C.2.1 dX3_laysAlive_48 (by decide) ?_
    exact hK23 _ _ _ _ _ hf hw (lv_sub hl [1, 0] rfl)
  have B23 : ∀ (K23 : St → Int32 → Prop) (_ : ∀ (σ : St) (H : Heap) (locs : List Loc) (x1 : Int32) (ls : Array Slot), K23 σ x1 → gH D ct shM ad s σ H locs → lv_has ls 3 [(0, .ref (ad 0)), (1, .int x1)] → W p l e rm_m_laysAlive s m args below meth c H locs 0 0 QQ (F0 m 23 ls [])) (σ : St) (H : Heap) (locs : List Loc) (x1 : Int32) (ls : Array Slot), m_laysAlive_p23 Q K23 σ x1 → gH D ct shM ad s σ H locs → lv_has ls 3 [(0, .ref (ad 0)), (1, .int x1)] → W p l e rm_m_laysAlive s m args below meth c H locs 0 0 QQ (F0 m 23 ls []) := by
    intro K23 hK23 σ H locs x1 ls hf hw hl
    unfold m_laysAlive_p23 at hf
    refine lv_iload_n C.1 C.2.1 dX3_laysAlive_23 rfl (lv_at hl 1 rfl) ?_
    refine lv_sipush (v := 1170) C.1 C.2.1 dX3_laysAlive_24 rfl ?_
    refine lv_icmp_ge (tgt := 51) C.1 C.2.1 dX3_laysAlive_27 (by decide) (fun h27 => ?_) (fun h27 => ?_)
    · replace hf := hf.1 h27
      refine lv_iconst (v := 0) C.1 C.2.1 dX3_laysAlive_51 rfl ?_
      refine lv_istore_n (lv' := [(1, .int 0), (0, .ref (ad 0))]) C.1 C.2.1 dX3_laysAlive_52 rfl hl (Nat.le_of_ble_eq_true rfl) rfl (fun ls hl => ?_)
      obtain ⟨n, hf⟩ := hf
      exact P53  n _ _ _ _ _ hf hw (lv_sub hl [1, 0] rfl)
    · replace hf := hf.2 h27
      refine lv_aload_n C.1 C.2.1 dX3_laysAlive_30 rfl (lv_at hl 0 rfl) ?_
      refine mg_isAlive C hw dX3_laysAlive_31 ?_
      refine lv_iload_n C.1 C.2.1 dX3_laysAlive_34 rfl (lv_at hl 1 rfl) ?_
      refine lv_iload_n C.1 C.2.1 dX3_laysAlive_35 rfl (lv_at hl 1 rfl) ?_
      refine lv_if_ne (tgt := 43) C.1 C.2.1 dX3_laysAlive_36 (by decide) (fun h36 => ?_) (fun h36 => ?_)
      · replace hf := hf.2 h36
        refine lv_iconst (v := 0) C.1 C.2.1 dX3_laysAlive_43 rfl ?_
        exact J44 _ _ _ _ _ _ _ hK23 _ hf hw (lv_sub hl [0, 1] rfl)
      · replace hf := hf.1 h36
        refine lv_iconst (v := 1) C.1 C.2.1 dX3_laysAlive_39 rfl ?_
        refine lv_goto (tgt := 44) C.1 C.2.1 dX3_laysAlive_40 (by decide) ?_
        exact J44 _ _ _ _ _ _ _ hK23 _ hf hw (lv_sub hl [0, 1] rfl)
  have P23 : ∀ (n : Nat) (σ : St) (x1 : Int32) (ls : Array Slot) (H : Heap) (locs : List Loc), LL2 (m_laysAlive_p23 Q) n σ x1 → gH D ct shM ad s σ H locs → lv_has ls 3 [(0, .ref (ad 0)), (1, .int x1)] → W p l e rm_m_laysAlive s m args below meth c H locs 0 0 QQ (F0 m 23 ls []) := by
    intro  n
    induction n with
    | zero => intro σ x1 ls H locs hf; exact False.elim hf
    | succ n ih => intro σ x1 ls H locs hf hw hl; exact B23  (LL2 _ n) (fun σ H locs x1 ls hf hw hl => ih σ x1 ls H locs hf hw hl) σ H locs x1 ls hf hw hl
  unfold m_laysAlive at hf
  obtain ⟨H, hH⟩ : ∃ q, q = s.heap := ⟨_, rfl⟩
  obtain ⟨locs, hL⟩ : ∃ q : List Loc, q = [] := ⟨_, rfl⟩
  rw [← hH, ← hL] at hw ⊢
  refine lv_aload_n C.1 C.2.1 dX3_laysAlive_0 rfl (lv_at hl 0 rfl) ?_
  refine mg_isLaid C hw dX3_laysAlive_1 ?_
  refine lv_bipush (v := 8) C.1 C.2.1 dX3_laysAlive_4 rfl ?_
  refine lv_iand C.1 C.2.1 dX3_laysAlive_6 ?_
  refine lv_if_eq (tgt := 11) C.1 C.2.1 dX3_laysAlive_7 (by decide) (fun h7 => ?_) (fun h7 => ?_)
  · replace hf := hf.1 h7
    refine lv_aload_n C.1 C.2.1 dX3_laysAlive_11 rfl (lv_at hl 0 rfl) ?_
    refine km_laysStates C hw hl.1 (Nat.le_of_ble_eq_true rfl) ⟨Nat.le_of_ble_eq_true rfl, Nat.le_of_ble_eq_true rfl⟩ dX3_laysAlive_12 hf (fun r12 s12 H locs hf hw => ?_)
    refine lv_pop C.1 C.2.1 dX3_laysAlive_15 rfl ?_
    refine lv_aload_n C.1 C.2.1 dX3_laysAlive_16 rfl (lv_at hl 0 rfl) ?_
    refine lv_iconst (v := 0) C.1 C.2.1 dX3_laysAlive_17 rfl ?_
    refine km_laysMade C hw hl.1 (Nat.le_of_ble_eq_true rfl) ⟨Nat.le_of_ble_eq_true rfl, Nat.le_of_ble_eq_true rfl⟩ dX3_laysAlive_18 hf (fun _ s18 H locs hf hw => ?_)
    refine lv_iconst (v := 0) C.1 C.2.1 dX3_laysAlive_21 rfl ?_
    refine lv_istore_n (lv' := [(1, .int 0), (0, .ref (ad 0))]) C.1 C.2.1 dX3_laysAlive_22 rfl hl (Nat.le_of_ble_eq_true rfl) rfl (fun ls hl => ?_)
    obtain ⟨n, hf⟩ := hf
    exact P23  n _ _ _ _ _ hf hw (lv_sub hl [1, 0] rfl)
  · replace hf := hf.2 h7
    exact hret _ _ _ _ _ _ hf hw dX3_laysAlive_10
theorem km_laysAlive {p : Program} {l : Launch} {e : Env} {R : Room} {s : State} {m : MethodId} {args : Array Value} {below : List Frame} {meth : Method} {c : Code} {H : Heap} {locs : List Loc} {Z : State → Prop} {cc : ByteArray} {nL pc : Nat} {ls : Array Slot} {rest : List Value} {D : va_G} {ct : Ct} {ad : Nat → Nat} {σ : St} {Qp : Unit → St → Prop} (C : CallFix p m c cc nL s args lw_all RX3) (hw : gH D ct shM ad s σ H locs) (hsz : ls.size = nL) (hrm : (rest.map fun v => v.category).sum ≤ 8) (hR : rm_m_laysAlive.frames + 1 ≤ R.frames ∧ 8 + (3 + 11) + rm_m_laysAlive.locals ≤ R.locals) (hdg : decode cc pc = .ok (.invokevirtual 458, 3)) (hf : m_laysAlive σ Qp) (kk : ∀ (r : Unit) (σ1 : St) (H1 : Heap) (locs1 : List Loc), Qp r σ1 → gH D ct shM ad s σ1 H1 locs1 → W p l e R s m args below meth c H1 locs1 0 0 Z (F0 m (pc + 3) ls (rest))) : W p l e R s m args below meth c H locs 0 0 Z (F0 m pc ls (.ref (ad 0) :: rest)) :=
  g_callV (As := []) (rest := rest) C hw rfl rfl (met_m_laysAlive l D ct ad hw.2.1 σ Qp hf) (cwV 0 C.2.2.2.2 (lw_V q1923 q1925 qs157 q207 q1926) rfl rfl rfl (by decide +kernel) hR) rfl hsz rfl hrm ⟨Nat.zero_le _, Nat.zero_le _⟩ hdg kk
def m_laysTrees_p59 (x1 : Int32) (Q : Unit → St → Prop) (K47 : St → Int32 → Prop) (K59 : St → Int32 → Prop) (σ : St) (x2 : Int32) : Prop :=
  (((gI σ 2 2) < (x2 + x1) → K47 σ (x1 + 1)) ∧ (¬ (gI σ 2 2) < (x2 + x1) → (m_laysTreesOf σ x2 (x2 + x1) (fun _ s76 => K59 s76 (x2 + 1)))))
def m_laysTrees_p47 (Q : Unit → St → Prop) (K47 : St → Int32 → Prop) (σ : St) (x1 : Int32) : Prop :=
  (((gI σ 2 2) < x1 → (∀ s99 : St, s99 = s_I σ 37 ((σ.1 37) ||| 16) → Q () s99)) ∧ (¬ (gI σ 2 2) < x1 → (Lp2 (m_laysTrees_p59 x1 Q K47) σ 0)))
def m_laysTrees_p18 (Q : Unit → St → Prop) (K18 : St → Int32 → Prop) (σ : St) (x1 : Int32) : Prop :=
  ((2028 ≤ x1 → (Lp2 (m_laysTrees_p47 Q) σ 0)) ∧ (¬ 2028 ≤ x1 → (vp_in x1 2028 ∧ (∀ s31 : St, s31 = s_A σ 47 (Int32.toNatClampNeg x1) 0 → (vp_in x1 2028 ∧ (∀ s38 : St, s38 = s_L s31 48 (Int32.toNatClampNeg x1) 0 → K18 s38 (x1 + 1)))))))
def m_laysTrees (σ : St) (Q : Unit → St → Prop) : Prop :=
  ((((σ.1 37) &&& 16) = 0 → (m_laysMade σ 1 (fun _ s13 => (Lp2 (m_laysTrees_p18 Q) s13 0)))) ∧ (¬ ((σ.1 37) &&& 16) = 0 → Q () σ))
abbrev rm_m_laysTrees : Room := { frames := 8, cells := 0, slots := 0, locals := 199 }
set_option maxHeartbeats 4000000 in
theorem met_m_laysTrees (l : Launch) (D : va_G) (ct : Ct) (ad : Nat → Nat) (hJ : gJ shM ad ct) (σ : St) (Q : Unit → St → Prop) (hf : m_laysTrees σ Q) : Met l yX3_laysTrees (ws_ yX3_laysTrees cX3_laysTrees 3 (none)) rm_m_laysTrees (va_Pc [.ref (ad 0)] (gP D ct shM ad σ)) (gQ rvV D ct shM ad Q) 0 0 (gA shM ad) := by
  refine g_metV hJ (by decide) (Nat.le_of_ble_eq_true rfl) ?_
  intro p e s m args below meth c QQ ls C hw hl hret
  replace hl : lv_has ls 3 [(0, .ref (ad 0))] := hl
  have B59 : ∀ (x1 : Int32) (K47 : St → Int32 → Prop) (_ : ∀ (σ : St) (H : Heap) (locs : List Loc) (x1 : Int32) (ls : Array Slot), K47 σ x1 → gH D ct shM ad s σ H locs → lv_has ls 3 [(0, .ref (ad 0)), (1, .int x1)] → W p l e rm_m_laysTrees s m args below meth c H locs 0 0 QQ (F0 m 47 ls [])) (K59 : St → Int32 → Prop) (_ : ∀ (σ : St) (H : Heap) (locs : List Loc) (x2 : Int32) (ls : Array Slot), K59 σ x2 → gH D ct shM ad s σ H locs → lv_has ls 3 [(0, .ref (ad 0)), (1, .int x1), (2, .int x2)] → W p l e rm_m_laysTrees s m args below meth c H locs 0 0 QQ (F0 m 59 ls [])) (σ : St) (H : Heap) (locs : List Loc) (x2 : Int32) (ls : Array Slot), m_laysTrees_p59 x1 Q K47 K59 σ x2 → gH D ct shM ad s σ H locs → lv_has ls 3 [(0, .ref (ad 0)), (1, .int x1), (2, .int x2)] → W p l e rm_m_laysTrees s m args below meth c H locs 0 0 QQ (F0 m 59 ls []) := by
    intro x1 K47 hK47 K59 hK59 σ H locs x2 ls hf hw hl
    unfold m_laysTrees_p59 at hf
    refine lv_iload_n C.1 C.2.1 dX3_laysTrees_59 rfl (lv_at hl 2 rfl) ?_
    refine lv_iload_n C.1 C.2.1 dX3_laysTrees_60 rfl (lv_at hl 1 rfl) ?_
    refine lv_iadd C.1 C.2.1 dX3_laysTrees_61 ?_
    refine lv_aload_n C.1 C.2.1 dX3_laysTrees_62 rfl (lv_at hl 0 rfl) ?_
    refine mg_scalar C hw dX3_laysTrees_63 ?_
    refine lv_iconst (v := 2) C.1 C.2.1 dX3_laysTrees_66 rfl ?_
    refine g_iald C hw 2 rfl (vpD rfl) dX3_laysTrees_67 ?_
    refine lv_icmp_gt (tgt := 85) C.1 C.2.1 dX3_laysTrees_68 (by decide) (fun h68 => ?_) (fun h68 => ?_)
    · replace hf := hf.1 h68
      refine lv_iinc (v := (x1 + 1)) (lv' := [(1, .int (x1 + 1)), (0, .ref (ad 0)), (2, .int x2)]) C.1 C.2.1 dX3_laysTrees_85 hl (k := 1) rfl rfl (Nat.le_of_ble_eq_true rfl) rfl (fun ls hl => ?_)
      refine lv_goto (tgt := 47) C.1 C.2.1 dX3_laysTrees_88 (by decide) ?_
      exact hK47 _ _ _ _ _ hf hw (lv_sub hl [1, 0] rfl)
    · replace hf := hf.2 h68
      refine lv_aload_n C.1 C.2.1 dX3_laysTrees_71 rfl (lv_at hl 0 rfl) ?_
      refine lv_iload_n C.1 C.2.1 dX3_laysTrees_72 rfl (lv_at hl 2 rfl) ?_
      refine lv_iload_n C.1 C.2.1 dX3_laysTrees_73 rfl (lv_at hl 2 rfl) ?_
      refine lv_iload_n C.1 C.2.1 dX3_laysTrees_74 rfl (lv_at hl 1 rfl) ?_
      refine lv_iadd C.1 C.2.1 dX3_laysTrees_75 ?_
      refine km_laysTreesOf C hw hl.1 (Nat.le_of_ble_eq_true rfl) ⟨Nat.le_of_ble_eq_true rfl, Nat.le_of_ble_eq_true rfl⟩ dX3_laysTrees_76 hf (fun _ s76 H locs hf hw => ?_)
      refine lv_iinc (v := (x2 + 1)) (lv' := [(2, .int (x2 + 1)), (0, .ref (ad 0)), (1, .int x1)]) C.1 C.2.1 dX3_laysTrees_79 hl (k := 2) rfl rfl (Nat.le_of_ble_eq_true rfl) rfl (fun ls hl => ?_)
      refine lv_goto (tgt := 59) C.1 C.2.1 dX3_laysTrees_82 (by decide) ?_
      exact hK59 _ _ _ _ _ hf hw (lv_sub hl [1, 2, 0] rfl)
  have P59 : ∀ (x1 : Int32) (K47 : St → Int32 → Prop) (_ : ∀ (σ : St) (H : Heap) (locs : List Loc) (x1 : Int32) (ls : Array Slot), K47 σ x1 → gH D ct shM ad s σ H locs → lv_has ls 3 [(0, .ref (ad 0)), (1, .int x1)] → W p l e rm_m_laysTrees s m args below meth c H locs 0 0 QQ (F0 m 47 ls [])) (n : Nat) (σ : St) (x2 : Int32) (ls : Array Slot) (H : Heap) (locs : List Loc), LL2 (m_laysTrees_p59 x1 Q K47) n σ x2 → gH D ct shM ad s σ H locs → lv_has ls 3 [(0, .ref (ad 0)), (1, .int x1), (2, .int x2)] → W p l e rm_m_laysTrees s m args below meth c H locs 0 0 QQ (F0 m 59 ls []) := by
    intro x1 K47 hK47 n
    induction n with
    | zero => intro σ x2 ls H locs hf; exact False.elim hf
    | succ n ih => intro σ x2 ls H locs hf hw hl; exact B59 x1 K47 hK47 (LL2 _ n) (fun σ H locs x2 ls hf hw hl => ih σ x2 ls H locs hf hw hl) σ H locs x2 ls hf hw hl
  have B47 : ∀ (K47 : St → Int32 → Prop) (_ : ∀ (σ : St) (H : Heap) (locs : List Loc) (x1 : Int32) (ls : Array Slot), K47 σ x1 → gH D ct shM ad s σ H locs → lv_has ls 3 [(0, .ref (ad 0)), (1, .int x1)] → W p l e rm_m_laysTrees s m args below meth c H locs 0 0 QQ (F0 m 47 ls [])) (σ : St) (H : Heap) (locs : List Loc) (x1 : Int32) (ls : Array Slot), m_laysTrees_p47 Q K47 σ x1 → gH D ct shM ad s σ H locs → lv_has ls 3 [(0, .ref (ad 0)), (1, .int x1)] → W p l e rm_m_laysTrees s m args below meth c H locs 0 0 QQ (F0 m 47 ls []) := by
    intro K47 hK47 σ H locs x1 ls hf hw hl
    unfold m_laysTrees_p47 at hf
    refine lv_iload_n C.1 C.2.1 dX3_laysTrees_47 rfl (lv_at hl 1 rfl) ?_
    refine lv_aload_n C.1 C.2.1 dX3_laysTrees_48 rfl (lv_at hl 0 rfl) ?_
    refine mg_scalar C hw dX3_laysTrees_49 ?_
    refine lv_iconst (v := 2) C.1 C.2.1 dX3_laysTrees_52 rfl ?_
    refine g_iald C hw 2 rfl (vpD rfl) dX3_laysTrees_53 ?_
    refine lv_icmp_gt (tgt := 91) C.1 C.2.1 dX3_laysTrees_54 (by decide) (fun h54 => ?_) (fun h54 => ?_)
    · replace hf := hf.1 h54
      refine lv_aload_n C.1 C.2.1 dX3_laysTrees_91 rfl (lv_at hl 0 rfl) ?_
      refine lv_dup C.1 C.2.1 dX3_laysTrees_92 rfl ?_
      refine mg_isLaid C hw dX3_laysTrees_93 ?_
      refine lv_bipush (v := 16) C.1 C.2.1 dX3_laysTrees_96 rfl ?_
      refine lv_ior C.1 C.2.1 dX3_laysTrees_98 ?_
      refine mp_isLaid C hw dX3_laysTrees_99 (fun s99 H locs e99 hw => ?_)
      replace hf := hf s99 e99
      exact hret _ _ _ _ _ _ hf hw dX3_laysTrees_102
    · replace hf := hf.2 h54
      refine lv_iconst (v := 0) C.1 C.2.1 dX3_laysTrees_57 rfl ?_
      refine lv_istore_n (lv' := [(2, .int 0), (0, .ref (ad 0)), (1, .int x1)]) C.1 C.2.1 dX3_laysTrees_58 rfl hl (Nat.le_of_ble_eq_true rfl) rfl (fun ls hl => ?_)
      obtain ⟨n, hf⟩ := hf
      exact P59 _ _ hK47 n _ _ _ _ _ hf hw (lv_sub hl [1, 2, 0] rfl)
  have P47 : ∀ (n : Nat) (σ : St) (x1 : Int32) (ls : Array Slot) (H : Heap) (locs : List Loc), LL2 (m_laysTrees_p47 Q) n σ x1 → gH D ct shM ad s σ H locs → lv_has ls 3 [(0, .ref (ad 0)), (1, .int x1)] → W p l e rm_m_laysTrees s m args below meth c H locs 0 0 QQ (F0 m 47 ls []) := by
    intro  n
    induction n with
    | zero => intro σ x1 ls H locs hf; exact False.elim hf
    | succ n ih => intro σ x1 ls H locs hf hw hl; exact B47  (LL2 _ n) (fun σ H locs x1 ls hf hw hl => ih σ x1 ls H locs hf hw hl) σ H locs x1 ls hf hw hl
  have B18 : ∀ (K18 : St → Int32 → Prop) (_ : ∀ (σ : St) (H : Heap) (locs : List Loc) (x1 : Int32) (ls : Array Slot), K18 σ x1 → gH D ct shM ad s σ H locs → lv_has ls 3 [(0, .ref (ad 0)), (1, .int x1)] → W p l e rm_m_laysTrees s m args below meth c H locs 0 0 QQ (F0 m 18 ls [])) (σ : St) (H : Heap) (locs : List Loc) (x1 : Int32) (ls : Array Slot), m_laysTrees_p18 Q K18 σ x1 → gH D ct shM ad s σ H locs → lv_has ls 3 [(0, .ref (ad 0)), (1, .int x1)] → W p l e rm_m_laysTrees s m args below meth c H locs 0 0 QQ (F0 m 18 ls []) := by
    intro K18 hK18 σ H locs x1 ls hf hw hl
    unfold m_laysTrees_p18 at hf
    refine lv_iload_n C.1 C.2.1 dX3_laysTrees_18 rfl (lv_at hl 1 rfl) ?_
    refine lv_sipush (v := 2028) C.1 C.2.1 dX3_laysTrees_19 rfl ?_
    refine lv_icmp_ge (tgt := 45) C.1 C.2.1 dX3_laysTrees_22 (by decide) (fun h22 => ?_) (fun h22 => ?_)
    · replace hf := hf.1 h22
      refine lv_iconst (v := 0) C.1 C.2.1 dX3_laysTrees_45 rfl ?_
      refine lv_istore_n (lv' := [(1, .int 0), (0, .ref (ad 0))]) C.1 C.2.1 dX3_laysTrees_46 rfl hl (Nat.le_of_ble_eq_true rfl) rfl (fun ls hl => ?_)
      obtain ⟨n, hf⟩ := hf
      exact P47  n _ _ _ _ _ hf hw (lv_sub hl [1, 0] rfl)
    · replace hf := hf.2 h22
      refine lv_aload_n C.1 C.2.1 dX3_laysTrees_25 rfl (lv_at hl 0 rfl) ?_
      refine mg_isEndless C hw dX3_laysTrees_26 ?_
      refine lv_iload_n C.1 C.2.1 dX3_laysTrees_29 rfl (lv_at hl 1 rfl) ?_
      refine lv_iconst (v := 0) C.1 C.2.1 dX3_laysTrees_30 rfl ?_
      obtain ⟨b31, hf⟩ := hf
      refine g_zast C shM_sep hw 47 rfl (Or.inl rfl) b31 dX3_laysTrees_31 (fun s31 H locs e31 hw => ?_)
      replace hf := hf s31 e31
      refine lv_aload_n C.1 C.2.1 dX3_laysTrees_32 rfl (lv_at hl 0 rfl) ?_
      refine mg_manyTrees C hw dX3_laysTrees_33 ?_
      refine lv_iload_n C.1 C.2.1 dX3_laysTrees_36 rfl (lv_at hl 1 rfl) ?_
      refine lv_lconst (v := 0) C.1 C.2.1 dX3_laysTrees_37 rfl ?_
      obtain ⟨b38, hf⟩ := hf
      refine g_last C shM_sep hw 48 rfl b38 dX3_laysTrees_38 (fun s38 H locs e38 hw => ?_)
      replace hf := hf s38 e38
      refine lv_iinc (v := (x1 + 1)) (lv' := [(1, .int (x1 + 1)), (0, .ref (ad 0))]) C.1 C.2.1 dX3_laysTrees_39 hl (k := 1) rfl rfl (Nat.le_of_ble_eq_true rfl) rfl (fun ls hl => ?_)
      refine lv_goto (tgt := 18) C.1 C.2.1 dX3_laysTrees_42 (by decide) ?_
      exact hK18 _ _ _ _ _ hf hw (lv_sub hl [1, 0] rfl)
  have P18 : ∀ (n : Nat) (σ : St) (x1 : Int32) (ls : Array Slot) (H : Heap) (locs : List Loc), LL2 (m_laysTrees_p18 Q) n σ x1 → gH D ct shM ad s σ H locs → lv_has ls 3 [(0, .ref (ad 0)), (1, .int x1)] → W p l e rm_m_laysTrees s m args below meth c H locs 0 0 QQ (F0 m 18 ls []) := by
    intro  n
    induction n with
    | zero => intro σ x1 ls H locs hf; exact False.elim hf
    | succ n ih => intro σ x1 ls H locs hf hw hl; exact B18  (LL2 _ n) (fun σ H locs x1 ls hf hw hl => ih σ x1 ls H locs hf hw hl) σ H locs x1 ls hf hw hl
  unfold m_laysTrees at hf
  obtain ⟨H, hH⟩ : ∃ q, q = s.heap := ⟨_, rfl⟩
  obtain ⟨locs, hL⟩ : ∃ q : List Loc, q = [] := ⟨_, rfl⟩
  rw [← hH, ← hL] at hw ⊢
  refine lv_aload_n C.1 C.2.1 dX3_laysTrees_0 rfl (lv_at hl 0 rfl) ?_
  refine mg_isLaid C hw dX3_laysTrees_1 ?_
  refine lv_bipush (v := 16) C.1 C.2.1 dX3_laysTrees_4 rfl ?_
  refine lv_iand C.1 C.2.1 dX3_laysTrees_6 ?_
  refine lv_if_eq (tgt := 11) C.1 C.2.1 dX3_laysTrees_7 (by decide) (fun h7 => ?_) (fun h7 => ?_)
  · replace hf := hf.1 h7
    refine lv_aload_n C.1 C.2.1 dX3_laysTrees_11 rfl (lv_at hl 0 rfl) ?_
    refine lv_iconst (v := 1) C.1 C.2.1 dX3_laysTrees_12 rfl ?_
    refine km_laysMade C hw hl.1 (Nat.le_of_ble_eq_true rfl) ⟨Nat.le_of_ble_eq_true rfl, Nat.le_of_ble_eq_true rfl⟩ dX3_laysTrees_13 hf (fun _ s13 H locs hf hw => ?_)
    refine lv_iconst (v := 0) C.1 C.2.1 dX3_laysTrees_16 rfl ?_
    refine lv_istore_n (lv' := [(1, .int 0), (0, .ref (ad 0))]) C.1 C.2.1 dX3_laysTrees_17 rfl hl (Nat.le_of_ble_eq_true rfl) rfl (fun ls hl => ?_)
    obtain ⟨n, hf⟩ := hf
    exact P18  n _ _ _ _ _ hf hw (lv_sub hl [1, 0] rfl)
  · replace hf := hf.2 h7
    exact hret _ _ _ _ _ _ hf hw dX3_laysTrees_10
theorem km_laysTrees {p : Program} {l : Launch} {e : Env} {R : Room} {s : State} {m : MethodId} {args : Array Value} {below : List Frame} {meth : Method} {c : Code} {H : Heap} {locs : List Loc} {Z : State → Prop} {cc : ByteArray} {nL pc : Nat} {ls : Array Slot} {rest : List Value} {D : va_G} {ct : Ct} {ad : Nat → Nat} {σ : St} {Qp : Unit → St → Prop} (C : CallFix p m c cc nL s args lw_all RX3) (hw : gH D ct shM ad s σ H locs) (hsz : ls.size = nL) (hrm : (rest.map fun v => v.category).sum ≤ 8) (hR : rm_m_laysTrees.frames + 1 ≤ R.frames ∧ 8 + (3 + 11) + rm_m_laysTrees.locals ≤ R.locals) (hdg : decode cc pc = .ok (.invokevirtual 496, 3)) (hf : m_laysTrees σ Qp) (kk : ∀ (r : Unit) (σ1 : St) (H1 : Heap) (locs1 : List Loc), Qp r σ1 → gH D ct shM ad s σ1 H1 locs1 → W p l e R s m args below meth c H1 locs1 0 0 Z (F0 m (pc + 3) ls (rest))) : W p l e R s m args below meth c H locs 0 0 Z (F0 m pc ls (.ref (ad 0) :: rest)) :=
  g_callV (As := []) (rest := rest) C hw rfl rfl (met_m_laysTrees l D ct ad hw.2.1 σ Qp hf) (cwV 0 C.2.2.2.2 (lw_V q1951 q1953 qs161 q207 q1954) rfl rfl rfl (by decide +kernel) hR) rfl hsz rfl hrm ⟨Nat.zero_le _, Nat.zero_le _⟩ hdg kk
def m_laysForest_p116 (Q : Unit → St → Prop) (K116 : St → Int32 → Prop) (σ : St) (x1 : Int32) : Prop :=
  ((x1 = 0 → (∀ s136 : St, s136 = s_I σ 37 ((σ.1 37) ||| 32) → Q () s136)) ∧ (¬ x1 = 0 → (m_goesThrough σ (fun r121 s121 => K116 s121 r121))))
def m_laysForest_p107 (σ : St) (x1 : Int32) (Q : Unit → St → Prop) (K47 : St → Int32 → Prop) (v0 : Int32) (v1 : Int32) : Prop :=
  (vp_in v1 2028 ∧ (zB v0 ∧ (∀ s107 : St, s107 = s_A σ 52 (Int32.toNatClampNeg v1) v0 → K47 s107 (x1 + 1))))
def m_laysForest_p106 (σ : St) (x1 : Int32) (Q : Unit → St → Prop) (K47 : St → Int32 → Prop) (v0 : Int32) : Prop :=
  (m_laysForest_p107 σ x1 Q K47 0 v0)
def m_laysForest_p47 (Q : Unit → St → Prop) (K47 : St → Int32 → Prop) (σ : St) (x1 : Int32) : Prop :=
  (((gI σ 2 0) ≤ x1 → (Lp2 (m_laysForest_p116 Q) σ 1)) ∧ (¬ (gI σ 2 0) ≤ x1 → (vp_in x1 12 ∧ (((gI σ 3 x1) = (gI σ 2 1) → (vp_in (2028 + (fm_spot x1 0 (gI σ 2 2))) 4056 ∧ (((gI σ 43 (2028 + (fm_spot x1 0 (gI σ 2 2)))) = 0 → (m_laysForest_p106 σ x1 Q K47 (fm_spot x1 0 (gI σ 2 2)))) ∧ (¬ (gI σ 43 (2028 + (fm_spot x1 0 (gI σ 2 2)))) = 0 → (m_laysForest_p107 σ x1 Q K47 1 (fm_spot x1 0 (gI σ 2 2))))))) ∧ (¬ (gI σ 3 x1) = (gI σ 2 1) → (m_laysForest_p106 σ x1 Q K47 (fm_spot x1 0 (gI σ 2 2))))))))
def m_laysForest_p18 (Q : Unit → St → Prop) (K18 : St → Int32 → Prop) (σ : St) (x1 : Int32) : Prop :=
  ((2028 ≤ x1 → (Lp2 (m_laysForest_p47 Q) σ 0)) ∧ (¬ 2028 ≤ x1 → (vp_in x1 2028 ∧ (∀ s31 : St, s31 = s_A σ 52 (Int32.toNatClampNeg x1) 0 → (vp_in x1 2028 ∧ (∀ s38 : St, s38 = s_A s31 53 (Int32.toNatClampNeg x1) 0 → K18 s38 (x1 + 1)))))))
def m_laysForest (σ : St) (Q : Unit → St → Prop) : Prop :=
  ((((σ.1 37) &&& 32) = 0 → (m_laysMade σ 1 (fun _ s13 => (Lp2 (m_laysForest_p18 Q) s13 0)))) ∧ (¬ ((σ.1 37) &&& 32) = 0 → Q () σ))
abbrev rm_m_laysForest : Room := { frames := 8, cells := 0, slots := 0, locals := 198 }
set_option maxHeartbeats 4000000 in
theorem met_m_laysForest (l : Launch) (D : va_G) (ct : Ct) (ad : Nat → Nat) (hJ : gJ shM ad ct) (σ : St) (Q : Unit → St → Prop) (hf : m_laysForest σ Q) : Met l yX3_laysForest (ws_ yX3_laysForest cX3_laysForest 3 (none)) rm_m_laysForest (va_Pc [.ref (ad 0)] (gP D ct shM ad σ)) (gQ rvV D ct shM ad Q) 0 0 (gA shM ad) := by
  refine g_metV hJ (by decide) (Nat.le_of_ble_eq_true rfl) ?_
  intro p e s m args below meth c QQ ls C hw hl hret
  replace hl : lv_has ls 3 [(0, .ref (ad 0))] := hl
  have B116 : ∀ (K116 : St → Int32 → Prop) (_ : ∀ (σ : St) (H : Heap) (locs : List Loc) (x1 : Int32) (ls : Array Slot), K116 σ x1 → gH D ct shM ad s σ H locs → lv_has ls 3 [(0, .ref (ad 0)), (1, .int x1)] → W p l e rm_m_laysForest s m args below meth c H locs 0 0 QQ (F0 m 116 ls [])) (σ : St) (H : Heap) (locs : List Loc) (x1 : Int32) (ls : Array Slot), m_laysForest_p116 Q K116 σ x1 → gH D ct shM ad s σ H locs → lv_has ls 3 [(0, .ref (ad 0)), (1, .int x1)] → W p l e rm_m_laysForest s m args below meth c H locs 0 0 QQ (F0 m 116 ls []) := by
    intro K116 hK116 σ H locs x1 ls hf hw hl
    unfold m_laysForest_p116 at hf
    refine lv_iload_n C.1 C.2.1 dX3_laysForest_116 rfl (lv_at hl 1 rfl) ?_
    refine lv_if_eq (tgt := 128) C.1 C.2.1 dX3_laysForest_117 (by decide) (fun h117 => ?_) (fun h117 => ?_)
    · replace hf := hf.1 h117
      refine lv_aload_n C.1 C.2.1 dX3_laysForest_128 rfl (lv_at hl 0 rfl) ?_
      refine lv_dup C.1 C.2.1 dX3_laysForest_129 rfl ?_
      refine mg_isLaid C hw dX3_laysForest_130 ?_
      refine lv_bipush (v := 32) C.1 C.2.1 dX3_laysForest_133 rfl ?_
      refine lv_ior C.1 C.2.1 dX3_laysForest_135 ?_
      refine mp_isLaid C hw dX3_laysForest_136 (fun s136 H locs e136 hw => ?_)
      replace hf := hf s136 e136
      exact hret _ _ _ _ _ _ hf hw dX3_laysForest_139
    · replace hf := hf.2 h117
      refine lv_aload_n C.1 C.2.1 dX3_laysForest_120 rfl (lv_at hl 0 rfl) ?_
      refine km_goesThrough C hw hl.1 (Nat.le_of_ble_eq_true rfl) ⟨Nat.le_of_ble_eq_true rfl, Nat.le_of_ble_eq_true rfl⟩ dX3_laysForest_121 hf (fun r121 s121 H locs hf hw => ?_)
      refine lv_istore_n (lv' := [(1, .int r121), (0, .ref (ad 0))]) C.1 C.2.1 dX3_laysForest_124 rfl hl (Nat.le_of_ble_eq_true rfl) rfl (fun ls hl => ?_)
      refine lv_goto (tgt := 116) C.1 C.2.1 dX3_laysForest_125 (by decide) ?_
      exact hK116 _ _ _ _ _ hf hw (lv_sub hl [1, 0] rfl)
  have P116 : ∀ (n : Nat) (σ : St) (x1 : Int32) (ls : Array Slot) (H : Heap) (locs : List Loc), LL2 (m_laysForest_p116 Q) n σ x1 → gH D ct shM ad s σ H locs → lv_has ls 3 [(0, .ref (ad 0)), (1, .int x1)] → W p l e rm_m_laysForest s m args below meth c H locs 0 0 QQ (F0 m 116 ls []) := by
    intro  n
    induction n with
    | zero => intro σ x1 ls H locs hf; exact False.elim hf
    | succ n ih => intro σ x1 ls H locs hf hw hl; exact B116  (LL2 _ n) (fun σ H locs x1 ls hf hw hl => ih σ x1 ls H locs hf hw hl) σ H locs x1 ls hf hw hl
  have J107 : ∀ (σ : St) (H : Heap) (locs : List Loc) (x1 : Int32) (v0 : Int32) (v1 : Int32) (K47 : St → Int32 → Prop) (_ : ∀ (σ : St) (H : Heap) (locs : List Loc) (x1 : Int32) (ls : Array Slot), K47 σ x1 → gH D ct shM ad s σ H locs → lv_has ls 3 [(0, .ref (ad 0)), (1, .int x1)] → W p l e rm_m_laysForest s m args below meth c H locs 0 0 QQ (F0 m 47 ls [])) (ls : Array Slot), m_laysForest_p107 σ x1 Q K47 v0 v1 → gH D ct shM ad s σ H locs → lv_has ls 3 [(0, .ref (ad 0)), (1, .int x1)] → W p l e rm_m_laysForest s m args below meth c H locs 0 0 QQ (F0 m 107 ls [.int v0, .int v1, .ref (ad 52)]) := by
    intro σ H locs x1 v0 v1 K47 hK47 ls hf hw hl
    unfold m_laysForest_p107 at hf
    obtain ⟨b107, hf⟩ := hf
    obtain ⟨hz107, hf⟩ := hf
    refine g_zast C shM_sep hw 52 rfl hz107 b107 dX3_laysForest_107 (fun s107 H locs e107 hw => ?_)
    replace hf := hf s107 e107
    refine lv_iinc (v := (x1 + 1)) (lv' := [(1, .int (x1 + 1)), (0, .ref (ad 0))]) C.1 C.2.1 dX3_laysForest_108 hl (k := 1) rfl rfl (Nat.le_of_ble_eq_true rfl) rfl (fun ls hl => ?_)
    refine lv_goto (tgt := 47) C.1 C.2.1 dX3_laysForest_111 (by decide) ?_
    exact hK47 _ _ _ _ _ hf hw (lv_sub hl [1, 0] rfl)
  have J106 : ∀ (σ : St) (H : Heap) (locs : List Loc) (x1 : Int32) (v0 : Int32) (K47 : St → Int32 → Prop) (_ : ∀ (σ : St) (H : Heap) (locs : List Loc) (x1 : Int32) (ls : Array Slot), K47 σ x1 → gH D ct shM ad s σ H locs → lv_has ls 3 [(0, .ref (ad 0)), (1, .int x1)] → W p l e rm_m_laysForest s m args below meth c H locs 0 0 QQ (F0 m 47 ls [])) (ls : Array Slot), m_laysForest_p106 σ x1 Q K47 v0 → gH D ct shM ad s σ H locs → lv_has ls 3 [(0, .ref (ad 0)), (1, .int x1)] → W p l e rm_m_laysForest s m args below meth c H locs 0 0 QQ (F0 m 106 ls [.int v0, .ref (ad 52)]) := by
    intro σ H locs x1 v0 K47 hK47 ls hf hw hl
    unfold m_laysForest_p106 at hf
    refine lv_iconst (v := 0) C.1 C.2.1 dX3_laysForest_106 rfl ?_
    exact J107 _ _ _ _ _ _ _ hK47 _ hf hw (lv_sub hl [0, 1] rfl)
  have B47 : ∀ (K47 : St → Int32 → Prop) (_ : ∀ (σ : St) (H : Heap) (locs : List Loc) (x1 : Int32) (ls : Array Slot), K47 σ x1 → gH D ct shM ad s σ H locs → lv_has ls 3 [(0, .ref (ad 0)), (1, .int x1)] → W p l e rm_m_laysForest s m args below meth c H locs 0 0 QQ (F0 m 47 ls [])) (σ : St) (H : Heap) (locs : List Loc) (x1 : Int32) (ls : Array Slot), m_laysForest_p47 Q K47 σ x1 → gH D ct shM ad s σ H locs → lv_has ls 3 [(0, .ref (ad 0)), (1, .int x1)] → W p l e rm_m_laysForest s m args below meth c H locs 0 0 QQ (F0 m 47 ls []) := by
    intro K47 hK47 σ H locs x1 ls hf hw hl
    unfold m_laysForest_p47 at hf
    refine lv_iload_n C.1 C.2.1 dX3_laysForest_47 rfl (lv_at hl 1 rfl) ?_
    refine lv_aload_n C.1 C.2.1 dX3_laysForest_48 rfl (lv_at hl 0 rfl) ?_
    refine mg_scalar C hw dX3_laysForest_49 ?_
    refine lv_iconst (v := 0) C.1 C.2.1 dX3_laysForest_52 rfl ?_
    refine g_iald C hw 2 rfl (vpD rfl) dX3_laysForest_53 ?_
    refine lv_icmp_ge (tgt := 114) C.1 C.2.1 dX3_laysForest_54 (by decide) (fun h54 => ?_) (fun h54 => ?_)
    · replace hf := hf.1 h54
      refine lv_iconst (v := 1) C.1 C.2.1 dX3_laysForest_114 rfl ?_
      refine lv_istore_n (lv' := [(1, .int 1), (0, .ref (ad 0))]) C.1 C.2.1 dX3_laysForest_115 rfl hl (Nat.le_of_ble_eq_true rfl) rfl (fun ls hl => ?_)
      obtain ⟨n, hf⟩ := hf
      exact P116  n _ _ _ _ _ hf hw (lv_sub hl [1, 0] rfl)
    · replace hf := hf.2 h54
      refine lv_iload_n C.1 C.2.1 dX3_laysForest_57 rfl (lv_at hl 1 rfl) ?_
      refine lv_iconst (v := 0) C.1 C.2.1 dX3_laysForest_58 rfl ?_
      refine lv_aload_n C.1 C.2.1 dX3_laysForest_59 rfl (lv_at hl 0 rfl) ?_
      refine mg_scalar C hw dX3_laysForest_60 ?_
      refine lv_iconst (v := 2) C.1 C.2.1 dX3_laysForest_63 rfl ?_
      refine g_iald C hw 2 rfl (vpD rfl) dX3_laysForest_64 ?_
      refine km_spot C hl.1 (Nat.le_of_ble_eq_true rfl) ⟨Nat.le_of_ble_eq_true rfl, Nat.le_of_ble_eq_true rfl⟩ dX3_laysForest_65 ?_
      refine lv_istore_n (lv' := [(2, .int (fm_spot x1 0 (gI σ 2 2))), (0, .ref (ad 0)), (1, .int x1)]) C.1 C.2.1 dX3_laysForest_68 rfl hl (Nat.le_of_ble_eq_true rfl) rfl (fun ls hl => ?_)
      refine lv_aload_n C.1 C.2.1 dX3_laysForest_69 rfl (lv_at hl 1 rfl) ?_
      refine mg_isPiece C hw dX3_laysForest_70 ?_
      refine lv_iload_n C.1 C.2.1 dX3_laysForest_73 rfl (lv_at hl 0 rfl) ?_
      refine lv_aload_n C.1 C.2.1 dX3_laysForest_74 rfl (lv_at hl 1 rfl) ?_
      refine mg_left C hw dX3_laysForest_75 ?_
      refine lv_iload_n C.1 C.2.1 dX3_laysForest_78 rfl (lv_at hl 2 rfl) ?_
      obtain ⟨b79, hf⟩ := hf
      refine g_iald C hw 3 rfl b79 dX3_laysForest_79 ?_
      refine lv_aload_n C.1 C.2.1 dX3_laysForest_80 rfl (lv_at hl 1 rfl) ?_
      refine mg_scalar C hw dX3_laysForest_81 ?_
      refine lv_iconst (v := 1) C.1 C.2.1 dX3_laysForest_84 rfl ?_
      refine g_iald C hw 2 rfl (vpD rfl) dX3_laysForest_85 ?_
      refine lv_icmp_ne (tgt := 106) C.1 C.2.1 dX3_laysForest_86 (by decide) (fun h86 => ?_) (fun h86 => ?_)
      · replace hf := hf.2 h86
        exact J106 _ _ _ _ _ _ hK47 _ hf hw (lv_sub hl [1, 2] rfl)
      · replace hf := hf.1 h86
        refine lv_aload_n C.1 C.2.1 dX3_laysForest_89 rfl (lv_at hl 1 rfl) ?_
        refine mg_made C hw dX3_laysForest_90 ?_
        refine lv_sipush (v := 2028) C.1 C.2.1 dX3_laysForest_93 rfl ?_
        refine lv_iload_n C.1 C.2.1 dX3_laysForest_96 rfl (lv_at hl 0 rfl) ?_
        refine lv_iadd C.1 C.2.1 dX3_laysForest_97 ?_
        obtain ⟨b98, hf⟩ := hf
        refine g_zald C hw 43 rfl b98 dX3_laysForest_98 ?_
        refine lv_if_eq (tgt := 106) C.1 C.2.1 dX3_laysForest_99 (by decide) (fun h99 => ?_) (fun h99 => ?_)
        · replace hf := hf.1 h99
          exact J106 _ _ _ _ _ _ hK47 _ hf hw (lv_sub hl [1, 2] rfl)
        · replace hf := hf.2 h99
          refine lv_iconst (v := 1) C.1 C.2.1 dX3_laysForest_102 rfl ?_
          refine lv_goto (tgt := 107) C.1 C.2.1 dX3_laysForest_103 (by decide) ?_
          exact J107 _ _ _ _ _ _ _ hK47 _ hf hw (lv_sub hl [1, 2] rfl)
  have P47 : ∀ (n : Nat) (σ : St) (x1 : Int32) (ls : Array Slot) (H : Heap) (locs : List Loc), LL2 (m_laysForest_p47 Q) n σ x1 → gH D ct shM ad s σ H locs → lv_has ls 3 [(0, .ref (ad 0)), (1, .int x1)] → W p l e rm_m_laysForest s m args below meth c H locs 0 0 QQ (F0 m 47 ls []) := by
    intro  n
    induction n with
    | zero => intro σ x1 ls H locs hf; exact False.elim hf
    | succ n ih => intro σ x1 ls H locs hf hw hl; exact B47  (LL2 _ n) (fun σ H locs x1 ls hf hw hl => ih σ x1 ls H locs hf hw hl) σ H locs x1 ls hf hw hl
  have B18 : ∀ (K18 : St → Int32 → Prop) (_ : ∀ (σ : St) (H : Heap) (locs : List Loc) (x1 : Int32) (ls : Array Slot), K18 σ x1 → gH D ct shM ad s σ H locs → lv_has ls 3 [(0, .ref (ad 0)), (1, .int x1)] → W p l e rm_m_laysForest s m args below meth c H locs 0 0 QQ (F0 m 18 ls [])) (σ : St) (H : Heap) (locs : List Loc) (x1 : Int32) (ls : Array Slot), m_laysForest_p18 Q K18 σ x1 → gH D ct shM ad s σ H locs → lv_has ls 3 [(0, .ref (ad 0)), (1, .int x1)] → W p l e rm_m_laysForest s m args below meth c H locs 0 0 QQ (F0 m 18 ls []) := by
    intro K18 hK18 σ H locs x1 ls hf hw hl
    unfold m_laysForest_p18 at hf
    refine lv_iload_n C.1 C.2.1 dX3_laysForest_18 rfl (lv_at hl 1 rfl) ?_
    refine lv_sipush (v := 2028) C.1 C.2.1 dX3_laysForest_19 rfl ?_
    refine lv_icmp_ge (tgt := 45) C.1 C.2.1 dX3_laysForest_22 (by decide) (fun h22 => ?_) (fun h22 => ?_)
    · replace hf := hf.1 h22
      refine lv_iconst (v := 0) C.1 C.2.1 dX3_laysForest_45 rfl ?_
      refine lv_istore_n (lv' := [(1, .int 0), (0, .ref (ad 0))]) C.1 C.2.1 dX3_laysForest_46 rfl hl (Nat.le_of_ble_eq_true rfl) rfl (fun ls hl => ?_)
      obtain ⟨n, hf⟩ := hf
      exact P47  n _ _ _ _ _ hf hw (lv_sub hl [1, 0] rfl)
    · replace hf := hf.2 h22
      refine lv_aload_n C.1 C.2.1 dX3_laysForest_25 rfl (lv_at hl 0 rfl) ?_
      refine mg_isPiece C hw dX3_laysForest_26 ?_
      refine lv_iload_n C.1 C.2.1 dX3_laysForest_29 rfl (lv_at hl 1 rfl) ?_
      refine lv_iconst (v := 0) C.1 C.2.1 dX3_laysForest_30 rfl ?_
      obtain ⟨b31, hf⟩ := hf
      refine g_zast C shM_sep hw 52 rfl (Or.inl rfl) b31 dX3_laysForest_31 (fun s31 H locs e31 hw => ?_)
      replace hf := hf s31 e31
      refine lv_aload_n C.1 C.2.1 dX3_laysForest_32 rfl (lv_at hl 0 rfl) ?_
      refine mg_isGone C hw dX3_laysForest_33 ?_
      refine lv_iload_n C.1 C.2.1 dX3_laysForest_36 rfl (lv_at hl 1 rfl) ?_
      refine lv_iconst (v := 0) C.1 C.2.1 dX3_laysForest_37 rfl ?_
      obtain ⟨b38, hf⟩ := hf
      refine g_zast C shM_sep hw 53 rfl (Or.inl rfl) b38 dX3_laysForest_38 (fun s38 H locs e38 hw => ?_)
      replace hf := hf s38 e38
      refine lv_iinc (v := (x1 + 1)) (lv' := [(1, .int (x1 + 1)), (0, .ref (ad 0))]) C.1 C.2.1 dX3_laysForest_39 hl (k := 1) rfl rfl (Nat.le_of_ble_eq_true rfl) rfl (fun ls hl => ?_)
      refine lv_goto (tgt := 18) C.1 C.2.1 dX3_laysForest_42 (by decide) ?_
      exact hK18 _ _ _ _ _ hf hw (lv_sub hl [1, 0] rfl)
  have P18 : ∀ (n : Nat) (σ : St) (x1 : Int32) (ls : Array Slot) (H : Heap) (locs : List Loc), LL2 (m_laysForest_p18 Q) n σ x1 → gH D ct shM ad s σ H locs → lv_has ls 3 [(0, .ref (ad 0)), (1, .int x1)] → W p l e rm_m_laysForest s m args below meth c H locs 0 0 QQ (F0 m 18 ls []) := by
    intro  n
    induction n with
    | zero => intro σ x1 ls H locs hf; exact False.elim hf
    | succ n ih => intro σ x1 ls H locs hf hw hl; exact B18  (LL2 _ n) (fun σ H locs x1 ls hf hw hl => ih σ x1 ls H locs hf hw hl) σ H locs x1 ls hf hw hl
  unfold m_laysForest at hf
  obtain ⟨H, hH⟩ : ∃ q, q = s.heap := ⟨_, rfl⟩
  obtain ⟨locs, hL⟩ : ∃ q : List Loc, q = [] := ⟨_, rfl⟩
  rw [← hH, ← hL] at hw ⊢
  refine lv_aload_n C.1 C.2.1 dX3_laysForest_0 rfl (lv_at hl 0 rfl) ?_
  refine mg_isLaid C hw dX3_laysForest_1 ?_
  refine lv_bipush (v := 32) C.1 C.2.1 dX3_laysForest_4 rfl ?_
  refine lv_iand C.1 C.2.1 dX3_laysForest_6 ?_
  refine lv_if_eq (tgt := 11) C.1 C.2.1 dX3_laysForest_7 (by decide) (fun h7 => ?_) (fun h7 => ?_)
  · replace hf := hf.1 h7
    refine lv_aload_n C.1 C.2.1 dX3_laysForest_11 rfl (lv_at hl 0 rfl) ?_
    refine lv_iconst (v := 1) C.1 C.2.1 dX3_laysForest_12 rfl ?_
    refine km_laysMade C hw hl.1 (Nat.le_of_ble_eq_true rfl) ⟨Nat.le_of_ble_eq_true rfl, Nat.le_of_ble_eq_true rfl⟩ dX3_laysForest_13 hf (fun _ s13 H locs hf hw => ?_)
    refine lv_iconst (v := 0) C.1 C.2.1 dX3_laysForest_16 rfl ?_
    refine lv_istore_n (lv' := [(1, .int 0), (0, .ref (ad 0))]) C.1 C.2.1 dX3_laysForest_17 rfl hl (Nat.le_of_ble_eq_true rfl) rfl (fun ls hl => ?_)
    obtain ⟨n, hf⟩ := hf
    exact P18  n _ _ _ _ _ hf hw (lv_sub hl [1, 0] rfl)
  · replace hf := hf.2 h7
    exact hret _ _ _ _ _ _ hf hw dX3_laysForest_10
theorem km_laysForest {p : Program} {l : Launch} {e : Env} {R : Room} {s : State} {m : MethodId} {args : Array Value} {below : List Frame} {meth : Method} {c : Code} {H : Heap} {locs : List Loc} {Z : State → Prop} {cc : ByteArray} {nL pc : Nat} {ls : Array Slot} {rest : List Value} {D : va_G} {ct : Ct} {ad : Nat → Nat} {σ : St} {Qp : Unit → St → Prop} (C : CallFix p m c cc nL s args lw_all RX3) (hw : gH D ct shM ad s σ H locs) (hsz : ls.size = nL) (hrm : (rest.map fun v => v.category).sum ≤ 8) (hR : rm_m_laysForest.frames + 1 ≤ R.frames ∧ 8 + (3 + 11) + rm_m_laysForest.locals ≤ R.locals) (hdg : decode cc pc = .ok (.invokevirtual 512, 3)) (hf : m_laysForest σ Qp) (kk : ∀ (r : Unit) (σ1 : St) (H1 : Heap) (locs1 : List Loc), Qp r σ1 → gH D ct shM ad s σ1 H1 locs1 → W p l e R s m args below meth c H1 locs1 0 0 Z (F0 m (pc + 3) ls (rest))) : W p l e R s m args below meth c H locs 0 0 Z (F0 m pc ls (.ref (ad 0) :: rest)) :=
  g_callV (As := []) (rest := rest) C hw rfl rfl (met_m_laysForest l D ct ad hw.2.1 σ Qp hf) (cwV 0 C.2.2.2.2 (lw_V q1996 q1998 qs171 q207 q1999) rfl rfl rfl (by decide +kernel) hR) rfl hsz rfl hrm ⟨Nat.zero_le _, Nat.zero_le _⟩ hdg kk
def m_ways (σ : St) (x1 : Int32) (x2 : Int32) (x3 : Int32) (Q : Int32 → St → Prop) : Prop :=
  (((fm_isRule σ x1) = 0 → Q (-1) σ) ∧ (¬ (fm_isRule σ x1) = 0 → (((fm_isPart σ x2 x3) = 0 → Q (-1) σ) ∧ (¬ (fm_isPart σ x2 x3) = 0 → (m_laysMade σ 1 (fun _ s21 => (m_waysOf s21 x1 x2 x3 (fun r28 s28 => Q r28 s28))))))))
abbrev rm_m_ways : Room := { frames := 8, cells := 0, slots := 0, locals := 198 }
set_option maxHeartbeats 4000000 in
theorem met_m_ways (l : Launch) (D : va_G) (ct : Ct) (ad : Nat → Nat) (hJ : gJ shM ad ct) (σ : St) (x1 : Int32) (x2 : Int32) (x3 : Int32) (Q : Int32 → St → Prop) (hf : m_ways σ x1 x2 x3 Q) : Met l yX3_ways (ws_ yX3_ways cX3_ways 4 (some .int)) rm_m_ways (va_Pc [.ref (ad 0), .int x1, .int x2, .int x3] (gP D ct shM ad σ)) (gQ rvI D ct shM ad Q) 0 0 (gA shM ad) := by
  refine g_metI hJ (by decide) (Nat.le_of_ble_eq_true rfl) ?_
  intro p e s m args below meth c QQ ls C hw hl hret
  replace hl : lv_has ls 4 [(0, .ref (ad 0)), (1, .int x1), (2, .int x2), (3, .int x3)] := hl
  unfold m_ways at hf
  obtain ⟨H, hH⟩ : ∃ q, q = s.heap := ⟨_, rfl⟩
  obtain ⟨locs, hL⟩ : ∃ q : List Loc, q = [] := ⟨_, rfl⟩
  rw [← hH, ← hL] at hw ⊢
  refine lv_aload_n C.1 C.2.1 dX3_ways_0 rfl (lv_at hl 0 rfl) ?_
  refine lv_iload_n C.1 C.2.1 dX3_ways_1 rfl (lv_at hl 1 rfl) ?_
  refine km_isRule C hw hl.1 (Nat.le_of_ble_eq_true rfl) ⟨Nat.le_of_ble_eq_true rfl, Nat.le_of_ble_eq_true rfl⟩ dX3_ways_2 ?_
  refine lv_if_eq (tgt := 17) C.1 C.2.1 dX3_ways_5 (by decide) (fun h5 => ?_) (fun h5 => ?_)
  · replace hf := hf.1 h5
    refine lv_iconst (v := (-1)) C.1 C.2.1 dX3_ways_17 rfl ?_
    exact hret _ _ _ _ _ _ hf hw dX3_ways_18
  · replace hf := hf.2 h5
    refine lv_aload_n C.1 C.2.1 dX3_ways_8 rfl (lv_at hl 0 rfl) ?_
    refine lv_iload_n C.1 C.2.1 dX3_ways_9 rfl (lv_at hl 2 rfl) ?_
    refine lv_iload_n C.1 C.2.1 dX3_ways_10 rfl (lv_at hl 3 rfl) ?_
    refine km_isPart C hw hl.1 (Nat.le_of_ble_eq_true rfl) ⟨Nat.le_of_ble_eq_true rfl, Nat.le_of_ble_eq_true rfl⟩ dX3_ways_11 ?_
    refine lv_if_ne (tgt := 19) C.1 C.2.1 dX3_ways_14 (by decide) (fun h14 => ?_) (fun h14 => ?_)
    · replace hf := hf.2 h14
      refine lv_aload_n C.1 C.2.1 dX3_ways_19 rfl (lv_at hl 0 rfl) ?_
      refine lv_iconst (v := 1) C.1 C.2.1 dX3_ways_20 rfl ?_
      refine km_laysMade C hw hl.1 (Nat.le_of_ble_eq_true rfl) ⟨Nat.le_of_ble_eq_true rfl, Nat.le_of_ble_eq_true rfl⟩ dX3_ways_21 hf (fun _ s21 H locs hf hw => ?_)
      refine lv_aload_n C.1 C.2.1 dX3_ways_24 rfl (lv_at hl 0 rfl) ?_
      refine lv_iload_n C.1 C.2.1 dX3_ways_25 rfl (lv_at hl 1 rfl) ?_
      refine lv_iload_n C.1 C.2.1 dX3_ways_26 rfl (lv_at hl 2 rfl) ?_
      refine lv_iload_n C.1 C.2.1 dX3_ways_27 rfl (lv_at hl 3 rfl) ?_
      refine km_waysOf C hw hl.1 (Nat.le_of_ble_eq_true rfl) ⟨Nat.le_of_ble_eq_true rfl, Nat.le_of_ble_eq_true rfl⟩ dX3_ways_28 hf (fun r28 s28 H locs hf hw => ?_)
      exact hret _ _ _ _ _ _ hf hw dX3_ways_31
    · replace hf := hf.1 h14
      refine lv_iconst (v := (-1)) C.1 C.2.1 dX3_ways_17 rfl ?_
      exact hret _ _ _ _ _ _ hf hw dX3_ways_18
def m_laysSmallest_p54 (x1 : Int32) (Q : Unit → St → Prop) (K42 : St → Int32 → Prop) (K54 : St → Int32 → Prop) (σ : St) (x2 : Int32) : Prop :=
  ((x2 = 0 → K42 σ (x1 + 1)) ∧ (¬ x2 = 0 → (m_shrinks σ x1 (fun r60 s60 => K54 s60 r60))))
def m_laysSmallest_p42 (Q : Unit → St → Prop) (K42 : St → Int32 → Prop) (σ : St) (x1 : Int32) : Prop :=
  (((gI σ 2 2) < x1 → (∀ s81 : St, s81 = s_I σ 37 ((σ.1 37) ||| 64) → Q () s81)) ∧ (¬ (gI σ 2 2) < x1 → (Lp2 (m_laysSmallest_p54 x1 Q K42) σ 1)))
def m_laysSmallest_p18 (Q : Unit → St → Prop) (K18 : St → Int32 → Prop) (σ : St) (x1 : Int32) : Prop :=
  ((2028 ≤ x1 → (Lp2 (m_laysSmallest_p42 Q) σ 0)) ∧ (¬ 2028 ≤ x1 → (vp_in x1 2028 ∧ (∀ s33 : St, s33 = s_A σ 59 (Int32.toNatClampNeg x1) 2000000000 → K18 s33 (x1 + 1)))))
def m_laysSmallest (σ : St) (Q : Unit → St → Prop) : Prop :=
  ((((σ.1 37) &&& 64) = 0 → (m_laysMade σ 1 (fun _ s13 => (Lp2 (m_laysSmallest_p18 Q) s13 0)))) ∧ (¬ ((σ.1 37) &&& 64) = 0 → Q () σ))
abbrev rm_m_laysSmallest : Room := { frames := 8, cells := 0, slots := 0, locals := 198 }
set_option maxHeartbeats 4000000 in
theorem met_m_laysSmallest (l : Launch) (D : va_G) (ct : Ct) (ad : Nat → Nat) (hJ : gJ shM ad ct) (σ : St) (Q : Unit → St → Prop) (hf : m_laysSmallest σ Q) : Met l yX3_laysSmallest (ws_ yX3_laysSmallest cX3_laysSmallest 3 (none)) rm_m_laysSmallest (va_Pc [.ref (ad 0)] (gP D ct shM ad σ)) (gQ rvV D ct shM ad Q) 0 0 (gA shM ad) := by
  refine g_metV hJ (by decide) (Nat.le_of_ble_eq_true rfl) ?_
  intro p e s m args below meth c QQ ls C hw hl hret
  replace hl : lv_has ls 3 [(0, .ref (ad 0))] := hl
  have B54 : ∀ (x1 : Int32) (K42 : St → Int32 → Prop) (_ : ∀ (σ : St) (H : Heap) (locs : List Loc) (x1 : Int32) (ls : Array Slot), K42 σ x1 → gH D ct shM ad s σ H locs → lv_has ls 3 [(0, .ref (ad 0)), (1, .int x1)] → W p l e rm_m_laysSmallest s m args below meth c H locs 0 0 QQ (F0 m 42 ls [])) (K54 : St → Int32 → Prop) (_ : ∀ (σ : St) (H : Heap) (locs : List Loc) (x2 : Int32) (ls : Array Slot), K54 σ x2 → gH D ct shM ad s σ H locs → lv_has ls 3 [(0, .ref (ad 0)), (1, .int x1), (2, .int x2)] → W p l e rm_m_laysSmallest s m args below meth c H locs 0 0 QQ (F0 m 54 ls [])) (σ : St) (H : Heap) (locs : List Loc) (x2 : Int32) (ls : Array Slot), m_laysSmallest_p54 x1 Q K42 K54 σ x2 → gH D ct shM ad s σ H locs → lv_has ls 3 [(0, .ref (ad 0)), (1, .int x1), (2, .int x2)] → W p l e rm_m_laysSmallest s m args below meth c H locs 0 0 QQ (F0 m 54 ls []) := by
    intro x1 K42 hK42 K54 hK54 σ H locs x2 ls hf hw hl
    unfold m_laysSmallest_p54 at hf
    refine lv_iload_n C.1 C.2.1 dX3_laysSmallest_54 rfl (lv_at hl 2 rfl) ?_
    refine lv_if_eq (tgt := 67) C.1 C.2.1 dX3_laysSmallest_55 (by decide) (fun h55 => ?_) (fun h55 => ?_)
    · replace hf := hf.1 h55
      refine lv_iinc (v := (x1 + 1)) (lv' := [(1, .int (x1 + 1)), (0, .ref (ad 0)), (2, .int x2)]) C.1 C.2.1 dX3_laysSmallest_67 hl (k := 1) rfl rfl (Nat.le_of_ble_eq_true rfl) rfl (fun ls hl => ?_)
      refine lv_goto (tgt := 42) C.1 C.2.1 dX3_laysSmallest_70 (by decide) ?_
      exact hK42 _ _ _ _ _ hf hw (lv_sub hl [1, 0] rfl)
    · replace hf := hf.2 h55
      refine lv_aload_n C.1 C.2.1 dX3_laysSmallest_58 rfl (lv_at hl 0 rfl) ?_
      refine lv_iload_n C.1 C.2.1 dX3_laysSmallest_59 rfl (lv_at hl 1 rfl) ?_
      refine km_shrinks C hw hl.1 (Nat.le_of_ble_eq_true rfl) ⟨Nat.le_of_ble_eq_true rfl, Nat.le_of_ble_eq_true rfl⟩ dX3_laysSmallest_60 hf (fun r60 s60 H locs hf hw => ?_)
      refine lv_istore_n (lv' := [(2, .int r60), (0, .ref (ad 0)), (1, .int x1)]) C.1 C.2.1 dX3_laysSmallest_63 rfl hl (Nat.le_of_ble_eq_true rfl) rfl (fun ls hl => ?_)
      refine lv_goto (tgt := 54) C.1 C.2.1 dX3_laysSmallest_64 (by decide) ?_
      exact hK54 _ _ _ _ _ hf hw (lv_sub hl [1, 2, 0] rfl)
  have P54 : ∀ (x1 : Int32) (K42 : St → Int32 → Prop) (_ : ∀ (σ : St) (H : Heap) (locs : List Loc) (x1 : Int32) (ls : Array Slot), K42 σ x1 → gH D ct shM ad s σ H locs → lv_has ls 3 [(0, .ref (ad 0)), (1, .int x1)] → W p l e rm_m_laysSmallest s m args below meth c H locs 0 0 QQ (F0 m 42 ls [])) (n : Nat) (σ : St) (x2 : Int32) (ls : Array Slot) (H : Heap) (locs : List Loc), LL2 (m_laysSmallest_p54 x1 Q K42) n σ x2 → gH D ct shM ad s σ H locs → lv_has ls 3 [(0, .ref (ad 0)), (1, .int x1), (2, .int x2)] → W p l e rm_m_laysSmallest s m args below meth c H locs 0 0 QQ (F0 m 54 ls []) := by
    intro x1 K42 hK42 n
    induction n with
    | zero => intro σ x2 ls H locs hf; exact False.elim hf
    | succ n ih => intro σ x2 ls H locs hf hw hl; exact B54 x1 K42 hK42 (LL2 _ n) (fun σ H locs x2 ls hf hw hl => ih σ x2 ls H locs hf hw hl) σ H locs x2 ls hf hw hl
  have B42 : ∀ (K42 : St → Int32 → Prop) (_ : ∀ (σ : St) (H : Heap) (locs : List Loc) (x1 : Int32) (ls : Array Slot), K42 σ x1 → gH D ct shM ad s σ H locs → lv_has ls 3 [(0, .ref (ad 0)), (1, .int x1)] → W p l e rm_m_laysSmallest s m args below meth c H locs 0 0 QQ (F0 m 42 ls [])) (σ : St) (H : Heap) (locs : List Loc) (x1 : Int32) (ls : Array Slot), m_laysSmallest_p42 Q K42 σ x1 → gH D ct shM ad s σ H locs → lv_has ls 3 [(0, .ref (ad 0)), (1, .int x1)] → W p l e rm_m_laysSmallest s m args below meth c H locs 0 0 QQ (F0 m 42 ls []) := by
    intro K42 hK42 σ H locs x1 ls hf hw hl
    unfold m_laysSmallest_p42 at hf
    refine lv_iload_n C.1 C.2.1 dX3_laysSmallest_42 rfl (lv_at hl 1 rfl) ?_
    refine lv_aload_n C.1 C.2.1 dX3_laysSmallest_43 rfl (lv_at hl 0 rfl) ?_
    refine mg_scalar C hw dX3_laysSmallest_44 ?_
    refine lv_iconst (v := 2) C.1 C.2.1 dX3_laysSmallest_47 rfl ?_
    refine g_iald C hw 2 rfl (vpD rfl) dX3_laysSmallest_48 ?_
    refine lv_icmp_gt (tgt := 73) C.1 C.2.1 dX3_laysSmallest_49 (by decide) (fun h49 => ?_) (fun h49 => ?_)
    · replace hf := hf.1 h49
      refine lv_aload_n C.1 C.2.1 dX3_laysSmallest_73 rfl (lv_at hl 0 rfl) ?_
      refine lv_dup C.1 C.2.1 dX3_laysSmallest_74 rfl ?_
      refine mg_isLaid C hw dX3_laysSmallest_75 ?_
      refine lv_bipush (v := 64) C.1 C.2.1 dX3_laysSmallest_78 rfl ?_
      refine lv_ior C.1 C.2.1 dX3_laysSmallest_80 ?_
      refine mp_isLaid C hw dX3_laysSmallest_81 (fun s81 H locs e81 hw => ?_)
      replace hf := hf s81 e81
      exact hret _ _ _ _ _ _ hf hw dX3_laysSmallest_84
    · replace hf := hf.2 h49
      refine lv_iconst (v := 1) C.1 C.2.1 dX3_laysSmallest_52 rfl ?_
      refine lv_istore_n (lv' := [(2, .int 1), (0, .ref (ad 0)), (1, .int x1)]) C.1 C.2.1 dX3_laysSmallest_53 rfl hl (Nat.le_of_ble_eq_true rfl) rfl (fun ls hl => ?_)
      obtain ⟨n, hf⟩ := hf
      exact P54 _ _ hK42 n _ _ _ _ _ hf hw (lv_sub hl [1, 2, 0] rfl)
  have P42 : ∀ (n : Nat) (σ : St) (x1 : Int32) (ls : Array Slot) (H : Heap) (locs : List Loc), LL2 (m_laysSmallest_p42 Q) n σ x1 → gH D ct shM ad s σ H locs → lv_has ls 3 [(0, .ref (ad 0)), (1, .int x1)] → W p l e rm_m_laysSmallest s m args below meth c H locs 0 0 QQ (F0 m 42 ls []) := by
    intro  n
    induction n with
    | zero => intro σ x1 ls H locs hf; exact False.elim hf
    | succ n ih => intro σ x1 ls H locs hf hw hl; exact B42  (LL2 _ n) (fun σ H locs x1 ls hf hw hl => ih σ x1 ls H locs hf hw hl) σ H locs x1 ls hf hw hl
  have B18 : ∀ (K18 : St → Int32 → Prop) (_ : ∀ (σ : St) (H : Heap) (locs : List Loc) (x1 : Int32) (ls : Array Slot), K18 σ x1 → gH D ct shM ad s σ H locs → lv_has ls 3 [(0, .ref (ad 0)), (1, .int x1)] → W p l e rm_m_laysSmallest s m args below meth c H locs 0 0 QQ (F0 m 18 ls [])) (σ : St) (H : Heap) (locs : List Loc) (x1 : Int32) (ls : Array Slot), m_laysSmallest_p18 Q K18 σ x1 → gH D ct shM ad s σ H locs → lv_has ls 3 [(0, .ref (ad 0)), (1, .int x1)] → W p l e rm_m_laysSmallest s m args below meth c H locs 0 0 QQ (F0 m 18 ls []) := by
    intro K18 hK18 σ H locs x1 ls hf hw hl
    unfold m_laysSmallest_p18 at hf
    refine lv_iload_n C.1 C.2.1 dX3_laysSmallest_18 rfl (lv_at hl 1 rfl) ?_
    refine lv_sipush (v := 2028) C.1 C.2.1 dX3_laysSmallest_19 rfl ?_
    refine lv_icmp_ge (tgt := 40) C.1 C.2.1 dX3_laysSmallest_22 (by decide) (fun h22 => ?_) (fun h22 => ?_)
    · replace hf := hf.1 h22
      refine lv_iconst (v := 0) C.1 C.2.1 dX3_laysSmallest_40 rfl ?_
      refine lv_istore_n (lv' := [(1, .int 0), (0, .ref (ad 0))]) C.1 C.2.1 dX3_laysSmallest_41 rfl hl (Nat.le_of_ble_eq_true rfl) rfl (fun ls hl => ?_)
      obtain ⟨n, hf⟩ := hf
      exact P42  n _ _ _ _ _ hf hw (lv_sub hl [1, 0] rfl)
    · replace hf := hf.2 h22
      refine lv_aload_n C.1 C.2.1 dX3_laysSmallest_25 rfl (lv_at hl 0 rfl) ?_
      refine mg_sizeOf C hw dX3_laysSmallest_26 ?_
      refine lv_iload_n C.1 C.2.1 dX3_laysSmallest_29 rfl (lv_at hl 1 rfl) ?_
      refine lv_ldcw C.1 C.2.1 C.2.2.2.1 (C.2.2.2.2 _ q1760) dX3_laysSmallest_30 ?_
      obtain ⟨b33, hf⟩ := hf
      refine g_iast C shM_sep hw 59 rfl b33 dX3_laysSmallest_33 (fun s33 H locs e33 hw => ?_)
      replace hf := hf s33 e33
      refine lv_iinc (v := (x1 + 1)) (lv' := [(1, .int (x1 + 1)), (0, .ref (ad 0))]) C.1 C.2.1 dX3_laysSmallest_34 hl (k := 1) rfl rfl (Nat.le_of_ble_eq_true rfl) rfl (fun ls hl => ?_)
      refine lv_goto (tgt := 18) C.1 C.2.1 dX3_laysSmallest_37 (by decide) ?_
      exact hK18 _ _ _ _ _ hf hw (lv_sub hl [1, 0] rfl)
  have P18 : ∀ (n : Nat) (σ : St) (x1 : Int32) (ls : Array Slot) (H : Heap) (locs : List Loc), LL2 (m_laysSmallest_p18 Q) n σ x1 → gH D ct shM ad s σ H locs → lv_has ls 3 [(0, .ref (ad 0)), (1, .int x1)] → W p l e rm_m_laysSmallest s m args below meth c H locs 0 0 QQ (F0 m 18 ls []) := by
    intro  n
    induction n with
    | zero => intro σ x1 ls H locs hf; exact False.elim hf
    | succ n ih => intro σ x1 ls H locs hf hw hl; exact B18  (LL2 _ n) (fun σ H locs x1 ls hf hw hl => ih σ x1 ls H locs hf hw hl) σ H locs x1 ls hf hw hl
  unfold m_laysSmallest at hf
  obtain ⟨H, hH⟩ : ∃ q, q = s.heap := ⟨_, rfl⟩
  obtain ⟨locs, hL⟩ : ∃ q : List Loc, q = [] := ⟨_, rfl⟩
  rw [← hH, ← hL] at hw ⊢
  refine lv_aload_n C.1 C.2.1 dX3_laysSmallest_0 rfl (lv_at hl 0 rfl) ?_
  refine mg_isLaid C hw dX3_laysSmallest_1 ?_
  refine lv_bipush (v := 64) C.1 C.2.1 dX3_laysSmallest_4 rfl ?_
  refine lv_iand C.1 C.2.1 dX3_laysSmallest_6 ?_
  refine lv_if_eq (tgt := 11) C.1 C.2.1 dX3_laysSmallest_7 (by decide) (fun h7 => ?_) (fun h7 => ?_)
  · replace hf := hf.1 h7
    refine lv_aload_n C.1 C.2.1 dX3_laysSmallest_11 rfl (lv_at hl 0 rfl) ?_
    refine lv_iconst (v := 1) C.1 C.2.1 dX3_laysSmallest_12 rfl ?_
    refine km_laysMade C hw hl.1 (Nat.le_of_ble_eq_true rfl) ⟨Nat.le_of_ble_eq_true rfl, Nat.le_of_ble_eq_true rfl⟩ dX3_laysSmallest_13 hf (fun _ s13 H locs hf hw => ?_)
    refine lv_iconst (v := 0) C.1 C.2.1 dX3_laysSmallest_16 rfl ?_
    refine lv_istore_n (lv' := [(1, .int 0), (0, .ref (ad 0))]) C.1 C.2.1 dX3_laysSmallest_17 rfl hl (Nat.le_of_ble_eq_true rfl) rfl (fun ls hl => ?_)
    obtain ⟨n, hf⟩ := hf
    exact P18  n _ _ _ _ _ hf hw (lv_sub hl [1, 0] rfl)
  · replace hf := hf.2 h7
    exact hret _ _ _ _ _ _ hf hw dX3_laysSmallest_10
theorem km_laysSmallest {p : Program} {l : Launch} {e : Env} {R : Room} {s : State} {m : MethodId} {args : Array Value} {below : List Frame} {meth : Method} {c : Code} {H : Heap} {locs : List Loc} {Z : State → Prop} {cc : ByteArray} {nL pc : Nat} {ls : Array Slot} {rest : List Value} {D : va_G} {ct : Ct} {ad : Nat → Nat} {σ : St} {Qp : Unit → St → Prop} (C : CallFix p m c cc nL s args lw_all RX3) (hw : gH D ct shM ad s σ H locs) (hsz : ls.size = nL) (hrm : (rest.map fun v => v.category).sum ≤ 8) (hR : rm_m_laysSmallest.frames + 1 ≤ R.frames ∧ 8 + (3 + 11) + rm_m_laysSmallest.locals ≤ R.locals) (hdg : decode cc pc = .ok (.invokevirtual 553, 3)) (hf : m_laysSmallest σ Qp) (kk : ∀ (r : Unit) (σ1 : St) (H1 : Heap) (locs1 : List Loc), Qp r σ1 → gH D ct shM ad s σ1 H1 locs1 → W p l e R s m args below meth c H1 locs1 0 0 Z (F0 m (pc + 3) ls (rest))) : W p l e R s m args below meth c H locs 0 0 Z (F0 m pc ls (.ref (ad 0) :: rest)) :=
  g_callV (As := []) (rest := rest) C hw rfl rfl (met_m_laysSmallest l D ct ad hw.2.1 σ Qp hf) (cwV 0 C.2.2.2.2 (lw_V q2045 q2047 qs180 q207 q2048) rfl rfl rfl (by decide +kernel) hR) rfl hsz rfl hrm ⟨Nat.zero_le _, Nat.zero_le _⟩ hdg kk
def m_alive_p57 (σ : St) (x1 : Int32) (Q : Int32 → St → Prop) (K57 : Int32 → Int32 → Prop) (x3 : Int32) (x4 : Int32) : Prop :=
  (((σ.1 36) ≤ x4 → Q x3 σ) ∧ (¬ (σ.1 36) ≤ x4 → (vp_in ((90 * x1) + x4) 1170 ∧ (((gI σ 46 ((90 * x1) + x4)) = 0 → K57 (x3 + 0) (x4 + 1)) ∧ (¬ (gI σ 46 ((90 * x1) + x4)) = 0 → K57 (x3 + 1) (x4 + 1))))))
def m_alive_p23 (σ : St) (x1 : Int32) (x2 : Int32) (Q : Int32 → St → Prop) : Prop :=
  (m_laysAlive σ (fun _ s24 => ((x2 = (-1) → (Lp2 (m_alive_p57 s24 x1 Q) 0 0)) ∧ (¬ x2 = (-1) → (vp_in ((90 * x1) + x2) 1170 ∧ (((gI s24 46 ((90 * x1) + x2)) = 0 → Q 0 s24) ∧ (¬ (gI s24 46 ((90 * x1) + x2)) = 0 → Q 1 s24)))))))
def m_alive (σ : St) (x1 : Int32) (x2 : Int32) (Q : Int32 → St → Prop) : Prop :=
  (((fm_isLevel σ x1) = 0 → Q (-1) σ) ∧ (¬ (fm_isLevel σ x1) = 0 → ((x2 = (-1) → (m_alive_p23 σ x1 x2 Q)) ∧ (¬ x2 = (-1) → (m_isState σ x2 (fun r15 s15 => ((r15 = 0 → Q (-1) s15) ∧ (¬ r15 = 0 → (m_alive_p23 s15 x1 x2 Q)))))))))
abbrev rm_m_alive : Room := { frames := 9, cells := 0, slots := 0, locals := 220 }
set_option maxHeartbeats 4000000 in
theorem met_m_alive (l : Launch) (D : va_G) (ct : Ct) (ad : Nat → Nat) (hJ : gJ shM ad ct) (σ : St) (x1 : Int32) (x2 : Int32) (Q : Int32 → St → Prop) (hf : m_alive σ x1 x2 Q) : Met l yX3_alive (ws_ yX3_alive cX3_alive 5 (some .int)) rm_m_alive (va_Pc [.ref (ad 0), .int x1, .int x2] (gP D ct shM ad σ)) (gQ rvI D ct shM ad Q) 0 0 (gA shM ad) := by
  refine g_metI hJ (by decide) (Nat.le_of_ble_eq_true rfl) ?_
  intro p e s m args below meth c QQ ls C hw hl hret
  replace hl : lv_has ls 5 [(0, .ref (ad 0)), (1, .int x1), (2, .int x2)] := hl
  have B57 : ∀ (σ : St) (H : Heap) (locs : List Loc) (x1 : Int32) (K57 : Int32 → Int32 → Prop) (_ : ∀ (x3 : Int32) (x4 : Int32) (ls : Array Slot), K57 x3 x4 → lv_has ls 5 [(0, .ref (ad 0)), (1, .int x1), (3, .int x3), (4, .int x4)] → W p l e rm_m_alive s m args below meth c H locs 0 0 QQ (F0 m 57 ls [])) (x3 : Int32) (x4 : Int32) (ls : Array Slot), m_alive_p57 σ x1 Q K57 x3 x4 → gH D ct shM ad s σ H locs → lv_has ls 5 [(0, .ref (ad 0)), (1, .int x1), (3, .int x3), (4, .int x4)] → W p l e rm_m_alive s m args below meth c H locs 0 0 QQ (F0 m 57 ls []) := by
    intro σ H locs x1 K57 hK57 x3 x4 ls hf hw hl
    unfold m_alive_p57 at hf
    refine lv_iload C.1 C.2.1 dX3_alive_57 (lv_at hl 3 rfl) ?_
    refine lv_aload_n C.1 C.2.1 dX3_alive_59 rfl (lv_at hl 0 rfl) ?_
    refine mg_manyStates C hw dX3_alive_60 ?_
    refine lv_icmp_ge (tgt := 95) C.1 C.2.1 dX3_alive_63 (by decide) (fun h63 => ?_) (fun h63 => ?_)
    · replace hf := hf.1 h63
      refine lv_iload_n C.1 C.2.1 dX3_alive_95 rfl (lv_at hl 2 rfl) ?_
      exact hret _ _ _ _ _ _ hf hw dX3_alive_96
    · replace hf := hf.2 h63
      refine lv_iload_n C.1 C.2.1 dX3_alive_66 rfl (lv_at hl 2 rfl) ?_
      refine lv_aload_n C.1 C.2.1 dX3_alive_67 rfl (lv_at hl 0 rfl) ?_
      refine mg_isAlive C hw dX3_alive_68 ?_
      refine lv_bipush (v := 90) C.1 C.2.1 dX3_alive_71 rfl ?_
      refine lv_iload_n C.1 C.2.1 dX3_alive_73 rfl (lv_at hl 1 rfl) ?_
      refine lv_imul C.1 C.2.1 dX3_alive_74 ?_
      refine lv_iload C.1 C.2.1 dX3_alive_75 (lv_at hl 3 rfl) ?_
      refine lv_iadd C.1 C.2.1 dX3_alive_77 ?_
      obtain ⟨b78, hf⟩ := hf
      refine g_zald C hw 46 rfl b78 dX3_alive_78 ?_
      refine lv_if_eq (tgt := 86) C.1 C.2.1 dX3_alive_79 (by decide) (fun h79 => ?_) (fun h79 => ?_)
      · replace hf := hf.1 h79
        refine lv_iconst (v := 0) C.1 C.2.1 dX3_alive_86 rfl ?_
        refine lv_iadd C.1 C.2.1 dX3_alive_87 ?_
        refine lv_istore_n (lv' := [(3, .int (x3 + 0)), (0, .ref (ad 0)), (1, .int x1), (4, .int x4)]) C.1 C.2.1 dX3_alive_88 rfl hl (Nat.le_of_ble_eq_true rfl) rfl (fun ls hl => ?_)
        refine lv_iinc (v := (x4 + 1)) (lv' := [(4, .int (x4 + 1)), (3, .int (x3 + 0)), (0, .ref (ad 0)), (1, .int x1)]) C.1 C.2.1 dX3_alive_89 hl (k := 3) rfl rfl (Nat.le_of_ble_eq_true rfl) rfl (fun ls hl => ?_)
        refine lv_goto (tgt := 57) C.1 C.2.1 dX3_alive_92 (by decide) ?_
        exact hK57 _ _ _ hf (lv_sub hl [2, 3, 1, 0] rfl)
      · replace hf := hf.2 h79
        refine lv_iconst (v := 1) C.1 C.2.1 dX3_alive_82 rfl ?_
        refine lv_goto (tgt := 87) C.1 C.2.1 dX3_alive_83 (by decide) ?_
        refine lv_iadd C.1 C.2.1 dX3_alive_87 ?_
        refine lv_istore_n (lv' := [(3, .int (x3 + 1)), (0, .ref (ad 0)), (1, .int x1), (4, .int x4)]) C.1 C.2.1 dX3_alive_88 rfl hl (Nat.le_of_ble_eq_true rfl) rfl (fun ls hl => ?_)
        refine lv_iinc (v := (x4 + 1)) (lv' := [(4, .int (x4 + 1)), (3, .int (x3 + 1)), (0, .ref (ad 0)), (1, .int x1)]) C.1 C.2.1 dX3_alive_89 hl (k := 3) rfl rfl (Nat.le_of_ble_eq_true rfl) rfl (fun ls hl => ?_)
        refine lv_goto (tgt := 57) C.1 C.2.1 dX3_alive_92 (by decide) ?_
        exact hK57 _ _ _ hf (lv_sub hl [2, 3, 1, 0] rfl)
  have P57 : ∀ (σ : St) (H : Heap) (locs : List Loc) (x1 : Int32) (n : Nat) (x3 : Int32) (x4 : Int32) (ls : Array Slot), LL2 (m_alive_p57 σ x1 Q) n x3 x4 → gH D ct shM ad s σ H locs → lv_has ls 5 [(0, .ref (ad 0)), (1, .int x1), (3, .int x3), (4, .int x4)] → W p l e rm_m_alive s m args below meth c H locs 0 0 QQ (F0 m 57 ls []) := by
    intro σ H locs x1 n
    induction n with
    | zero => intro x3 x4 ls hf; exact False.elim hf
    | succ n ih => intro x3 x4 ls hf hw hl; exact B57 σ H locs x1 (LL2 _ n) (fun x3 x4 ls hf hl => ih x3 x4 ls hf hw hl) x3 x4 ls hf hw hl
  have J23 : ∀ (σ : St) (H : Heap) (locs : List Loc) (x1 : Int32) (x2 : Int32) (ls : Array Slot), m_alive_p23 σ x1 x2 Q → gH D ct shM ad s σ H locs → lv_has ls 5 [(0, .ref (ad 0)), (1, .int x1), (2, .int x2)] → W p l e rm_m_alive s m args below meth c H locs 0 0 QQ (F0 m 23 ls []) := by
    intro σ H locs x1 x2 ls hf hw hl
    unfold m_alive_p23 at hf
    refine lv_aload_n C.1 C.2.1 dX3_alive_23 rfl (lv_at hl 0 rfl) ?_
    refine km_laysAlive C hw hl.1 (Nat.le_of_ble_eq_true rfl) ⟨Nat.le_of_ble_eq_true rfl, Nat.le_of_ble_eq_true rfl⟩ dX3_alive_24 hf (fun _ s24 H locs hf hw => ?_)
    refine lv_iload_n C.1 C.2.1 dX3_alive_27 rfl (lv_at hl 2 rfl) ?_
    refine lv_iconst (v := (-1)) C.1 C.2.1 dX3_alive_28 rfl ?_
    refine lv_icmp_eq (tgt := 52) C.1 C.2.1 dX3_alive_29 (by decide) (fun h29 => ?_) (fun h29 => ?_)
    · replace hf := hf.1 h29
      refine lv_iconst (v := 0) C.1 C.2.1 dX3_alive_52 rfl ?_
      refine lv_istore_n (lv' := [(3, .int 0), (0, .ref (ad 0)), (1, .int x1), (2, .int x2)]) C.1 C.2.1 dX3_alive_53 rfl hl (Nat.le_of_ble_eq_true rfl) rfl (fun ls hl => ?_)
      refine lv_iconst (v := 0) C.1 C.2.1 dX3_alive_54 rfl ?_
      refine lv_istore (lv' := [(4, .int 0), (3, .int 0), (0, .ref (ad 0)), (1, .int x1), (2, .int x2)]) C.1 C.2.1 dX3_alive_55 hl (Nat.le_of_ble_eq_true rfl) rfl (fun ls hl => ?_)
      obtain ⟨n, hf⟩ := hf
      exact P57 _ _ _ _ n _ _ _ hf hw (lv_sub hl [2, 3, 1, 0] rfl)
    · replace hf := hf.2 h29
      refine lv_aload_n C.1 C.2.1 dX3_alive_32 rfl (lv_at hl 0 rfl) ?_
      refine mg_isAlive C hw dX3_alive_33 ?_
      refine lv_bipush (v := 90) C.1 C.2.1 dX3_alive_36 rfl ?_
      refine lv_iload_n C.1 C.2.1 dX3_alive_38 rfl (lv_at hl 1 rfl) ?_
      refine lv_imul C.1 C.2.1 dX3_alive_39 ?_
      refine lv_iload_n C.1 C.2.1 dX3_alive_40 rfl (lv_at hl 2 rfl) ?_
      refine lv_iadd C.1 C.2.1 dX3_alive_41 ?_
      obtain ⟨b42, hf⟩ := hf
      refine g_zald C hw 46 rfl b42 dX3_alive_42 ?_
      refine lv_if_eq (tgt := 50) C.1 C.2.1 dX3_alive_43 (by decide) (fun h43 => ?_) (fun h43 => ?_)
      · replace hf := hf.1 h43
        refine lv_iconst (v := 0) C.1 C.2.1 dX3_alive_50 rfl ?_
        exact hret _ _ _ _ _ _ hf hw dX3_alive_51
      · replace hf := hf.2 h43
        refine lv_iconst (v := 1) C.1 C.2.1 dX3_alive_46 rfl ?_
        refine lv_goto (tgt := 51) C.1 C.2.1 dX3_alive_47 (by decide) ?_
        exact hret _ _ _ _ _ _ hf hw dX3_alive_51
  unfold m_alive at hf
  obtain ⟨H, hH⟩ : ∃ q, q = s.heap := ⟨_, rfl⟩
  obtain ⟨locs, hL⟩ : ∃ q : List Loc, q = [] := ⟨_, rfl⟩
  rw [← hH, ← hL] at hw ⊢
  refine lv_aload_n C.1 C.2.1 dX3_alive_0 rfl (lv_at hl 0 rfl) ?_
  refine lv_iload_n C.1 C.2.1 dX3_alive_1 rfl (lv_at hl 1 rfl) ?_
  refine km_isLevel C hw hl.1 (Nat.le_of_ble_eq_true rfl) ⟨Nat.le_of_ble_eq_true rfl, Nat.le_of_ble_eq_true rfl⟩ dX3_alive_2 ?_
  refine lv_if_eq (tgt := 21) C.1 C.2.1 dX3_alive_5 (by decide) (fun h5 => ?_) (fun h5 => ?_)
  · replace hf := hf.1 h5
    refine lv_iconst (v := (-1)) C.1 C.2.1 dX3_alive_21 rfl ?_
    exact hret _ _ _ _ _ _ hf hw dX3_alive_22
  · replace hf := hf.2 h5
    refine lv_iload_n C.1 C.2.1 dX3_alive_8 rfl (lv_at hl 2 rfl) ?_
    refine lv_iconst (v := (-1)) C.1 C.2.1 dX3_alive_9 rfl ?_
    refine lv_icmp_eq (tgt := 23) C.1 C.2.1 dX3_alive_10 (by decide) (fun h10 => ?_) (fun h10 => ?_)
    · replace hf := hf.1 h10
      exact J23 _ _ _ _ _ _ hf hw (lv_sub hl [0, 1, 2] rfl)
    · replace hf := hf.2 h10
      refine lv_aload_n C.1 C.2.1 dX3_alive_13 rfl (lv_at hl 0 rfl) ?_
      refine lv_iload_n C.1 C.2.1 dX3_alive_14 rfl (lv_at hl 2 rfl) ?_
      refine km_isState C hw hl.1 (Nat.le_of_ble_eq_true rfl) ⟨Nat.le_of_ble_eq_true rfl, Nat.le_of_ble_eq_true rfl⟩ dX3_alive_15 hf (fun r15 s15 H locs hf hw => ?_)
      refine lv_if_ne (tgt := 23) C.1 C.2.1 dX3_alive_18 (by decide) (fun h18 => ?_) (fun h18 => ?_)
      · replace hf := hf.2 h18
        exact J23 _ _ _ _ _ _ hf hw (lv_sub hl [0, 1, 2] rfl)
      · replace hf := hf.1 h18
        refine lv_iconst (v := (-1)) C.1 C.2.1 dX3_alive_21 rfl ?_
        exact hret _ _ _ _ _ _ hf hw dX3_alive_22
def m_links_p41 (σ : St) (x1 : Int32) (x2 : Int32) (x4 : Int32) (Q : Int32 → St → Prop) (K32 : Int32 → Int32 → Prop) (K41 : Int32 → Int32 → Prop) (x3 : Int32) (x5 : Int32) : Prop :=
  (((σ.1 36) ≤ x5 → K32 x3 (x4 + 1)) ∧ (¬ (σ.1 36) ≤ x5 → (vp_in ((90 * x4) + x5) 1170 ∧ (((gI σ 46 ((90 * x4) + x5)) = 0 → K41 (x3 + 0) (x5 + 1)) ∧ (¬ (gI σ 46 ((90 * x4) + x5)) = 0 → (m_linksTo σ x4 x5 x1 x2 (fun r74 => K41 (x3 + r74) (x5 + 1))))))))
def m_links_p32 (σ : St) (x1 : Int32) (x2 : Int32) (Q : Int32 → St → Prop) (K32 : Int32 → Int32 → Prop) (x3 : Int32) (x4 : Int32) : Prop :=
  ((x1 < x4 → Q x3 σ) ∧ (¬ x1 < x4 → (Lp2 (m_links_p41 σ x1 x2 x4 Q K32) x3 0)))
def m_links_p23 (σ : St) (x1 : Int32) (x2 : Int32) (Q : Int32 → St → Prop) : Prop :=
  (m_laysAlive σ (fun _ s24 => (Lp2 (m_links_p32 s24 x1 x2 Q) 0 0)))
def m_links (σ : St) (x1 : Int32) (x2 : Int32) (Q : Int32 → St → Prop) : Prop :=
  (((fm_isLevel σ x1) = 0 → Q (-1) σ) ∧ (¬ (fm_isLevel σ x1) = 0 → ((x2 = (-1) → (m_links_p23 σ x1 x2 Q)) ∧ (¬ x2 = (-1) → (m_isState σ x2 (fun r15 s15 => ((r15 = 0 → Q (-1) s15) ∧ (¬ r15 = 0 → (m_links_p23 s15 x1 x2 Q)))))))))
abbrev rm_m_links : Room := { frames := 9, cells := 0, slots := 0, locals := 220 }
set_option maxHeartbeats 4000000 in
theorem met_m_links (l : Launch) (D : va_G) (ct : Ct) (ad : Nat → Nat) (hJ : gJ shM ad ct) (σ : St) (x1 : Int32) (x2 : Int32) (Q : Int32 → St → Prop) (hf : m_links σ x1 x2 Q) : Met l yX3_links (ws_ yX3_links cX3_links 6 (some .int)) rm_m_links (va_Pc [.ref (ad 0), .int x1, .int x2] (gP D ct shM ad σ)) (gQ rvI D ct shM ad Q) 0 0 (gA shM ad) := by
  refine g_metI hJ (by decide) (Nat.le_of_ble_eq_true rfl) ?_
  intro p e s m args below meth c QQ ls C hw hl hret
  replace hl : lv_has ls 6 [(0, .ref (ad 0)), (1, .int x1), (2, .int x2)] := hl
  have B41 : ∀ (σ : St) (H : Heap) (locs : List Loc) (x1 : Int32) (x2 : Int32) (x4 : Int32) (K32 : Int32 → Int32 → Prop) (_ : ∀ (x3 : Int32) (x4 : Int32) (ls : Array Slot), K32 x3 x4 → lv_has ls 6 [(0, .ref (ad 0)), (1, .int x1), (2, .int x2), (3, .int x3), (4, .int x4)] → W p l e rm_m_links s m args below meth c H locs 0 0 QQ (F0 m 32 ls [])) (K41 : Int32 → Int32 → Prop) (_ : ∀ (x3 : Int32) (x5 : Int32) (ls : Array Slot), K41 x3 x5 → lv_has ls 6 [(0, .ref (ad 0)), (1, .int x1), (2, .int x2), (3, .int x3), (4, .int x4), (5, .int x5)] → W p l e rm_m_links s m args below meth c H locs 0 0 QQ (F0 m 41 ls [])) (x3 : Int32) (x5 : Int32) (ls : Array Slot), m_links_p41 σ x1 x2 x4 Q K32 K41 x3 x5 → gH D ct shM ad s σ H locs → lv_has ls 6 [(0, .ref (ad 0)), (1, .int x1), (2, .int x2), (3, .int x3), (4, .int x4), (5, .int x5)] → W p l e rm_m_links s m args below meth c H locs 0 0 QQ (F0 m 41 ls []) := by
    intro σ H locs x1 x2 x4 K32 hK32 K41 hK41 x3 x5 ls hf hw hl
    unfold m_links_p41 at hf
    refine lv_iload C.1 C.2.1 dX3_links_41 (lv_at hl 5 rfl) ?_
    refine lv_aload_n C.1 C.2.1 dX3_links_43 rfl (lv_at hl 0 rfl) ?_
    refine mg_manyStates C hw dX3_links_44 ?_
    refine lv_icmp_ge (tgt := 89) C.1 C.2.1 dX3_links_47 (by decide) (fun h47 => ?_) (fun h47 => ?_)
    · replace hf := hf.1 h47
      refine lv_iinc (v := (x4 + 1)) (lv' := [(4, .int (x4 + 1)), (0, .ref (ad 0)), (1, .int x1), (2, .int x2), (3, .int x3), (5, .int x5)]) C.1 C.2.1 dX3_links_89 hl (k := 4) rfl rfl (Nat.le_of_ble_eq_true rfl) rfl (fun ls hl => ?_)
      refine lv_goto (tgt := 32) C.1 C.2.1 dX3_links_92 (by decide) ?_
      exact hK32 _ _ _ hf (lv_sub hl [1, 2, 3, 4, 0] rfl)
    · replace hf := hf.2 h47
      refine lv_iload_n C.1 C.2.1 dX3_links_50 rfl (lv_at hl 3 rfl) ?_
      refine lv_aload_n C.1 C.2.1 dX3_links_51 rfl (lv_at hl 0 rfl) ?_
      refine mg_isAlive C hw dX3_links_52 ?_
      refine lv_bipush (v := 90) C.1 C.2.1 dX3_links_55 rfl ?_
      refine lv_iload C.1 C.2.1 dX3_links_57 (lv_at hl 4 rfl) ?_
      refine lv_imul C.1 C.2.1 dX3_links_59 ?_
      refine lv_iload C.1 C.2.1 dX3_links_60 (lv_at hl 5 rfl) ?_
      refine lv_iadd C.1 C.2.1 dX3_links_62 ?_
      obtain ⟨b63, hf⟩ := hf
      refine g_zald C hw 46 rfl b63 dX3_links_63 ?_
      refine lv_if_eq (tgt := 80) C.1 C.2.1 dX3_links_64 (by decide) (fun h64 => ?_) (fun h64 => ?_)
      · replace hf := hf.1 h64
        refine lv_iconst (v := 0) C.1 C.2.1 dX3_links_80 rfl ?_
        refine lv_iadd C.1 C.2.1 dX3_links_81 ?_
        refine lv_istore_n (lv' := [(3, .int (x3 + 0)), (0, .ref (ad 0)), (1, .int x1), (2, .int x2), (4, .int x4), (5, .int x5)]) C.1 C.2.1 dX3_links_82 rfl hl (Nat.le_of_ble_eq_true rfl) rfl (fun ls hl => ?_)
        refine lv_iinc (v := (x5 + 1)) (lv' := [(5, .int (x5 + 1)), (3, .int (x3 + 0)), (0, .ref (ad 0)), (1, .int x1), (2, .int x2), (4, .int x4)]) C.1 C.2.1 dX3_links_83 hl (k := 5) rfl rfl (Nat.le_of_ble_eq_true rfl) rfl (fun ls hl => ?_)
        refine lv_goto (tgt := 41) C.1 C.2.1 dX3_links_86 (by decide) ?_
        exact hK41 _ _ _ hf (lv_sub hl [2, 3, 4, 1, 5, 0] rfl)
      · replace hf := hf.2 h64
        refine lv_aload_n C.1 C.2.1 dX3_links_67 rfl (lv_at hl 0 rfl) ?_
        refine lv_iload C.1 C.2.1 dX3_links_68 (lv_at hl 4 rfl) ?_
        refine lv_iload C.1 C.2.1 dX3_links_70 (lv_at hl 5 rfl) ?_
        refine lv_iload_n C.1 C.2.1 dX3_links_72 rfl (lv_at hl 1 rfl) ?_
        refine lv_iload_n C.1 C.2.1 dX3_links_73 rfl (lv_at hl 2 rfl) ?_
        refine km_linksTo C hw hl.1 (Nat.le_of_ble_eq_true rfl) ⟨Nat.le_of_ble_eq_true rfl, Nat.le_of_ble_eq_true rfl⟩ dX3_links_74 hf (fun r74 hf => ?_)
        refine lv_goto (tgt := 81) C.1 C.2.1 dX3_links_77 (by decide) ?_
        refine lv_iadd C.1 C.2.1 dX3_links_81 ?_
        refine lv_istore_n (lv' := [(3, .int (x3 + r74)), (0, .ref (ad 0)), (1, .int x1), (2, .int x2), (4, .int x4), (5, .int x5)]) C.1 C.2.1 dX3_links_82 rfl hl (Nat.le_of_ble_eq_true rfl) rfl (fun ls hl => ?_)
        refine lv_iinc (v := (x5 + 1)) (lv' := [(5, .int (x5 + 1)), (3, .int (x3 + r74)), (0, .ref (ad 0)), (1, .int x1), (2, .int x2), (4, .int x4)]) C.1 C.2.1 dX3_links_83 hl (k := 5) rfl rfl (Nat.le_of_ble_eq_true rfl) rfl (fun ls hl => ?_)
        refine lv_goto (tgt := 41) C.1 C.2.1 dX3_links_86 (by decide) ?_
        exact hK41 _ _ _ hf (lv_sub hl [2, 3, 4, 1, 5, 0] rfl)
  have P41 : ∀ (σ : St) (H : Heap) (locs : List Loc) (x1 : Int32) (x2 : Int32) (x4 : Int32) (K32 : Int32 → Int32 → Prop) (_ : ∀ (x3 : Int32) (x4 : Int32) (ls : Array Slot), K32 x3 x4 → lv_has ls 6 [(0, .ref (ad 0)), (1, .int x1), (2, .int x2), (3, .int x3), (4, .int x4)] → W p l e rm_m_links s m args below meth c H locs 0 0 QQ (F0 m 32 ls [])) (n : Nat) (x3 : Int32) (x5 : Int32) (ls : Array Slot), LL2 (m_links_p41 σ x1 x2 x4 Q K32) n x3 x5 → gH D ct shM ad s σ H locs → lv_has ls 6 [(0, .ref (ad 0)), (1, .int x1), (2, .int x2), (3, .int x3), (4, .int x4), (5, .int x5)] → W p l e rm_m_links s m args below meth c H locs 0 0 QQ (F0 m 41 ls []) := by
    intro σ H locs x1 x2 x4 K32 hK32 n
    induction n with
    | zero => intro x3 x5 ls hf; exact False.elim hf
    | succ n ih => intro x3 x5 ls hf hw hl; exact B41 σ H locs x1 x2 x4 K32 hK32 (LL2 _ n) (fun x3 x5 ls hf hl => ih x3 x5 ls hf hw hl) x3 x5 ls hf hw hl
  have B32 : ∀ (σ : St) (H : Heap) (locs : List Loc) (x1 : Int32) (x2 : Int32) (K32 : Int32 → Int32 → Prop) (_ : ∀ (x3 : Int32) (x4 : Int32) (ls : Array Slot), K32 x3 x4 → lv_has ls 6 [(0, .ref (ad 0)), (1, .int x1), (2, .int x2), (3, .int x3), (4, .int x4)] → W p l e rm_m_links s m args below meth c H locs 0 0 QQ (F0 m 32 ls [])) (x3 : Int32) (x4 : Int32) (ls : Array Slot), m_links_p32 σ x1 x2 Q K32 x3 x4 → gH D ct shM ad s σ H locs → lv_has ls 6 [(0, .ref (ad 0)), (1, .int x1), (2, .int x2), (3, .int x3), (4, .int x4)] → W p l e rm_m_links s m args below meth c H locs 0 0 QQ (F0 m 32 ls []) := by
    intro σ H locs x1 x2 K32 hK32 x3 x4 ls hf hw hl
    unfold m_links_p32 at hf
    refine lv_iload C.1 C.2.1 dX3_links_32 (lv_at hl 4 rfl) ?_
    refine lv_iload_n C.1 C.2.1 dX3_links_34 rfl (lv_at hl 1 rfl) ?_
    refine lv_icmp_gt (tgt := 95) C.1 C.2.1 dX3_links_35 (by decide) (fun h35 => ?_) (fun h35 => ?_)
    · replace hf := hf.1 h35
      refine lv_iload_n C.1 C.2.1 dX3_links_95 rfl (lv_at hl 3 rfl) ?_
      exact hret _ _ _ _ _ _ hf hw dX3_links_96
    · replace hf := hf.2 h35
      refine lv_iconst (v := 0) C.1 C.2.1 dX3_links_38 rfl ?_
      refine lv_istore (lv' := [(5, .int 0), (0, .ref (ad 0)), (1, .int x1), (2, .int x2), (3, .int x3), (4, .int x4)]) C.1 C.2.1 dX3_links_39 hl (Nat.le_of_ble_eq_true rfl) rfl (fun ls hl => ?_)
      obtain ⟨n, hf⟩ := hf
      exact P41 _ _ _ _ _ _ _ hK32 n _ _ _ hf hw (lv_sub hl [1, 2, 3, 4, 5, 0] rfl)
  have P32 : ∀ (σ : St) (H : Heap) (locs : List Loc) (x1 : Int32) (x2 : Int32) (n : Nat) (x3 : Int32) (x4 : Int32) (ls : Array Slot), LL2 (m_links_p32 σ x1 x2 Q) n x3 x4 → gH D ct shM ad s σ H locs → lv_has ls 6 [(0, .ref (ad 0)), (1, .int x1), (2, .int x2), (3, .int x3), (4, .int x4)] → W p l e rm_m_links s m args below meth c H locs 0 0 QQ (F0 m 32 ls []) := by
    intro σ H locs x1 x2 n
    induction n with
    | zero => intro x3 x4 ls hf; exact False.elim hf
    | succ n ih => intro x3 x4 ls hf hw hl; exact B32 σ H locs x1 x2 (LL2 _ n) (fun x3 x4 ls hf hl => ih x3 x4 ls hf hw hl) x3 x4 ls hf hw hl
  have J23 : ∀ (σ : St) (H : Heap) (locs : List Loc) (x1 : Int32) (x2 : Int32) (ls : Array Slot), m_links_p23 σ x1 x2 Q → gH D ct shM ad s σ H locs → lv_has ls 6 [(0, .ref (ad 0)), (1, .int x1), (2, .int x2)] → W p l e rm_m_links s m args below meth c H locs 0 0 QQ (F0 m 23 ls []) := by
    intro σ H locs x1 x2 ls hf hw hl
    unfold m_links_p23 at hf
    refine lv_aload_n C.1 C.2.1 dX3_links_23 rfl (lv_at hl 0 rfl) ?_
    refine km_laysAlive C hw hl.1 (Nat.le_of_ble_eq_true rfl) ⟨Nat.le_of_ble_eq_true rfl, Nat.le_of_ble_eq_true rfl⟩ dX3_links_24 hf (fun _ s24 H locs hf hw => ?_)
    refine lv_iconst (v := 0) C.1 C.2.1 dX3_links_27 rfl ?_
    refine lv_istore_n (lv' := [(3, .int 0), (0, .ref (ad 0)), (1, .int x1), (2, .int x2)]) C.1 C.2.1 dX3_links_28 rfl hl (Nat.le_of_ble_eq_true rfl) rfl (fun ls hl => ?_)
    refine lv_iconst (v := 0) C.1 C.2.1 dX3_links_29 rfl ?_
    refine lv_istore (lv' := [(4, .int 0), (3, .int 0), (0, .ref (ad 0)), (1, .int x1), (2, .int x2)]) C.1 C.2.1 dX3_links_30 hl (Nat.le_of_ble_eq_true rfl) rfl (fun ls hl => ?_)
    obtain ⟨n, hf⟩ := hf
    exact P32 _ _ _ _ _ n _ _ _ hf hw (lv_sub hl [2, 3, 4, 1, 0] rfl)
  unfold m_links at hf
  obtain ⟨H, hH⟩ : ∃ q, q = s.heap := ⟨_, rfl⟩
  obtain ⟨locs, hL⟩ : ∃ q : List Loc, q = [] := ⟨_, rfl⟩
  rw [← hH, ← hL] at hw ⊢
  refine lv_aload_n C.1 C.2.1 dX3_links_0 rfl (lv_at hl 0 rfl) ?_
  refine lv_iload_n C.1 C.2.1 dX3_links_1 rfl (lv_at hl 1 rfl) ?_
  refine km_isLevel C hw hl.1 (Nat.le_of_ble_eq_true rfl) ⟨Nat.le_of_ble_eq_true rfl, Nat.le_of_ble_eq_true rfl⟩ dX3_links_2 ?_
  refine lv_if_eq (tgt := 21) C.1 C.2.1 dX3_links_5 (by decide) (fun h5 => ?_) (fun h5 => ?_)
  · replace hf := hf.1 h5
    refine lv_iconst (v := (-1)) C.1 C.2.1 dX3_links_21 rfl ?_
    exact hret _ _ _ _ _ _ hf hw dX3_links_22
  · replace hf := hf.2 h5
    refine lv_iload_n C.1 C.2.1 dX3_links_8 rfl (lv_at hl 2 rfl) ?_
    refine lv_iconst (v := (-1)) C.1 C.2.1 dX3_links_9 rfl ?_
    refine lv_icmp_eq (tgt := 23) C.1 C.2.1 dX3_links_10 (by decide) (fun h10 => ?_) (fun h10 => ?_)
    · replace hf := hf.1 h10
      exact J23 _ _ _ _ _ _ hf hw (lv_sub hl [0, 1, 2] rfl)
    · replace hf := hf.2 h10
      refine lv_aload_n C.1 C.2.1 dX3_links_13 rfl (lv_at hl 0 rfl) ?_
      refine lv_iload_n C.1 C.2.1 dX3_links_14 rfl (lv_at hl 2 rfl) ?_
      refine km_isState C hw hl.1 (Nat.le_of_ble_eq_true rfl) ⟨Nat.le_of_ble_eq_true rfl, Nat.le_of_ble_eq_true rfl⟩ dX3_links_15 hf (fun r15 s15 H locs hf hw => ?_)
      refine lv_if_ne (tgt := 23) C.1 C.2.1 dX3_links_18 (by decide) (fun h18 => ?_) (fun h18 => ?_)
      · replace hf := hf.2 h18
        exact J23 _ _ _ _ _ _ hf hw (lv_sub hl [0, 1, 2] rfl)
      · replace hf := hf.1 h18
        refine lv_iconst (v := (-1)) C.1 C.2.1 dX3_links_21 rfl ?_
        exact hret _ _ _ _ _ _ hf hw dX3_links_22
def m_expects_p29 (σ : St) (x1 : Int32) (x3 : Int32) (Q : Int32 → St → Prop) (K18 : Int32 → Int32 → Prop) (K29 : Int32 → Int32 → Prop) (x2 : Int32) (x4 : Int32) : Prop :=
  ((26 ≤ x4 → K18 x2 (x3 + 1)) ∧ (¬ 26 ≤ x4 → (vp_in ((90 * x1) + x3) 1170 ∧ (((gI σ 46 ((90 * x1) + x3)) = 0 → K29 (x2 ||| 0) (x4 + 1)) ∧ (¬ (gI σ 46 ((90 * x1) + x3)) = 0 → (vp_in ((52 * x3) + x4) 4680 ∧ (((gI σ 35 ((52 * x3) + x4)) = (-1) → K29 (x2 ||| 0) (x4 + 1)) ∧ (¬ (gI σ 35 ((52 * x3) + x4)) = (-1) → K29 (x2 ||| (1 <<< (x4 &&& 31))) (x4 + 1)))))))))
def m_expects_p18 (σ : St) (x1 : Int32) (Q : Int32 → St → Prop) (K18 : Int32 → Int32 → Prop) (x2 : Int32) (x3 : Int32) : Prop :=
  (((σ.1 36) ≤ x3 → Q x2 σ) ∧ (¬ (σ.1 36) ≤ x3 → (Lp2 (m_expects_p29 σ x1 x3 Q K18) x2 0)))
def m_expects (σ : St) (x1 : Int32) (Q : Int32 → St → Prop) : Prop :=
  (((fm_isLevel σ x1) = 0 → Q (-1) σ) ∧ (¬ (fm_isLevel σ x1) = 0 → (m_laysAlive σ (fun _ s11 => (Lp2 (m_expects_p18 s11 x1 Q) 0 0)))))
abbrev rm_m_expects : Room := { frames := 9, cells := 0, slots := 0, locals := 220 }
set_option maxHeartbeats 4000000 in
theorem met_m_expects (l : Launch) (D : va_G) (ct : Ct) (ad : Nat → Nat) (hJ : gJ shM ad ct) (σ : St) (x1 : Int32) (Q : Int32 → St → Prop) (hf : m_expects σ x1 Q) : Met l yX3_expects (ws_ yX3_expects cX3_expects 5 (some .int)) rm_m_expects (va_Pc [.ref (ad 0), .int x1] (gP D ct shM ad σ)) (gQ rvI D ct shM ad Q) 0 0 (gA shM ad) := by
  refine g_metI hJ (by decide) (Nat.le_of_ble_eq_true rfl) ?_
  intro p e s m args below meth c QQ ls C hw hl hret
  replace hl : lv_has ls 5 [(0, .ref (ad 0)), (1, .int x1)] := hl
  have B29 : ∀ (σ : St) (H : Heap) (locs : List Loc) (x1 : Int32) (x3 : Int32) (K18 : Int32 → Int32 → Prop) (_ : ∀ (x2 : Int32) (x3 : Int32) (ls : Array Slot), K18 x2 x3 → lv_has ls 5 [(0, .ref (ad 0)), (1, .int x1), (2, .int x2), (3, .int x3)] → W p l e rm_m_expects s m args below meth c H locs 0 0 QQ (F0 m 18 ls [])) (K29 : Int32 → Int32 → Prop) (_ : ∀ (x2 : Int32) (x4 : Int32) (ls : Array Slot), K29 x2 x4 → lv_has ls 5 [(0, .ref (ad 0)), (1, .int x1), (2, .int x2), (3, .int x3), (4, .int x4)] → W p l e rm_m_expects s m args below meth c H locs 0 0 QQ (F0 m 29 ls [])) (x2 : Int32) (x4 : Int32) (ls : Array Slot), m_expects_p29 σ x1 x3 Q K18 K29 x2 x4 → gH D ct shM ad s σ H locs → lv_has ls 5 [(0, .ref (ad 0)), (1, .int x1), (2, .int x2), (3, .int x3), (4, .int x4)] → W p l e rm_m_expects s m args below meth c H locs 0 0 QQ (F0 m 29 ls []) := by
    intro σ H locs x1 x3 K18 hK18 K29 hK29 x2 x4 ls hf hw hl
    unfold m_expects_p29 at hf
    refine lv_iload C.1 C.2.1 dX3_expects_29 (lv_at hl 4 rfl) ?_
    refine lv_bipush (v := 26) C.1 C.2.1 dX3_expects_31 rfl ?_
    refine lv_icmp_ge (tgt := 83) C.1 C.2.1 dX3_expects_33 (by decide) (fun h33 => ?_) (fun h33 => ?_)
    · replace hf := hf.1 h33
      refine lv_iinc (v := (x3 + 1)) (lv' := [(3, .int (x3 + 1)), (0, .ref (ad 0)), (1, .int x1), (2, .int x2), (4, .int x4)]) C.1 C.2.1 dX3_expects_83 hl (k := 3) rfl rfl (Nat.le_of_ble_eq_true rfl) rfl (fun ls hl => ?_)
      refine lv_goto (tgt := 18) C.1 C.2.1 dX3_expects_86 (by decide) ?_
      exact hK18 _ _ _ hf (lv_sub hl [1, 2, 3, 0] rfl)
    · replace hf := hf.2 h33
      refine lv_iload_n C.1 C.2.1 dX3_expects_36 rfl (lv_at hl 2 rfl) ?_
      refine lv_aload_n C.1 C.2.1 dX3_expects_37 rfl (lv_at hl 0 rfl) ?_
      refine mg_isAlive C hw dX3_expects_38 ?_
      refine lv_bipush (v := 90) C.1 C.2.1 dX3_expects_41 rfl ?_
      refine lv_iload_n C.1 C.2.1 dX3_expects_43 rfl (lv_at hl 1 rfl) ?_
      refine lv_imul C.1 C.2.1 dX3_expects_44 ?_
      refine lv_iload_n C.1 C.2.1 dX3_expects_45 rfl (lv_at hl 3 rfl) ?_
      refine lv_iadd C.1 C.2.1 dX3_expects_46 ?_
      obtain ⟨b47, hf⟩ := hf
      refine g_zald C hw 46 rfl b47 dX3_expects_47 ?_
      refine lv_if_eq (tgt := 74) C.1 C.2.1 dX3_expects_48 (by decide) (fun h48 => ?_) (fun h48 => ?_)
      · replace hf := hf.1 h48
        refine lv_iconst (v := 0) C.1 C.2.1 dX3_expects_74 rfl ?_
        refine lv_ior C.1 C.2.1 dX3_expects_75 ?_
        refine lv_istore_n (lv' := [(2, .int (x2 ||| 0)), (0, .ref (ad 0)), (1, .int x1), (3, .int x3), (4, .int x4)]) C.1 C.2.1 dX3_expects_76 rfl hl (Nat.le_of_ble_eq_true rfl) rfl (fun ls hl => ?_)
        refine lv_iinc (v := (x4 + 1)) (lv' := [(4, .int (x4 + 1)), (2, .int (x2 ||| 0)), (0, .ref (ad 0)), (1, .int x1), (3, .int x3)]) C.1 C.2.1 dX3_expects_77 hl (k := 4) rfl rfl (Nat.le_of_ble_eq_true rfl) rfl (fun ls hl => ?_)
        refine lv_goto (tgt := 29) C.1 C.2.1 dX3_expects_80 (by decide) ?_
        exact hK29 _ _ _ hf (lv_sub hl [2, 3, 1, 4, 0] rfl)
      · replace hf := hf.2 h48
        refine lv_aload_n C.1 C.2.1 dX3_expects_51 rfl (lv_at hl 0 rfl) ?_
        refine mg_goTo C hw dX3_expects_52 ?_
        refine lv_bipush (v := 52) C.1 C.2.1 dX3_expects_55 rfl ?_
        refine lv_iload_n C.1 C.2.1 dX3_expects_57 rfl (lv_at hl 3 rfl) ?_
        refine lv_imul C.1 C.2.1 dX3_expects_58 ?_
        refine lv_iload C.1 C.2.1 dX3_expects_59 (lv_at hl 4 rfl) ?_
        refine lv_iadd C.1 C.2.1 dX3_expects_61 ?_
        obtain ⟨b62, hf⟩ := hf
        refine g_iald C hw 35 rfl b62 dX3_expects_62 ?_
        refine lv_iconst (v := (-1)) C.1 C.2.1 dX3_expects_63 rfl ?_
        refine lv_icmp_eq (tgt := 74) C.1 C.2.1 dX3_expects_64 (by decide) (fun h64 => ?_) (fun h64 => ?_)
        · replace hf := hf.1 h64
          refine lv_iconst (v := 0) C.1 C.2.1 dX3_expects_74 rfl ?_
          refine lv_ior C.1 C.2.1 dX3_expects_75 ?_
          refine lv_istore_n (lv' := [(2, .int (x2 ||| 0)), (0, .ref (ad 0)), (1, .int x1), (3, .int x3), (4, .int x4)]) C.1 C.2.1 dX3_expects_76 rfl hl (Nat.le_of_ble_eq_true rfl) rfl (fun ls hl => ?_)
          refine lv_iinc (v := (x4 + 1)) (lv' := [(4, .int (x4 + 1)), (2, .int (x2 ||| 0)), (0, .ref (ad 0)), (1, .int x1), (3, .int x3)]) C.1 C.2.1 dX3_expects_77 hl (k := 4) rfl rfl (Nat.le_of_ble_eq_true rfl) rfl (fun ls hl => ?_)
          refine lv_goto (tgt := 29) C.1 C.2.1 dX3_expects_80 (by decide) ?_
          exact hK29 _ _ _ hf (lv_sub hl [2, 3, 1, 4, 0] rfl)
        · replace hf := hf.2 h64
          refine lv_iconst (v := 1) C.1 C.2.1 dX3_expects_67 rfl ?_
          refine lv_iload C.1 C.2.1 dX3_expects_68 (lv_at hl 4 rfl) ?_
          refine lv_ishl C.1 C.2.1 dX3_expects_70 ?_
          refine lv_goto (tgt := 75) C.1 C.2.1 dX3_expects_71 (by decide) ?_
          refine lv_ior C.1 C.2.1 dX3_expects_75 ?_
          refine lv_istore_n (lv' := [(2, .int (x2 ||| (1 <<< (x4 &&& 31)))), (0, .ref (ad 0)), (1, .int x1), (3, .int x3), (4, .int x4)]) C.1 C.2.1 dX3_expects_76 rfl hl (Nat.le_of_ble_eq_true rfl) rfl (fun ls hl => ?_)
          refine lv_iinc (v := (x4 + 1)) (lv' := [(4, .int (x4 + 1)), (2, .int (x2 ||| (1 <<< (x4 &&& 31)))), (0, .ref (ad 0)), (1, .int x1), (3, .int x3)]) C.1 C.2.1 dX3_expects_77 hl (k := 4) rfl rfl (Nat.le_of_ble_eq_true rfl) rfl (fun ls hl => ?_)
          refine lv_goto (tgt := 29) C.1 C.2.1 dX3_expects_80 (by decide) ?_
          exact hK29 _ _ _ hf (lv_sub hl [2, 3, 1, 4, 0] rfl)
  have P29 : ∀ (σ : St) (H : Heap) (locs : List Loc) (x1 : Int32) (x3 : Int32) (K18 : Int32 → Int32 → Prop) (_ : ∀ (x2 : Int32) (x3 : Int32) (ls : Array Slot), K18 x2 x3 → lv_has ls 5 [(0, .ref (ad 0)), (1, .int x1), (2, .int x2), (3, .int x3)] → W p l e rm_m_expects s m args below meth c H locs 0 0 QQ (F0 m 18 ls [])) (n : Nat) (x2 : Int32) (x4 : Int32) (ls : Array Slot), LL2 (m_expects_p29 σ x1 x3 Q K18) n x2 x4 → gH D ct shM ad s σ H locs → lv_has ls 5 [(0, .ref (ad 0)), (1, .int x1), (2, .int x2), (3, .int x3), (4, .int x4)] → W p l e rm_m_expects s m args below meth c H locs 0 0 QQ (F0 m 29 ls []) := by
    intro σ H locs x1 x3 K18 hK18 n
    induction n with
    | zero => intro x2 x4 ls hf; exact False.elim hf
    | succ n ih => intro x2 x4 ls hf hw hl; exact B29 σ H locs x1 x3 K18 hK18 (LL2 _ n) (fun x2 x4 ls hf hl => ih x2 x4 ls hf hw hl) x2 x4 ls hf hw hl
  have B18 : ∀ (σ : St) (H : Heap) (locs : List Loc) (x1 : Int32) (K18 : Int32 → Int32 → Prop) (_ : ∀ (x2 : Int32) (x3 : Int32) (ls : Array Slot), K18 x2 x3 → lv_has ls 5 [(0, .ref (ad 0)), (1, .int x1), (2, .int x2), (3, .int x3)] → W p l e rm_m_expects s m args below meth c H locs 0 0 QQ (F0 m 18 ls [])) (x2 : Int32) (x3 : Int32) (ls : Array Slot), m_expects_p18 σ x1 Q K18 x2 x3 → gH D ct shM ad s σ H locs → lv_has ls 5 [(0, .ref (ad 0)), (1, .int x1), (2, .int x2), (3, .int x3)] → W p l e rm_m_expects s m args below meth c H locs 0 0 QQ (F0 m 18 ls []) := by
    intro σ H locs x1 K18 hK18 x2 x3 ls hf hw hl
    unfold m_expects_p18 at hf
    refine lv_iload_n C.1 C.2.1 dX3_expects_18 rfl (lv_at hl 3 rfl) ?_
    refine lv_aload_n C.1 C.2.1 dX3_expects_19 rfl (lv_at hl 0 rfl) ?_
    refine mg_manyStates C hw dX3_expects_20 ?_
    refine lv_icmp_ge (tgt := 89) C.1 C.2.1 dX3_expects_23 (by decide) (fun h23 => ?_) (fun h23 => ?_)
    · replace hf := hf.1 h23
      refine lv_iload_n C.1 C.2.1 dX3_expects_89 rfl (lv_at hl 2 rfl) ?_
      exact hret _ _ _ _ _ _ hf hw dX3_expects_90
    · replace hf := hf.2 h23
      refine lv_iconst (v := 0) C.1 C.2.1 dX3_expects_26 rfl ?_
      refine lv_istore (lv' := [(4, .int 0), (0, .ref (ad 0)), (1, .int x1), (2, .int x2), (3, .int x3)]) C.1 C.2.1 dX3_expects_27 hl (Nat.le_of_ble_eq_true rfl) rfl (fun ls hl => ?_)
      obtain ⟨n, hf⟩ := hf
      exact P29 _ _ _ _ _ _ hK18 n _ _ _ hf hw (lv_sub hl [1, 2, 3, 4, 0] rfl)
  have P18 : ∀ (σ : St) (H : Heap) (locs : List Loc) (x1 : Int32) (n : Nat) (x2 : Int32) (x3 : Int32) (ls : Array Slot), LL2 (m_expects_p18 σ x1 Q) n x2 x3 → gH D ct shM ad s σ H locs → lv_has ls 5 [(0, .ref (ad 0)), (1, .int x1), (2, .int x2), (3, .int x3)] → W p l e rm_m_expects s m args below meth c H locs 0 0 QQ (F0 m 18 ls []) := by
    intro σ H locs x1 n
    induction n with
    | zero => intro x2 x3 ls hf; exact False.elim hf
    | succ n ih => intro x2 x3 ls hf hw hl; exact B18 σ H locs x1 (LL2 _ n) (fun x2 x3 ls hf hl => ih x2 x3 ls hf hw hl) x2 x3 ls hf hw hl
  unfold m_expects at hf
  obtain ⟨H, hH⟩ : ∃ q, q = s.heap := ⟨_, rfl⟩
  obtain ⟨locs, hL⟩ : ∃ q : List Loc, q = [] := ⟨_, rfl⟩
  rw [← hH, ← hL] at hw ⊢
  refine lv_aload_n C.1 C.2.1 dX3_expects_0 rfl (lv_at hl 0 rfl) ?_
  refine lv_iload_n C.1 C.2.1 dX3_expects_1 rfl (lv_at hl 1 rfl) ?_
  refine km_isLevel C hw hl.1 (Nat.le_of_ble_eq_true rfl) ⟨Nat.le_of_ble_eq_true rfl, Nat.le_of_ble_eq_true rfl⟩ dX3_expects_2 ?_
  refine lv_if_ne (tgt := 10) C.1 C.2.1 dX3_expects_5 (by decide) (fun h5 => ?_) (fun h5 => ?_)
  · replace hf := hf.2 h5
    refine lv_aload_n C.1 C.2.1 dX3_expects_10 rfl (lv_at hl 0 rfl) ?_
    refine km_laysAlive C hw hl.1 (Nat.le_of_ble_eq_true rfl) ⟨Nat.le_of_ble_eq_true rfl, Nat.le_of_ble_eq_true rfl⟩ dX3_expects_11 hf (fun _ s11 H locs hf hw => ?_)
    refine lv_iconst (v := 0) C.1 C.2.1 dX3_expects_14 rfl ?_
    refine lv_istore_n (lv' := [(2, .int 0), (0, .ref (ad 0)), (1, .int x1)]) C.1 C.2.1 dX3_expects_15 rfl hl (Nat.le_of_ble_eq_true rfl) rfl (fun ls hl => ?_)
    refine lv_iconst (v := 0) C.1 C.2.1 dX3_expects_16 rfl ?_
    refine lv_istore_n (lv' := [(3, .int 0), (2, .int 0), (0, .ref (ad 0)), (1, .int x1)]) C.1 C.2.1 dX3_expects_17 rfl hl (Nat.le_of_ble_eq_true rfl) rfl (fun ls hl => ?_)
    obtain ⟨n, hf⟩ := hf
    exact P18 _ _ _ _ n _ _ _ hf hw (lv_sub hl [2, 3, 1, 0] rfl)
  · replace hf := hf.1 h5
    refine lv_iconst (v := (-1)) C.1 C.2.1 dX3_expects_8 rfl ?_
    exact hret _ _ _ _ _ _ hf hw dX3_expects_9
def m_trees_p90 (σ : St) (x1 : Int32) (x2 : Int32) (x3 : Int32) (x4 : Int64) (x6 : Int32) (x7 : Int32) (Q : Int32 → St → Prop) (K29 : Int64 → Int32 → Prop) : Prop :=
  ((x7 = 0 → K29 (x4 + 0) (x6 + 1)) ∧ (¬ x7 = 0 → (vp_in (fm_spot x6 x2 x3) 2028 ∧ K29 (x4 + (gL σ 48 (fm_spot x6 x2 x3))) (x6 + 1))))
def m_trees_p65 (σ : St) (x1 : Int32) (x2 : Int32) (x3 : Int32) (x4 : Int64) (x6 : Int32) (Q : Int32 → St → Prop) (K29 : Int64 → Int32 → Prop) (v0 : Int32) : Prop :=
  ((v0 = 0 → (m_trees_p90 σ x1 x2 x3 x4 x6 v0 Q K29)) ∧ (¬ v0 = 0 → (vp_in (fm_spot x6 x2 x3) 2028 ∧ (((gI σ 47 (fm_spot x6 x2 x3)) = 0 → (m_trees_p90 σ x1 x2 x3 x4 x6 v0 Q K29)) ∧ (¬ (gI σ 47 (fm_spot x6 x2 x3)) = 0 → Q (-3) σ)))))
def m_trees_p64 (σ : St) (x1 : Int32) (x2 : Int32) (x3 : Int32) (x4 : Int64) (x6 : Int32) (Q : Int32 → St → Prop) (K29 : Int64 → Int32 → Prop) : Prop :=
  (m_trees_p65 σ x1 x2 x3 x4 x6 Q K29 0)
def m_trees_p29 (σ : St) (x1 : Int32) (x2 : Int32) (x3 : Int32) (Q : Int32 → St → Prop) (K29 : Int64 → Int32 → Prop) (x4 : Int64) (x6 : Int32) : Prop :=
  (((gI σ 2 0) ≤ x6 → ((x4 < 2147483648 → Q (Int64.toInt32 x4) σ) ∧ (¬ x4 < 2147483648 → Q (-2) σ))) ∧ (¬ (gI σ 2 0) ≤ x6 → (((fm_isOn σ x6) = 0 → (m_trees_p64 σ x1 x2 x3 x4 x6 Q K29)) ∧ (¬ (fm_isOn σ x6) = 0 → (vp_in x6 12 ∧ (((gI σ 3 x6) = x1 → (m_trees_p65 σ x1 x2 x3 x4 x6 Q K29 1)) ∧ (¬ (gI σ 3 x6) = x1 → (m_trees_p64 σ x1 x2 x3 x4 x6 Q K29))))))))
def m_trees (σ : St) (x1 : Int32) (x2 : Int32) (x3 : Int32) (Q : Int32 → St → Prop) : Prop :=
  (m_isLeft σ x1 (fun r2 => ((r2 = 0 → Q (-1) σ) ∧ (¬ r2 = 0 → (((fm_isPart σ x2 x3) = 0 → Q (-1) σ) ∧ (¬ (fm_isPart σ x2 x3) = 0 → (m_laysTrees σ (fun _ s20 => (Lp2 (m_trees_p29 s20 x1 x2 x3 Q) 0 0)))))))))
abbrev rm_m_trees : Room := { frames := 9, cells := 0, slots := 0, locals := 221 }
set_option maxHeartbeats 4000000 in
theorem met_m_trees (l : Launch) (D : va_G) (ct : Ct) (ad : Nat → Nat) (hJ : gJ shM ad ct) (σ : St) (x1 : Int32) (x2 : Int32) (x3 : Int32) (Q : Int32 → St → Prop) (hf : m_trees σ x1 x2 x3 Q) : Met l yX3_trees (ws_ yX3_trees cX3_trees 8 (some .int)) rm_m_trees (va_Pc [.ref (ad 0), .int x1, .int x2, .int x3] (gP D ct shM ad σ)) (gQ rvI D ct shM ad Q) 0 0 (gA shM ad) := by
  refine g_metI hJ (by decide) (Nat.le_of_ble_eq_true rfl) ?_
  intro p e s m args below meth c QQ ls C hw hl hret
  replace hl : lv_has ls 8 [(0, .ref (ad 0)), (1, .int x1), (2, .int x2), (3, .int x3)] := hl
  have J90 : ∀ (σ : St) (H : Heap) (locs : List Loc) (x1 : Int32) (x2 : Int32) (x3 : Int32) (x4 : Int64) (x6 : Int32) (x7 : Int32) (K29 : Int64 → Int32 → Prop) (_ : ∀ (x4 : Int64) (x6 : Int32) (ls : Array Slot), K29 x4 x6 → lv_has ls 8 [(0, .ref (ad 0)), (1, .int x1), (2, .int x2), (3, .int x3), (4, .long x4), (6, .int x6)] → W p l e rm_m_trees s m args below meth c H locs 0 0 QQ (F0 m 29 ls [])) (ls : Array Slot), m_trees_p90 σ x1 x2 x3 x4 x6 x7 Q K29 → gH D ct shM ad s σ H locs → lv_has ls 8 [(0, .ref (ad 0)), (1, .int x1), (2, .int x2), (3, .int x3), (4, .long x4), (6, .int x6), (7, .int x7)] → W p l e rm_m_trees s m args below meth c H locs 0 0 QQ (F0 m 90 ls []) := by
    intro σ H locs x1 x2 x3 x4 x6 x7 K29 hK29 ls hf hw hl
    unfold m_trees_p90 at hf
    refine lv_lload C.1 C.2.1 dX3_trees_90 (lv_at hl 4 rfl) ?_
    refine lv_iload C.1 C.2.1 dX3_trees_92 (lv_at hl 6 rfl) ?_
    refine lv_if_eq (tgt := 112) C.1 C.2.1 dX3_trees_94 (by decide) (fun h94 => ?_) (fun h94 => ?_)
    · replace hf := hf.1 h94
      refine lv_lconst (v := 0) C.1 C.2.1 dX3_trees_112 rfl ?_
      refine lv_ladd C.1 C.2.1 dX3_trees_113 ?_
      refine lv_lstore (lv' := [(4, .long (x4 + 0)), (0, .ref (ad 0)), (1, .int x1), (2, .int x2), (3, .int x3), (6, .int x6), (7, .int x7)]) C.1 C.2.1 dX3_trees_114 hl (Nat.le_of_ble_eq_true rfl) rfl (fun ls hl => ?_)
      refine lv_iinc (v := (x6 + 1)) (lv' := [(6, .int (x6 + 1)), (4, .long (x4 + 0)), (0, .ref (ad 0)), (1, .int x1), (2, .int x2), (3, .int x3), (7, .int x7)]) C.1 C.2.1 dX3_trees_116 hl (k := 5) rfl rfl (Nat.le_of_ble_eq_true rfl) rfl (fun ls hl => ?_)
      refine lv_goto (tgt := 29) C.1 C.2.1 dX3_trees_119 (by decide) ?_
      exact hK29 _ _ _ hf (lv_sub hl [2, 3, 4, 5, 1, 0] rfl)
    · replace hf := hf.2 h94
      refine lv_aload_n C.1 C.2.1 dX3_trees_97 rfl (lv_at hl 0 rfl) ?_
      refine mg_manyTrees C hw dX3_trees_98 ?_
      refine lv_iload C.1 C.2.1 dX3_trees_101 (lv_at hl 5 rfl) ?_
      refine lv_iload_n C.1 C.2.1 dX3_trees_103 rfl (lv_at hl 2 rfl) ?_
      refine lv_iload_n C.1 C.2.1 dX3_trees_104 rfl (lv_at hl 3 rfl) ?_
      refine km_spot C hl.1 (Nat.le_of_ble_eq_true rfl) ⟨Nat.le_of_ble_eq_true rfl, Nat.le_of_ble_eq_true rfl⟩ dX3_trees_105 ?_
      obtain ⟨b108, hf⟩ := hf
      refine g_lald C hw 48 rfl b108 dX3_trees_108 ?_
      refine lv_goto (tgt := 113) C.1 C.2.1 dX3_trees_109 (by decide) ?_
      refine lv_ladd C.1 C.2.1 dX3_trees_113 ?_
      refine lv_lstore (lv' := [(4, .long (x4 + (gL σ 48 (fm_spot x6 x2 x3)))), (0, .ref (ad 0)), (1, .int x1), (2, .int x2), (3, .int x3), (6, .int x6), (7, .int x7)]) C.1 C.2.1 dX3_trees_114 hl (Nat.le_of_ble_eq_true rfl) rfl (fun ls hl => ?_)
      refine lv_iinc (v := (x6 + 1)) (lv' := [(6, .int (x6 + 1)), (4, .long (x4 + (gL σ 48 (fm_spot x6 x2 x3)))), (0, .ref (ad 0)), (1, .int x1), (2, .int x2), (3, .int x3), (7, .int x7)]) C.1 C.2.1 dX3_trees_116 hl (k := 5) rfl rfl (Nat.le_of_ble_eq_true rfl) rfl (fun ls hl => ?_)
      refine lv_goto (tgt := 29) C.1 C.2.1 dX3_trees_119 (by decide) ?_
      exact hK29 _ _ _ hf (lv_sub hl [2, 3, 4, 5, 1, 0] rfl)
  have J65 : ∀ (σ : St) (H : Heap) (locs : List Loc) (x1 : Int32) (x2 : Int32) (x3 : Int32) (x4 : Int64) (x6 : Int32) (v0 : Int32) (K29 : Int64 → Int32 → Prop) (_ : ∀ (x4 : Int64) (x6 : Int32) (ls : Array Slot), K29 x4 x6 → lv_has ls 8 [(0, .ref (ad 0)), (1, .int x1), (2, .int x2), (3, .int x3), (4, .long x4), (6, .int x6)] → W p l e rm_m_trees s m args below meth c H locs 0 0 QQ (F0 m 29 ls [])) (ls : Array Slot), m_trees_p65 σ x1 x2 x3 x4 x6 Q K29 v0 → gH D ct shM ad s σ H locs → lv_has ls 8 [(0, .ref (ad 0)), (1, .int x1), (2, .int x2), (3, .int x3), (4, .long x4), (6, .int x6)] → W p l e rm_m_trees s m args below meth c H locs 0 0 QQ (F0 m 65 ls [.int v0]) := by
    intro σ H locs x1 x2 x3 x4 x6 v0 K29 hK29 ls hf hw hl
    unfold m_trees_p65 at hf
    refine lv_istore (lv' := [(7, .int v0), (0, .ref (ad 0)), (1, .int x1), (2, .int x2), (3, .int x3), (4, .long x4), (6, .int x6)]) C.1 C.2.1 dX3_trees_65 hl (Nat.le_of_ble_eq_true rfl) rfl (fun ls hl => ?_)
    refine lv_iload C.1 C.2.1 dX3_trees_67 (lv_at hl 0 rfl) ?_
    refine lv_if_eq (tgt := 90) C.1 C.2.1 dX3_trees_69 (by decide) (fun h69 => ?_) (fun h69 => ?_)
    · replace hf := hf.1 h69
      exact J90 _ _ _ _ _ _ _ _ _ _ hK29 _ hf hw (lv_sub hl [1, 2, 3, 4, 5, 6, 0] rfl)
    · replace hf := hf.2 h69
      refine lv_aload_n C.1 C.2.1 dX3_trees_72 rfl (lv_at hl 1 rfl) ?_
      refine mg_isEndless C hw dX3_trees_73 ?_
      refine lv_iload C.1 C.2.1 dX3_trees_76 (lv_at hl 6 rfl) ?_
      refine lv_iload_n C.1 C.2.1 dX3_trees_78 rfl (lv_at hl 3 rfl) ?_
      refine lv_iload_n C.1 C.2.1 dX3_trees_79 rfl (lv_at hl 4 rfl) ?_
      refine km_spot C hl.1 (Nat.le_of_ble_eq_true rfl) ⟨Nat.le_of_ble_eq_true rfl, Nat.le_of_ble_eq_true rfl⟩ dX3_trees_80 ?_
      obtain ⟨b83, hf⟩ := hf
      refine g_zald C hw 47 rfl b83 dX3_trees_83 ?_
      refine lv_if_eq (tgt := 90) C.1 C.2.1 dX3_trees_84 (by decide) (fun h84 => ?_) (fun h84 => ?_)
      · replace hf := hf.1 h84
        exact J90 _ _ _ _ _ _ _ _ _ _ hK29 _ hf hw (lv_sub hl [1, 2, 3, 4, 5, 6, 0] rfl)
      · replace hf := hf.2 h84
        refine lv_bipush (v := (-3)) C.1 C.2.1 dX3_trees_87 rfl ?_
        exact hret _ _ _ _ _ _ hf hw dX3_trees_89
  have J64 : ∀ (σ : St) (H : Heap) (locs : List Loc) (x1 : Int32) (x2 : Int32) (x3 : Int32) (x4 : Int64) (x6 : Int32) (K29 : Int64 → Int32 → Prop) (_ : ∀ (x4 : Int64) (x6 : Int32) (ls : Array Slot), K29 x4 x6 → lv_has ls 8 [(0, .ref (ad 0)), (1, .int x1), (2, .int x2), (3, .int x3), (4, .long x4), (6, .int x6)] → W p l e rm_m_trees s m args below meth c H locs 0 0 QQ (F0 m 29 ls [])) (ls : Array Slot), m_trees_p64 σ x1 x2 x3 x4 x6 Q K29 → gH D ct shM ad s σ H locs → lv_has ls 8 [(0, .ref (ad 0)), (1, .int x1), (2, .int x2), (3, .int x3), (4, .long x4), (6, .int x6)] → W p l e rm_m_trees s m args below meth c H locs 0 0 QQ (F0 m 64 ls []) := by
    intro σ H locs x1 x2 x3 x4 x6 K29 hK29 ls hf hw hl
    unfold m_trees_p64 at hf
    refine lv_iconst (v := 0) C.1 C.2.1 dX3_trees_64 rfl ?_
    exact J65 _ _ _ _ _ _ _ _ _ _ hK29 _ hf hw (lv_sub hl [0, 1, 2, 3, 4, 5] rfl)
  have B29 : ∀ (σ : St) (H : Heap) (locs : List Loc) (x1 : Int32) (x2 : Int32) (x3 : Int32) (K29 : Int64 → Int32 → Prop) (_ : ∀ (x4 : Int64) (x6 : Int32) (ls : Array Slot), K29 x4 x6 → lv_has ls 8 [(0, .ref (ad 0)), (1, .int x1), (2, .int x2), (3, .int x3), (4, .long x4), (6, .int x6)] → W p l e rm_m_trees s m args below meth c H locs 0 0 QQ (F0 m 29 ls [])) (x4 : Int64) (x6 : Int32) (ls : Array Slot), m_trees_p29 σ x1 x2 x3 Q K29 x4 x6 → gH D ct shM ad s σ H locs → lv_has ls 8 [(0, .ref (ad 0)), (1, .int x1), (2, .int x2), (3, .int x3), (4, .long x4), (6, .int x6)] → W p l e rm_m_trees s m args below meth c H locs 0 0 QQ (F0 m 29 ls []) := by
    intro σ H locs x1 x2 x3 K29 hK29 x4 x6 ls hf hw hl
    unfold m_trees_p29 at hf
    refine lv_iload C.1 C.2.1 dX3_trees_29 (lv_at hl 5 rfl) ?_
    refine lv_aload_n C.1 C.2.1 dX3_trees_31 rfl (lv_at hl 0 rfl) ?_
    refine mg_scalar C hw dX3_trees_32 ?_
    refine lv_iconst (v := 0) C.1 C.2.1 dX3_trees_35 rfl ?_
    refine g_iald C hw 2 rfl (vpD rfl) dX3_trees_36 ?_
    refine lv_icmp_ge (tgt := 122) C.1 C.2.1 dX3_trees_37 (by decide) (fun h37 => ?_) (fun h37 => ?_)
    · replace hf := hf.1 h37
      refine lv_lload C.1 C.2.1 dX3_trees_122 (lv_at hl 4 rfl) ?_
      refine lv_ldc2 C.1 C.2.1 C.2.2.2.1 (C.2.2.2.2 _ q1991) dX3_trees_124 ?_
      refine W.lcmp C.1 C.2.1 dX3_trees_127 ?_
      refine lv_if_lt (tgt := 136) C.1 C.2.1 dX3_trees_128 (by decide) (fun h128 => ?_) (fun h128 => ?_)
      · replace hf := hf.1 ((lg_cmp_lt _ _).mp h128)
        refine lv_lload C.1 C.2.1 dX3_trees_136 (lv_at hl 4 rfl) ?_
        refine lv_l2i C.1 C.2.1 dX3_trees_138 rfl ?_
        exact hret _ _ _ _ _ _ hf hw dX3_trees_139
      · replace hf := hf.2 (fun q => h128 ((lg_cmp_lt _ _).mpr q))
        refine lv_bipush (v := (-2)) C.1 C.2.1 dX3_trees_131 rfl ?_
        refine lv_goto (tgt := 139) C.1 C.2.1 dX3_trees_133 (by decide) ?_
        exact hret _ _ _ _ _ _ hf hw dX3_trees_139
    · replace hf := hf.2 h37
      refine lv_aload_n C.1 C.2.1 dX3_trees_40 rfl (lv_at hl 0 rfl) ?_
      refine lv_iload C.1 C.2.1 dX3_trees_41 (lv_at hl 5 rfl) ?_
      refine km_isOn C hw hl.1 (Nat.le_of_ble_eq_true rfl) ⟨Nat.le_of_ble_eq_true rfl, Nat.le_of_ble_eq_true rfl⟩ dX3_trees_43 ?_
      refine lv_if_eq (tgt := 64) C.1 C.2.1 dX3_trees_46 (by decide) (fun h46 => ?_) (fun h46 => ?_)
      · replace hf := hf.1 h46
        exact J64 _ _ _ _ _ _ _ _ _ hK29 _ hf hw (lv_sub hl [0, 1, 2, 3, 4, 5] rfl)
      · replace hf := hf.2 h46
        refine lv_aload_n C.1 C.2.1 dX3_trees_49 rfl (lv_at hl 0 rfl) ?_
        refine mg_left C hw dX3_trees_50 ?_
        refine lv_iload C.1 C.2.1 dX3_trees_53 (lv_at hl 5 rfl) ?_
        obtain ⟨b55, hf⟩ := hf
        refine g_iald C hw 3 rfl b55 dX3_trees_55 ?_
        refine lv_iload_n C.1 C.2.1 dX3_trees_56 rfl (lv_at hl 1 rfl) ?_
        refine lv_icmp_ne (tgt := 64) C.1 C.2.1 dX3_trees_57 (by decide) (fun h57 => ?_) (fun h57 => ?_)
        · replace hf := hf.2 h57
          exact J64 _ _ _ _ _ _ _ _ _ hK29 _ hf hw (lv_sub hl [0, 1, 2, 3, 4, 5] rfl)
        · replace hf := hf.1 h57
          refine lv_iconst (v := 1) C.1 C.2.1 dX3_trees_60 rfl ?_
          refine lv_goto (tgt := 65) C.1 C.2.1 dX3_trees_61 (by decide) ?_
          exact J65 _ _ _ _ _ _ _ _ _ _ hK29 _ hf hw (lv_sub hl [0, 1, 2, 3, 4, 5] rfl)
  have P29 : ∀ (σ : St) (H : Heap) (locs : List Loc) (x1 : Int32) (x2 : Int32) (x3 : Int32) (n : Nat) (x4 : Int64) (x6 : Int32) (ls : Array Slot), LL2 (m_trees_p29 σ x1 x2 x3 Q) n x4 x6 → gH D ct shM ad s σ H locs → lv_has ls 8 [(0, .ref (ad 0)), (1, .int x1), (2, .int x2), (3, .int x3), (4, .long x4), (6, .int x6)] → W p l e rm_m_trees s m args below meth c H locs 0 0 QQ (F0 m 29 ls []) := by
    intro σ H locs x1 x2 x3 n
    induction n with
    | zero => intro x4 x6 ls hf; exact False.elim hf
    | succ n ih => intro x4 x6 ls hf hw hl; exact B29 σ H locs x1 x2 x3 (LL2 _ n) (fun x4 x6 ls hf hl => ih x4 x6 ls hf hw hl) x4 x6 ls hf hw hl
  unfold m_trees at hf
  obtain ⟨H, hH⟩ : ∃ q, q = s.heap := ⟨_, rfl⟩
  obtain ⟨locs, hL⟩ : ∃ q : List Loc, q = [] := ⟨_, rfl⟩
  rw [← hH, ← hL] at hw ⊢
  refine lv_aload_n C.1 C.2.1 dX3_trees_0 rfl (lv_at hl 0 rfl) ?_
  refine lv_iload_n C.1 C.2.1 dX3_trees_1 rfl (lv_at hl 1 rfl) ?_
  refine km_isLeft C hw hl.1 (Nat.le_of_ble_eq_true rfl) ⟨Nat.le_of_ble_eq_true rfl, Nat.le_of_ble_eq_true rfl⟩ dX3_trees_2 hf (fun r2 hf => ?_)
  refine lv_if_eq (tgt := 17) C.1 C.2.1 dX3_trees_5 (by decide) (fun h5 => ?_) (fun h5 => ?_)
  · replace hf := hf.1 h5
    refine lv_iconst (v := (-1)) C.1 C.2.1 dX3_trees_17 rfl ?_
    exact hret _ _ _ _ _ _ hf hw dX3_trees_18
  · replace hf := hf.2 h5
    refine lv_aload_n C.1 C.2.1 dX3_trees_8 rfl (lv_at hl 0 rfl) ?_
    refine lv_iload_n C.1 C.2.1 dX3_trees_9 rfl (lv_at hl 2 rfl) ?_
    refine lv_iload_n C.1 C.2.1 dX3_trees_10 rfl (lv_at hl 3 rfl) ?_
    refine km_isPart C hw hl.1 (Nat.le_of_ble_eq_true rfl) ⟨Nat.le_of_ble_eq_true rfl, Nat.le_of_ble_eq_true rfl⟩ dX3_trees_11 ?_
    refine lv_if_ne (tgt := 19) C.1 C.2.1 dX3_trees_14 (by decide) (fun h14 => ?_) (fun h14 => ?_)
    · replace hf := hf.2 h14
      refine lv_aload_n C.1 C.2.1 dX3_trees_19 rfl (lv_at hl 0 rfl) ?_
      refine km_laysTrees C hw hl.1 (Nat.le_of_ble_eq_true rfl) ⟨Nat.le_of_ble_eq_true rfl, Nat.le_of_ble_eq_true rfl⟩ dX3_trees_20 hf (fun _ s20 H locs hf hw => ?_)
      refine lv_lconst (v := 0) C.1 C.2.1 dX3_trees_23 rfl ?_
      refine lv_lstore (lv' := [(4, .long 0), (0, .ref (ad 0)), (1, .int x1), (2, .int x2), (3, .int x3)]) C.1 C.2.1 dX3_trees_24 hl (Nat.le_of_ble_eq_true rfl) rfl (fun ls hl => ?_)
      refine lv_iconst (v := 0) C.1 C.2.1 dX3_trees_26 rfl ?_
      refine lv_istore (lv' := [(6, .int 0), (4, .long 0), (0, .ref (ad 0)), (1, .int x1), (2, .int x2), (3, .int x3)]) C.1 C.2.1 dX3_trees_27 hl (Nat.le_of_ble_eq_true rfl) rfl (fun ls hl => ?_)
      obtain ⟨n, hf⟩ := hf
      exact P29 _ _ _ _ _ _ n _ _ _ hf hw (lv_sub hl [2, 3, 4, 5, 1, 0] rfl)
    · replace hf := hf.1 h14
      refine lv_iconst (v := (-1)) C.1 C.2.1 dX3_trees_17 rfl ?_
      exact hret _ _ _ _ _ _ hf hw dX3_trees_18
def m_piece (σ : St) (x1 : Int32) (x2 : Int32) (x3 : Int32) (Q : Int32 → St → Prop) : Prop :=
  (((fm_isRule σ x1) = 0 → Q (-1) σ) ∧ (¬ (fm_isRule σ x1) = 0 → (((fm_isPart σ x2 x3) = 0 → Q (-1) σ) ∧ (¬ (fm_isPart σ x2 x3) = 0 → (m_laysForest σ (fun _ s20 => (vp_in (fm_spot x1 x2 x3) 2028 ∧ (((gI s20 52 (fm_spot x1 x2 x3)) = 0 → Q 0 s20) ∧ (¬ (gI s20 52 (fm_spot x1 x2 x3)) = 0 → Q 1 s20)))))))))
abbrev rm_m_piece : Room := { frames := 9, cells := 0, slots := 0, locals := 220 }
set_option maxHeartbeats 4000000 in
theorem met_m_piece (l : Launch) (D : va_G) (ct : Ct) (ad : Nat → Nat) (hJ : gJ shM ad ct) (σ : St) (x1 : Int32) (x2 : Int32) (x3 : Int32) (Q : Int32 → St → Prop) (hf : m_piece σ x1 x2 x3 Q) : Met l yX3_piece (ws_ yX3_piece cX3_piece 4 (some .int)) rm_m_piece (va_Pc [.ref (ad 0), .int x1, .int x2, .int x3] (gP D ct shM ad σ)) (gQ rvI D ct shM ad Q) 0 0 (gA shM ad) := by
  refine g_metI hJ (by decide) (Nat.le_of_ble_eq_true rfl) ?_
  intro p e s m args below meth c QQ ls C hw hl hret
  replace hl : lv_has ls 4 [(0, .ref (ad 0)), (1, .int x1), (2, .int x2), (3, .int x3)] := hl
  unfold m_piece at hf
  obtain ⟨H, hH⟩ : ∃ q, q = s.heap := ⟨_, rfl⟩
  obtain ⟨locs, hL⟩ : ∃ q : List Loc, q = [] := ⟨_, rfl⟩
  rw [← hH, ← hL] at hw ⊢
  refine lv_aload_n C.1 C.2.1 dX3_piece_0 rfl (lv_at hl 0 rfl) ?_
  refine lv_iload_n C.1 C.2.1 dX3_piece_1 rfl (lv_at hl 1 rfl) ?_
  refine km_isRule C hw hl.1 (Nat.le_of_ble_eq_true rfl) ⟨Nat.le_of_ble_eq_true rfl, Nat.le_of_ble_eq_true rfl⟩ dX3_piece_2 ?_
  refine lv_if_eq (tgt := 17) C.1 C.2.1 dX3_piece_5 (by decide) (fun h5 => ?_) (fun h5 => ?_)
  · replace hf := hf.1 h5
    refine lv_iconst (v := (-1)) C.1 C.2.1 dX3_piece_17 rfl ?_
    exact hret _ _ _ _ _ _ hf hw dX3_piece_18
  · replace hf := hf.2 h5
    refine lv_aload_n C.1 C.2.1 dX3_piece_8 rfl (lv_at hl 0 rfl) ?_
    refine lv_iload_n C.1 C.2.1 dX3_piece_9 rfl (lv_at hl 2 rfl) ?_
    refine lv_iload_n C.1 C.2.1 dX3_piece_10 rfl (lv_at hl 3 rfl) ?_
    refine km_isPart C hw hl.1 (Nat.le_of_ble_eq_true rfl) ⟨Nat.le_of_ble_eq_true rfl, Nat.le_of_ble_eq_true rfl⟩ dX3_piece_11 ?_
    refine lv_if_ne (tgt := 19) C.1 C.2.1 dX3_piece_14 (by decide) (fun h14 => ?_) (fun h14 => ?_)
    · replace hf := hf.2 h14
      refine lv_aload_n C.1 C.2.1 dX3_piece_19 rfl (lv_at hl 0 rfl) ?_
      refine km_laysForest C hw hl.1 (Nat.le_of_ble_eq_true rfl) ⟨Nat.le_of_ble_eq_true rfl, Nat.le_of_ble_eq_true rfl⟩ dX3_piece_20 hf (fun _ s20 H locs hf hw => ?_)
      refine lv_aload_n C.1 C.2.1 dX3_piece_23 rfl (lv_at hl 0 rfl) ?_
      refine mg_isPiece C hw dX3_piece_24 ?_
      refine lv_iload_n C.1 C.2.1 dX3_piece_27 rfl (lv_at hl 1 rfl) ?_
      refine lv_iload_n C.1 C.2.1 dX3_piece_28 rfl (lv_at hl 2 rfl) ?_
      refine lv_iload_n C.1 C.2.1 dX3_piece_29 rfl (lv_at hl 3 rfl) ?_
      refine km_spot C hl.1 (Nat.le_of_ble_eq_true rfl) ⟨Nat.le_of_ble_eq_true rfl, Nat.le_of_ble_eq_true rfl⟩ dX3_piece_30 ?_
      obtain ⟨b33, hf⟩ := hf
      refine g_zald C hw 52 rfl b33 dX3_piece_33 ?_
      refine lv_if_eq (tgt := 41) C.1 C.2.1 dX3_piece_34 (by decide) (fun h34 => ?_) (fun h34 => ?_)
      · replace hf := hf.1 h34
        refine lv_iconst (v := 0) C.1 C.2.1 dX3_piece_41 rfl ?_
        exact hret _ _ _ _ _ _ hf hw dX3_piece_42
      · replace hf := hf.2 h34
        refine lv_iconst (v := 1) C.1 C.2.1 dX3_piece_37 rfl ?_
        refine lv_goto (tgt := 42) C.1 C.2.1 dX3_piece_38 (by decide) ?_
        exact hret _ _ _ _ _ _ hf hw dX3_piece_42
    · replace hf := hf.1 h14
      refine lv_iconst (v := (-1)) C.1 C.2.1 dX3_piece_17 rfl ?_
      exact hret _ _ _ _ _ _ hf hw dX3_piece_18
def m_countsForest_p94 (x1 : Int32) (x2 : Int32) (Q : Unit → St → Prop) (K66 : St → Int32 → Prop) (K74 : St → Int32 → Prop) (K94 : St → Int32 → Prop) (σ : St) (x3 : Int32) : Prop :=
  (((gI σ 2 2) < x3 → K74 σ (x2 + 1)) ∧ (¬ (gI σ 2 2) < x3 → (m_countsNode σ x1 x2 x3 (fun _ s108 => K94 s108 (x3 + 1)))))
def m_countsForest_p74 (x1 : Int32) (Q : Unit → St → Prop) (K66 : St → Int32 → Prop) (K74 : St → Int32 → Prop) (σ : St) (x2 : Int32) : Prop :=
  (((gI σ 2 2) < x2 → K66 σ (x1 + 1)) ∧ (¬ (gI σ 2 2) < x2 → (m_isLeft σ x1 (fun r86 => ((r86 = 0 → K66 σ (x1 + 1)) ∧ (¬ r86 = 0 → (Lp2 (m_countsForest_p94 x1 x2 Q K66 K74) σ x2)))))))
def m_countsForest_p66 (Q : Unit → St → Prop) (K66 : St → Int32 → Prop) (σ : St) (x1 : Int32) : Prop :=
  ((52 ≤ x1 → Q () σ) ∧ (¬ 52 ≤ x1 → (Lp2 (m_countsForest_p74 x1 Q K66) σ 0)))
def m_countsForest_p53 (σ : St) (x1 : Int32) (Q : Unit → St → Prop) (K27 : St → Int32 → Prop) (v0 : Int32) (v1 : Int32) : Prop :=
  (∀ s54 : St, s54 = s_I σ 55 (v1 + v0) → K27 s54 (x1 + 1))
def m_countsForest_p27 (Q : Unit → St → Prop) (K27 : St → Int32 → Prop) (σ : St) (x1 : Int32) : Prop :=
  ((2028 ≤ x1 → (Lp2 (m_countsForest_p66 Q) σ 26)) ∧ (¬ 2028 ≤ x1 → (vp_in x1 2028 ∧ (((gI σ 52 x1) = 0 → (m_countsForest_p53 σ x1 Q K27 0 (σ.1 55))) ∧ (¬ (gI σ 52 x1) = 0 → (m_countsForest_p53 σ x1 Q K27 1 (σ.1 55)))))))
def m_countsForest (σ : St) (Q : Unit → St → Prop) : Prop :=
  (m_laysForest σ (fun _ s1 => (∀ s6 : St, s6 = s_I s1 55 0 → (∀ s11 : St, s11 = s_I s6 56 0 → (∀ s16 : St, s16 = s_I s11 57 0 → (∀ s22 : St, s22 = s_I s16 58 (-2) → (Lp2 (m_countsForest_p27 Q) s22 0)))))))
abbrev rm_m_countsForest : Room := { frames := 9, cells := 0, slots := 0, locals := 220 }
set_option maxHeartbeats 4000000 in
theorem met_m_countsForest (l : Launch) (D : va_G) (ct : Ct) (ad : Nat → Nat) (hJ : gJ shM ad ct) (σ : St) (Q : Unit → St → Prop) (hf : m_countsForest σ Q) : Met l yX3_countsForest (ws_ yX3_countsForest cX3_countsForest 4 (none)) rm_m_countsForest (va_Pc [.ref (ad 0)] (gP D ct shM ad σ)) (gQ rvV D ct shM ad Q) 0 0 (gA shM ad) := by
  refine g_metV hJ (by decide) (Nat.le_of_ble_eq_true rfl) ?_
  intro p e s m args below meth c QQ ls C hw hl hret
  replace hl : lv_has ls 4 [(0, .ref (ad 0))] := hl
  have B94 : ∀ (x1 : Int32) (x2 : Int32) (K66 : St → Int32 → Prop) (_ : ∀ (σ : St) (H : Heap) (locs : List Loc) (x1 : Int32) (ls : Array Slot), K66 σ x1 → gH D ct shM ad s σ H locs → lv_has ls 4 [(0, .ref (ad 0)), (1, .int x1)] → W p l e rm_m_countsForest s m args below meth c H locs 0 0 QQ (F0 m 66 ls [])) (K74 : St → Int32 → Prop) (_ : ∀ (σ : St) (H : Heap) (locs : List Loc) (x2 : Int32) (ls : Array Slot), K74 σ x2 → gH D ct shM ad s σ H locs → lv_has ls 4 [(0, .ref (ad 0)), (1, .int x1), (2, .int x2)] → W p l e rm_m_countsForest s m args below meth c H locs 0 0 QQ (F0 m 74 ls [])) (K94 : St → Int32 → Prop) (_ : ∀ (σ : St) (H : Heap) (locs : List Loc) (x3 : Int32) (ls : Array Slot), K94 σ x3 → gH D ct shM ad s σ H locs → lv_has ls 4 [(0, .ref (ad 0)), (1, .int x1), (2, .int x2), (3, .int x3)] → W p l e rm_m_countsForest s m args below meth c H locs 0 0 QQ (F0 m 94 ls [])) (σ : St) (H : Heap) (locs : List Loc) (x3 : Int32) (ls : Array Slot), m_countsForest_p94 x1 x2 Q K66 K74 K94 σ x3 → gH D ct shM ad s σ H locs → lv_has ls 4 [(0, .ref (ad 0)), (1, .int x1), (2, .int x2), (3, .int x3)] → W p l e rm_m_countsForest s m args below meth c H locs 0 0 QQ (F0 m 94 ls []) := by
    intro x1 x2 K66 hK66 K74 hK74 K94 hK94 σ H locs x3 ls hf hw hl
    unfold m_countsForest_p94 at hf
    refine lv_iload_n C.1 C.2.1 dX3_countsForest_94 rfl (lv_at hl 3 rfl) ?_
    refine lv_aload_n C.1 C.2.1 dX3_countsForest_95 rfl (lv_at hl 0 rfl) ?_
    refine mg_scalar C hw dX3_countsForest_96 ?_
    refine lv_iconst (v := 2) C.1 C.2.1 dX3_countsForest_99 rfl ?_
    refine g_iald C hw 2 rfl (vpD rfl) dX3_countsForest_100 ?_
    refine lv_icmp_gt (tgt := 117) C.1 C.2.1 dX3_countsForest_101 (by decide) (fun h101 => ?_) (fun h101 => ?_)
    · replace hf := hf.1 h101
      refine lv_iinc (v := (x2 + 1)) (lv' := [(2, .int (x2 + 1)), (0, .ref (ad 0)), (1, .int x1), (3, .int x3)]) C.1 C.2.1 dX3_countsForest_117 hl (k := 2) rfl rfl (Nat.le_of_ble_eq_true rfl) rfl (fun ls hl => ?_)
      refine lv_goto (tgt := 74) C.1 C.2.1 dX3_countsForest_120 (by decide) ?_
      exact hK74 _ _ _ _ _ hf hw (lv_sub hl [1, 2, 0] rfl)
    · replace hf := hf.2 h101
      refine lv_aload_n C.1 C.2.1 dX3_countsForest_104 rfl (lv_at hl 0 rfl) ?_
      refine lv_iload_n C.1 C.2.1 dX3_countsForest_105 rfl (lv_at hl 1 rfl) ?_
      refine lv_iload_n C.1 C.2.1 dX3_countsForest_106 rfl (lv_at hl 2 rfl) ?_
      refine lv_iload_n C.1 C.2.1 dX3_countsForest_107 rfl (lv_at hl 3 rfl) ?_
      refine km_countsNode C hw hl.1 (Nat.le_of_ble_eq_true rfl) ⟨Nat.le_of_ble_eq_true rfl, Nat.le_of_ble_eq_true rfl⟩ dX3_countsForest_108 hf (fun _ s108 H locs hf hw => ?_)
      refine lv_iinc (v := (x3 + 1)) (lv' := [(3, .int (x3 + 1)), (0, .ref (ad 0)), (1, .int x1), (2, .int x2)]) C.1 C.2.1 dX3_countsForest_111 hl (k := 3) rfl rfl (Nat.le_of_ble_eq_true rfl) rfl (fun ls hl => ?_)
      refine lv_goto (tgt := 94) C.1 C.2.1 dX3_countsForest_114 (by decide) ?_
      exact hK94 _ _ _ _ _ hf hw (lv_sub hl [1, 2, 3, 0] rfl)
  have P94 : ∀ (x1 : Int32) (x2 : Int32) (K66 : St → Int32 → Prop) (_ : ∀ (σ : St) (H : Heap) (locs : List Loc) (x1 : Int32) (ls : Array Slot), K66 σ x1 → gH D ct shM ad s σ H locs → lv_has ls 4 [(0, .ref (ad 0)), (1, .int x1)] → W p l e rm_m_countsForest s m args below meth c H locs 0 0 QQ (F0 m 66 ls [])) (K74 : St → Int32 → Prop) (_ : ∀ (σ : St) (H : Heap) (locs : List Loc) (x2 : Int32) (ls : Array Slot), K74 σ x2 → gH D ct shM ad s σ H locs → lv_has ls 4 [(0, .ref (ad 0)), (1, .int x1), (2, .int x2)] → W p l e rm_m_countsForest s m args below meth c H locs 0 0 QQ (F0 m 74 ls [])) (n : Nat) (σ : St) (x3 : Int32) (ls : Array Slot) (H : Heap) (locs : List Loc), LL2 (m_countsForest_p94 x1 x2 Q K66 K74) n σ x3 → gH D ct shM ad s σ H locs → lv_has ls 4 [(0, .ref (ad 0)), (1, .int x1), (2, .int x2), (3, .int x3)] → W p l e rm_m_countsForest s m args below meth c H locs 0 0 QQ (F0 m 94 ls []) := by
    intro x1 x2 K66 hK66 K74 hK74 n
    induction n with
    | zero => intro σ x3 ls H locs hf; exact False.elim hf
    | succ n ih => intro σ x3 ls H locs hf hw hl; exact B94 x1 x2 K66 hK66 K74 hK74 (LL2 _ n) (fun σ H locs x3 ls hf hw hl => ih σ x3 ls H locs hf hw hl) σ H locs x3 ls hf hw hl
  have B74 : ∀ (x1 : Int32) (K66 : St → Int32 → Prop) (_ : ∀ (σ : St) (H : Heap) (locs : List Loc) (x1 : Int32) (ls : Array Slot), K66 σ x1 → gH D ct shM ad s σ H locs → lv_has ls 4 [(0, .ref (ad 0)), (1, .int x1)] → W p l e rm_m_countsForest s m args below meth c H locs 0 0 QQ (F0 m 66 ls [])) (K74 : St → Int32 → Prop) (_ : ∀ (σ : St) (H : Heap) (locs : List Loc) (x2 : Int32) (ls : Array Slot), K74 σ x2 → gH D ct shM ad s σ H locs → lv_has ls 4 [(0, .ref (ad 0)), (1, .int x1), (2, .int x2)] → W p l e rm_m_countsForest s m args below meth c H locs 0 0 QQ (F0 m 74 ls [])) (σ : St) (H : Heap) (locs : List Loc) (x2 : Int32) (ls : Array Slot), m_countsForest_p74 x1 Q K66 K74 σ x2 → gH D ct shM ad s σ H locs → lv_has ls 4 [(0, .ref (ad 0)), (1, .int x1), (2, .int x2)] → W p l e rm_m_countsForest s m args below meth c H locs 0 0 QQ (F0 m 74 ls []) := by
    intro x1 K66 hK66 K74 hK74 σ H locs x2 ls hf hw hl
    unfold m_countsForest_p74 at hf
    refine lv_iload_n C.1 C.2.1 dX3_countsForest_74 rfl (lv_at hl 2 rfl) ?_
    refine lv_aload_n C.1 C.2.1 dX3_countsForest_75 rfl (lv_at hl 0 rfl) ?_
    refine mg_scalar C hw dX3_countsForest_76 ?_
    refine lv_iconst (v := 2) C.1 C.2.1 dX3_countsForest_79 rfl ?_
    refine g_iald C hw 2 rfl (vpD rfl) dX3_countsForest_80 ?_
    refine lv_icmp_gt (tgt := 123) C.1 C.2.1 dX3_countsForest_81 (by decide) (fun h81 => ?_) (fun h81 => ?_)
    · replace hf := hf.1 h81
      refine lv_iinc (v := (x1 + 1)) (lv' := [(1, .int (x1 + 1)), (0, .ref (ad 0)), (2, .int x2)]) C.1 C.2.1 dX3_countsForest_123 hl (k := 1) rfl rfl (Nat.le_of_ble_eq_true rfl) rfl (fun ls hl => ?_)
      refine lv_goto (tgt := 66) C.1 C.2.1 dX3_countsForest_126 (by decide) ?_
      exact hK66 _ _ _ _ _ hf hw (lv_sub hl [1, 0] rfl)
    · replace hf := hf.2 h81
      refine lv_aload_n C.1 C.2.1 dX3_countsForest_84 rfl (lv_at hl 0 rfl) ?_
      refine lv_iload_n C.1 C.2.1 dX3_countsForest_85 rfl (lv_at hl 1 rfl) ?_
      refine km_isLeft C hw hl.1 (Nat.le_of_ble_eq_true rfl) ⟨Nat.le_of_ble_eq_true rfl, Nat.le_of_ble_eq_true rfl⟩ dX3_countsForest_86 hf (fun r86 hf => ?_)
      refine lv_if_eq (tgt := 123) C.1 C.2.1 dX3_countsForest_89 (by decide) (fun h89 => ?_) (fun h89 => ?_)
      · replace hf := hf.1 h89
        refine lv_iinc (v := (x1 + 1)) (lv' := [(1, .int (x1 + 1)), (0, .ref (ad 0)), (2, .int x2)]) C.1 C.2.1 dX3_countsForest_123 hl (k := 1) rfl rfl (Nat.le_of_ble_eq_true rfl) rfl (fun ls hl => ?_)
        refine lv_goto (tgt := 66) C.1 C.2.1 dX3_countsForest_126 (by decide) ?_
        exact hK66 _ _ _ _ _ hf hw (lv_sub hl [1, 0] rfl)
      · replace hf := hf.2 h89
        refine lv_iload_n C.1 C.2.1 dX3_countsForest_92 rfl (lv_at hl 2 rfl) ?_
        refine lv_istore_n (lv' := [(3, .int x2), (0, .ref (ad 0)), (1, .int x1), (2, .int x2)]) C.1 C.2.1 dX3_countsForest_93 rfl hl (Nat.le_of_ble_eq_true rfl) rfl (fun ls hl => ?_)
        obtain ⟨n, hf⟩ := hf
        exact P94 _ _ _ hK66 _ hK74 n _ _ _ _ _ hf hw (lv_sub hl [1, 2, 3, 0] rfl)
  have P74 : ∀ (x1 : Int32) (K66 : St → Int32 → Prop) (_ : ∀ (σ : St) (H : Heap) (locs : List Loc) (x1 : Int32) (ls : Array Slot), K66 σ x1 → gH D ct shM ad s σ H locs → lv_has ls 4 [(0, .ref (ad 0)), (1, .int x1)] → W p l e rm_m_countsForest s m args below meth c H locs 0 0 QQ (F0 m 66 ls [])) (n : Nat) (σ : St) (x2 : Int32) (ls : Array Slot) (H : Heap) (locs : List Loc), LL2 (m_countsForest_p74 x1 Q K66) n σ x2 → gH D ct shM ad s σ H locs → lv_has ls 4 [(0, .ref (ad 0)), (1, .int x1), (2, .int x2)] → W p l e rm_m_countsForest s m args below meth c H locs 0 0 QQ (F0 m 74 ls []) := by
    intro x1 K66 hK66 n
    induction n with
    | zero => intro σ x2 ls H locs hf; exact False.elim hf
    | succ n ih => intro σ x2 ls H locs hf hw hl; exact B74 x1 K66 hK66 (LL2 _ n) (fun σ H locs x2 ls hf hw hl => ih σ x2 ls H locs hf hw hl) σ H locs x2 ls hf hw hl
  have B66 : ∀ (K66 : St → Int32 → Prop) (_ : ∀ (σ : St) (H : Heap) (locs : List Loc) (x1 : Int32) (ls : Array Slot), K66 σ x1 → gH D ct shM ad s σ H locs → lv_has ls 4 [(0, .ref (ad 0)), (1, .int x1)] → W p l e rm_m_countsForest s m args below meth c H locs 0 0 QQ (F0 m 66 ls [])) (σ : St) (H : Heap) (locs : List Loc) (x1 : Int32) (ls : Array Slot), m_countsForest_p66 Q K66 σ x1 → gH D ct shM ad s σ H locs → lv_has ls 4 [(0, .ref (ad 0)), (1, .int x1)] → W p l e rm_m_countsForest s m args below meth c H locs 0 0 QQ (F0 m 66 ls []) := by
    intro K66 hK66 σ H locs x1 ls hf hw hl
    unfold m_countsForest_p66 at hf
    refine lv_iload_n C.1 C.2.1 dX3_countsForest_66 rfl (lv_at hl 1 rfl) ?_
    refine lv_bipush (v := 52) C.1 C.2.1 dX3_countsForest_67 rfl ?_
    refine lv_icmp_ge (tgt := 129) C.1 C.2.1 dX3_countsForest_69 (by decide) (fun h69 => ?_) (fun h69 => ?_)
    · replace hf := hf.1 h69
      exact hret _ _ _ _ _ _ hf hw dX3_countsForest_129
    · replace hf := hf.2 h69
      refine lv_iconst (v := 0) C.1 C.2.1 dX3_countsForest_72 rfl ?_
      refine lv_istore_n (lv' := [(2, .int 0), (0, .ref (ad 0)), (1, .int x1)]) C.1 C.2.1 dX3_countsForest_73 rfl hl (Nat.le_of_ble_eq_true rfl) rfl (fun ls hl => ?_)
      obtain ⟨n, hf⟩ := hf
      exact P74 _ _ hK66 n _ _ _ _ _ hf hw (lv_sub hl [1, 2, 0] rfl)
  have P66 : ∀ (n : Nat) (σ : St) (x1 : Int32) (ls : Array Slot) (H : Heap) (locs : List Loc), LL2 (m_countsForest_p66 Q) n σ x1 → gH D ct shM ad s σ H locs → lv_has ls 4 [(0, .ref (ad 0)), (1, .int x1)] → W p l e rm_m_countsForest s m args below meth c H locs 0 0 QQ (F0 m 66 ls []) := by
    intro  n
    induction n with
    | zero => intro σ x1 ls H locs hf; exact False.elim hf
    | succ n ih => intro σ x1 ls H locs hf hw hl; exact B66  (LL2 _ n) (fun σ H locs x1 ls hf hw hl => ih σ x1 ls H locs hf hw hl) σ H locs x1 ls hf hw hl
  have J53 : ∀ (σ : St) (H : Heap) (locs : List Loc) (x1 : Int32) (v0 : Int32) (v1 : Int32) (K27 : St → Int32 → Prop) (_ : ∀ (σ : St) (H : Heap) (locs : List Loc) (x1 : Int32) (ls : Array Slot), K27 σ x1 → gH D ct shM ad s σ H locs → lv_has ls 4 [(0, .ref (ad 0)), (1, .int x1)] → W p l e rm_m_countsForest s m args below meth c H locs 0 0 QQ (F0 m 27 ls [])) (ls : Array Slot), m_countsForest_p53 σ x1 Q K27 v0 v1 → gH D ct shM ad s σ H locs → lv_has ls 4 [(0, .ref (ad 0)), (1, .int x1)] → W p l e rm_m_countsForest s m args below meth c H locs 0 0 QQ (F0 m 53 ls [.int v0, .int v1, .ref (ad 0)]) := by
    intro σ H locs x1 v0 v1 K27 hK27 ls hf hw hl
    unfold m_countsForest_p53 at hf
    refine lv_iadd C.1 C.2.1 dX3_countsForest_53 ?_
    refine mp_pieces C hw dX3_countsForest_54 (fun s54 H locs e54 hw => ?_)
    replace hf := hf s54 e54
    refine lv_iinc (v := (x1 + 1)) (lv' := [(1, .int (x1 + 1)), (0, .ref (ad 0))]) C.1 C.2.1 dX3_countsForest_57 hl (k := 1) rfl rfl (Nat.le_of_ble_eq_true rfl) rfl (fun ls hl => ?_)
    refine lv_goto (tgt := 27) C.1 C.2.1 dX3_countsForest_60 (by decide) ?_
    exact hK27 _ _ _ _ _ hf hw (lv_sub hl [1, 0] rfl)
  have B27 : ∀ (K27 : St → Int32 → Prop) (_ : ∀ (σ : St) (H : Heap) (locs : List Loc) (x1 : Int32) (ls : Array Slot), K27 σ x1 → gH D ct shM ad s σ H locs → lv_has ls 4 [(0, .ref (ad 0)), (1, .int x1)] → W p l e rm_m_countsForest s m args below meth c H locs 0 0 QQ (F0 m 27 ls [])) (σ : St) (H : Heap) (locs : List Loc) (x1 : Int32) (ls : Array Slot), m_countsForest_p27 Q K27 σ x1 → gH D ct shM ad s σ H locs → lv_has ls 4 [(0, .ref (ad 0)), (1, .int x1)] → W p l e rm_m_countsForest s m args below meth c H locs 0 0 QQ (F0 m 27 ls []) := by
    intro K27 hK27 σ H locs x1 ls hf hw hl
    unfold m_countsForest_p27 at hf
    refine lv_iload_n C.1 C.2.1 dX3_countsForest_27 rfl (lv_at hl 1 rfl) ?_
    refine lv_sipush (v := 2028) C.1 C.2.1 dX3_countsForest_28 rfl ?_
    refine lv_icmp_ge (tgt := 63) C.1 C.2.1 dX3_countsForest_31 (by decide) (fun h31 => ?_) (fun h31 => ?_)
    · replace hf := hf.1 h31
      refine lv_bipush (v := 26) C.1 C.2.1 dX3_countsForest_63 rfl ?_
      refine lv_istore_n (lv' := [(1, .int 26), (0, .ref (ad 0))]) C.1 C.2.1 dX3_countsForest_65 rfl hl (Nat.le_of_ble_eq_true rfl) rfl (fun ls hl => ?_)
      obtain ⟨n, hf⟩ := hf
      exact P66  n _ _ _ _ _ hf hw (lv_sub hl [1, 0] rfl)
    · replace hf := hf.2 h31
      refine lv_aload_n C.1 C.2.1 dX3_countsForest_34 rfl (lv_at hl 0 rfl) ?_
      refine lv_dup C.1 C.2.1 dX3_countsForest_35 rfl ?_
      refine mg_pieces C hw dX3_countsForest_36 ?_
      refine lv_aload_n C.1 C.2.1 dX3_countsForest_39 rfl (lv_at hl 0 rfl) ?_
      refine mg_isPiece C hw dX3_countsForest_40 ?_
      refine lv_iload_n C.1 C.2.1 dX3_countsForest_43 rfl (lv_at hl 1 rfl) ?_
      obtain ⟨b44, hf⟩ := hf
      refine g_zald C hw 52 rfl b44 dX3_countsForest_44 ?_
      refine lv_if_eq (tgt := 52) C.1 C.2.1 dX3_countsForest_45 (by decide) (fun h45 => ?_) (fun h45 => ?_)
      · replace hf := hf.1 h45
        refine lv_iconst (v := 0) C.1 C.2.1 dX3_countsForest_52 rfl ?_
        exact J53 _ _ _ _ _ _ _ hK27 _ hf hw (lv_sub hl [0, 1] rfl)
      · replace hf := hf.2 h45
        refine lv_iconst (v := 1) C.1 C.2.1 dX3_countsForest_48 rfl ?_
        refine lv_goto (tgt := 53) C.1 C.2.1 dX3_countsForest_49 (by decide) ?_
        exact J53 _ _ _ _ _ _ _ hK27 _ hf hw (lv_sub hl [0, 1] rfl)
  have P27 : ∀ (n : Nat) (σ : St) (x1 : Int32) (ls : Array Slot) (H : Heap) (locs : List Loc), LL2 (m_countsForest_p27 Q) n σ x1 → gH D ct shM ad s σ H locs → lv_has ls 4 [(0, .ref (ad 0)), (1, .int x1)] → W p l e rm_m_countsForest s m args below meth c H locs 0 0 QQ (F0 m 27 ls []) := by
    intro  n
    induction n with
    | zero => intro σ x1 ls H locs hf; exact False.elim hf
    | succ n ih => intro σ x1 ls H locs hf hw hl; exact B27  (LL2 _ n) (fun σ H locs x1 ls hf hw hl => ih σ x1 ls H locs hf hw hl) σ H locs x1 ls hf hw hl
  unfold m_countsForest at hf
  obtain ⟨H, hH⟩ : ∃ q, q = s.heap := ⟨_, rfl⟩
  obtain ⟨locs, hL⟩ : ∃ q : List Loc, q = [] := ⟨_, rfl⟩
  rw [← hH, ← hL] at hw ⊢
  refine lv_aload_n C.1 C.2.1 dX3_countsForest_0 rfl (lv_at hl 0 rfl) ?_
  refine km_laysForest C hw hl.1 (Nat.le_of_ble_eq_true rfl) ⟨Nat.le_of_ble_eq_true rfl, Nat.le_of_ble_eq_true rfl⟩ dX3_countsForest_1 hf (fun _ s1 H locs hf hw => ?_)
  refine lv_aload_n C.1 C.2.1 dX3_countsForest_4 rfl (lv_at hl 0 rfl) ?_
  refine lv_iconst (v := 0) C.1 C.2.1 dX3_countsForest_5 rfl ?_
  refine mp_pieces C hw dX3_countsForest_6 (fun s6 H locs e6 hw => ?_)
  replace hf := hf s6 e6
  refine lv_aload_n C.1 C.2.1 dX3_countsForest_9 rfl (lv_at hl 0 rfl) ?_
  refine lv_iconst (v := 0) C.1 C.2.1 dX3_countsForest_10 rfl ?_
  refine mp_nodes C hw dX3_countsForest_11 (fun s11 H locs e11 hw => ?_)
  replace hf := hf s11 e11
  refine lv_aload_n C.1 C.2.1 dX3_countsForest_14 rfl (lv_at hl 0 rfl) ?_
  refine lv_iconst (v := 0) C.1 C.2.1 dX3_countsForest_15 rfl ?_
  refine mp_unsure C hw dX3_countsForest_16 (fun s16 H locs e16 hw => ?_)
  replace hf := hf s16 e16
  refine lv_aload_n C.1 C.2.1 dX3_countsForest_19 rfl (lv_at hl 0 rfl) ?_
  refine lv_bipush (v := (-2)) C.1 C.2.1 dX3_countsForest_20 rfl ?_
  refine mp_narrow C hw dX3_countsForest_22 (fun s22 H locs e22 hw => ?_)
  replace hf := hf s22 e22
  refine lv_iconst (v := 0) C.1 C.2.1 dX3_countsForest_25 rfl ?_
  refine lv_istore_n (lv' := [(1, .int 0), (0, .ref (ad 0))]) C.1 C.2.1 dX3_countsForest_26 rfl hl (Nat.le_of_ble_eq_true rfl) rfl (fun ls hl => ?_)
  obtain ⟨n, hf⟩ := hf
  exact P27  n _ _ _ _ _ hf hw (lv_sub hl [1, 0] rfl)
theorem km_countsForest {p : Program} {l : Launch} {e : Env} {R : Room} {s : State} {m : MethodId} {args : Array Value} {below : List Frame} {meth : Method} {c : Code} {H : Heap} {locs : List Loc} {Z : State → Prop} {cc : ByteArray} {nL pc : Nat} {ls : Array Slot} {rest : List Value} {D : va_G} {ct : Ct} {ad : Nat → Nat} {σ : St} {Qp : Unit → St → Prop} (C : CallFix p m c cc nL s args lw_all RX3) (hw : gH D ct shM ad s σ H locs) (hsz : ls.size = nL) (hrm : (rest.map fun v => v.category).sum ≤ 8) (hR : rm_m_countsForest.frames + 1 ≤ R.frames ∧ 8 + (4 + 11) + rm_m_countsForest.locals ≤ R.locals) (hdg : decode cc pc = .ok (.invokevirtual 538, 3)) (hf : m_countsForest σ Qp) (kk : ∀ (r : Unit) (σ1 : St) (H1 : Heap) (locs1 : List Loc), Qp r σ1 → gH D ct shM ad s σ1 H1 locs1 → W p l e R s m args below meth c H1 locs1 0 0 Z (F0 m (pc + 3) ls (rest))) : W p l e R s m args below meth c H locs 0 0 Z (F0 m pc ls (.ref (ad 0) :: rest)) :=
  g_callV (As := []) (rest := rest) C hw rfl rfl (met_m_countsForest l D ct ad hw.2.1 σ Qp hf) (cwV 0 C.2.2.2.2 (lw_V q2029 q2031 qs177 q207 q2032) rfl rfl rfl (by decide +kernel) hR) rfl hsz rfl hrm ⟨Nat.zero_le _, Nat.zero_le _⟩ hdg kk
def m_smallest (σ : St) (Q : Int32 → St → Prop) : Prop :=
  (((fm_isGrammar σ) = 0 → Q (-1) σ) ∧ (¬ (fm_isGrammar σ) = 0 → (m_laysSmallest σ (fun _ s10 => (m_leastRule s10 (fun r14 => ((r14 = (-1) → Q (-2) s10) ∧ (¬ r14 = (-1) → (vp_in (fm_spot r14 0 (gI s10 2 2)) 2028 ∧ Q (gI s10 59 (fm_spot r14 0 (gI s10 2 2))) s10)))))))))
abbrev rm_m_smallest : Room := { frames := 9, cells := 0, slots := 0, locals := 220 }
set_option maxHeartbeats 4000000 in
theorem met_m_smallest (l : Launch) (D : va_G) (ct : Ct) (ad : Nat → Nat) (hJ : gJ shM ad ct) (σ : St) (Q : Int32 → St → Prop) (hf : m_smallest σ Q) : Met l yX3_smallest (ws_ yX3_smallest cX3_smallest 2 (some .int)) rm_m_smallest (va_Pc [.ref (ad 0)] (gP D ct shM ad σ)) (gQ rvI D ct shM ad Q) 0 0 (gA shM ad) := by
  refine g_metI hJ (by decide) (Nat.le_of_ble_eq_true rfl) ?_
  intro p e s m args below meth c QQ ls C hw hl hret
  replace hl : lv_has ls 2 [(0, .ref (ad 0))] := hl
  unfold m_smallest at hf
  obtain ⟨H, hH⟩ : ∃ q, q = s.heap := ⟨_, rfl⟩
  obtain ⟨locs, hL⟩ : ∃ q : List Loc, q = [] := ⟨_, rfl⟩
  rw [← hH, ← hL] at hw ⊢
  refine lv_aload_n C.1 C.2.1 dX3_smallest_0 rfl (lv_at hl 0 rfl) ?_
  refine km_isGrammar C hw hl.1 (Nat.le_of_ble_eq_true rfl) ⟨Nat.le_of_ble_eq_true rfl, Nat.le_of_ble_eq_true rfl⟩ dX3_smallest_1 ?_
  refine lv_if_ne (tgt := 9) C.1 C.2.1 dX3_smallest_4 (by decide) (fun h4 => ?_) (fun h4 => ?_)
  · replace hf := hf.2 h4
    refine lv_aload_n C.1 C.2.1 dX3_smallest_9 rfl (lv_at hl 0 rfl) ?_
    refine km_laysSmallest C hw hl.1 (Nat.le_of_ble_eq_true rfl) ⟨Nat.le_of_ble_eq_true rfl, Nat.le_of_ble_eq_true rfl⟩ dX3_smallest_10 hf (fun _ s10 H locs hf hw => ?_)
    refine lv_aload_n C.1 C.2.1 dX3_smallest_13 rfl (lv_at hl 0 rfl) ?_
    refine km_leastRule C hw hl.1 (Nat.le_of_ble_eq_true rfl) ⟨Nat.le_of_ble_eq_true rfl, Nat.le_of_ble_eq_true rfl⟩ dX3_smallest_14 hf (fun r14 hf => ?_)
    refine lv_istore_n (lv' := [(1, .int r14), (0, .ref (ad 0))]) C.1 C.2.1 dX3_smallest_17 rfl hl (Nat.le_of_ble_eq_true rfl) rfl (fun ls hl => ?_)
    refine lv_iload_n C.1 C.2.1 dX3_smallest_18 rfl (lv_at hl 0 rfl) ?_
    refine lv_iconst (v := (-1)) C.1 C.2.1 dX3_smallest_19 rfl ?_
    refine lv_icmp_ne (tgt := 28) C.1 C.2.1 dX3_smallest_20 (by decide) (fun h20 => ?_) (fun h20 => ?_)
    · replace hf := hf.2 h20
      refine lv_aload_n C.1 C.2.1 dX3_smallest_28 rfl (lv_at hl 1 rfl) ?_
      refine mg_sizeOf C hw dX3_smallest_29 ?_
      refine lv_iload_n C.1 C.2.1 dX3_smallest_32 rfl (lv_at hl 0 rfl) ?_
      refine lv_iconst (v := 0) C.1 C.2.1 dX3_smallest_33 rfl ?_
      refine lv_aload_n C.1 C.2.1 dX3_smallest_34 rfl (lv_at hl 1 rfl) ?_
      refine mg_scalar C hw dX3_smallest_35 ?_
      refine lv_iconst (v := 2) C.1 C.2.1 dX3_smallest_38 rfl ?_
      refine g_iald C hw 2 rfl (vpD rfl) dX3_smallest_39 ?_
      refine km_spot C hl.1 (Nat.le_of_ble_eq_true rfl) ⟨Nat.le_of_ble_eq_true rfl, Nat.le_of_ble_eq_true rfl⟩ dX3_smallest_40 ?_
      obtain ⟨b43, hf⟩ := hf
      refine g_iald C hw 59 rfl b43 dX3_smallest_43 ?_
      exact hret _ _ _ _ _ _ hf hw dX3_smallest_44
    · replace hf := hf.1 h20
      refine lv_bipush (v := (-2)) C.1 C.2.1 dX3_smallest_23 rfl ?_
      refine lv_goto (tgt := 44) C.1 C.2.1 dX3_smallest_25 (by decide) ?_
      exact hret _ _ _ _ _ _ hf hw dX3_smallest_44
  · replace hf := hf.1 h4
    refine lv_iconst (v := (-1)) C.1 C.2.1 dX3_smallest_7 rfl ?_
    exact hret _ _ _ _ _ _ hf hw dX3_smallest_8
theorem km_smallest {p : Program} {l : Launch} {e : Env} {R : Room} {s : State} {m : MethodId} {args : Array Value} {below : List Frame} {meth : Method} {c : Code} {H : Heap} {locs : List Loc} {Z : State → Prop} {cc : ByteArray} {nL pc : Nat} {ls : Array Slot} {rest : List Value} {D : va_G} {ct : Ct} {ad : Nat → Nat} {σ : St} {Qp : Int32 → St → Prop} (C : CallFix p m c cc nL s args lw_all RX3) (hw : gH D ct shM ad s σ H locs) (hsz : ls.size = nL) (hrm : (rest.map fun v => v.category).sum ≤ 8) (hR : rm_m_smallest.frames + 1 ≤ R.frames ∧ 8 + (2 + 11) + rm_m_smallest.locals ≤ R.locals) (hdg : decode cc pc = .ok (.invokevirtual 574, 3)) (hf : m_smallest σ Qp) (kk : ∀ (r : Int32) (σ1 : St) (H1 : Heap) (locs1 : List Loc), Qp r σ1 → gH D ct shM ad s σ1 H1 locs1 → W p l e R s m args below meth c H1 locs1 0 0 Z (F0 m (pc + 3) ls (.int r :: rest))) : W p l e R s m args below meth c H locs 0 0 Z (F0 m pc ls (.ref (ad 0) :: rest)) :=
  g_callV (As := []) (rest := rest) C hw rfl rfl (met_m_smallest l D ct ad hw.2.1 σ Qp hf) (cwV 0 C.2.2.2.2 (lw_V q2073 q2042 q2043 q207 q2044) rfl rfl rfl (by decide +kernel) hR) rfl hsz rfl hrm ⟨Nat.zero_le _, Nat.zero_le _⟩ hdg kk
def m_forest (σ : St) (x1 : Int32) (Q : Int32 → St → Prop) : Prop :=
  (((fm_isGrammar σ) = 0 → Q (-1) σ) ∧ (¬ (fm_isGrammar σ) = 0 → (((fm_in (Int32.toInt64 x1) 0 3) = 0 → Q (-1) σ) ∧ (¬ (fm_in (Int32.toInt64 x1) 0 3) = 0 → (m_countsForest σ (fun _ s22 => ((x1 = 0 → Q (s22.1 55) s22) ∧ (¬ x1 = 0 → ((x1 = 1 → Q (s22.1 56) s22) ∧ (¬ x1 = 1 → ((x1 = 2 → Q (s22.1 57) s22) ∧ (¬ x1 = 2 → Q (s22.1 58) s22))))))))))))
abbrev rm_m_forest : Room := { frames := 10, cells := 0, slots := 0, locals := 243 }
set_option maxHeartbeats 4000000 in
theorem met_m_forest (l : Launch) (D : va_G) (ct : Ct) (ad : Nat → Nat) (hJ : gJ shM ad ct) (σ : St) (x1 : Int32) (Q : Int32 → St → Prop) (hf : m_forest σ x1 Q) : Met l yX3_forest (ws_ yX3_forest cX3_forest 2 (some .int)) rm_m_forest (va_Pc [.ref (ad 0), .int x1] (gP D ct shM ad σ)) (gQ rvI D ct shM ad Q) 0 0 (gA shM ad) := by
  refine g_metI hJ (by decide) (Nat.le_of_ble_eq_true rfl) ?_
  intro p e s m args below meth c QQ ls C hw hl hret
  replace hl : lv_has ls 2 [(0, .ref (ad 0)), (1, .int x1)] := hl
  unfold m_forest at hf
  obtain ⟨H, hH⟩ : ∃ q, q = s.heap := ⟨_, rfl⟩
  obtain ⟨locs, hL⟩ : ∃ q : List Loc, q = [] := ⟨_, rfl⟩
  rw [← hH, ← hL] at hw ⊢
  refine lv_aload_n C.1 C.2.1 dX3_forest_0 rfl (lv_at hl 0 rfl) ?_
  refine km_isGrammar C hw hl.1 (Nat.le_of_ble_eq_true rfl) ⟨Nat.le_of_ble_eq_true rfl, Nat.le_of_ble_eq_true rfl⟩ dX3_forest_1 ?_
  refine lv_if_eq (tgt := 19) C.1 C.2.1 dX3_forest_4 (by decide) (fun h4 => ?_) (fun h4 => ?_)
  · replace hf := hf.1 h4
    refine lv_iconst (v := (-1)) C.1 C.2.1 dX3_forest_19 rfl ?_
    exact hret _ _ _ _ _ _ hf hw dX3_forest_20
  · replace hf := hf.2 h4
    refine lv_iload_n C.1 C.2.1 dX3_forest_7 rfl (lv_at hl 1 rfl) ?_
    refine lv_i2l C.1 C.2.1 dX3_forest_8 rfl ?_
    refine lv_lconst (v := 0) C.1 C.2.1 dX3_forest_9 rfl ?_
    refine lv_ldc2 C.1 C.2.1 C.2.2.2.1 (C.2.2.2.2 _ q2028) dX3_forest_10 ?_
    refine km_in C hl.1 (Nat.le_of_ble_eq_true rfl) ⟨Nat.le_of_ble_eq_true rfl, Nat.le_of_ble_eq_true rfl⟩ dX3_forest_13 ?_
    refine lv_if_ne (tgt := 21) C.1 C.2.1 dX3_forest_16 (by decide) (fun h16 => ?_) (fun h16 => ?_)
    · replace hf := hf.2 h16
      refine lv_aload_n C.1 C.2.1 dX3_forest_21 rfl (lv_at hl 0 rfl) ?_
      refine km_countsForest C hw hl.1 (Nat.le_of_ble_eq_true rfl) ⟨Nat.le_of_ble_eq_true rfl, Nat.le_of_ble_eq_true rfl⟩ dX3_forest_22 hf (fun _ s22 H locs hf hw => ?_)
      refine lv_iload_n C.1 C.2.1 dX3_forest_25 rfl (lv_at hl 1 rfl) ?_
      refine lv_if_ne (tgt := 36) C.1 C.2.1 dX3_forest_26 (by decide) (fun h26 => ?_) (fun h26 => ?_)
      · replace hf := hf.2 h26
        refine lv_iload_n C.1 C.2.1 dX3_forest_36 rfl (lv_at hl 1 rfl) ?_
        refine lv_iconst (v := 1) C.1 C.2.1 dX3_forest_37 rfl ?_
        refine lv_icmp_ne (tgt := 48) C.1 C.2.1 dX3_forest_38 (by decide) (fun h38 => ?_) (fun h38 => ?_)
        · replace hf := hf.2 h38
          refine lv_iload_n C.1 C.2.1 dX3_forest_48 rfl (lv_at hl 1 rfl) ?_
          refine lv_iconst (v := 2) C.1 C.2.1 dX3_forest_49 rfl ?_
          refine lv_icmp_ne (tgt := 60) C.1 C.2.1 dX3_forest_50 (by decide) (fun h50 => ?_) (fun h50 => ?_)
          · replace hf := hf.2 h50
            refine lv_aload_n C.1 C.2.1 dX3_forest_60 rfl (lv_at hl 0 rfl) ?_
            refine mg_narrow C hw dX3_forest_61 ?_
            exact hret _ _ _ _ _ _ hf hw dX3_forest_64
          · replace hf := hf.1 h50
            refine lv_aload_n C.1 C.2.1 dX3_forest_53 rfl (lv_at hl 0 rfl) ?_
            refine mg_unsure C hw dX3_forest_54 ?_
            refine lv_goto (tgt := 64) C.1 C.2.1 dX3_forest_57 (by decide) ?_
            exact hret _ _ _ _ _ _ hf hw dX3_forest_64
        · replace hf := hf.1 h38
          refine lv_aload_n C.1 C.2.1 dX3_forest_41 rfl (lv_at hl 0 rfl) ?_
          refine mg_nodes C hw dX3_forest_42 ?_
          refine lv_goto (tgt := 64) C.1 C.2.1 dX3_forest_45 (by decide) ?_
          exact hret _ _ _ _ _ _ hf hw dX3_forest_64
      · replace hf := hf.1 h26
        refine lv_aload_n C.1 C.2.1 dX3_forest_29 rfl (lv_at hl 0 rfl) ?_
        refine mg_pieces C hw dX3_forest_30 ?_
        refine lv_goto (tgt := 64) C.1 C.2.1 dX3_forest_33 (by decide) ?_
        exact hret _ _ _ _ _ _ hf hw dX3_forest_64
    · replace hf := hf.1 h16
      refine lv_iconst (v := (-1)) C.1 C.2.1 dX3_forest_19 rfl ?_
      exact hret _ _ _ _ _ _ hf hw dX3_forest_20
def m_tree_p60 (x2 : Int32) (Q : Int32 → St → Prop) (K60 : St → Prop) (σ : St) : Prop :=
  (((σ.1 64) ≤ 0 → ((x2 = 0 → Q (σ.1 61) σ) ∧ (¬ x2 = 0 → ((x2 = 1 → Q (σ.1 62) σ) ∧ (¬ x2 = 1 → Q (σ.1 63) σ))))) ∧ (¬ (σ.1 64) ≤ 0 → (m_goesBelow σ (fun _ s68 => K60 s68))))
def m_tree (σ : St) (x1 : Int32) (x2 : Int32) (Q : Int32 → St → Prop) : Prop :=
  (m_smallest σ (fun r1 s1 => (((fm_in (Int32.toInt64 x1) 0 (Int32.toInt64 (r1 - 1))) = 0 → Q (-1) s1) ∧ (¬ (fm_in (Int32.toInt64 x1) 0 (Int32.toInt64 (r1 - 1))) = 0 → (((fm_in (Int32.toInt64 x2) 0 2) = 0 → Q (-1) s1) ∧ (¬ (fm_in (Int32.toInt64 x2) 0 2) = 0 → (m_leastRule s1 (fun r34 => (∀ s37 : St, s37 = s_I s1 61 r34 → (∀ s42 : St, s42 = s_I s37 62 0 → (∀ s52 : St, s52 = s_I s42 63 (gI s42 2 2) → (∀ s57 : St, s57 = s_I s52 64 x1 → (Lp1 (m_tree_p60 x2 Q) s57)))))))))))))
abbrev rm_m_tree : Room := { frames := 10, cells := 0, slots := 0, locals := 241 }
set_option maxHeartbeats 4000000 in
theorem met_m_tree (l : Launch) (D : va_G) (ct : Ct) (ad : Nat → Nat) (hJ : gJ shM ad ct) (σ : St) (x1 : Int32) (x2 : Int32) (Q : Int32 → St → Prop) (hf : m_tree σ x1 x2 Q) : Met l yX3_tree (ws_ yX3_tree cX3_tree 4 (some .int)) rm_m_tree (va_Pc [.ref (ad 0), .int x1, .int x2] (gP D ct shM ad σ)) (gQ rvI D ct shM ad Q) 0 0 (gA shM ad) := by
  refine g_metI hJ (by decide) (Nat.le_of_ble_eq_true rfl) ?_
  intro p e s m args below meth c QQ ls C hw hl hret
  replace hl : lv_has ls 4 [(0, .ref (ad 0)), (1, .int x1), (2, .int x2)] := hl
  have B60 : ∀ (x2 : Int32) (K60 : St → Prop) (_ : ∀ (σ : St) (H : Heap) (locs : List Loc) (ls : Array Slot), K60 σ → gH D ct shM ad s σ H locs → lv_has ls 4 [(0, .ref (ad 0)), (2, .int x2)] → W p l e rm_m_tree s m args below meth c H locs 0 0 QQ (F0 m 60 ls [])) (σ : St) (H : Heap) (locs : List Loc) (ls : Array Slot), m_tree_p60 x2 Q K60 σ → gH D ct shM ad s σ H locs → lv_has ls 4 [(0, .ref (ad 0)), (2, .int x2)] → W p l e rm_m_tree s m args below meth c H locs 0 0 QQ (F0 m 60 ls []) := by
    intro x2 K60 hK60 σ H locs ls hf hw hl
    unfold m_tree_p60 at hf
    refine lv_aload_n C.1 C.2.1 dX3_tree_60 rfl (lv_at hl 0 rfl) ?_
    refine mg_treeLeft C hw dX3_tree_61 ?_
    refine lv_if_le (tgt := 74) C.1 C.2.1 dX3_tree_64 (by decide) (fun h64 => ?_) (fun h64 => ?_)
    · replace hf := hf.1 h64
      refine lv_iload_n C.1 C.2.1 dX3_tree_74 rfl (lv_at hl 1 rfl) ?_
      refine lv_if_ne (tgt := 85) C.1 C.2.1 dX3_tree_75 (by decide) (fun h75 => ?_) (fun h75 => ?_)
      · replace hf := hf.2 h75
        refine lv_iload_n C.1 C.2.1 dX3_tree_85 rfl (lv_at hl 1 rfl) ?_
        refine lv_iconst (v := 1) C.1 C.2.1 dX3_tree_86 rfl ?_
        refine lv_icmp_ne (tgt := 97) C.1 C.2.1 dX3_tree_87 (by decide) (fun h87 => ?_) (fun h87 => ?_)
        · replace hf := hf.2 h87
          refine lv_aload_n C.1 C.2.1 dX3_tree_97 rfl (lv_at hl 0 rfl) ?_
          refine mg_treeTo C hw dX3_tree_98 ?_
          exact hret _ _ _ _ _ _ hf hw dX3_tree_101
        · replace hf := hf.1 h87
          refine lv_aload_n C.1 C.2.1 dX3_tree_90 rfl (lv_at hl 0 rfl) ?_
          refine mg_treeFrom C hw dX3_tree_91 ?_
          refine lv_goto (tgt := 101) C.1 C.2.1 dX3_tree_94 (by decide) ?_
          exact hret _ _ _ _ _ _ hf hw dX3_tree_101
      · replace hf := hf.1 h75
        refine lv_aload_n C.1 C.2.1 dX3_tree_78 rfl (lv_at hl 0 rfl) ?_
        refine mg_treeRule C hw dX3_tree_79 ?_
        refine lv_goto (tgt := 101) C.1 C.2.1 dX3_tree_82 (by decide) ?_
        exact hret _ _ _ _ _ _ hf hw dX3_tree_101
    · replace hf := hf.2 h64
      refine lv_aload_n C.1 C.2.1 dX3_tree_67 rfl (lv_at hl 0 rfl) ?_
      refine km_goesBelow C hw hl.1 (Nat.le_of_ble_eq_true rfl) ⟨Nat.le_of_ble_eq_true rfl, Nat.le_of_ble_eq_true rfl⟩ dX3_tree_68 hf (fun _ s68 H locs hf hw => ?_)
      refine lv_goto (tgt := 60) C.1 C.2.1 dX3_tree_71 (by decide) ?_
      exact hK60 _ _ _ _ hf hw (lv_sub hl [0, 1] rfl)
  have P60 : ∀ (x2 : Int32) (n : Nat) (σ : St) (ls : Array Slot) (H : Heap) (locs : List Loc), LL1 (m_tree_p60 x2 Q) n σ → gH D ct shM ad s σ H locs → lv_has ls 4 [(0, .ref (ad 0)), (2, .int x2)] → W p l e rm_m_tree s m args below meth c H locs 0 0 QQ (F0 m 60 ls []) := by
    intro x2 n
    induction n with
    | zero => intro σ ls H locs hf; exact False.elim hf
    | succ n ih => intro σ ls H locs hf hw hl; exact B60 x2 (LL1 _ n) (fun σ H locs  ls hf hw hl => ih σ ls H locs hf hw hl) σ H locs  ls hf hw hl
  unfold m_tree at hf
  obtain ⟨H, hH⟩ : ∃ q, q = s.heap := ⟨_, rfl⟩
  obtain ⟨locs, hL⟩ : ∃ q : List Loc, q = [] := ⟨_, rfl⟩
  rw [← hH, ← hL] at hw ⊢
  refine lv_aload_n C.1 C.2.1 dX3_tree_0 rfl (lv_at hl 0 rfl) ?_
  refine km_smallest C hw hl.1 (Nat.le_of_ble_eq_true rfl) ⟨Nat.le_of_ble_eq_true rfl, Nat.le_of_ble_eq_true rfl⟩ dX3_tree_1 hf (fun r1 s1 H locs hf hw => ?_)
  refine lv_istore_n (lv' := [(3, .int r1), (0, .ref (ad 0)), (1, .int x1), (2, .int x2)]) C.1 C.2.1 dX3_tree_4 rfl hl (Nat.le_of_ble_eq_true rfl) rfl (fun ls hl => ?_)
  refine lv_iload_n C.1 C.2.1 dX3_tree_5 rfl (lv_at hl 2 rfl) ?_
  refine lv_i2l C.1 C.2.1 dX3_tree_6 rfl ?_
  refine lv_lconst (v := 0) C.1 C.2.1 dX3_tree_7 rfl ?_
  refine lv_iload_n C.1 C.2.1 dX3_tree_8 rfl (lv_at hl 0 rfl) ?_
  refine lv_iconst (v := 1) C.1 C.2.1 dX3_tree_9 rfl ?_
  refine lv_isub C.1 C.2.1 dX3_tree_10 ?_
  refine lv_i2l C.1 C.2.1 dX3_tree_11 rfl ?_
  refine km_in C hl.1 (Nat.le_of_ble_eq_true rfl) ⟨Nat.le_of_ble_eq_true rfl, Nat.le_of_ble_eq_true rfl⟩ dX3_tree_12 ?_
  refine lv_if_eq (tgt := 30) C.1 C.2.1 dX3_tree_15 (by decide) (fun h15 => ?_) (fun h15 => ?_)
  · replace hf := hf.1 h15
    refine lv_iconst (v := (-1)) C.1 C.2.1 dX3_tree_30 rfl ?_
    exact hret _ _ _ _ _ _ hf hw dX3_tree_31
  · replace hf := hf.2 h15
    refine lv_iload_n C.1 C.2.1 dX3_tree_18 rfl (lv_at hl 3 rfl) ?_
    refine lv_i2l C.1 C.2.1 dX3_tree_19 rfl ?_
    refine lv_lconst (v := 0) C.1 C.2.1 dX3_tree_20 rfl ?_
    refine lv_ldc2 C.1 C.2.1 C.2.2.2.1 (C.2.2.2.2 _ q1851) dX3_tree_21 ?_
    refine km_in C hl.1 (Nat.le_of_ble_eq_true rfl) ⟨Nat.le_of_ble_eq_true rfl, Nat.le_of_ble_eq_true rfl⟩ dX3_tree_24 ?_
    refine lv_if_ne (tgt := 32) C.1 C.2.1 dX3_tree_27 (by decide) (fun h27 => ?_) (fun h27 => ?_)
    · replace hf := hf.2 h27
      refine lv_aload_n C.1 C.2.1 dX3_tree_32 rfl (lv_at hl 1 rfl) ?_
      refine lv_aload_n C.1 C.2.1 dX3_tree_33 rfl (lv_at hl 1 rfl) ?_
      refine km_leastRule C hw hl.1 (Nat.le_of_ble_eq_true rfl) ⟨Nat.le_of_ble_eq_true rfl, Nat.le_of_ble_eq_true rfl⟩ dX3_tree_34 hf (fun r34 hf => ?_)
      refine mp_treeRule C hw dX3_tree_37 (fun s37 H locs e37 hw => ?_)
      replace hf := hf s37 e37
      refine lv_aload_n C.1 C.2.1 dX3_tree_40 rfl (lv_at hl 1 rfl) ?_
      refine lv_iconst (v := 0) C.1 C.2.1 dX3_tree_41 rfl ?_
      refine mp_treeFrom C hw dX3_tree_42 (fun s42 H locs e42 hw => ?_)
      replace hf := hf s42 e42
      refine lv_aload_n C.1 C.2.1 dX3_tree_45 rfl (lv_at hl 1 rfl) ?_
      refine lv_aload_n C.1 C.2.1 dX3_tree_46 rfl (lv_at hl 1 rfl) ?_
      refine mg_scalar C hw dX3_tree_47 ?_
      refine lv_iconst (v := 2) C.1 C.2.1 dX3_tree_50 rfl ?_
      refine g_iald C hw 2 rfl (vpD rfl) dX3_tree_51 ?_
      refine mp_treeTo C hw dX3_tree_52 (fun s52 H locs e52 hw => ?_)
      replace hf := hf s52 e52
      refine lv_aload_n C.1 C.2.1 dX3_tree_55 rfl (lv_at hl 1 rfl) ?_
      refine lv_iload_n C.1 C.2.1 dX3_tree_56 rfl (lv_at hl 2 rfl) ?_
      refine mp_treeLeft C hw dX3_tree_57 (fun s57 H locs e57 hw => ?_)
      replace hf := hf s57 e57
      obtain ⟨n, hf⟩ := hf
      exact P60 _ n _ _ _ _ hf hw (lv_sub hl [1, 3] rfl)
    · replace hf := hf.1 h27
      refine lv_iconst (v := (-1)) C.1 C.2.1 dX3_tree_30 rfl ?_
      exact hret _ _ _ _ _ _ hf hw dX3_tree_31
