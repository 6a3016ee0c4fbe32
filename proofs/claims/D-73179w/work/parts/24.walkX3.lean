set_option maxRecDepth 100000
def x_isOnRing_p18 (σ : St) (x1 : Int32) (x3 : Int32) (Q : Int32 → Prop) (K9 : Int32 → Int32 → Prop) (K18 : Int32 → Int32 → Prop) (x2 : Int32) (x4 : Int32) : Prop :=
  (((σ.1 80) ≤ x4 → K9 x2 (x3 + 1)) ∧ (¬ (σ.1 80) ≤ x4 → (((fx_has x2 x4) = 0 → K18 (x2 ||| 0) (x4 + 1)) ∧ (¬ (fx_has x2 x4) = 0 → (vp_in x4 12 ∧ K18 (x2 ||| (gI σ 57 x4)) (x4 + 1))))))
def x_isOnRing_p9 (σ : St) (x1 : Int32) (Q : Int32 → Prop) (K9 : Int32 → Int32 → Prop) (x2 : Int32) (x3 : Int32) : Prop :=
  ((12 ≤ x3 → (zB (fx_has x2 x1) ∧ Q (fx_has x2 x1))) ∧ (¬ 12 ≤ x3 → (Lp2 (x_isOnRing_p18 σ x1 x3 Q K9) x2 0)))
def x_isOnRing (σ : St) (x1 : Int32) (Q : Int32 → Prop) : Prop :=
  (vp_in x1 12 ∧ (Lp2 (x_isOnRing_p9 σ x1 Q) (gI σ 57 x1) 0))
abbrev rm_x_isOnRing : Room := { frames := 1, cells := 0, slots := 0, locals := 21 }
set_option maxHeartbeats 4000000 in
theorem met_x_isOnRing (l : Launch) (D : va_G) (ct : Ct) (ad : Nat → Nat) (hJ : gJ shX ad ct) (σ : St) (x1 : Int32) (Q : Int32 → Prop) (hf : x_isOnRing σ x1 Q) : Met l yX0_isOnRing (ws_ yX0_isOnRing cX0_isOnRing 5 (some .boolean)) rm_x_isOnRing (va_Pc [.ref (ad 0), .int x1] (gP D ct shX ad σ)) (gR rvI Q) 0 0 (fun _ => False) := by
  refine g_metRZ hJ (by decide) (Nat.le_of_ble_eq_true rfl) ?_
  intro p e s m args below meth c QQ ls H C hw hl hret
  replace hl : lv_has ls 5 [(0, .ref (ad 0)), (1, .int x1)] := hl
  have B18 : ∀ (x1 : Int32) (x3 : Int32) (K9 : Int32 → Int32 → Prop) (_ : ∀ (x2 : Int32) (x3 : Int32) (ls : Array Slot), K9 x2 x3 → lv_has ls 5 [(0, .ref (ad 0)), (1, .int x1), (2, .int x2), (3, .int x3)] → W p l e rm_x_isOnRing s m args below meth c H [] 0 0 QQ (F0 m 9 ls [])) (K18 : Int32 → Int32 → Prop) (_ : ∀ (x2 : Int32) (x4 : Int32) (ls : Array Slot), K18 x2 x4 → lv_has ls 5 [(0, .ref (ad 0)), (1, .int x1), (2, .int x2), (3, .int x3), (4, .int x4)] → W p l e rm_x_isOnRing s m args below meth c H [] 0 0 QQ (F0 m 18 ls [])) (x2 : Int32) (x4 : Int32) (ls : Array Slot), x_isOnRing_p18 σ x1 x3 Q K9 K18 x2 x4 → lv_has ls 5 [(0, .ref (ad 0)), (1, .int x1), (2, .int x2), (3, .int x3), (4, .int x4)] → W p l e rm_x_isOnRing s m args below meth c H [] 0 0 QQ (F0 m 18 ls []) := by
    intro x1 x3 K9 hK9 K18 hK18 x2 x4 ls hf hl
    unfold x_isOnRing_p18 at hf
    refine lv_iload C.1 C.2.1 dX0_isOnRing_18 (lv_at hl 4 rfl) ?_
    refine lv_aload_n C.1 C.2.1 dX0_isOnRing_20 rfl (lv_at hl 0 rfl) ?_
    refine xg_grammar C hw dX0_isOnRing_21 ?_
    refine xn_many C hw dX0_isOnRing_24 ?_
    refine lv_icmp_ge (tgt := 59) C.1 C.2.1 dX0_isOnRing_27 (by decide) (fun h27 => ?_) (fun h27 => ?_)
    · replace hf := hf.1 h27
      refine lv_iinc (v := (x3 + 1)) (lv' := [(3, .int (x3 + 1)), (0, .ref (ad 0)), (1, .int x1), (2, .int x2), (4, .int x4)]) C.1 C.2.1 dX0_isOnRing_59 hl (k := 3) rfl rfl (Nat.le_of_ble_eq_true rfl) rfl (fun ls hl => ?_)
      refine lv_goto (tgt := 9) C.1 C.2.1 dX0_isOnRing_62 (by decide) ?_
      exact hK9 _ _ _ hf (lv_sub hl [1, 2, 3, 0] rfl)
    · replace hf := hf.2 h27
      refine lv_iload_n C.1 C.2.1 dX0_isOnRing_30 rfl (lv_at hl 2 rfl) ?_
      refine lv_iload_n C.1 C.2.1 dX0_isOnRing_31 rfl (lv_at hl 2 rfl) ?_
      refine lv_iload C.1 C.2.1 dX0_isOnRing_32 (lv_at hl 4 rfl) ?_
      refine kx_has C hl.1 (Nat.le_of_ble_eq_true rfl) ⟨Nat.le_of_ble_eq_true rfl, Nat.le_of_ble_eq_true rfl⟩ dX0_isOnRing_34 ?_
      refine lv_if_eq (tgt := 50) C.1 C.2.1 dX0_isOnRing_37 (by decide) (fun h37 => ?_) (fun h37 => ?_)
      · replace hf := hf.1 h37
        refine lv_iconst (v := 0) C.1 C.2.1 dX0_isOnRing_50 rfl ?_
        refine lv_ior C.1 C.2.1 dX0_isOnRing_51 ?_
        refine lv_istore_n (lv' := [(2, .int (x2 ||| 0)), (0, .ref (ad 0)), (1, .int x1), (3, .int x3), (4, .int x4)]) C.1 C.2.1 dX0_isOnRing_52 rfl hl (Nat.le_of_ble_eq_true rfl) rfl (fun ls hl => ?_)
        refine lv_iinc (v := (x4 + 1)) (lv' := [(4, .int (x4 + 1)), (2, .int (x2 ||| 0)), (0, .ref (ad 0)), (1, .int x1), (3, .int x3)]) C.1 C.2.1 dX0_isOnRing_53 hl (k := 4) rfl rfl (Nat.le_of_ble_eq_true rfl) rfl (fun ls hl => ?_)
        refine lv_goto (tgt := 18) C.1 C.2.1 dX0_isOnRing_56 (by decide) ?_
        exact hK18 _ _ _ hf (lv_sub hl [2, 3, 1, 4, 0] rfl)
      · replace hf := hf.2 h37
        refine lv_aload_n C.1 C.2.1 dX0_isOnRing_40 rfl (lv_at hl 0 rfl) ?_
        refine xg_belowOf C hw dX0_isOnRing_41 ?_
        refine lv_iload C.1 C.2.1 dX0_isOnRing_44 (lv_at hl 4 rfl) ?_
        obtain ⟨b46, hf⟩ := hf
        refine g_iald C hw 57 rfl b46 dX0_isOnRing_46 ?_
        refine lv_goto (tgt := 51) C.1 C.2.1 dX0_isOnRing_47 (by decide) ?_
        refine lv_ior C.1 C.2.1 dX0_isOnRing_51 ?_
        refine lv_istore_n (lv' := [(2, .int (x2 ||| (gI σ 57 x4))), (0, .ref (ad 0)), (1, .int x1), (3, .int x3), (4, .int x4)]) C.1 C.2.1 dX0_isOnRing_52 rfl hl (Nat.le_of_ble_eq_true rfl) rfl (fun ls hl => ?_)
        refine lv_iinc (v := (x4 + 1)) (lv' := [(4, .int (x4 + 1)), (2, .int (x2 ||| (gI σ 57 x4))), (0, .ref (ad 0)), (1, .int x1), (3, .int x3)]) C.1 C.2.1 dX0_isOnRing_53 hl (k := 4) rfl rfl (Nat.le_of_ble_eq_true rfl) rfl (fun ls hl => ?_)
        refine lv_goto (tgt := 18) C.1 C.2.1 dX0_isOnRing_56 (by decide) ?_
        exact hK18 _ _ _ hf (lv_sub hl [2, 3, 1, 4, 0] rfl)
  have P18 : ∀ (x1 : Int32) (x3 : Int32) (K9 : Int32 → Int32 → Prop) (_ : ∀ (x2 : Int32) (x3 : Int32) (ls : Array Slot), K9 x2 x3 → lv_has ls 5 [(0, .ref (ad 0)), (1, .int x1), (2, .int x2), (3, .int x3)] → W p l e rm_x_isOnRing s m args below meth c H [] 0 0 QQ (F0 m 9 ls [])) (n : Nat) (x2 : Int32) (x4 : Int32) (ls : Array Slot), LL2 (x_isOnRing_p18 σ x1 x3 Q K9) n x2 x4 → lv_has ls 5 [(0, .ref (ad 0)), (1, .int x1), (2, .int x2), (3, .int x3), (4, .int x4)] → W p l e rm_x_isOnRing s m args below meth c H [] 0 0 QQ (F0 m 18 ls []) := by
    intro x1 x3 K9 hK9 n
    induction n with
    | zero => intro x2 x4 ls hf; exact False.elim hf
    | succ n ih => intro x2 x4 ls hf hl; exact B18 x1 x3 K9 hK9 (LL2 _ n) ih x2 x4 ls hf hl
  have B9 : ∀ (x1 : Int32) (K9 : Int32 → Int32 → Prop) (_ : ∀ (x2 : Int32) (x3 : Int32) (ls : Array Slot), K9 x2 x3 → lv_has ls 5 [(0, .ref (ad 0)), (1, .int x1), (2, .int x2), (3, .int x3)] → W p l e rm_x_isOnRing s m args below meth c H [] 0 0 QQ (F0 m 9 ls [])) (x2 : Int32) (x3 : Int32) (ls : Array Slot), x_isOnRing_p9 σ x1 Q K9 x2 x3 → lv_has ls 5 [(0, .ref (ad 0)), (1, .int x1), (2, .int x2), (3, .int x3)] → W p l e rm_x_isOnRing s m args below meth c H [] 0 0 QQ (F0 m 9 ls []) := by
    intro x1 K9 hK9 x2 x3 ls hf hl
    unfold x_isOnRing_p9 at hf
    refine lv_iload_n C.1 C.2.1 dX0_isOnRing_9 rfl (lv_at hl 3 rfl) ?_
    refine lv_bipush (v := 12) C.1 C.2.1 dX0_isOnRing_10 rfl ?_
    refine lv_icmp_ge (tgt := 65) C.1 C.2.1 dX0_isOnRing_12 (by decide) (fun h12 => ?_) (fun h12 => ?_)
    · replace hf := hf.1 h12
      refine lv_iload_n C.1 C.2.1 dX0_isOnRing_65 rfl (lv_at hl 2 rfl) ?_
      refine lv_iload_n C.1 C.2.1 dX0_isOnRing_66 rfl (lv_at hl 1 rfl) ?_
      refine kx_has C hl.1 (Nat.le_of_ble_eq_true rfl) ⟨Nat.le_of_ble_eq_true rfl, Nat.le_of_ble_eq_true rfl⟩ dX0_isOnRing_67 ?_
      obtain ⟨hz, hf⟩ := hf
      exact hret _ _ _ hf hz dX0_isOnRing_70
    · replace hf := hf.2 h12
      refine lv_iconst (v := 0) C.1 C.2.1 dX0_isOnRing_15 rfl ?_
      refine lv_istore (lv' := [(4, .int 0), (0, .ref (ad 0)), (1, .int x1), (2, .int x2), (3, .int x3)]) C.1 C.2.1 dX0_isOnRing_16 hl (Nat.le_of_ble_eq_true rfl) rfl (fun ls hl => ?_)
      obtain ⟨n, hf⟩ := hf
      exact P18 _ _ _ hK9 n _ _ _ hf (lv_sub hl [1, 2, 3, 4, 0] rfl)
  have P9 : ∀ (x1 : Int32) (n : Nat) (x2 : Int32) (x3 : Int32) (ls : Array Slot), LL2 (x_isOnRing_p9 σ x1 Q) n x2 x3 → lv_has ls 5 [(0, .ref (ad 0)), (1, .int x1), (2, .int x2), (3, .int x3)] → W p l e rm_x_isOnRing s m args below meth c H [] 0 0 QQ (F0 m 9 ls []) := by
    intro x1 n
    induction n with
    | zero => intro x2 x3 ls hf; exact False.elim hf
    | succ n ih => intro x2 x3 ls hf hl; exact B9 x1 (LL2 _ n) ih x2 x3 ls hf hl
  unfold x_isOnRing at hf
  refine lv_aload_n C.1 C.2.1 dX0_isOnRing_0 rfl (lv_at hl 0 rfl) ?_
  refine xg_belowOf C hw dX0_isOnRing_1 ?_
  refine lv_iload_n C.1 C.2.1 dX0_isOnRing_4 rfl (lv_at hl 1 rfl) ?_
  obtain ⟨b5, hf⟩ := hf
  refine g_iald C hw 57 rfl b5 dX0_isOnRing_5 ?_
  refine lv_istore_n (lv' := [(2, .int (gI σ 57 x1)), (0, .ref (ad 0)), (1, .int x1)]) C.1 C.2.1 dX0_isOnRing_6 rfl hl (Nat.le_of_ble_eq_true rfl) rfl (fun ls hl => ?_)
  refine lv_iconst (v := 0) C.1 C.2.1 dX0_isOnRing_7 rfl ?_
  refine lv_istore_n (lv' := [(3, .int 0), (2, .int (gI σ 57 x1)), (0, .ref (ad 0)), (1, .int x1)]) C.1 C.2.1 dX0_isOnRing_8 rfl hl (Nat.le_of_ble_eq_true rfl) rfl (fun ls hl => ?_)
  obtain ⟨n, hf⟩ := hf
  exact P9 _ n _ _ _ hf (lv_sub hl [2, 3, 1, 0] rfl)
theorem kx_isOnRing {p : Program} {l : Launch} {e : Env} {R : Room} {s : State} {m : MethodId} {args : Array Value} {below : List Frame} {meth : Method} {c : Code} {H : Heap} {locs : List Loc} {Z : State → Prop} {cc : ByteArray} {nL pc : Nat} {ls : Array Slot} {rest : List Value} {D : va_G} {ct : Ct} {ad : Nat → Nat} {σ : St} {x1 : Int32} {Qp : Int32 → Prop} (C : CallFix p m c cc nL s args lw_all RX0) (hw : gH D ct shX ad s σ H locs) (hsz : ls.size = nL) (hrm : (rest.map fun v => v.category).sum ≤ 8) (hR : rm_x_isOnRing.frames + 1 ≤ R.frames ∧ 8 + (5 + 11) + rm_x_isOnRing.locals ≤ R.locals) (hdg : decode cc pc = .ok (.invokevirtual 569, 3)) (hf : x_isOnRing σ x1 Qp) (kk : ∀ (r : Int32), Qp r → W p l e R s m args below meth c H locs 0 0 Z (F0 m (pc + 3) ls (.int r :: rest))) : W p l e R s m args below meth c H locs 0 0 Z (F0 m pc ls (.int x1 :: .ref (ad 0) :: rest)) :=
  g_callVR (As := [.int x1]) (rest := rest) C hw rfl rfl (met_x_isOnRing l D ct ad hw.2.1 σ x1 Qp hf) (cwV 1 C.2.2.2.2 (lw_V q1114 q1116 qs80 q200 q1117) rfl rfl rfl (by decide +kernel) hR) rfl hsz rfl hrm ⟨Nat.zero_le _, Nat.zero_le _⟩ hdg kk
def x_isSpan (σ : St) (x1 : Int32) (x2 : Int32) (Q : Int32 → Prop) : Prop :=
  (((fx_isLevel σ x2) = 0 → Q 0) ∧ (¬ (fx_isLevel σ x2) = 0 → ((x1 < 0 → Q 0) ∧ (¬ x1 < 0 → ((x2 < x1 → Q 0) ∧ (¬ x2 < x1 → Q 1))))))
abbrev rm_x_isSpan : Room := { frames := 1, cells := 0, slots := 0, locals := 21 }
set_option maxHeartbeats 4000000 in
theorem met_x_isSpan (l : Launch) (D : va_G) (ct : Ct) (ad : Nat → Nat) (hJ : gJ shX ad ct) (σ : St) (x1 : Int32) (x2 : Int32) (Q : Int32 → Prop) (hf : x_isSpan σ x1 x2 Q) : Met l yX0_isSpan (ws_ yX0_isSpan cX0_isSpan 3 (some .boolean)) rm_x_isSpan (va_Pc [.ref (ad 0), .int x1, .int x2] (gP D ct shX ad σ)) (gR rvI Q) 0 0 (fun _ => False) := by
  refine g_metRZ hJ (by decide) (Nat.le_of_ble_eq_true rfl) ?_
  intro p e s m args below meth c QQ ls H C hw hl hret
  replace hl : lv_has ls 3 [(0, .ref (ad 0)), (1, .int x1), (2, .int x2)] := hl
  unfold x_isSpan at hf
  refine lv_aload_n C.1 C.2.1 dX0_isSpan_0 rfl (lv_at hl 0 rfl) ?_
  refine lv_iload_n C.1 C.2.1 dX0_isSpan_1 rfl (lv_at hl 2 rfl) ?_
  refine kx_isLevel C hw hl.1 (Nat.le_of_ble_eq_true rfl) ⟨Nat.le_of_ble_eq_true rfl, Nat.le_of_ble_eq_true rfl⟩ dX0_isSpan_2 ?_
  refine lv_if_eq (tgt := 21) C.1 C.2.1 dX0_isSpan_5 (by decide) (fun h5 => ?_) (fun h5 => ?_)
  · replace hf := hf.1 h5
    refine lv_iconst (v := 0) C.1 C.2.1 dX0_isSpan_21 rfl ?_
    exact hret _ _ _ hf (Or.inl rfl) dX0_isSpan_22
  · replace hf := hf.2 h5
    refine lv_iload_n C.1 C.2.1 dX0_isSpan_8 rfl (lv_at hl 1 rfl) ?_
    refine lv_if_lt (tgt := 21) C.1 C.2.1 dX0_isSpan_9 (by decide) (fun h9 => ?_) (fun h9 => ?_)
    · replace hf := hf.1 h9
      refine lv_iconst (v := 0) C.1 C.2.1 dX0_isSpan_21 rfl ?_
      exact hret _ _ _ hf (Or.inl rfl) dX0_isSpan_22
    · replace hf := hf.2 h9
      refine lv_iload_n C.1 C.2.1 dX0_isSpan_12 rfl (lv_at hl 1 rfl) ?_
      refine lv_iload_n C.1 C.2.1 dX0_isSpan_13 rfl (lv_at hl 2 rfl) ?_
      refine lv_icmp_gt (tgt := 21) C.1 C.2.1 dX0_isSpan_14 (by decide) (fun h14 => ?_) (fun h14 => ?_)
      · replace hf := hf.1 h14
        refine lv_iconst (v := 0) C.1 C.2.1 dX0_isSpan_21 rfl ?_
        exact hret _ _ _ hf (Or.inl rfl) dX0_isSpan_22
      · replace hf := hf.2 h14
        refine lv_iconst (v := 1) C.1 C.2.1 dX0_isSpan_17 rfl ?_
        refine lv_goto (tgt := 22) C.1 C.2.1 dX0_isSpan_18 (by decide) ?_
        exact hret _ _ _ hf (Or.inr rfl) dX0_isSpan_22
def fx_isSpan (σ : St) (x1 : Int32) (x2 : Int32) : Int32 :=
  (if (fx_isLevel σ x2) = 0 then 0 else (if x1 < 0 then 0 else (if x2 < x1 then 0 else 1)))
theorem fx_isSpan_z {σ : St} {x1 : Int32} {x2 : Int32} : zB (fx_isSpan σ x1 x2) := by
  unfold fx_isSpan
  repeat' split
  all_goals first | exact Or.inl rfl | exact Or.inr rfl | exact fx_isLevel_z
theorem x_isSpan_f {Q : Int32 → Prop} {σ : St} {x1 : Int32} {x2 : Int32} (h : Q (fx_isSpan σ x1 x2)) : x_isSpan σ x1 x2 Q := by
  unfold fx_isSpan at h
  unfold x_isSpan
  refine ⟨fun c => ?_, fun c => ?_⟩
  · rw [if_pos c] at h
    exact h
  · rw [if_neg c] at h
    refine ⟨fun c => ?_, fun c => ?_⟩
    · rw [if_pos c] at h
      exact h
    · rw [if_neg c] at h
      refine ⟨fun c => ?_, fun c => ?_⟩
      · rw [if_pos c] at h
        exact h
      · rw [if_neg c] at h
        exact h
theorem kx_isSpan {p : Program} {l : Launch} {e : Env} {R : Room} {s : State} {m : MethodId} {args : Array Value} {below : List Frame} {meth : Method} {c : Code} {H : Heap} {locs : List Loc} {Z : State → Prop} {cc : ByteArray} {nL pc : Nat} {ls : Array Slot} {rest : List Value} {D : va_G} {ct : Ct} {ad : Nat → Nat} {σ : St} {x1 : Int32} {x2 : Int32} (C : CallFix p m c cc nL s args lw_all RX0) (hw : gH D ct shX ad s σ H locs) (hsz : ls.size = nL) (hrm : (rest.map fun v => v.category).sum ≤ 8) (hR : rm_x_isSpan.frames + 1 ≤ R.frames ∧ 8 + (3 + 11) + rm_x_isSpan.locals ≤ R.locals) (hdg : decode cc pc = .ok (.invokevirtual 607, 3)) (kk : W p l e R s m args below meth c H locs 0 0 Z (F0 m (pc + 3) ls (.int (fx_isSpan σ x1 x2) :: rest))) : W p l e R s m args below meth c H locs 0 0 Z (F0 m pc ls (.int x2 :: .int x1 :: .ref (ad 0) :: rest)) :=
  g_callVRf (As := [.int x1, .int x2]) (rest := rest) C hw rfl rfl (met_x_isSpan l D ct ad hw.2.1 σ x1 x2 (fun r => r = fx_isSpan σ x1 x2) (x_isSpan_f rfl)) (cwV 2 C.2.2.2.2 (lw_V q1065 q1067 qs70 q200 q1068) rfl rfl rfl (by decide +kernel) hR) rfl hsz rfl hrm ⟨Nat.zero_le _, Nat.zero_le _⟩ hdg kk
def x_firstCapital_p2 (σ : St) (Q : Int32 → Prop) (K2 : Int32 → Prop) (x1 : Int32) : Prop :=
  (((σ.1 65) ≤ x1 → Q (-1)) ∧ (¬ (σ.1 65) ≤ x1 → (vp_in x1 24 ∧ (((fx_isCapital (gI σ 64 x1)) = 0 → K2 (x1 + 1)) ∧ (¬ (fx_isCapital (gI σ 64 x1)) = 0 → Q x1)))))
def x_firstCapital (σ : St) (Q : Int32 → Prop) : Prop :=
  (Lp1 (x_firstCapital_p2 σ Q) 0)
abbrev rm_x_firstCapital : Room := { frames := 1, cells := 0, slots := 0, locals := 20 }
set_option maxHeartbeats 4000000 in
theorem met_x_firstCapital (l : Launch) (D : va_G) (ct : Ct) (ad : Nat → Nat) (hJ : gJ shX ad ct) (σ : St) (Q : Int32 → Prop) (hf : x_firstCapital σ Q) : Met l yX0_firstCapital (ws_ yX0_firstCapital cX0_firstCapital 2 (some .int)) rm_x_firstCapital (va_Pc [.ref (ad 0)] (gP D ct shX ad σ)) (gR rvI Q) 0 0 (fun _ => False) := by
  refine g_metRI hJ (by decide) (Nat.le_of_ble_eq_true rfl) ?_
  intro p e s m args below meth c QQ ls H C hw hl hret
  replace hl : lv_has ls 2 [(0, .ref (ad 0))] := hl
  have B2 : ∀ (K2 : Int32 → Prop) (_ : ∀ (x1 : Int32) (ls : Array Slot), K2 x1 → lv_has ls 2 [(0, .ref (ad 0)), (1, .int x1)] → W p l e rm_x_firstCapital s m args below meth c H [] 0 0 QQ (F0 m 2 ls [])) (x1 : Int32) (ls : Array Slot), x_firstCapital_p2 σ Q K2 x1 → lv_has ls 2 [(0, .ref (ad 0)), (1, .int x1)] → W p l e rm_x_firstCapital s m args below meth c H [] 0 0 QQ (F0 m 2 ls []) := by
    intro K2 hK2 x1 ls hf hl
    unfold x_firstCapital_p2 at hf
    refine lv_iload_n C.1 C.2.1 dX0_firstCapital_2 rfl (lv_at hl 1 rfl) ?_
    refine lv_aload_n C.1 C.2.1 dX0_firstCapital_3 rfl (lv_at hl 0 rfl) ?_
    refine xg_spokenMany C hw dX0_firstCapital_4 ?_
    refine lv_icmp_ge (tgt := 30) C.1 C.2.1 dX0_firstCapital_7 (by decide) (fun h7 => ?_) (fun h7 => ?_)
    · replace hf := hf.1 h7
      refine lv_iconst (v := (-1)) C.1 C.2.1 dX0_firstCapital_30 rfl ?_
      exact hret _ _ _ hf dX0_firstCapital_31
    · replace hf := hf.2 h7
      refine lv_aload_n C.1 C.2.1 dX0_firstCapital_10 rfl (lv_at hl 0 rfl) ?_
      refine xg_spoken C hw dX0_firstCapital_11 ?_
      refine lv_iload_n C.1 C.2.1 dX0_firstCapital_14 rfl (lv_at hl 1 rfl) ?_
      obtain ⟨b15, hf⟩ := hf
      refine g_iald C hw 64 rfl b15 dX0_firstCapital_15 ?_
      refine kx_isCapital C hl.1 (Nat.le_of_ble_eq_true rfl) ⟨Nat.le_of_ble_eq_true rfl, Nat.le_of_ble_eq_true rfl⟩ dX0_firstCapital_16 ?_
      refine lv_if_eq (tgt := 24) C.1 C.2.1 dX0_firstCapital_19 (by decide) (fun h19 => ?_) (fun h19 => ?_)
      · replace hf := hf.1 h19
        refine lv_iinc (v := (x1 + 1)) (lv' := [(1, .int (x1 + 1)), (0, .ref (ad 0))]) C.1 C.2.1 dX0_firstCapital_24 hl (k := 1) rfl rfl (Nat.le_of_ble_eq_true rfl) rfl (fun ls hl => ?_)
        refine lv_goto (tgt := 2) C.1 C.2.1 dX0_firstCapital_27 (by decide) ?_
        exact hK2 _ _ hf (lv_sub hl [1, 0] rfl)
      · replace hf := hf.2 h19
        refine lv_iload_n C.1 C.2.1 dX0_firstCapital_22 rfl (lv_at hl 1 rfl) ?_
        exact hret _ _ _ hf dX0_firstCapital_23
  have P2 : ∀ (n : Nat) (x1 : Int32) (ls : Array Slot), LL1 (x_firstCapital_p2 σ Q) n x1 → lv_has ls 2 [(0, .ref (ad 0)), (1, .int x1)] → W p l e rm_x_firstCapital s m args below meth c H [] 0 0 QQ (F0 m 2 ls []) := by
    intro  n
    induction n with
    | zero => intro x1 ls hf; exact False.elim hf
    | succ n ih => intro x1 ls hf hl; exact B2  (LL1 _ n) ih x1 ls hf hl
  unfold x_firstCapital at hf
  refine lv_iconst (v := 0) C.1 C.2.1 dX0_firstCapital_0 rfl ?_
  refine lv_istore_n (lv' := [(1, .int 0), (0, .ref (ad 0))]) C.1 C.2.1 dX0_firstCapital_1 rfl hl (Nat.le_of_ble_eq_true rfl) rfl (fun ls hl => ?_)
  obtain ⟨n, hf⟩ := hf
  exact P2  n _ _ hf (lv_sub hl [1, 0] rfl)
theorem kx_firstCapital {p : Program} {l : Launch} {e : Env} {R : Room} {s : State} {m : MethodId} {args : Array Value} {below : List Frame} {meth : Method} {c : Code} {H : Heap} {locs : List Loc} {Z : State → Prop} {cc : ByteArray} {nL pc : Nat} {ls : Array Slot} {rest : List Value} {D : va_G} {ct : Ct} {ad : Nat → Nat} {σ : St} {Qp : Int32 → Prop} (C : CallFix p m c cc nL s args lw_all RX0) (hw : gH D ct shX ad s σ H locs) (hsz : ls.size = nL) (hrm : (rest.map fun v => v.category).sum ≤ 8) (hR : rm_x_firstCapital.frames + 1 ≤ R.frames ∧ 8 + (2 + 11) + rm_x_firstCapital.locals ≤ R.locals) (hdg : decode cc pc = .ok (.invokevirtual 677, 3)) (hf : x_firstCapital σ Qp) (kk : ∀ (r : Int32), Qp r → W p l e R s m args below meth c H locs 0 0 Z (F0 m (pc + 3) ls (.int r :: rest))) : W p l e R s m args below meth c H locs 0 0 Z (F0 m pc ls (.ref (ad 0) :: rest)) :=
  g_callVR (As := []) (rest := rest) C hw rfl rfl (met_x_firstCapital l D ct ad hw.2.1 σ Qp hf) (cwV 0 C.2.2.2.2 (lw_V q1247 q1249 qs94 q200 q1250) rfl rfl rfl (by decide +kernel) hR) rfl hsz rfl hrm ⟨Nat.zero_le _, Nat.zero_le _⟩ hdg kk
def x_puts_p61 (x1 : Int32) (x2 : Int32) (x3 : Int32) (Q : Int32 → St → Prop) (K61 : St → Int32 → Prop) (σ : St) (x4 : Int32) : Prop :=
  (vp_in x2 12 ∧ (((gI σ 84 x2) ≤ x4 → (∀ s102 : St, s102 = s_I σ 65 x3 → Q 1 s102)) ∧ (¬ (gI σ 84 x2) ≤ x4 → (x_at σ x2 x4 (fun r90 => (vp_in (x1 + x4) 24 ∧ (∀ s93 : St, s93 = s_A σ 64 (Int32.toNatClampNeg (x1 + x4)) r90 → K61 s93 (x4 + 1))))))))
def x_puts (σ : St) (x1 : Int32) (x2 : Int32) (Q : Int32 → St → Prop) : Prop :=
  (vp_in x2 12 ∧ (((((σ.1 65) - 1) + (gI σ 84 x2)) ≤ 24 → (¬ ((x1 + 1) : Int32) < 0 ∧ ¬ ((x1 + (gI σ 84 x2)) : Int32) < 0 ∧ ¬ ((((σ.1 65) - x1) - 1) : Int32) < 0 ∧ (Int32.toNatClampNeg (x1 + 1)) + (Int32.toNatClampNeg (((σ.1 65) - x1) - 1)) ≤ 24 ∧ (Int32.toNatClampNeg (x1 + (gI σ 84 x2))) + (Int32.toNatClampNeg (((σ.1 65) - x1) - 1)) ≤ 24 ∧ (∀ s55 : St, s55 = s_C σ 64 64 (Int32.toNatClampNeg (x1 + 1)) (Int32.toNatClampNeg (x1 + (gI σ 84 x2))) (Int32.toNatClampNeg (((σ.1 65) - x1) - 1)) → (Lp2 (x_puts_p61 x1 x2 (((σ.1 65) - 1) + (gI σ 84 x2)) Q) s55 0)))) ∧ (¬ (((σ.1 65) - 1) + (gI σ 84 x2)) ≤ 24 → Q 0 σ)))
abbrev rm_x_puts : Room := { frames := 1, cells := 0, slots := 0, locals := 64 }
set_option maxHeartbeats 4000000 in
theorem met_x_puts (l : Launch) (D : va_G) (ct : Ct) (ad : Nat → Nat) (hJ : gJ shX ad ct) (σ : St) (x1 : Int32) (x2 : Int32) (Q : Int32 → St → Prop) (hf : x_puts σ x1 x2 Q) : Met l yX0_puts (ws_ yX0_puts cX0_puts 5 (some .boolean)) rm_x_puts (va_Pc [.ref (ad 0), .int x1, .int x2] (gP D ct shX ad σ)) (gQ rvI D ct shX ad Q) 0 0 (gA shX ad) := by
  refine g_metZ hJ (by decide) (Nat.le_of_ble_eq_true rfl) ?_
  intro p e s m args below meth c QQ ls C hw hl hret
  replace hl : lv_has ls 5 [(0, .ref (ad 0)), (1, .int x1), (2, .int x2)] := hl
  have B61 : ∀ (x1 : Int32) (x2 : Int32) (x3 : Int32) (K61 : St → Int32 → Prop) (_ : ∀ (σ : St) (H : Heap) (locs : List Loc) (x4 : Int32) (ls : Array Slot), K61 σ x4 → gH D ct shX ad s σ H locs → lv_has ls 5 [(0, .ref (ad 0)), (1, .int x1), (2, .int x2), (3, .int x3), (4, .int x4)] → W p l e rm_x_puts s m args below meth c H locs 0 0 QQ (F0 m 61 ls [])) (σ : St) (H : Heap) (locs : List Loc) (x4 : Int32) (ls : Array Slot), x_puts_p61 x1 x2 x3 Q K61 σ x4 → gH D ct shX ad s σ H locs → lv_has ls 5 [(0, .ref (ad 0)), (1, .int x1), (2, .int x2), (3, .int x3), (4, .int x4)] → W p l e rm_x_puts s m args below meth c H locs 0 0 QQ (F0 m 61 ls []) := by
    intro x1 x2 x3 K61 hK61 σ H locs x4 ls hf hw hl
    unfold x_puts_p61 at hf
    refine lv_iload C.1 C.2.1 dX0_puts_61 (lv_at hl 4 rfl) ?_
    refine lv_aload_n C.1 C.2.1 dX0_puts_63 rfl (lv_at hl 0 rfl) ?_
    refine xg_grammar C hw dX0_puts_64 ?_
    refine xn_size C hw dX0_puts_67 ?_
    refine lv_iload_n C.1 C.2.1 dX0_puts_70 rfl (lv_at hl 2 rfl) ?_
    obtain ⟨b71, hf⟩ := hf
    refine g_iald C hw 84 rfl b71 dX0_puts_71 ?_
    refine lv_icmp_ge (tgt := 100) C.1 C.2.1 dX0_puts_72 (by decide) (fun h72 => ?_) (fun h72 => ?_)
    · replace hf := hf.1 h72
      refine lv_aload_n C.1 C.2.1 dX0_puts_100 rfl (lv_at hl 0 rfl) ?_
      refine lv_iload_n C.1 C.2.1 dX0_puts_101 rfl (lv_at hl 3 rfl) ?_
      refine xp_spokenMany C hw dX0_puts_102 (fun s102 H locs e102 hw => ?_)
      replace hf := hf s102 e102
      refine lv_iconst (v := 1) C.1 C.2.1 dX0_puts_105 rfl ?_
      exact hret _ _ _ _ _ _ hf hw (Or.inr rfl) dX0_puts_106
    · replace hf := hf.2 h72
      refine lv_aload_n C.1 C.2.1 dX0_puts_75 rfl (lv_at hl 0 rfl) ?_
      refine xg_spoken C hw dX0_puts_76 ?_
      refine lv_iload_n C.1 C.2.1 dX0_puts_79 rfl (lv_at hl 1 rfl) ?_
      refine lv_iload C.1 C.2.1 dX0_puts_80 (lv_at hl 4 rfl) ?_
      refine lv_iadd C.1 C.2.1 dX0_puts_82 ?_
      refine lv_aload_n C.1 C.2.1 dX0_puts_83 rfl (lv_at hl 0 rfl) ?_
      refine xg_grammar C hw dX0_puts_84 ?_
      refine lv_iload_n C.1 C.2.1 dX0_puts_87 rfl (lv_at hl 2 rfl) ?_
      refine lv_iload C.1 C.2.1 dX0_puts_88 (lv_at hl 4 rfl) ?_
      refine kx_at C hw hl.1 (Nat.le_of_ble_eq_true rfl) ⟨Nat.le_of_ble_eq_true rfl, Nat.le_of_ble_eq_true rfl⟩ dX0_puts_90 hf (fun r90 hf => ?_)
      obtain ⟨b93, hf⟩ := hf
      refine g_iast C shX_sep hw 64 rfl b93 dX0_puts_93 (fun s93 H locs e93 hw => ?_)
      replace hf := hf s93 e93
      refine lv_iinc (v := (x4 + 1)) (lv' := [(4, .int (x4 + 1)), (0, .ref (ad 0)), (1, .int x1), (2, .int x2), (3, .int x3)]) C.1 C.2.1 dX0_puts_94 hl (k := 4) rfl rfl (Nat.le_of_ble_eq_true rfl) rfl (fun ls hl => ?_)
      refine lv_goto (tgt := 61) C.1 C.2.1 dX0_puts_97 (by decide) ?_
      exact hK61 _ _ _ _ _ hf hw (lv_sub hl [1, 2, 3, 4, 0] rfl)
  have P61 : ∀ (x1 : Int32) (x2 : Int32) (x3 : Int32) (n : Nat) (σ : St) (x4 : Int32) (ls : Array Slot) (H : Heap) (locs : List Loc), LL2 (x_puts_p61 x1 x2 x3 Q) n σ x4 → gH D ct shX ad s σ H locs → lv_has ls 5 [(0, .ref (ad 0)), (1, .int x1), (2, .int x2), (3, .int x3), (4, .int x4)] → W p l e rm_x_puts s m args below meth c H locs 0 0 QQ (F0 m 61 ls []) := by
    intro x1 x2 x3 n
    induction n with
    | zero => intro σ x4 ls H locs hf; exact False.elim hf
    | succ n ih => intro σ x4 ls H locs hf hw hl; exact B61 x1 x2 x3 (LL2 _ n) (fun σ H locs x4 ls hf hw hl => ih σ x4 ls H locs hf hw hl) σ H locs x4 ls hf hw hl
  unfold x_puts at hf
  obtain ⟨H, hH⟩ : ∃ q, q = s.heap := ⟨_, rfl⟩
  obtain ⟨locs, hL⟩ : ∃ q : List Loc, q = [] := ⟨_, rfl⟩
  rw [← hH, ← hL] at hw ⊢
  refine lv_aload_n C.1 C.2.1 dX0_puts_0 rfl (lv_at hl 0 rfl) ?_
  refine xg_spokenMany C hw dX0_puts_1 ?_
  refine lv_iconst (v := 1) C.1 C.2.1 dX0_puts_4 rfl ?_
  refine lv_isub C.1 C.2.1 dX0_puts_5 ?_
  refine lv_aload_n C.1 C.2.1 dX0_puts_6 rfl (lv_at hl 0 rfl) ?_
  refine xg_grammar C hw dX0_puts_7 ?_
  refine xn_size C hw dX0_puts_10 ?_
  refine lv_iload_n C.1 C.2.1 dX0_puts_13 rfl (lv_at hl 2 rfl) ?_
  obtain ⟨b14, hf⟩ := hf
  refine g_iald C hw 84 rfl b14 dX0_puts_14 ?_
  refine lv_iadd C.1 C.2.1 dX0_puts_15 ?_
  refine lv_istore_n (lv' := [(3, .int (((σ.1 65) - 1) + (gI σ 84 x2))), (0, .ref (ad 0)), (1, .int x1), (2, .int x2)]) C.1 C.2.1 dX0_puts_16 rfl hl (Nat.le_of_ble_eq_true rfl) rfl (fun ls hl => ?_)
  refine lv_iload_n C.1 C.2.1 dX0_puts_17 rfl (lv_at hl 0 rfl) ?_
  refine lv_bipush (v := 24) C.1 C.2.1 dX0_puts_18 rfl ?_
  refine lv_icmp_le (tgt := 25) C.1 C.2.1 dX0_puts_20 (by decide) (fun h20 => ?_) (fun h20 => ?_)
  · replace hf := hf.1 h20
    refine lv_aload_n C.1 C.2.1 dX0_puts_25 rfl (lv_at hl 1 rfl) ?_
    refine xg_spoken C hw dX0_puts_26 ?_
    refine lv_iload_n C.1 C.2.1 dX0_puts_29 rfl (lv_at hl 2 rfl) ?_
    refine lv_iconst (v := 1) C.1 C.2.1 dX0_puts_30 rfl ?_
    refine lv_iadd C.1 C.2.1 dX0_puts_31 ?_
    refine lv_aload_n C.1 C.2.1 dX0_puts_32 rfl (lv_at hl 1 rfl) ?_
    refine xg_spoken C hw dX0_puts_33 ?_
    refine lv_iload_n C.1 C.2.1 dX0_puts_36 rfl (lv_at hl 2 rfl) ?_
    refine lv_aload_n C.1 C.2.1 dX0_puts_37 rfl (lv_at hl 1 rfl) ?_
    refine xg_grammar C hw dX0_puts_38 ?_
    refine xn_size C hw dX0_puts_41 ?_
    refine lv_iload_n C.1 C.2.1 dX0_puts_44 rfl (lv_at hl 3 rfl) ?_
    refine g_iald C hw 84 rfl b14 dX0_puts_45 ?_
    refine lv_iadd C.1 C.2.1 dX0_puts_46 ?_
    refine lv_aload_n C.1 C.2.1 dX0_puts_47 rfl (lv_at hl 1 rfl) ?_
    refine xg_spokenMany C hw dX0_puts_48 ?_
    refine lv_iload_n C.1 C.2.1 dX0_puts_51 rfl (lv_at hl 2 rfl) ?_
    refine lv_isub C.1 C.2.1 dX0_puts_52 ?_
    refine lv_iconst (v := 1) C.1 C.2.1 dX0_puts_53 rfl ?_
    refine lv_isub C.1 C.2.1 dX0_puts_54 ?_
    obtain ⟨c551, c552, c553, c554, c555, hf⟩ := hf
    refine g_copy C shX_sep hw hl.1 q935 q937 q936 q211 64 64 rfl rfl c551 c552 c553 c554 c555 (Nat.le_of_ble_eq_true rfl) (Nat.le_of_ble_eq_true rfl) dX0_puts_55 (fun s55 H locs e55 hw => ?_)
    replace hf := hf s55 e55
    refine lv_iconst (v := 0) C.1 C.2.1 dX0_puts_58 rfl ?_
    refine lv_istore (lv' := [(4, .int 0), (3, .int (((σ.1 65) - 1) + (gI σ 84 x2))), (0, .ref (ad 0)), (1, .int x1), (2, .int x2)]) C.1 C.2.1 dX0_puts_59 hl (Nat.le_of_ble_eq_true rfl) rfl (fun ls hl => ?_)
    obtain ⟨n, hf⟩ := hf
    exact P61 _ _ _ n _ _ _ _ _ hf hw (lv_sub hl [2, 3, 4, 1, 0] rfl)
  · replace hf := hf.2 h20
    refine lv_iconst (v := 0) C.1 C.2.1 dX0_puts_23 rfl ?_
    exact hret _ _ _ _ _ _ hf hw (Or.inl rfl) dX0_puts_24
theorem kx_puts {p : Program} {l : Launch} {e : Env} {R : Room} {s : State} {m : MethodId} {args : Array Value} {below : List Frame} {meth : Method} {c : Code} {H : Heap} {locs : List Loc} {Z : State → Prop} {cc : ByteArray} {nL pc : Nat} {ls : Array Slot} {rest : List Value} {D : va_G} {ct : Ct} {ad : Nat → Nat} {σ : St} {x1 : Int32} {x2 : Int32} {Qp : Int32 → St → Prop} (C : CallFix p m c cc nL s args lw_all RX0) (hw : gH D ct shX ad s σ H locs) (hsz : ls.size = nL) (hrm : (rest.map fun v => v.category).sum ≤ 8) (hR : rm_x_puts.frames + 1 ≤ R.frames ∧ 8 + (5 + 11) + rm_x_puts.locals ≤ R.locals) (hdg : decode cc pc = .ok (.invokevirtual 689, 3)) (hf : x_puts σ x1 x2 Qp) (kk : ∀ (r : Int32) (σ1 : St) (H1 : Heap) (locs1 : List Loc), Qp r σ1 → gH D ct shX ad s σ1 H1 locs1 → W p l e R s m args below meth c H1 locs1 0 0 Z (F0 m (pc + 3) ls (.int r :: rest))) : W p l e R s m args below meth c H locs 0 0 Z (F0 m pc ls (.int x2 :: .int x1 :: .ref (ad 0) :: rest)) :=
  g_callV (As := [.int x1, .int x2]) (rest := rest) C hw rfl rfl (met_x_puts l D ct ad hw.2.1 σ x1 x2 Qp hf) (cwV 2 C.2.2.2.2 (lw_V q1267 q1269 qs98 q200 q1270) rfl rfl rfl (by decide +kernel) hR) rfl hsz rfl hrm ⟨Nat.zero_le _, Nat.zero_le _⟩ hdg kk
def x_barOf (σ : St) (x4 x1 x2 x3 : Int32) (Q : Int32 → Prop) : Prop := (x4 = 0 → x_isOutranked σ x1 x2 x3 Q) ∧ (x4 = 1 → x_isOnSide σ x1 x2 x3 Q) ∧ (x4 = 2 → x_isBanned σ x1 x2 x3 Q)
abbrev rm_x_barOf : Room := { frames := 2, cells := 0, slots := 0, locals := 111 }
theorem x_aald {p : Program} {l : Launch} {e : Env} {R : Room} {s : State} {m : MethodId} {args : Array Value} {below : List Frame} {meth : Method} {c : Code} {H : Heap} {locs : List Loc} {Z : State → Prop} {cc : ByteArray} {nL pc : Nat} {ls : Array Slot} {rest : List Value} {D : va_G} {ct : Ct} {ad : Nat → Nat} {σ : St} {x4 : Int32} (C : CallFix p m c cc nL s args lw_all RX0) (hw : gH D ct shX ad s σ H locs) (hin : vp_in x4 3) (hdg : decode cc pc = .ok (.aaload, 1)) (kk : W p l e R s m args below meth c H locs 0 0 Z (F0 m (pc + 1) ls (.ref (ad (67 + x4.toNatClampNeg)) :: rest))) : W p l e R s m args below meth c H locs 0 0 Z (F0 m pc ls (.int x4 :: .ref (ad 11) :: rest)) := sorry
theorem xn_bar {p : Program} {l : Launch} {e : Env} {R : Room} {s : State} {m : MethodId} {args : Array Value} {below : List Frame} {meth : Method} {c : Code} {H : Heap} {locs : List Loc} {Z : State → Prop} {cc : ByteArray} {nL pc : Nat} {ls : Array Slot} {rest : List Value} {D : va_G} {ct : Ct} {ad : Nat → Nat} {σ : St} {x4 : Int32} (C : CallFix p m c cc nL s args lw_all RX0) (hw : gH D ct shX ad s σ H locs) (hin : vp_in x4 3) (hdg : decode cc pc = .ok (.getfield 242, 3)) (kk : W p l e R s m args below meth c H locs 0 0 Z (F0 m (pc + 3) ls (.ref (ad (70 + x4.toNatClampNeg)) :: rest))) : W p l e R s m args below meth c H locs 0 0 Z (F0 m pc ls (.ref (ad (67 + x4.toNatClampNeg)) :: rest)) := sorry
theorem kx_barOf {p : Program} {l : Launch} {e : Env} {R : Room} {s : State} {m : MethodId} {args : Array Value} {below : List Frame} {meth : Method} {c : Code} {H : Heap} {locs : List Loc} {Z : State → Prop} {cc : ByteArray} {nL pc : Nat} {ls : Array Slot} {rest : List Value} {D : va_G} {ct : Ct} {ad : Nat → Nat} {σ : St} {x1 x2 x3 x4 : Int32} {Qp : Int32 → Prop} (C : CallFix p m c cc nL s args lw_all RX0) (hw : gH D ct shX ad s σ H locs) (hsz : ls.size = nL) (hrm : (rest.map fun v => v.category).sum ≤ 8) (hR : rm_x_barOf.frames ≤ R.frames ∧ rm_x_barOf.locals ≤ R.locals) (hin : vp_in x4 3) (hdg : decode cc pc = .ok (.invokeinterface 246 4, 5)) (hf : x_barOf σ x4 x1 x2 x3 Qp) (kk : ∀ r : Int32, Qp r → W p l e R s m args below meth c H locs 0 0 Z (F0 m (pc + 5) ls (.int r :: rest))) : W p l e R s m args below meth c H locs 0 0 Z (F0 m pc ls (.int x3 :: .int x2 :: .int x1 :: .ref (ad (70 + x4.toNatClampNeg)) :: rest)) := sorry
def x_isForbidden_p3 (σ : St) (x1 : Int32) (x2 : Int32) (x3 : Int32) (Q : Int32 → Prop) (K3 : Int32 → Prop) (x4 : Int32) : Prop :=
  ((3 ≤ x4 → Q 0) ∧ (¬ 3 ≤ x4 → (((fx_has (σ.1 5) x4) = 0 → K3 (x4 + 1)) ∧ (¬ (fx_has (σ.1 5) x4) = 0 → (vp_in x4 3 ∧ (x_barOf σ x4 x1 x2 x3 (fun r34 => ((r34 = 0 → K3 (x4 + 1)) ∧ (¬ r34 = 0 → Q 1)))))))))
def x_isForbidden (σ : St) (x1 : Int32) (x2 : Int32) (x3 : Int32) (Q : Int32 → Prop) : Prop :=
  (Lp1 (x_isForbidden_p3 σ x1 x2 x3 Q) 0)
abbrev rm_x_isForbidden : Room := { frames := 3, cells := 0, slots := 0, locals := 119 }
set_option maxHeartbeats 4000000 in
theorem met_x_isForbidden (l : Launch) (D : va_G) (ct : Ct) (ad : Nat → Nat) (hJ : gJ shX ad ct) (σ : St) (x1 : Int32) (x2 : Int32) (x3 : Int32) (Q : Int32 → Prop) (hf : x_isForbidden σ x1 x2 x3 Q) : Met l yX0_isForbidden (ws_ yX0_isForbidden cX0_isForbidden 5 (some .boolean)) rm_x_isForbidden (va_Pc [.ref (ad 0), .int x1, .int x2, .int x3] (gP D ct shX ad σ)) (gR rvI Q) 0 0 (fun _ => False) := by
  refine g_metRZ hJ (by decide) (Nat.le_of_ble_eq_true rfl) ?_
  intro p e s m args below meth c QQ ls H C hw hl hret
  replace hl : lv_has ls 5 [(0, .ref (ad 0)), (1, .int x1), (2, .int x2), (3, .int x3)] := hl
  have B3 : ∀ (x1 : Int32) (x2 : Int32) (x3 : Int32) (K3 : Int32 → Prop) (_ : ∀ (x4 : Int32) (ls : Array Slot), K3 x4 → lv_has ls 5 [(0, .ref (ad 0)), (1, .int x1), (2, .int x2), (3, .int x3), (4, .int x4)] → W p l e rm_x_isForbidden s m args below meth c H [] 0 0 QQ (F0 m 3 ls [])) (x4 : Int32) (ls : Array Slot), x_isForbidden_p3 σ x1 x2 x3 Q K3 x4 → lv_has ls 5 [(0, .ref (ad 0)), (1, .int x1), (2, .int x2), (3, .int x3), (4, .int x4)] → W p l e rm_x_isForbidden s m args below meth c H [] 0 0 QQ (F0 m 3 ls []) := by
    intro x1 x2 x3 K3 hK3 x4 ls hf hl
    unfold x_isForbidden_p3 at hf
    refine lv_iload C.1 C.2.1 dX0_isForbidden_3 (lv_at hl 4 rfl) ?_
    refine lv_iconst (v := 3) C.1 C.2.1 dX0_isForbidden_5 rfl ?_
    refine lv_icmp_ge (tgt := 50) C.1 C.2.1 dX0_isForbidden_6 (by decide) (fun h6 => ?_) (fun h6 => ?_)
    · replace hf := hf.1 h6
      refine lv_iconst (v := 0) C.1 C.2.1 dX0_isForbidden_50 rfl ?_
      exact hret _ _ _ hf (Or.inl rfl) dX0_isForbidden_51
    · replace hf := hf.2 h6
      refine lv_aload_n C.1 C.2.1 dX0_isForbidden_9 rfl (lv_at hl 0 rfl) ?_
      refine xg_filters C hw dX0_isForbidden_10 ?_
      refine lv_iload C.1 C.2.1 dX0_isForbidden_13 (lv_at hl 4 rfl) ?_
      refine kx_has C hl.1 (Nat.le_of_ble_eq_true rfl) ⟨Nat.le_of_ble_eq_true rfl, Nat.le_of_ble_eq_true rfl⟩ dX0_isForbidden_15 ?_
      refine lv_if_eq (tgt := 44) C.1 C.2.1 dX0_isForbidden_18 (by decide) (fun h18 => ?_) (fun h18 => ?_)
      · replace hf := hf.1 h18
        refine lv_iinc (v := (x4 + 1)) (lv' := [(4, .int (x4 + 1)), (0, .ref (ad 0)), (1, .int x1), (2, .int x2), (3, .int x3)]) C.1 C.2.1 dX0_isForbidden_44 hl (k := 4) rfl rfl (Nat.le_of_ble_eq_true rfl) rfl (fun ls hl => ?_)
        refine lv_goto (tgt := 3) C.1 C.2.1 dX0_isForbidden_47 (by decide) ?_
        exact hK3 _ _ hf (lv_sub hl [1, 2, 3, 4, 0] rfl)
      · replace hf := hf.2 h18
        refine lv_aload_n C.1 C.2.1 dX0_isForbidden_21 rfl (lv_at hl 0 rfl) ?_
        refine xg_bars C hw dX0_isForbidden_22 ?_
        refine lv_iload C.1 C.2.1 dX0_isForbidden_25 (lv_at hl 4 rfl) ?_
        obtain ⟨b27, hf⟩ := hf
        refine x_aald C hw b27 dX0_isForbidden_27 ?_
        refine xn_bar C hw b27 dX0_isForbidden_28 ?_
        refine lv_iload_n C.1 C.2.1 dX0_isForbidden_31 rfl (lv_at hl 1 rfl) ?_
        refine lv_iload_n C.1 C.2.1 dX0_isForbidden_32 rfl (lv_at hl 2 rfl) ?_
        refine lv_iload_n C.1 C.2.1 dX0_isForbidden_33 rfl (lv_at hl 3 rfl) ?_
        refine kx_barOf C hw hl.1 (Nat.le_of_ble_eq_true rfl) ⟨Nat.le_of_ble_eq_true rfl, Nat.le_of_ble_eq_true rfl⟩ b27 dX0_isForbidden_34 hf (fun r34 hf => ?_)
        refine lv_if_eq (tgt := 44) C.1 C.2.1 dX0_isForbidden_39 (by decide) (fun h39 => ?_) (fun h39 => ?_)
        · replace hf := hf.1 h39
          refine lv_iinc (v := (x4 + 1)) (lv' := [(4, .int (x4 + 1)), (0, .ref (ad 0)), (1, .int x1), (2, .int x2), (3, .int x3)]) C.1 C.2.1 dX0_isForbidden_44 hl (k := 4) rfl rfl (Nat.le_of_ble_eq_true rfl) rfl (fun ls hl => ?_)
          refine lv_goto (tgt := 3) C.1 C.2.1 dX0_isForbidden_47 (by decide) ?_
          exact hK3 _ _ hf (lv_sub hl [1, 2, 3, 4, 0] rfl)
        · replace hf := hf.2 h39
          refine lv_iconst (v := 1) C.1 C.2.1 dX0_isForbidden_42 rfl ?_
          exact hret _ _ _ hf (Or.inr rfl) dX0_isForbidden_43
  have P3 : ∀ (x1 : Int32) (x2 : Int32) (x3 : Int32) (n : Nat) (x4 : Int32) (ls : Array Slot), LL1 (x_isForbidden_p3 σ x1 x2 x3 Q) n x4 → lv_has ls 5 [(0, .ref (ad 0)), (1, .int x1), (2, .int x2), (3, .int x3), (4, .int x4)] → W p l e rm_x_isForbidden s m args below meth c H [] 0 0 QQ (F0 m 3 ls []) := by
    intro x1 x2 x3 n
    induction n with
    | zero => intro x4 ls hf; exact False.elim hf
    | succ n ih => intro x4 ls hf hl; exact B3 x1 x2 x3 (LL1 _ n) ih x4 ls hf hl
  unfold x_isForbidden at hf
  refine lv_iconst (v := 0) C.1 C.2.1 dX0_isForbidden_0 rfl ?_
  refine lv_istore (lv' := [(4, .int 0), (0, .ref (ad 0)), (1, .int x1), (2, .int x2), (3, .int x3)]) C.1 C.2.1 dX0_isForbidden_1 hl (Nat.le_of_ble_eq_true rfl) rfl (fun ls hl => ?_)
  obtain ⟨n, hf⟩ := hf
  exact P3 _ _ _ n _ _ hf (lv_sub hl [1, 2, 3, 4, 0] rfl)
theorem kx_isForbidden {p : Program} {l : Launch} {e : Env} {R : Room} {s : State} {m : MethodId} {args : Array Value} {below : List Frame} {meth : Method} {c : Code} {H : Heap} {locs : List Loc} {Z : State → Prop} {cc : ByteArray} {nL pc : Nat} {ls : Array Slot} {rest : List Value} {D : va_G} {ct : Ct} {ad : Nat → Nat} {σ : St} {x1 : Int32} {x2 : Int32} {x3 : Int32} {Qp : Int32 → Prop} (C : CallFix p m c cc nL s args lw_all RX0) (hw : gH D ct shX ad s σ H locs) (hsz : ls.size = nL) (hrm : (rest.map fun v => v.category).sum ≤ 8) (hR : rm_x_isForbidden.frames + 1 ≤ R.frames ∧ 8 + (5 + 11) + rm_x_isForbidden.locals ≤ R.locals) (hdg : decode cc pc = .ok (.invokevirtual 540, 3)) (hf : x_isForbidden σ x1 x2 x3 Qp) (kk : ∀ (r : Int32), Qp r → W p l e R s m args below meth c H locs 0 0 Z (F0 m (pc + 3) ls (.int r :: rest))) : W p l e R s m args below meth c H locs 0 0 Z (F0 m pc ls (.int x3 :: .int x2 :: .int x1 :: .ref (ad 0) :: rest)) :=
  g_callVR (As := [.int x1, .int x2, .int x3]) (rest := rest) C hw rfl rfl (met_x_isForbidden l D ct ad hw.2.1 σ x1 x2 x3 Qp hf) (cwV 3 C.2.2.2.2 (lw_V q337 q339 qs6 q200 q340) rfl rfl rfl (by decide +kernel) hR) rfl hsz rfl hrm ⟨Nat.zero_le _, Nat.zero_le _⟩ hdg kk
def x_areEmpty_p3 (σ : St) (x1 : Int32) (x3 : Int32) (Q : Int32 → Prop) (K3 : Int32 → Prop) (x4 : Int32) : Prop :=
  ((x3 ≤ x4 → Q 1) ∧ (¬ x3 ≤ x4 → (x_at σ x1 x4 (fun r17 => (((fx_isEmpty σ r17) = 0 → Q 0) ∧ (¬ (fx_isEmpty σ r17) = 0 → K3 (x4 + 1)))))))
def x_areEmpty (σ : St) (x1 : Int32) (x2 : Int32) (x3 : Int32) (Q : Int32 → Prop) : Prop :=
  (Lp1 (x_areEmpty_p3 σ x1 x3 Q) x2)
abbrev rm_x_areEmpty : Room := { frames := 2, cells := 0, slots := 0, locals := 42 }
set_option maxHeartbeats 4000000 in
theorem met_x_areEmpty (l : Launch) (D : va_G) (ct : Ct) (ad : Nat → Nat) (hJ : gJ shX ad ct) (σ : St) (x1 : Int32) (x2 : Int32) (x3 : Int32) (Q : Int32 → Prop) (hf : x_areEmpty σ x1 x2 x3 Q) : Met l yX0_areEmpty (ws_ yX0_areEmpty cX0_areEmpty 5 (some .boolean)) rm_x_areEmpty (va_Pc [.ref (ad 0), .int x1, .int x2, .int x3] (gP D ct shX ad σ)) (gR rvI Q) 0 0 (fun _ => False) := by
  refine g_metRZ hJ (by decide) (Nat.le_of_ble_eq_true rfl) ?_
  intro p e s m args below meth c QQ ls H C hw hl hret
  replace hl : lv_has ls 5 [(0, .ref (ad 0)), (1, .int x1), (2, .int x2), (3, .int x3)] := hl
  have B3 : ∀ (x1 : Int32) (x3 : Int32) (K3 : Int32 → Prop) (_ : ∀ (x4 : Int32) (ls : Array Slot), K3 x4 → lv_has ls 5 [(0, .ref (ad 0)), (1, .int x1), (3, .int x3), (4, .int x4)] → W p l e rm_x_areEmpty s m args below meth c H [] 0 0 QQ (F0 m 3 ls [])) (x4 : Int32) (ls : Array Slot), x_areEmpty_p3 σ x1 x3 Q K3 x4 → lv_has ls 5 [(0, .ref (ad 0)), (1, .int x1), (3, .int x3), (4, .int x4)] → W p l e rm_x_areEmpty s m args below meth c H [] 0 0 QQ (F0 m 3 ls []) := by
    intro x1 x3 K3 hK3 x4 ls hf hl
    unfold x_areEmpty_p3 at hf
    refine lv_iload C.1 C.2.1 dX0_areEmpty_3 (lv_at hl 3 rfl) ?_
    refine lv_iload_n C.1 C.2.1 dX0_areEmpty_5 rfl (lv_at hl 2 rfl) ?_
    refine lv_icmp_ge (tgt := 34) C.1 C.2.1 dX0_areEmpty_6 (by decide) (fun h6 => ?_) (fun h6 => ?_)
    · replace hf := hf.1 h6
      refine lv_iconst (v := 1) C.1 C.2.1 dX0_areEmpty_34 rfl ?_
      exact hret _ _ _ hf (Or.inr rfl) dX0_areEmpty_35
    · replace hf := hf.2 h6
      refine lv_aload_n C.1 C.2.1 dX0_areEmpty_9 rfl (lv_at hl 0 rfl) ?_
      refine lv_aload_n C.1 C.2.1 dX0_areEmpty_10 rfl (lv_at hl 0 rfl) ?_
      refine xg_grammar C hw dX0_areEmpty_11 ?_
      refine lv_iload_n C.1 C.2.1 dX0_areEmpty_14 rfl (lv_at hl 1 rfl) ?_
      refine lv_iload C.1 C.2.1 dX0_areEmpty_15 (lv_at hl 3 rfl) ?_
      refine kx_at C hw hl.1 (Nat.le_of_ble_eq_true rfl) ⟨Nat.le_of_ble_eq_true rfl, Nat.le_of_ble_eq_true rfl⟩ dX0_areEmpty_17 hf (fun r17 hf => ?_)
      refine kx_isEmpty C hw hl.1 (Nat.le_of_ble_eq_true rfl) ⟨Nat.le_of_ble_eq_true rfl, Nat.le_of_ble_eq_true rfl⟩ dX0_areEmpty_20 ?_
      refine lv_if_ne (tgt := 28) C.1 C.2.1 dX0_areEmpty_23 (by decide) (fun h23 => ?_) (fun h23 => ?_)
      · replace hf := hf.2 h23
        refine lv_iinc (v := (x4 + 1)) (lv' := [(4, .int (x4 + 1)), (0, .ref (ad 0)), (1, .int x1), (3, .int x3)]) C.1 C.2.1 dX0_areEmpty_28 hl (k := 3) rfl rfl (Nat.le_of_ble_eq_true rfl) rfl (fun ls hl => ?_)
        refine lv_goto (tgt := 3) C.1 C.2.1 dX0_areEmpty_31 (by decide) ?_
        exact hK3 _ _ hf (lv_sub hl [1, 2, 3, 0] rfl)
      · replace hf := hf.1 h23
        refine lv_iconst (v := 0) C.1 C.2.1 dX0_areEmpty_26 rfl ?_
        exact hret _ _ _ hf (Or.inl rfl) dX0_areEmpty_27
  have P3 : ∀ (x1 : Int32) (x3 : Int32) (n : Nat) (x4 : Int32) (ls : Array Slot), LL1 (x_areEmpty_p3 σ x1 x3 Q) n x4 → lv_has ls 5 [(0, .ref (ad 0)), (1, .int x1), (3, .int x3), (4, .int x4)] → W p l e rm_x_areEmpty s m args below meth c H [] 0 0 QQ (F0 m 3 ls []) := by
    intro x1 x3 n
    induction n with
    | zero => intro x4 ls hf; exact False.elim hf
    | succ n ih => intro x4 ls hf hl; exact B3 x1 x3 (LL1 _ n) ih x4 ls hf hl
  unfold x_areEmpty at hf
  refine lv_iload_n C.1 C.2.1 dX0_areEmpty_0 rfl (lv_at hl 2 rfl) ?_
  refine lv_istore (lv' := [(4, .int x2), (0, .ref (ad 0)), (1, .int x1), (2, .int x2), (3, .int x3)]) C.1 C.2.1 dX0_areEmpty_1 hl (Nat.le_of_ble_eq_true rfl) rfl (fun ls hl => ?_)
  obtain ⟨n, hf⟩ := hf
  exact P3 _ _ n _ _ hf (lv_sub hl [1, 2, 4, 0] rfl)
theorem kx_areEmpty {p : Program} {l : Launch} {e : Env} {R : Room} {s : State} {m : MethodId} {args : Array Value} {below : List Frame} {meth : Method} {c : Code} {H : Heap} {locs : List Loc} {Z : State → Prop} {cc : ByteArray} {nL pc : Nat} {ls : Array Slot} {rest : List Value} {D : va_G} {ct : Ct} {ad : Nat → Nat} {σ : St} {x1 : Int32} {x2 : Int32} {x3 : Int32} {Qp : Int32 → Prop} (C : CallFix p m c cc nL s args lw_all RX0) (hw : gH D ct shX ad s σ H locs) (hsz : ls.size = nL) (hrm : (rest.map fun v => v.category).sum ≤ 8) (hR : rm_x_areEmpty.frames + 1 ≤ R.frames ∧ 8 + (5 + 11) + rm_x_areEmpty.locals ≤ R.locals) (hdg : decode cc pc = .ok (.invokevirtual 333, 3)) (hf : x_areEmpty σ x1 x2 x3 Qp) (kk : ∀ (r : Int32), Qp r → W p l e R s m args below meth c H locs 0 0 Z (F0 m (pc + 3) ls (.int r :: rest))) : W p l e R s m args below meth c H locs 0 0 Z (F0 m pc ls (.int x3 :: .int x2 :: .int x1 :: .ref (ad 0) :: rest)) :=
  g_callVR (As := [.int x1, .int x2, .int x3]) (rest := rest) C hw rfl rfl (met_x_areEmpty l D ct ad hw.2.1 σ x1 x2 x3 Qp hf) (cwV 3 C.2.2.2.2 (lw_V q768 q770 qs28 q200 q771) rfl rfl rfl (by decide +kernel) hR) rfl hsz rfl hrm ⟨Nat.zero_le _, Nat.zero_le _⟩ hdg kk
def x_firstsFrom_p57 (σ : St) (x1 : Int32) (x4 : Int32) (x5 : Int32) (Q : Int32 → Prop) (K5 : Int32 → Int32 → Prop) (v0 : Int32) (v1 : Int32) : Prop :=
  (((fx_isEmpty σ x5) = 0 → Q (v1 ||| v0)) ∧ (¬ (fx_isEmpty σ x5) = 0 → K5 (v1 ||| v0) (x4 + 1)))
def x_firstsFrom_p5 (σ : St) (x1 : Int32) (Q : Int32 → Prop) (K5 : Int32 → Int32 → Prop) (x3 : Int32) (x4 : Int32) : Prop :=
  (vp_in x1 12 ∧ (((gI σ 84 x1) ≤ x4 → Q x3) ∧ (¬ (gI σ 84 x1) ≤ x4 → (x_at σ x1 x4 (fun r26 => (((fx_isCapital r26) = 0 → (x_firstsFrom_p57 σ x1 x4 r26 Q K5 (1 <<< (r26 &&& 31)) x3)) ∧ (¬ (fx_isCapital r26) = 0 → (vp_in (r26 - 26) 26 ∧ (x_firstsFrom_p57 σ x1 x4 r26 Q K5 (gI σ 20 (r26 - 26)) x3)))))))))
def x_firstsFrom (σ : St) (x1 : Int32) (x2 : Int32) (Q : Int32 → Prop) : Prop :=
  (Lp2 (x_firstsFrom_p5 σ x1 Q) 0 x2)
abbrev rm_x_firstsFrom : Room := { frames := 2, cells := 0, slots := 0, locals := 42 }
set_option maxHeartbeats 4000000 in
theorem met_x_firstsFrom (l : Launch) (D : va_G) (ct : Ct) (ad : Nat → Nat) (hJ : gJ shX ad ct) (σ : St) (x1 : Int32) (x2 : Int32) (Q : Int32 → Prop) (hf : x_firstsFrom σ x1 x2 Q) : Met l yX0_firstsFrom (ws_ yX0_firstsFrom cX0_firstsFrom 6 (some .int)) rm_x_firstsFrom (va_Pc [.ref (ad 0), .int x1, .int x2] (gP D ct shX ad σ)) (gR rvI Q) 0 0 (fun _ => False) := by
  refine g_metRI hJ (by decide) (Nat.le_of_ble_eq_true rfl) ?_
  intro p e s m args below meth c QQ ls H C hw hl hret
  replace hl : lv_has ls 6 [(0, .ref (ad 0)), (1, .int x1), (2, .int x2)] := hl
  have J57 : ∀ (x1 : Int32) (x4 : Int32) (x5 : Int32) (v0 : Int32) (v1 : Int32) (K5 : Int32 → Int32 → Prop) (_ : ∀ (x3 : Int32) (x4 : Int32) (ls : Array Slot), K5 x3 x4 → lv_has ls 6 [(0, .ref (ad 0)), (1, .int x1), (3, .int x3), (4, .int x4)] → W p l e rm_x_firstsFrom s m args below meth c H [] 0 0 QQ (F0 m 5 ls [])) (ls : Array Slot), x_firstsFrom_p57 σ x1 x4 x5 Q K5 v0 v1 → lv_has ls 6 [(0, .ref (ad 0)), (1, .int x1), (4, .int x4), (5, .int x5)] → W p l e rm_x_firstsFrom s m args below meth c H [] 0 0 QQ (F0 m 57 ls [.int v0, .int v1]) := by
    intro x1 x4 x5 v0 v1 K5 hK5 ls hf hl
    unfold x_firstsFrom_p57 at hf
    refine lv_ior C.1 C.2.1 dX0_firstsFrom_57 ?_
    refine lv_istore_n (lv' := [(3, .int (v1 ||| v0)), (0, .ref (ad 0)), (1, .int x1), (4, .int x4), (5, .int x5)]) C.1 C.2.1 dX0_firstsFrom_58 rfl hl (Nat.le_of_ble_eq_true rfl) rfl (fun ls hl => ?_)
    refine lv_aload_n C.1 C.2.1 dX0_firstsFrom_59 rfl (lv_at hl 1 rfl) ?_
    refine lv_iload C.1 C.2.1 dX0_firstsFrom_60 (lv_at hl 4 rfl) ?_
    refine kx_isEmpty C hw hl.1 (Nat.le_of_ble_eq_true rfl) ⟨Nat.le_of_ble_eq_true rfl, Nat.le_of_ble_eq_true rfl⟩ dX0_firstsFrom_62 ?_
    refine lv_if_ne (tgt := 70) C.1 C.2.1 dX0_firstsFrom_65 (by decide) (fun h65 => ?_) (fun h65 => ?_)
    · replace hf := hf.2 h65
      refine lv_iinc (v := (x4 + 1)) (lv' := [(4, .int (x4 + 1)), (3, .int (v1 ||| v0)), (0, .ref (ad 0)), (1, .int x1), (5, .int x5)]) C.1 C.2.1 dX0_firstsFrom_70 hl (k := 3) rfl rfl (Nat.le_of_ble_eq_true rfl) rfl (fun ls hl => ?_)
      refine lv_goto (tgt := 5) C.1 C.2.1 dX0_firstsFrom_73 (by decide) ?_
      exact hK5 _ _ _ hf (lv_sub hl [2, 3, 1, 0] rfl)
    · replace hf := hf.1 h65
      refine lv_iload_n C.1 C.2.1 dX0_firstsFrom_68 rfl (lv_at hl 0 rfl) ?_
      exact hret _ _ _ hf dX0_firstsFrom_69
  have B5 : ∀ (x1 : Int32) (K5 : Int32 → Int32 → Prop) (_ : ∀ (x3 : Int32) (x4 : Int32) (ls : Array Slot), K5 x3 x4 → lv_has ls 6 [(0, .ref (ad 0)), (1, .int x1), (3, .int x3), (4, .int x4)] → W p l e rm_x_firstsFrom s m args below meth c H [] 0 0 QQ (F0 m 5 ls [])) (x3 : Int32) (x4 : Int32) (ls : Array Slot), x_firstsFrom_p5 σ x1 Q K5 x3 x4 → lv_has ls 6 [(0, .ref (ad 0)), (1, .int x1), (3, .int x3), (4, .int x4)] → W p l e rm_x_firstsFrom s m args below meth c H [] 0 0 QQ (F0 m 5 ls []) := by
    intro x1 K5 hK5 x3 x4 ls hf hl
    unfold x_firstsFrom_p5 at hf
    refine lv_iload C.1 C.2.1 dX0_firstsFrom_5 (lv_at hl 3 rfl) ?_
    refine lv_aload_n C.1 C.2.1 dX0_firstsFrom_7 rfl (lv_at hl 0 rfl) ?_
    refine xg_grammar C hw dX0_firstsFrom_8 ?_
    refine xn_size C hw dX0_firstsFrom_11 ?_
    refine lv_iload_n C.1 C.2.1 dX0_firstsFrom_14 rfl (lv_at hl 1 rfl) ?_
    obtain ⟨b15, hf⟩ := hf
    refine g_iald C hw 84 rfl b15 dX0_firstsFrom_15 ?_
    refine lv_icmp_ge (tgt := 76) C.1 C.2.1 dX0_firstsFrom_16 (by decide) (fun h16 => ?_) (fun h16 => ?_)
    · replace hf := hf.1 h16
      refine lv_iload_n C.1 C.2.1 dX0_firstsFrom_76 rfl (lv_at hl 2 rfl) ?_
      exact hret _ _ _ hf dX0_firstsFrom_77
    · replace hf := hf.2 h16
      refine lv_aload_n C.1 C.2.1 dX0_firstsFrom_19 rfl (lv_at hl 0 rfl) ?_
      refine xg_grammar C hw dX0_firstsFrom_20 ?_
      refine lv_iload_n C.1 C.2.1 dX0_firstsFrom_23 rfl (lv_at hl 1 rfl) ?_
      refine lv_iload C.1 C.2.1 dX0_firstsFrom_24 (lv_at hl 3 rfl) ?_
      refine kx_at C hw hl.1 (Nat.le_of_ble_eq_true rfl) ⟨Nat.le_of_ble_eq_true rfl, Nat.le_of_ble_eq_true rfl⟩ dX0_firstsFrom_26 hf (fun r26 hf => ?_)
      refine lv_istore (lv' := [(5, .int r26), (0, .ref (ad 0)), (1, .int x1), (3, .int x3), (4, .int x4)]) C.1 C.2.1 dX0_firstsFrom_29 hl (Nat.le_of_ble_eq_true rfl) rfl (fun ls hl => ?_)
      refine lv_iload_n C.1 C.2.1 dX0_firstsFrom_31 rfl (lv_at hl 3 rfl) ?_
      refine lv_iload C.1 C.2.1 dX0_firstsFrom_32 (lv_at hl 0 rfl) ?_
      refine kx_isCapital C hl.1 (Nat.le_of_ble_eq_true rfl) ⟨Nat.le_of_ble_eq_true rfl, Nat.le_of_ble_eq_true rfl⟩ dX0_firstsFrom_34 ?_
      refine lv_if_eq (tgt := 53) C.1 C.2.1 dX0_firstsFrom_37 (by decide) (fun h37 => ?_) (fun h37 => ?_)
      · replace hf := hf.1 h37
        refine lv_iconst (v := 1) C.1 C.2.1 dX0_firstsFrom_53 rfl ?_
        refine lv_iload C.1 C.2.1 dX0_firstsFrom_54 (lv_at hl 0 rfl) ?_
        refine lv_ishl C.1 C.2.1 dX0_firstsFrom_56 ?_
        exact J57 _ _ _ _ _ _ hK5 _ hf (lv_sub hl [1, 2, 4, 0] rfl)
      · replace hf := hf.2 h37
        refine lv_aload_n C.1 C.2.1 dX0_firstsFrom_40 rfl (lv_at hl 1 rfl) ?_
        refine xg_firstOf C hw dX0_firstsFrom_41 ?_
        refine lv_iload C.1 C.2.1 dX0_firstsFrom_44 (lv_at hl 0 rfl) ?_
        refine lv_bipush (v := 26) C.1 C.2.1 dX0_firstsFrom_46 rfl ?_
        refine lv_isub C.1 C.2.1 dX0_firstsFrom_48 ?_
        obtain ⟨b49, hf⟩ := hf
        refine g_iald C hw 20 rfl b49 dX0_firstsFrom_49 ?_
        refine lv_goto (tgt := 57) C.1 C.2.1 dX0_firstsFrom_50 (by decide) ?_
        exact J57 _ _ _ _ _ _ hK5 _ hf (lv_sub hl [1, 2, 4, 0] rfl)
  have P5 : ∀ (x1 : Int32) (n : Nat) (x3 : Int32) (x4 : Int32) (ls : Array Slot), LL2 (x_firstsFrom_p5 σ x1 Q) n x3 x4 → lv_has ls 6 [(0, .ref (ad 0)), (1, .int x1), (3, .int x3), (4, .int x4)] → W p l e rm_x_firstsFrom s m args below meth c H [] 0 0 QQ (F0 m 5 ls []) := by
    intro x1 n
    induction n with
    | zero => intro x3 x4 ls hf; exact False.elim hf
    | succ n ih => intro x3 x4 ls hf hl; exact B5 x1 (LL2 _ n) ih x3 x4 ls hf hl
  unfold x_firstsFrom at hf
  refine lv_iconst (v := 0) C.1 C.2.1 dX0_firstsFrom_0 rfl ?_
  refine lv_istore_n (lv' := [(3, .int 0), (0, .ref (ad 0)), (1, .int x1), (2, .int x2)]) C.1 C.2.1 dX0_firstsFrom_1 rfl hl (Nat.le_of_ble_eq_true rfl) rfl (fun ls hl => ?_)
  refine lv_iload_n C.1 C.2.1 dX0_firstsFrom_2 rfl (lv_at hl 3 rfl) ?_
  refine lv_istore (lv' := [(4, .int x2), (3, .int 0), (0, .ref (ad 0)), (1, .int x1), (2, .int x2)]) C.1 C.2.1 dX0_firstsFrom_3 hl (Nat.le_of_ble_eq_true rfl) rfl (fun ls hl => ?_)
  obtain ⟨n, hf⟩ := hf
  exact P5 _ n _ _ _ hf (lv_sub hl [2, 3, 1, 0] rfl)
theorem kx_firstsFrom {p : Program} {l : Launch} {e : Env} {R : Room} {s : State} {m : MethodId} {args : Array Value} {below : List Frame} {meth : Method} {c : Code} {H : Heap} {locs : List Loc} {Z : State → Prop} {cc : ByteArray} {nL pc : Nat} {ls : Array Slot} {rest : List Value} {D : va_G} {ct : Ct} {ad : Nat → Nat} {σ : St} {x1 : Int32} {x2 : Int32} {Qp : Int32 → Prop} (C : CallFix p m c cc nL s args lw_all RX0) (hw : gH D ct shX ad s σ H locs) (hsz : ls.size = nL) (hrm : (rest.map fun v => v.category).sum ≤ 8) (hR : rm_x_firstsFrom.frames + 1 ≤ R.frames ∧ 8 + (6 + 11) + rm_x_firstsFrom.locals ≤ R.locals) (hdg : decode cc pc = .ok (.invokevirtual 342, 3)) (hf : x_firstsFrom σ x1 x2 Qp) (kk : ∀ (r : Int32), Qp r → W p l e R s m args below meth c H locs 0 0 Z (F0 m (pc + 3) ls (.int r :: rest))) : W p l e R s m args below meth c H locs 0 0 Z (F0 m pc ls (.int x2 :: .int x1 :: .ref (ad 0) :: rest)) :=
  g_callVR (As := [.int x1, .int x2]) (rest := rest) C hw rfl rfl (met_x_firstsFrom l D ct ad hw.2.1 σ x1 x2 Qp hf) (cwV 2 C.2.2.2.2 (lw_V q784 q786 qs32 q200 q787) rfl rfl rfl (by decide +kernel) hR) rfl hsz rfl hrm ⟨Nat.zero_le _, Nat.zero_le _⟩ hdg kk
def x_firsts (σ : St) (x1 : Int32) (Q : Int32 → Prop) : Prop :=
  (((fx_isLeft σ x1) = 0 → Q (-1)) ∧ (¬ (fx_isLeft σ x1) = 0 → (vp_in (x1 - 26) 26 ∧ Q (gI σ 20 (x1 - 26)))))
abbrev rm_x_firsts : Room := { frames := 2, cells := 0, slots := 0, locals := 46 }
set_option maxHeartbeats 4000000 in
theorem met_x_firsts (l : Launch) (D : va_G) (ct : Ct) (ad : Nat → Nat) (hJ : gJ shX ad ct) (σ : St) (x1 : Int32) (Q : Int32 → Prop) (hf : x_firsts σ x1 Q) : Met l yX0_firsts (ws_ yX0_firsts cX0_firsts 2 (some .int)) rm_x_firsts (va_Pc [.ref (ad 0), .int x1] (gP D ct shX ad σ)) (gR rvI Q) 0 0 (fun _ => False) := by
  refine g_metRI hJ (by decide) (Nat.le_of_ble_eq_true rfl) ?_
  intro p e s m args below meth c QQ ls H C hw hl hret
  replace hl : lv_has ls 2 [(0, .ref (ad 0)), (1, .int x1)] := hl
  unfold x_firsts at hf
  refine lv_aload_n C.1 C.2.1 dX0_firsts_0 rfl (lv_at hl 0 rfl) ?_
  refine lv_iload_n C.1 C.2.1 dX0_firsts_1 rfl (lv_at hl 1 rfl) ?_
  refine kx_isLeft C hw hl.1 (Nat.le_of_ble_eq_true rfl) ⟨Nat.le_of_ble_eq_true rfl, Nat.le_of_ble_eq_true rfl⟩ dX0_firsts_2 ?_
  refine lv_if_eq (tgt := 20) C.1 C.2.1 dX0_firsts_5 (by decide) (fun h5 => ?_) (fun h5 => ?_)
  · replace hf := hf.1 h5
    refine lv_iconst (v := (-1)) C.1 C.2.1 dX0_firsts_20 rfl ?_
    exact hret _ _ _ hf dX0_firsts_21
  · replace hf := hf.2 h5
    refine lv_aload_n C.1 C.2.1 dX0_firsts_8 rfl (lv_at hl 0 rfl) ?_
    refine xg_firstOf C hw dX0_firsts_9 ?_
    refine lv_iload_n C.1 C.2.1 dX0_firsts_12 rfl (lv_at hl 1 rfl) ?_
    refine lv_bipush (v := 26) C.1 C.2.1 dX0_firsts_13 rfl ?_
    refine lv_isub C.1 C.2.1 dX0_firsts_15 ?_
    obtain ⟨b16, hf⟩ := hf
    refine g_iald C hw 20 rfl b16 dX0_firsts_16 ?_
    refine lv_goto (tgt := 21) C.1 C.2.1 dX0_firsts_17 (by decide) ?_
    exact hret _ _ _ hf dX0_firsts_21
def x_follows (σ : St) (x1 : Int32) (Q : Int32 → Prop) : Prop :=
  (((fx_isLeft σ x1) = 0 → Q (-1)) ∧ (¬ (fx_isLeft σ x1) = 0 → (vp_in (x1 - 26) 26 ∧ Q (gI σ 21 (x1 - 26)))))
abbrev rm_x_follows : Room := { frames := 2, cells := 0, slots := 0, locals := 46 }
set_option maxHeartbeats 4000000 in
theorem met_x_follows (l : Launch) (D : va_G) (ct : Ct) (ad : Nat → Nat) (hJ : gJ shX ad ct) (σ : St) (x1 : Int32) (Q : Int32 → Prop) (hf : x_follows σ x1 Q) : Met l yX0_follows (ws_ yX0_follows cX0_follows 2 (some .int)) rm_x_follows (va_Pc [.ref (ad 0), .int x1] (gP D ct shX ad σ)) (gR rvI Q) 0 0 (fun _ => False) := by
  refine g_metRI hJ (by decide) (Nat.le_of_ble_eq_true rfl) ?_
  intro p e s m args below meth c QQ ls H C hw hl hret
  replace hl : lv_has ls 2 [(0, .ref (ad 0)), (1, .int x1)] := hl
  unfold x_follows at hf
  refine lv_aload_n C.1 C.2.1 dX0_follows_0 rfl (lv_at hl 0 rfl) ?_
  refine lv_iload_n C.1 C.2.1 dX0_follows_1 rfl (lv_at hl 1 rfl) ?_
  refine kx_isLeft C hw hl.1 (Nat.le_of_ble_eq_true rfl) ⟨Nat.le_of_ble_eq_true rfl, Nat.le_of_ble_eq_true rfl⟩ dX0_follows_2 ?_
  refine lv_if_eq (tgt := 20) C.1 C.2.1 dX0_follows_5 (by decide) (fun h5 => ?_) (fun h5 => ?_)
  · replace hf := hf.1 h5
    refine lv_iconst (v := (-1)) C.1 C.2.1 dX0_follows_20 rfl ?_
    exact hret _ _ _ hf dX0_follows_21
  · replace hf := hf.2 h5
    refine lv_aload_n C.1 C.2.1 dX0_follows_8 rfl (lv_at hl 0 rfl) ?_
    refine xg_followOf C hw dX0_follows_9 ?_
    refine lv_iload_n C.1 C.2.1 dX0_follows_12 rfl (lv_at hl 1 rfl) ?_
    refine lv_bipush (v := 26) C.1 C.2.1 dX0_follows_13 rfl ?_
    refine lv_isub C.1 C.2.1 dX0_follows_15 ?_
    obtain ⟨b16, hf⟩ := hf
    refine g_iald C hw 21 rfl b16 dX0_follows_16 ?_
    refine lv_goto (tgt := 21) C.1 C.2.1 dX0_follows_17 (by decide) ?_
    exact hret _ _ _ hf dX0_follows_21
def x_shortest (σ : St) (x1 : Int32) (Q : Int32 → Prop) : Prop :=
  (((fx_isLeft σ x1) = 0 → Q (-1)) ∧ (¬ (fx_isLeft σ x1) = 0 → (vp_in (x1 - 26) 26 ∧ (((gI σ 22 (x1 - 26)) < 2000000000 → Q (gI σ 22 (x1 - 26))) ∧ (¬ (gI σ 22 (x1 - 26)) < 2000000000 → Q (-2))))))
abbrev rm_x_shortest : Room := { frames := 2, cells := 0, slots := 0, locals := 46 }
set_option maxHeartbeats 4000000 in
theorem met_x_shortest (l : Launch) (D : va_G) (ct : Ct) (ad : Nat → Nat) (hJ : gJ shX ad ct) (σ : St) (x1 : Int32) (Q : Int32 → Prop) (hf : x_shortest σ x1 Q) : Met l yX0_shortest (ws_ yX0_shortest cX0_shortest 2 (some .int)) rm_x_shortest (va_Pc [.ref (ad 0), .int x1] (gP D ct shX ad σ)) (gR rvI Q) 0 0 (fun _ => False) := by
  refine g_metRI hJ (by decide) (Nat.le_of_ble_eq_true rfl) ?_
  intro p e s m args below meth c QQ ls H C hw hl hret
  replace hl : lv_has ls 2 [(0, .ref (ad 0)), (1, .int x1)] := hl
  unfold x_shortest at hf
  refine lv_aload_n C.1 C.2.1 dX0_shortest_0 rfl (lv_at hl 0 rfl) ?_
  refine lv_iload_n C.1 C.2.1 dX0_shortest_1 rfl (lv_at hl 1 rfl) ?_
  refine kx_isLeft C hw hl.1 (Nat.le_of_ble_eq_true rfl) ⟨Nat.le_of_ble_eq_true rfl, Nat.le_of_ble_eq_true rfl⟩ dX0_shortest_2 ?_
  refine lv_if_ne (tgt := 10) C.1 C.2.1 dX0_shortest_5 (by decide) (fun h5 => ?_) (fun h5 => ?_)
  · replace hf := hf.2 h5
    refine lv_aload_n C.1 C.2.1 dX0_shortest_10 rfl (lv_at hl 0 rfl) ?_
    refine xg_shortOf C hw dX0_shortest_11 ?_
    refine lv_iload_n C.1 C.2.1 dX0_shortest_14 rfl (lv_at hl 1 rfl) ?_
    refine lv_bipush (v := 26) C.1 C.2.1 dX0_shortest_15 rfl ?_
    refine lv_isub C.1 C.2.1 dX0_shortest_17 ?_
    obtain ⟨b18, hf⟩ := hf
    refine g_iald C hw 22 rfl b18 dX0_shortest_18 ?_
    refine lv_ldc C.1 C.2.1 C.2.2.2.1 (C.2.2.2.2 _ q355) dX0_shortest_19 ?_
    refine lv_icmp_lt (tgt := 29) C.1 C.2.1 dX0_shortest_21 (by decide) (fun h21 => ?_) (fun h21 => ?_)
    · replace hf := hf.1 h21
      refine lv_aload_n C.1 C.2.1 dX0_shortest_29 rfl (lv_at hl 0 rfl) ?_
      refine xg_shortOf C hw dX0_shortest_30 ?_
      refine lv_iload_n C.1 C.2.1 dX0_shortest_33 rfl (lv_at hl 1 rfl) ?_
      refine lv_bipush (v := 26) C.1 C.2.1 dX0_shortest_34 rfl ?_
      refine lv_isub C.1 C.2.1 dX0_shortest_36 ?_
      refine g_iald C hw 22 rfl b18 dX0_shortest_37 ?_
      exact hret _ _ _ hf dX0_shortest_38
    · replace hf := hf.2 h21
      refine lv_bipush (v := (-2)) C.1 C.2.1 dX0_shortest_24 rfl ?_
      refine lv_goto (tgt := 38) C.1 C.2.1 dX0_shortest_26 (by decide) ?_
      exact hret _ _ _ hf dX0_shortest_38
  · replace hf := hf.1 h5
    refine lv_iconst (v := (-1)) C.1 C.2.1 dX0_shortest_8 rfl ?_
    exact hret _ _ _ hf dX0_shortest_9
def x_rulesOf_p5 (σ : St) (x1 : Int32) (Q : Int64 → Prop) (K5 : Int64 → Int32 → Prop) (x2 : Int64) (x4 : Int32) : Prop :=
  (((σ.1 80) ≤ x4 → Q x2) ∧ (¬ (σ.1 80) ≤ x4 → (((fx_isOn σ x4) = 0 → K5 x2 (x4 + 1)) ∧ (¬ (fx_isOn σ x4) = 0 → (vp_in x4 12 ∧ (((gI σ 83 x4) = x1 → K5 (x2 ||| (fx_pointOf x4 0)) (x4 + 1)) ∧ (¬ (gI σ 83 x4) = x1 → K5 x2 (x4 + 1))))))))
def x_rulesOf (σ : St) (x1 : Int32) (Q : Int64 → Prop) : Prop :=
  (Lp2 (x_rulesOf_p5 σ x1 Q) 0 0)
abbrev rm_x_rulesOf : Room := { frames := 2, cells := 0, slots := 0, locals := 42 }
set_option maxHeartbeats 4000000 in
theorem met_x_rulesOf (l : Launch) (D : va_G) (ct : Ct) (ad : Nat → Nat) (hJ : gJ shX ad ct) (σ : St) (x1 : Int32) (Q : Int64 → Prop) (hf : x_rulesOf σ x1 Q) : Met l yX0_rulesOf (ws_ yX0_rulesOf cX0_rulesOf 5 (some .long)) rm_x_rulesOf (va_Pc [.ref (ad 0), .int x1] (gP D ct shX ad σ)) (gR rvL Q) 0 0 (fun _ => False) := by
  refine g_metRL hJ (by decide) (Nat.le_of_ble_eq_true rfl) ?_
  intro p e s m args below meth c QQ ls H C hw hl hret
  replace hl : lv_has ls 5 [(0, .ref (ad 0)), (1, .int x1)] := hl
  have B5 : ∀ (x1 : Int32) (K5 : Int64 → Int32 → Prop) (_ : ∀ (x2 : Int64) (x4 : Int32) (ls : Array Slot), K5 x2 x4 → lv_has ls 5 [(0, .ref (ad 0)), (1, .int x1), (2, .long x2), (4, .int x4)] → W p l e rm_x_rulesOf s m args below meth c H [] 0 0 QQ (F0 m 5 ls [])) (x2 : Int64) (x4 : Int32) (ls : Array Slot), x_rulesOf_p5 σ x1 Q K5 x2 x4 → lv_has ls 5 [(0, .ref (ad 0)), (1, .int x1), (2, .long x2), (4, .int x4)] → W p l e rm_x_rulesOf s m args below meth c H [] 0 0 QQ (F0 m 5 ls []) := by
    intro x1 K5 hK5 x2 x4 ls hf hl
    unfold x_rulesOf_p5 at hf
    refine lv_iload C.1 C.2.1 dX0_rulesOf_5 (lv_at hl 3 rfl) ?_
    refine lv_aload_n C.1 C.2.1 dX0_rulesOf_7 rfl (lv_at hl 0 rfl) ?_
    refine xg_grammar C hw dX0_rulesOf_8 ?_
    refine xn_many C hw dX0_rulesOf_11 ?_
    refine lv_icmp_ge (tgt := 55) C.1 C.2.1 dX0_rulesOf_14 (by decide) (fun h14 => ?_) (fun h14 => ?_)
    · replace hf := hf.1 h14
      refine lv_lload_n C.1 C.2.1 dX0_rulesOf_55 rfl (lv_at hl 2 rfl) ?_
      exact hret _ _ _ hf dX0_rulesOf_56
    · replace hf := hf.2 h14
      refine lv_aload_n C.1 C.2.1 dX0_rulesOf_17 rfl (lv_at hl 0 rfl) ?_
      refine lv_iload C.1 C.2.1 dX0_rulesOf_18 (lv_at hl 3 rfl) ?_
      refine kx_isOn C hw hl.1 (Nat.le_of_ble_eq_true rfl) ⟨Nat.le_of_ble_eq_true rfl, Nat.le_of_ble_eq_true rfl⟩ dX0_rulesOf_20 ?_
      refine lv_if_eq (tgt := 49) C.1 C.2.1 dX0_rulesOf_23 (by decide) (fun h23 => ?_) (fun h23 => ?_)
      · replace hf := hf.1 h23
        refine lv_iinc (v := (x4 + 1)) (lv' := [(4, .int (x4 + 1)), (0, .ref (ad 0)), (1, .int x1), (2, .long x2)]) C.1 C.2.1 dX0_rulesOf_49 hl (k := 3) rfl rfl (Nat.le_of_ble_eq_true rfl) rfl (fun ls hl => ?_)
        refine lv_goto (tgt := 5) C.1 C.2.1 dX0_rulesOf_52 (by decide) ?_
        exact hK5 _ _ _ hf (lv_sub hl [1, 2, 3, 0] rfl)
      · replace hf := hf.2 h23
        refine lv_aload_n C.1 C.2.1 dX0_rulesOf_26 rfl (lv_at hl 0 rfl) ?_
        refine xg_grammar C hw dX0_rulesOf_27 ?_
        refine xn_left C hw dX0_rulesOf_30 ?_
        refine lv_iload C.1 C.2.1 dX0_rulesOf_33 (lv_at hl 3 rfl) ?_
        obtain ⟨b35, hf⟩ := hf
        refine g_iald C hw 83 rfl b35 dX0_rulesOf_35 ?_
        refine lv_iload_n C.1 C.2.1 dX0_rulesOf_36 rfl (lv_at hl 1 rfl) ?_
        refine lv_icmp_ne (tgt := 49) C.1 C.2.1 dX0_rulesOf_37 (by decide) (fun h37 => ?_) (fun h37 => ?_)
        · replace hf := hf.2 h37
          refine lv_iinc (v := (x4 + 1)) (lv' := [(4, .int (x4 + 1)), (0, .ref (ad 0)), (1, .int x1), (2, .long x2)]) C.1 C.2.1 dX0_rulesOf_49 hl (k := 3) rfl rfl (Nat.le_of_ble_eq_true rfl) rfl (fun ls hl => ?_)
          refine lv_goto (tgt := 5) C.1 C.2.1 dX0_rulesOf_52 (by decide) ?_
          exact hK5 _ _ _ hf (lv_sub hl [1, 2, 3, 0] rfl)
        · replace hf := hf.1 h37
          refine lv_lload_n C.1 C.2.1 dX0_rulesOf_40 rfl (lv_at hl 2 rfl) ?_
          refine lv_iload C.1 C.2.1 dX0_rulesOf_41 (lv_at hl 3 rfl) ?_
          refine lv_iconst (v := 0) C.1 C.2.1 dX0_rulesOf_43 rfl ?_
          refine kx_pointOf C hl.1 (Nat.le_of_ble_eq_true rfl) ⟨Nat.le_of_ble_eq_true rfl, Nat.le_of_ble_eq_true rfl⟩ dX0_rulesOf_44 ?_
          refine lv_lor C.1 C.2.1 dX0_rulesOf_47 ?_
          refine lv_lstore_n (lv' := [(2, .long (x2 ||| (fx_pointOf x4 0))), (0, .ref (ad 0)), (1, .int x1), (4, .int x4)]) C.1 C.2.1 dX0_rulesOf_48 rfl hl (Nat.le_of_ble_eq_true rfl) rfl (fun ls hl => ?_)
          refine lv_iinc (v := (x4 + 1)) (lv' := [(4, .int (x4 + 1)), (2, .long (x2 ||| (fx_pointOf x4 0))), (0, .ref (ad 0)), (1, .int x1)]) C.1 C.2.1 dX0_rulesOf_49 hl (k := 3) rfl rfl (Nat.le_of_ble_eq_true rfl) rfl (fun ls hl => ?_)
          refine lv_goto (tgt := 5) C.1 C.2.1 dX0_rulesOf_52 (by decide) ?_
          exact hK5 _ _ _ hf (lv_sub hl [2, 3, 1, 0] rfl)
  have P5 : ∀ (x1 : Int32) (n : Nat) (x2 : Int64) (x4 : Int32) (ls : Array Slot), LL2 (x_rulesOf_p5 σ x1 Q) n x2 x4 → lv_has ls 5 [(0, .ref (ad 0)), (1, .int x1), (2, .long x2), (4, .int x4)] → W p l e rm_x_rulesOf s m args below meth c H [] 0 0 QQ (F0 m 5 ls []) := by
    intro x1 n
    induction n with
    | zero => intro x2 x4 ls hf; exact False.elim hf
    | succ n ih => intro x2 x4 ls hf hl; exact B5 x1 (LL2 _ n) ih x2 x4 ls hf hl
  unfold x_rulesOf at hf
  refine lv_lconst (v := 0) C.1 C.2.1 dX0_rulesOf_0 rfl ?_
  refine lv_lstore_n (lv' := [(2, .long 0), (0, .ref (ad 0)), (1, .int x1)]) C.1 C.2.1 dX0_rulesOf_1 rfl hl (Nat.le_of_ble_eq_true rfl) rfl (fun ls hl => ?_)
  refine lv_iconst (v := 0) C.1 C.2.1 dX0_rulesOf_2 rfl ?_
  refine lv_istore (lv' := [(4, .int 0), (2, .long 0), (0, .ref (ad 0)), (1, .int x1)]) C.1 C.2.1 dX0_rulesOf_3 hl (Nat.le_of_ble_eq_true rfl) rfl (fun ls hl => ?_)
  obtain ⟨n, hf⟩ := hf
  exact P5 _ n _ _ _ hf (lv_sub hl [2, 3, 1, 0] rfl)
theorem kx_rulesOf {p : Program} {l : Launch} {e : Env} {R : Room} {s : State} {m : MethodId} {args : Array Value} {below : List Frame} {meth : Method} {c : Code} {H : Heap} {locs : List Loc} {Z : State → Prop} {cc : ByteArray} {nL pc : Nat} {ls : Array Slot} {rest : List Value} {D : va_G} {ct : Ct} {ad : Nat → Nat} {σ : St} {x1 : Int32} {Qp : Int64 → Prop} (C : CallFix p m c cc nL s args lw_all RX0) (hw : gH D ct shX ad s σ H locs) (hsz : ls.size = nL) (hrm : (rest.map fun v => v.category).sum ≤ 8) (hR : rm_x_rulesOf.frames + 1 ≤ R.frames ∧ 8 + (5 + 11) + rm_x_rulesOf.locals ≤ R.locals) (hdg : decode cc pc = .ok (.invokevirtual 391, 3)) (hf : x_rulesOf σ x1 Qp) (kk : ∀ (r : Int64), Qp r → W p l e R s m args below meth c H locs 0 0 Z (F0 m (pc + 3) ls (.long r :: rest))) : W p l e R s m args below meth c H locs 0 0 Z (F0 m pc ls (.int x1 :: .ref (ad 0) :: rest)) :=
  g_callVR (As := [.int x1]) (rest := rest) C hw rfl rfl (met_x_rulesOf l D ct ad hw.2.1 σ x1 Qp hf) (cwV 1 C.2.2.2.2 (lw_V q809 q811 qs38 q200 q812) rfl rfl rfl (by decide +kernel) hR) rfl hsz rfl hrm ⟨Nat.zero_le _, Nat.zero_le _⟩ hdg kk
def x_isAtEnd (σ : St) (x1 : Int32) (x2 : Int32) (Q : Int32 → Prop) : Prop :=
  (vp_in x1 91 ∧ (vp_in x2 12 ∧ (zB (fx_hasPoint σ (gL σ 23 x1) x2 (gI σ 84 x2)) ∧ Q (fx_hasPoint σ (gL σ 23 x1) x2 (gI σ 84 x2)))))
abbrev rm_x_isAtEnd : Room := { frames := 2, cells := 0, slots := 0, locals := 45 }
set_option maxHeartbeats 4000000 in
theorem met_x_isAtEnd (l : Launch) (D : va_G) (ct : Ct) (ad : Nat → Nat) (hJ : gJ shX ad ct) (σ : St) (x1 : Int32) (x2 : Int32) (Q : Int32 → Prop) (hf : x_isAtEnd σ x1 x2 Q) : Met l yX0_isAtEnd (ws_ yX0_isAtEnd cX0_isAtEnd 3 (some .boolean)) rm_x_isAtEnd (va_Pc [.ref (ad 0), .int x1, .int x2] (gP D ct shX ad σ)) (gR rvI Q) 0 0 (fun _ => False) := by
  refine g_metRZ hJ (by decide) (Nat.le_of_ble_eq_true rfl) ?_
  intro p e s m args below meth c QQ ls H C hw hl hret
  replace hl : lv_has ls 3 [(0, .ref (ad 0)), (1, .int x1), (2, .int x2)] := hl
  unfold x_isAtEnd at hf
  refine lv_aload_n C.1 C.2.1 dX0_isAtEnd_0 rfl (lv_at hl 0 rfl) ?_
  refine lv_aload_n C.1 C.2.1 dX0_isAtEnd_1 rfl (lv_at hl 0 rfl) ?_
  refine xg_points C hw dX0_isAtEnd_2 ?_
  refine lv_iload_n C.1 C.2.1 dX0_isAtEnd_5 rfl (lv_at hl 1 rfl) ?_
  obtain ⟨b6, hf⟩ := hf
  refine g_lald C hw 23 rfl b6 dX0_isAtEnd_6 ?_
  refine lv_iload_n C.1 C.2.1 dX0_isAtEnd_7 rfl (lv_at hl 2 rfl) ?_
  refine lv_aload_n C.1 C.2.1 dX0_isAtEnd_8 rfl (lv_at hl 0 rfl) ?_
  refine xg_grammar C hw dX0_isAtEnd_9 ?_
  refine xn_size C hw dX0_isAtEnd_12 ?_
  refine lv_iload_n C.1 C.2.1 dX0_isAtEnd_15 rfl (lv_at hl 2 rfl) ?_
  obtain ⟨b16, hf⟩ := hf
  refine g_iald C hw 84 rfl b16 dX0_isAtEnd_16 ?_
  refine kx_hasPoint C hw hl.1 (Nat.le_of_ble_eq_true rfl) ⟨Nat.le_of_ble_eq_true rfl, Nat.le_of_ble_eq_true rfl⟩ dX0_isAtEnd_17 ?_
  obtain ⟨hz, hf⟩ := hf
  exact hret _ _ _ hf hz dX0_isAtEnd_20
theorem kx_isAtEnd {p : Program} {l : Launch} {e : Env} {R : Room} {s : State} {m : MethodId} {args : Array Value} {below : List Frame} {meth : Method} {c : Code} {H : Heap} {locs : List Loc} {Z : State → Prop} {cc : ByteArray} {nL pc : Nat} {ls : Array Slot} {rest : List Value} {D : va_G} {ct : Ct} {ad : Nat → Nat} {σ : St} {x1 : Int32} {x2 : Int32} {Qp : Int32 → Prop} (C : CallFix p m c cc nL s args lw_all RX0) (hw : gH D ct shX ad s σ H locs) (hsz : ls.size = nL) (hrm : (rest.map fun v => v.category).sum ≤ 8) (hR : rm_x_isAtEnd.frames + 1 ≤ R.frames ∧ 8 + (3 + 11) + rm_x_isAtEnd.locals ≤ R.locals) (hdg : decode cc pc = .ok (.invokevirtual 421, 3)) (hf : x_isAtEnd σ x1 x2 Qp) (kk : ∀ (r : Int32), Qp r → W p l e R s m args below meth c H locs 0 0 Z (F0 m (pc + 3) ls (.int r :: rest))) : W p l e R s m args below meth c H locs 0 0 Z (F0 m pc ls (.int x2 :: .int x1 :: .ref (ad 0) :: rest)) :=
  g_callVR (As := [.int x1, .int x2]) (rest := rest) C hw rfl rfl (met_x_isAtEnd l D ct ad hw.2.1 σ x1 x2 Qp hf) (cwV 2 C.2.2.2.2 (lw_V q904 q906 qs48 q200 q907) rfl rfl rfl (by decide +kernel) hR) rfl hsz rfl hrm ⟨Nat.zero_le _, Nat.zero_le _⟩ hdg kk
def x_laysLast (σ : St) (x1 : Int32) (Q : Unit → St → Prop) : Prop :=
  (∀ s7 : St, s7 = s_I σ 4 ((σ.1 4) + 1) → (x_laysAt s7 ((s7.1 4) - 1) x1 (fun _ s18 => Q () s18)))
abbrev rm_x_laysLast : Room := { frames := 2, cells := 0, slots := 0, locals := 42 }
set_option maxHeartbeats 4000000 in
theorem met_x_laysLast (l : Launch) (D : va_G) (ct : Ct) (ad : Nat → Nat) (hJ : gJ shX ad ct) (σ : St) (x1 : Int32) (Q : Unit → St → Prop) (hf : x_laysLast σ x1 Q) : Met l yX0_laysLast (ws_ yX0_laysLast cX0_laysLast 2 (none)) rm_x_laysLast (va_Pc [.ref (ad 0), .int x1] (gP D ct shX ad σ)) (gQ rvV D ct shX ad Q) 0 0 (gA shX ad) := by
  refine g_metV hJ (by decide) (Nat.le_of_ble_eq_true rfl) ?_
  intro p e s m args below meth c QQ ls C hw hl hret
  replace hl : lv_has ls 2 [(0, .ref (ad 0)), (1, .int x1)] := hl
  unfold x_laysLast at hf
  obtain ⟨H, hH⟩ : ∃ q, q = s.heap := ⟨_, rfl⟩
  obtain ⟨locs, hL⟩ : ∃ q : List Loc, q = [] := ⟨_, rfl⟩
  rw [← hH, ← hL] at hw ⊢
  refine lv_aload_n C.1 C.2.1 dX0_laysLast_0 rfl (lv_at hl 0 rfl) ?_
  refine lv_dup C.1 C.2.1 dX0_laysLast_1 rfl ?_
  refine xg_textMany C hw dX0_laysLast_2 ?_
  refine lv_iconst (v := 1) C.1 C.2.1 dX0_laysLast_5 rfl ?_
  refine lv_iadd C.1 C.2.1 dX0_laysLast_6 ?_
  refine xp_textMany C hw dX0_laysLast_7 (fun s7 H locs e7 hw => ?_)
  replace hf := hf s7 e7
  refine lv_aload_n C.1 C.2.1 dX0_laysLast_10 rfl (lv_at hl 0 rfl) ?_
  refine lv_aload_n C.1 C.2.1 dX0_laysLast_11 rfl (lv_at hl 0 rfl) ?_
  refine xg_textMany C hw dX0_laysLast_12 ?_
  refine lv_iconst (v := 1) C.1 C.2.1 dX0_laysLast_15 rfl ?_
  refine lv_isub C.1 C.2.1 dX0_laysLast_16 ?_
  refine lv_iload_n C.1 C.2.1 dX0_laysLast_17 rfl (lv_at hl 1 rfl) ?_
  refine kx_laysAt C hw hl.1 (Nat.le_of_ble_eq_true rfl) ⟨Nat.le_of_ble_eq_true rfl, Nat.le_of_ble_eq_true rfl⟩ dX0_laysLast_18 hf (fun _ s18 H locs hf hw => ?_)
  exact hret _ _ _ _ _ _ hf hw dX0_laysLast_21
theorem kx_laysLast {p : Program} {l : Launch} {e : Env} {R : Room} {s : State} {m : MethodId} {args : Array Value} {below : List Frame} {meth : Method} {c : Code} {H : Heap} {locs : List Loc} {Z : State → Prop} {cc : ByteArray} {nL pc : Nat} {ls : Array Slot} {rest : List Value} {D : va_G} {ct : Ct} {ad : Nat → Nat} {σ : St} {x1 : Int32} {Qp : Unit → St → Prop} (C : CallFix p m c cc nL s args lw_all RX0) (hw : gH D ct shX ad s σ H locs) (hsz : ls.size = nL) (hrm : (rest.map fun v => v.category).sum ≤ 8) (hR : rm_x_laysLast.frames + 1 ≤ R.frames ∧ 8 + (2 + 11) + rm_x_laysLast.locals ≤ R.locals) (hdg : decode cc pc = .ok (.invokevirtual 463, 3)) (hf : x_laysLast σ x1 Qp) (kk : ∀ (r : Unit) (σ1 : St) (H1 : Heap) (locs1 : List Loc), Qp r σ1 → gH D ct shX ad s σ1 H1 locs1 → W p l e R s m args below meth c H1 locs1 0 0 Z (F0 m (pc + 3) ls (rest))) : W p l e R s m args below meth c H locs 0 0 Z (F0 m pc ls (.int x1 :: .ref (ad 0) :: rest)) :=
  g_callV (As := [.int x1]) (rest := rest) C hw rfl rfl (met_x_laysLast l D ct ad hw.2.1 σ x1 Qp hf) (cwV 1 C.2.2.2.2 (lw_V q948 q950 qs52 q200 q951) rfl rfl rfl (by decide +kernel) hR) rfl hsz rfl hrm ⟨Nat.zero_le _, Nat.zero_le _⟩ hdg kk
def x_canBan (σ : St) (x1 : Int32) (x2 : Int32) (x3 : Int32) (Q : Int32 → Prop) : Prop :=
  (((fx_isRule σ x1) = 0 → Q 0) ∧ (¬ (fx_isRule σ x1) = 0 → (((fx_isRule σ x3) = 0 → Q 0) ∧ (¬ (fx_isRule σ x3) = 0 → ((x2 < 0 → Q 0) ∧ (¬ x2 < 0 → (vp_in x1 12 ∧ (((gI σ 84 x1) ≤ x2 → Q 0) ∧ (¬ (gI σ 84 x1) ≤ x2 → (x_at σ x1 x2 (fun r39 => (vp_in x3 12 ∧ ((r39 = (gI σ 83 x3) → (x_isBanned σ x1 x2 x3 (fun r60 => ((r60 = 0 → ((8 ≤ (σ.1 7) → Q 0) ∧ (¬ 8 ≤ (σ.1 7) → Q 1))) ∧ (¬ r60 = 0 → Q 1))))) ∧ (¬ r39 = (gI σ 83 x3) → Q 0))))))))))))))
abbrev rm_x_canBan : Room := { frames := 2, cells := 0, slots := 0, locals := 47 }
set_option maxHeartbeats 4000000 in
theorem met_x_canBan (l : Launch) (D : va_G) (ct : Ct) (ad : Nat → Nat) (hJ : gJ shX ad ct) (σ : St) (x1 : Int32) (x2 : Int32) (x3 : Int32) (Q : Int32 → Prop) (hf : x_canBan σ x1 x2 x3 Q) : Met l yX0_canBan (ws_ yX0_canBan cX0_canBan 4 (some .boolean)) rm_x_canBan (va_Pc [.ref (ad 0), .int x1, .int x2, .int x3] (gP D ct shX ad σ)) (gR rvI Q) 0 0 (fun _ => False) := by
  refine g_metRZ hJ (by decide) (Nat.le_of_ble_eq_true rfl) ?_
  intro p e s m args below meth c QQ ls H C hw hl hret
  replace hl : lv_has ls 4 [(0, .ref (ad 0)), (1, .int x1), (2, .int x2), (3, .int x3)] := hl
  unfold x_canBan at hf
  refine lv_aload_n C.1 C.2.1 dX0_canBan_0 rfl (lv_at hl 0 rfl) ?_
  refine lv_iload_n C.1 C.2.1 dX0_canBan_1 rfl (lv_at hl 1 rfl) ?_
  refine kx_isRule C hw hl.1 (Nat.le_of_ble_eq_true rfl) ⟨Nat.le_of_ble_eq_true rfl, Nat.le_of_ble_eq_true rfl⟩ dX0_canBan_2 ?_
  refine lv_if_eq (tgt := 54) C.1 C.2.1 dX0_canBan_5 (by decide) (fun h5 => ?_) (fun h5 => ?_)
  · replace hf := hf.1 h5
    refine lv_iconst (v := 0) C.1 C.2.1 dX0_canBan_54 rfl ?_
    exact hret _ _ _ hf (Or.inl rfl) dX0_canBan_55
  · replace hf := hf.2 h5
    refine lv_aload_n C.1 C.2.1 dX0_canBan_8 rfl (lv_at hl 0 rfl) ?_
    refine lv_iload_n C.1 C.2.1 dX0_canBan_9 rfl (lv_at hl 3 rfl) ?_
    refine kx_isRule C hw hl.1 (Nat.le_of_ble_eq_true rfl) ⟨Nat.le_of_ble_eq_true rfl, Nat.le_of_ble_eq_true rfl⟩ dX0_canBan_10 ?_
    refine lv_if_eq (tgt := 54) C.1 C.2.1 dX0_canBan_13 (by decide) (fun h13 => ?_) (fun h13 => ?_)
    · replace hf := hf.1 h13
      refine lv_iconst (v := 0) C.1 C.2.1 dX0_canBan_54 rfl ?_
      exact hret _ _ _ hf (Or.inl rfl) dX0_canBan_55
    · replace hf := hf.2 h13
      refine lv_iload_n C.1 C.2.1 dX0_canBan_16 rfl (lv_at hl 2 rfl) ?_
      refine lv_if_lt (tgt := 54) C.1 C.2.1 dX0_canBan_17 (by decide) (fun h17 => ?_) (fun h17 => ?_)
      · replace hf := hf.1 h17
        refine lv_iconst (v := 0) C.1 C.2.1 dX0_canBan_54 rfl ?_
        exact hret _ _ _ hf (Or.inl rfl) dX0_canBan_55
      · replace hf := hf.2 h17
        refine lv_iload_n C.1 C.2.1 dX0_canBan_20 rfl (lv_at hl 2 rfl) ?_
        refine lv_aload_n C.1 C.2.1 dX0_canBan_21 rfl (lv_at hl 0 rfl) ?_
        refine xg_grammar C hw dX0_canBan_22 ?_
        refine xn_size C hw dX0_canBan_25 ?_
        refine lv_iload_n C.1 C.2.1 dX0_canBan_28 rfl (lv_at hl 1 rfl) ?_
        obtain ⟨b29, hf⟩ := hf
        refine g_iald C hw 84 rfl b29 dX0_canBan_29 ?_
        refine lv_icmp_ge (tgt := 54) C.1 C.2.1 dX0_canBan_30 (by decide) (fun h30 => ?_) (fun h30 => ?_)
        · replace hf := hf.1 h30
          refine lv_iconst (v := 0) C.1 C.2.1 dX0_canBan_54 rfl ?_
          exact hret _ _ _ hf (Or.inl rfl) dX0_canBan_55
        · replace hf := hf.2 h30
          refine lv_aload_n C.1 C.2.1 dX0_canBan_33 rfl (lv_at hl 0 rfl) ?_
          refine xg_grammar C hw dX0_canBan_34 ?_
          refine lv_iload_n C.1 C.2.1 dX0_canBan_37 rfl (lv_at hl 1 rfl) ?_
          refine lv_iload_n C.1 C.2.1 dX0_canBan_38 rfl (lv_at hl 2 rfl) ?_
          refine kx_at C hw hl.1 (Nat.le_of_ble_eq_true rfl) ⟨Nat.le_of_ble_eq_true rfl, Nat.le_of_ble_eq_true rfl⟩ dX0_canBan_39 hf (fun r39 hf => ?_)
          refine lv_aload_n C.1 C.2.1 dX0_canBan_42 rfl (lv_at hl 0 rfl) ?_
          refine xg_grammar C hw dX0_canBan_43 ?_
          refine xn_left C hw dX0_canBan_46 ?_
          refine lv_iload_n C.1 C.2.1 dX0_canBan_49 rfl (lv_at hl 3 rfl) ?_
          obtain ⟨b50, hf⟩ := hf
          refine g_iald C hw 83 rfl b50 dX0_canBan_50 ?_
          refine lv_icmp_eq (tgt := 56) C.1 C.2.1 dX0_canBan_51 (by decide) (fun h51 => ?_) (fun h51 => ?_)
          · replace hf := hf.1 h51
            refine lv_aload_n C.1 C.2.1 dX0_canBan_56 rfl (lv_at hl 0 rfl) ?_
            refine lv_iload_n C.1 C.2.1 dX0_canBan_57 rfl (lv_at hl 1 rfl) ?_
            refine lv_iload_n C.1 C.2.1 dX0_canBan_58 rfl (lv_at hl 2 rfl) ?_
            refine lv_iload_n C.1 C.2.1 dX0_canBan_59 rfl (lv_at hl 3 rfl) ?_
            refine kx_isBanned C hw hl.1 (Nat.le_of_ble_eq_true rfl) ⟨Nat.le_of_ble_eq_true rfl, Nat.le_of_ble_eq_true rfl⟩ dX0_canBan_60 hf (fun r60 hf => ?_)
            refine lv_if_ne (tgt := 75) C.1 C.2.1 dX0_canBan_63 (by decide) (fun h63 => ?_) (fun h63 => ?_)
            · replace hf := hf.2 h63
              refine lv_iconst (v := 1) C.1 C.2.1 dX0_canBan_75 rfl ?_
              refine lv_goto (tgt := 80) C.1 C.2.1 dX0_canBan_76 (by decide) ?_
              exact hret _ _ _ hf (Or.inr rfl) dX0_canBan_80
            · replace hf := hf.1 h63
              refine lv_aload_n C.1 C.2.1 dX0_canBan_66 rfl (lv_at hl 0 rfl) ?_
              refine xg_banMany C hw dX0_canBan_67 ?_
              refine lv_bipush (v := 8) C.1 C.2.1 dX0_canBan_70 rfl ?_
              refine lv_icmp_ge (tgt := 79) C.1 C.2.1 dX0_canBan_72 (by decide) (fun h72 => ?_) (fun h72 => ?_)
              · replace hf := hf.1 h72
                refine lv_iconst (v := 0) C.1 C.2.1 dX0_canBan_79 rfl ?_
                exact hret _ _ _ hf (Or.inl rfl) dX0_canBan_80
              · replace hf := hf.2 h72
                refine lv_iconst (v := 1) C.1 C.2.1 dX0_canBan_75 rfl ?_
                refine lv_goto (tgt := 80) C.1 C.2.1 dX0_canBan_76 (by decide) ?_
                exact hret _ _ _ hf (Or.inr rfl) dX0_canBan_80
          · replace hf := hf.2 h51
            refine lv_iconst (v := 0) C.1 C.2.1 dX0_canBan_54 rfl ?_
            exact hret _ _ _ hf (Or.inl rfl) dX0_canBan_55
theorem kx_canBan {p : Program} {l : Launch} {e : Env} {R : Room} {s : State} {m : MethodId} {args : Array Value} {below : List Frame} {meth : Method} {c : Code} {H : Heap} {locs : List Loc} {Z : State → Prop} {cc : ByteArray} {nL pc : Nat} {ls : Array Slot} {rest : List Value} {D : va_G} {ct : Ct} {ad : Nat → Nat} {σ : St} {x1 : Int32} {x2 : Int32} {x3 : Int32} {Qp : Int32 → Prop} (C : CallFix p m c cc nL s args lw_all RX0) (hw : gH D ct shX ad s σ H locs) (hsz : ls.size = nL) (hrm : (rest.map fun v => v.category).sum ≤ 8) (hR : rm_x_canBan.frames + 1 ≤ R.frames ∧ 8 + (4 + 11) + rm_x_canBan.locals ≤ R.locals) (hdg : decode cc pc = .ok (.invokevirtual 482, 3)) (hf : x_canBan σ x1 x2 x3 Qp) (kk : ∀ (r : Int32), Qp r → W p l e R s m args below meth c H locs 0 0 Z (F0 m (pc + 3) ls (.int r :: rest))) : W p l e R s m args below meth c H locs 0 0 Z (F0 m pc ls (.int x3 :: .int x2 :: .int x1 :: .ref (ad 0) :: rest)) :=
  g_callVR (As := [.int x1, .int x2, .int x3]) (rest := rest) C hw rfl rfl (met_x_canBan l D ct ad hw.2.1 σ x1 x2 x3 Qp hf) (cwV 3 C.2.2.2.2 (lw_V q986 q988 qs58 q200 q989) rfl rfl rfl (by decide +kernel) hR) rfl hsz rfl hrm ⟨Nat.zero_le _, Nat.zero_le _⟩ hdg kk
def x_shifts_p2 (x1 : Int32) (Q : Unit → St → Prop) (K2 : St → Int32 → Prop) (σ : St) (x2 : Int32) : Prop :=
  (((σ.1 35) ≤ x2 → Q () σ) ∧ (¬ (σ.1 35) ≤ x2 → (vp_in x2 4680 ∧ (vp_in x1 12 ∧ (((gI σ 29 x2) = (gI σ 3 x1) → (vp_in x2 4680 ∧ (vp_in (gI σ 28 x2) 90 ∧ (((fx_has (gI σ 32 (gI σ 28 x2)) x1) = 0 → K2 σ (x2 + 1)) ∧ (¬ (fx_has (gI σ 32 (gI σ 28 x2)) x1) = 0 → (x_joins σ x2 x1 (x1 + 1) 0 (fun r50 s50 => K2 s50 (x2 + 1)))))))) ∧ (¬ (gI σ 29 x2) = (gI σ 3 x1) → K2 σ (x2 + 1)))))))
def x_shifts (σ : St) (x1 : Int32) (Q : Unit → St → Prop) : Prop :=
  (Lp2 (x_shifts_p2 x1 Q) σ 0)
abbrev rm_x_shifts : Room := { frames := 2, cells := 0, slots := 0, locals := 45 }
set_option maxHeartbeats 4000000 in
theorem met_x_shifts (l : Launch) (D : va_G) (ct : Ct) (ad : Nat → Nat) (hJ : gJ shX ad ct) (σ : St) (x1 : Int32) (Q : Unit → St → Prop) (hf : x_shifts σ x1 Q) : Met l yX0_shifts (ws_ yX0_shifts cX0_shifts 3 (none)) rm_x_shifts (va_Pc [.ref (ad 0), .int x1] (gP D ct shX ad σ)) (gQ rvV D ct shX ad Q) 0 0 (gA shX ad) := by
  refine g_metV hJ (by decide) (Nat.le_of_ble_eq_true rfl) ?_
  intro p e s m args below meth c QQ ls C hw hl hret
  replace hl : lv_has ls 3 [(0, .ref (ad 0)), (1, .int x1)] := hl
  have B2 : ∀ (x1 : Int32) (K2 : St → Int32 → Prop) (_ : ∀ (σ : St) (H : Heap) (locs : List Loc) (x2 : Int32) (ls : Array Slot), K2 σ x2 → gH D ct shX ad s σ H locs → lv_has ls 3 [(0, .ref (ad 0)), (1, .int x1), (2, .int x2)] → W p l e rm_x_shifts s m args below meth c H locs 0 0 QQ (F0 m 2 ls [])) (σ : St) (H : Heap) (locs : List Loc) (x2 : Int32) (ls : Array Slot), x_shifts_p2 x1 Q K2 σ x2 → gH D ct shX ad s σ H locs → lv_has ls 3 [(0, .ref (ad 0)), (1, .int x1), (2, .int x2)] → W p l e rm_x_shifts s m args below meth c H locs 0 0 QQ (F0 m 2 ls []) := by
    intro x1 K2 hK2 σ H locs x2 ls hf hw hl
    unfold x_shifts_p2 at hf
    refine lv_iload_n C.1 C.2.1 dX0_shifts_2 rfl (lv_at hl 2 rfl) ?_
    refine lv_aload_n C.1 C.2.1 dX0_shifts_3 rfl (lv_at hl 0 rfl) ?_
    refine xg_goingMany C hw dX0_shifts_4 ?_
    refine lv_icmp_ge (tgt := 60) C.1 C.2.1 dX0_shifts_7 (by decide) (fun h7 => ?_) (fun h7 => ?_)
    · replace hf := hf.1 h7
      exact hret _ _ _ _ _ _ hf hw dX0_shifts_60
    · replace hf := hf.2 h7
      refine lv_aload_n C.1 C.2.1 dX0_shifts_10 rfl (lv_at hl 0 rfl) ?_
      refine xg_byOf C hw dX0_shifts_11 ?_
      refine lv_iload_n C.1 C.2.1 dX0_shifts_14 rfl (lv_at hl 2 rfl) ?_
      obtain ⟨b15, hf⟩ := hf
      refine g_iald C hw 29 rfl b15 dX0_shifts_15 ?_
      refine lv_aload_n C.1 C.2.1 dX0_shifts_16 rfl (lv_at hl 0 rfl) ?_
      refine xg_text C hw dX0_shifts_17 ?_
      refine lv_iload_n C.1 C.2.1 dX0_shifts_20 rfl (lv_at hl 1 rfl) ?_
      obtain ⟨b21, hf⟩ := hf
      refine g_iald C hw 3 rfl b21 dX0_shifts_21 ?_
      refine lv_icmp_ne (tgt := 54) C.1 C.2.1 dX0_shifts_22 (by decide) (fun h22 => ?_) (fun h22 => ?_)
      · replace hf := hf.2 h22
        refine lv_iinc (v := (x2 + 1)) (lv' := [(2, .int (x2 + 1)), (0, .ref (ad 0)), (1, .int x1)]) C.1 C.2.1 dX0_shifts_54 hl (k := 2) rfl rfl (Nat.le_of_ble_eq_true rfl) rfl (fun ls hl => ?_)
        refine lv_goto (tgt := 2) C.1 C.2.1 dX0_shifts_57 (by decide) ?_
        exact hK2 _ _ _ _ _ hf hw (lv_sub hl [1, 2, 0] rfl)
      · replace hf := hf.1 h22
        refine lv_aload_n C.1 C.2.1 dX0_shifts_25 rfl (lv_at hl 0 rfl) ?_
        refine xg_aliveOf C hw dX0_shifts_26 ?_
        refine lv_aload_n C.1 C.2.1 dX0_shifts_29 rfl (lv_at hl 0 rfl) ?_
        refine xg_fromOf C hw dX0_shifts_30 ?_
        refine lv_iload_n C.1 C.2.1 dX0_shifts_33 rfl (lv_at hl 2 rfl) ?_
        obtain ⟨b34, hf⟩ := hf
        refine g_iald C hw 28 rfl b34 dX0_shifts_34 ?_
        obtain ⟨b35, hf⟩ := hf
        refine g_iald C hw 32 rfl b35 dX0_shifts_35 ?_
        refine lv_iload_n C.1 C.2.1 dX0_shifts_36 rfl (lv_at hl 1 rfl) ?_
        refine kx_has C hl.1 (Nat.le_of_ble_eq_true rfl) ⟨Nat.le_of_ble_eq_true rfl, Nat.le_of_ble_eq_true rfl⟩ dX0_shifts_37 ?_
        refine lv_if_eq (tgt := 54) C.1 C.2.1 dX0_shifts_40 (by decide) (fun h40 => ?_) (fun h40 => ?_)
        · replace hf := hf.1 h40
          refine lv_iinc (v := (x2 + 1)) (lv' := [(2, .int (x2 + 1)), (0, .ref (ad 0)), (1, .int x1)]) C.1 C.2.1 dX0_shifts_54 hl (k := 2) rfl rfl (Nat.le_of_ble_eq_true rfl) rfl (fun ls hl => ?_)
          refine lv_goto (tgt := 2) C.1 C.2.1 dX0_shifts_57 (by decide) ?_
          exact hK2 _ _ _ _ _ hf hw (lv_sub hl [1, 2, 0] rfl)
        · replace hf := hf.2 h40
          refine lv_aload_n C.1 C.2.1 dX0_shifts_43 rfl (lv_at hl 0 rfl) ?_
          refine lv_iload_n C.1 C.2.1 dX0_shifts_44 rfl (lv_at hl 2 rfl) ?_
          refine lv_iload_n C.1 C.2.1 dX0_shifts_45 rfl (lv_at hl 1 rfl) ?_
          refine lv_iload_n C.1 C.2.1 dX0_shifts_46 rfl (lv_at hl 1 rfl) ?_
          refine lv_iconst (v := 1) C.1 C.2.1 dX0_shifts_47 rfl ?_
          refine lv_iadd C.1 C.2.1 dX0_shifts_48 ?_
          refine lv_iconst (v := 0) C.1 C.2.1 dX0_shifts_49 rfl ?_
          refine kx_joins C hw hl.1 (Nat.le_of_ble_eq_true rfl) ⟨Nat.le_of_ble_eq_true rfl, Nat.le_of_ble_eq_true rfl⟩ dX0_shifts_50 hf (fun r50 s50 H locs hf hw => ?_)
          refine lv_pop C.1 C.2.1 dX0_shifts_53 rfl ?_
          refine lv_iinc (v := (x2 + 1)) (lv' := [(2, .int (x2 + 1)), (0, .ref (ad 0)), (1, .int x1)]) C.1 C.2.1 dX0_shifts_54 hl (k := 2) rfl rfl (Nat.le_of_ble_eq_true rfl) rfl (fun ls hl => ?_)
          refine lv_goto (tgt := 2) C.1 C.2.1 dX0_shifts_57 (by decide) ?_
          exact hK2 _ _ _ _ _ hf hw (lv_sub hl [1, 2, 0] rfl)
  have P2 : ∀ (x1 : Int32) (n : Nat) (σ : St) (x2 : Int32) (ls : Array Slot) (H : Heap) (locs : List Loc), LL2 (x_shifts_p2 x1 Q) n σ x2 → gH D ct shX ad s σ H locs → lv_has ls 3 [(0, .ref (ad 0)), (1, .int x1), (2, .int x2)] → W p l e rm_x_shifts s m args below meth c H locs 0 0 QQ (F0 m 2 ls []) := by
    intro x1 n
    induction n with
    | zero => intro σ x2 ls H locs hf; exact False.elim hf
    | succ n ih => intro σ x2 ls H locs hf hw hl; exact B2 x1 (LL2 _ n) (fun σ H locs x2 ls hf hw hl => ih σ x2 ls H locs hf hw hl) σ H locs x2 ls hf hw hl
  unfold x_shifts at hf
  obtain ⟨H, hH⟩ : ∃ q, q = s.heap := ⟨_, rfl⟩
  obtain ⟨locs, hL⟩ : ∃ q : List Loc, q = [] := ⟨_, rfl⟩
  rw [← hH, ← hL] at hw ⊢
  refine lv_iconst (v := 0) C.1 C.2.1 dX0_shifts_0 rfl ?_
  refine lv_istore_n (lv' := [(2, .int 0), (0, .ref (ad 0)), (1, .int x1)]) C.1 C.2.1 dX0_shifts_1 rfl hl (Nat.le_of_ble_eq_true rfl) rfl (fun ls hl => ?_)
  obtain ⟨n, hf⟩ := hf
  exact P2 _ n _ _ _ _ _ hf hw (lv_sub hl [1, 2, 0] rfl)
theorem kx_shifts {p : Program} {l : Launch} {e : Env} {R : Room} {s : State} {m : MethodId} {args : Array Value} {below : List Frame} {meth : Method} {c : Code} {H : Heap} {locs : List Loc} {Z : State → Prop} {cc : ByteArray} {nL pc : Nat} {ls : Array Slot} {rest : List Value} {D : va_G} {ct : Ct} {ad : Nat → Nat} {σ : St} {x1 : Int32} {Qp : Unit → St → Prop} (C : CallFix p m c cc nL s args lw_all RX0) (hw : gH D ct shX ad s σ H locs) (hsz : ls.size = nL) (hrm : (rest.map fun v => v.category).sum ≤ 8) (hR : rm_x_shifts.frames + 1 ≤ R.frames ∧ 8 + (3 + 11) + rm_x_shifts.locals ≤ R.locals) (hdg : decode cc pc = .ok (.invokevirtual 519, 3)) (hf : x_shifts σ x1 Qp) (kk : ∀ (r : Unit) (σ1 : St) (H1 : Heap) (locs1 : List Loc), Qp r σ1 → gH D ct shX ad s σ1 H1 locs1 → W p l e R s m args below meth c H1 locs1 0 0 Z (F0 m (pc + 3) ls (rest))) : W p l e R s m args below meth c H locs 0 0 Z (F0 m pc ls (.int x1 :: .ref (ad 0) :: rest)) :=
  g_callV (As := [.int x1]) (rest := rest) C hw rfl rfl (met_x_shifts l D ct ad hw.2.1 σ x1 Qp hf) (cwV 1 C.2.2.2.2 (lw_V q1049 q1051 qs69 q200 q1052) rfl rfl rfl (by decide +kernel) hR) rfl hsz rfl hrm ⟨Nat.zero_le _, Nat.zero_le _⟩ hdg kk
def x_marks (σ : St) (x1 : Int32) (x2 : Int32) (x3 : Int32) (Q : Unit → St → Prop) : Prop :=
  (vp_in (fx_pieceOf x1 x2 x3) 2028 ∧ (((gI σ 54 (fx_pieceOf x1 x2 x3)) = 0 → (∀ s26 : St, s26 = s_A σ 54 (Int32.toNatClampNeg (fx_pieceOf x1 x2 x3)) 1 → (vp_in (s26.1 59) 2028 ∧ (∀ s41 : St, s41 = s_A s26 58 (Int32.toNatClampNeg (s26.1 59)) (fx_pieceOf x1 x2 x3) → (∀ s49 : St, s49 = s_I s41 59 ((s41.1 59) + 1) → Q () s49))))) ∧ (¬ (gI σ 54 (fx_pieceOf x1 x2 x3)) = 0 → Q () σ)))
abbrev rm_x_marks : Room := { frames := 2, cells := 0, slots := 0, locals := 43 }
set_option maxHeartbeats 4000000 in
theorem met_x_marks (l : Launch) (D : va_G) (ct : Ct) (ad : Nat → Nat) (hJ : gJ shX ad ct) (σ : St) (x1 : Int32) (x2 : Int32) (x3 : Int32) (Q : Unit → St → Prop) (hf : x_marks σ x1 x2 x3 Q) : Met l yX0_marks (ws_ yX0_marks cX0_marks 4 (none)) rm_x_marks (va_Pc [.ref (ad 0), .int x1, .int x2, .int x3] (gP D ct shX ad σ)) (gQ rvV D ct shX ad Q) 0 0 (gA shX ad) := by
  refine g_metV hJ (by decide) (Nat.le_of_ble_eq_true rfl) ?_
  intro p e s m args below meth c QQ ls C hw hl hret
  replace hl : lv_has ls 4 [(0, .ref (ad 0)), (1, .int x1), (2, .int x2), (3, .int x3)] := hl
  unfold x_marks at hf
  obtain ⟨H, hH⟩ : ∃ q, q = s.heap := ⟨_, rfl⟩
  obtain ⟨locs, hL⟩ : ∃ q : List Loc, q = [] := ⟨_, rfl⟩
  rw [← hH, ← hL] at hw ⊢
  refine lv_aload_n C.1 C.2.1 dX0_marks_0 rfl (lv_at hl 0 rfl) ?_
  refine xg_isPiece C hw dX0_marks_1 ?_
  refine lv_iload_n C.1 C.2.1 dX0_marks_4 rfl (lv_at hl 1 rfl) ?_
  refine lv_iload_n C.1 C.2.1 dX0_marks_5 rfl (lv_at hl 2 rfl) ?_
  refine lv_iload_n C.1 C.2.1 dX0_marks_6 rfl (lv_at hl 3 rfl) ?_
  refine kx_pieceOf C hl.1 (Nat.le_of_ble_eq_true rfl) ⟨Nat.le_of_ble_eq_true rfl, Nat.le_of_ble_eq_true rfl⟩ dX0_marks_7 ?_
  obtain ⟨b10, hf⟩ := hf
  refine g_zald C hw 54 rfl b10 dX0_marks_10 ?_
  refine lv_if_eq (tgt := 15) C.1 C.2.1 dX0_marks_11 (by decide) (fun h11 => ?_) (fun h11 => ?_)
  · replace hf := hf.1 h11
    refine lv_aload_n C.1 C.2.1 dX0_marks_15 rfl (lv_at hl 0 rfl) ?_
    refine xg_isPiece C hw dX0_marks_16 ?_
    refine lv_iload_n C.1 C.2.1 dX0_marks_19 rfl (lv_at hl 1 rfl) ?_
    refine lv_iload_n C.1 C.2.1 dX0_marks_20 rfl (lv_at hl 2 rfl) ?_
    refine lv_iload_n C.1 C.2.1 dX0_marks_21 rfl (lv_at hl 3 rfl) ?_
    refine kx_pieceOf C hl.1 (Nat.le_of_ble_eq_true rfl) ⟨Nat.le_of_ble_eq_true rfl, Nat.le_of_ble_eq_true rfl⟩ dX0_marks_22 ?_
    refine lv_iconst (v := 1) C.1 C.2.1 dX0_marks_25 rfl ?_
    refine g_zast C shX_sep hw 54 rfl (Or.inr rfl) b10 dX0_marks_26 (fun s26 H locs e26 hw => ?_)
    replace hf := hf s26 e26
    refine lv_aload_n C.1 C.2.1 dX0_marks_27 rfl (lv_at hl 0 rfl) ?_
    refine xg_waiting C hw dX0_marks_28 ?_
    refine lv_aload_n C.1 C.2.1 dX0_marks_31 rfl (lv_at hl 0 rfl) ?_
    refine xg_waitMany C hw dX0_marks_32 ?_
    refine lv_iload_n C.1 C.2.1 dX0_marks_35 rfl (lv_at hl 1 rfl) ?_
    refine lv_iload_n C.1 C.2.1 dX0_marks_36 rfl (lv_at hl 2 rfl) ?_
    refine lv_iload_n C.1 C.2.1 dX0_marks_37 rfl (lv_at hl 3 rfl) ?_
    refine kx_pieceOf C hl.1 (Nat.le_of_ble_eq_true rfl) ⟨Nat.le_of_ble_eq_true rfl, Nat.le_of_ble_eq_true rfl⟩ dX0_marks_38 ?_
    obtain ⟨b41, hf⟩ := hf
    refine g_iast C shX_sep hw 58 rfl b41 dX0_marks_41 (fun s41 H locs e41 hw => ?_)
    replace hf := hf s41 e41
    refine lv_aload_n C.1 C.2.1 dX0_marks_42 rfl (lv_at hl 0 rfl) ?_
    refine lv_dup C.1 C.2.1 dX0_marks_43 rfl ?_
    refine xg_waitMany C hw dX0_marks_44 ?_
    refine lv_iconst (v := 1) C.1 C.2.1 dX0_marks_47 rfl ?_
    refine lv_iadd C.1 C.2.1 dX0_marks_48 ?_
    refine xp_waitMany C hw dX0_marks_49 (fun s49 H locs e49 hw => ?_)
    replace hf := hf s49 e49
    exact hret _ _ _ _ _ _ hf hw dX0_marks_52
  · replace hf := hf.2 h11
    exact hret _ _ _ _ _ _ hf hw dX0_marks_14
theorem kx_marks {p : Program} {l : Launch} {e : Env} {R : Room} {s : State} {m : MethodId} {args : Array Value} {below : List Frame} {meth : Method} {c : Code} {H : Heap} {locs : List Loc} {Z : State → Prop} {cc : ByteArray} {nL pc : Nat} {ls : Array Slot} {rest : List Value} {D : va_G} {ct : Ct} {ad : Nat → Nat} {σ : St} {x1 : Int32} {x2 : Int32} {x3 : Int32} {Qp : Unit → St → Prop} (C : CallFix p m c cc nL s args lw_all RX0) (hw : gH D ct shX ad s σ H locs) (hsz : ls.size = nL) (hrm : (rest.map fun v => v.category).sum ≤ 8) (hR : rm_x_marks.frames + 1 ≤ R.frames ∧ 8 + (4 + 11) + rm_x_marks.locals ≤ R.locals) (hdg : decode cc pc = .ok (.invokevirtual 599, 3)) (hf : x_marks σ x1 x2 x3 Qp) (kk : ∀ (r : Unit) (σ1 : St) (H1 : Heap) (locs1 : List Loc), Qp r σ1 → gH D ct shX ad s σ1 H1 locs1 → W p l e R s m args below meth c H1 locs1 0 0 Z (F0 m (pc + 3) ls (rest))) : W p l e R s m args below meth c H locs 0 0 Z (F0 m pc ls (.int x3 :: .int x2 :: .int x1 :: .ref (ad 0) :: rest)) :=
  g_callV (As := [.int x1, .int x2, .int x3]) (rest := rest) C hw rfl rfl (met_x_marks l D ct ad hw.2.1 σ x1 x2 x3 Qp hf) (cwV 3 C.2.2.2.2 (lw_V q1122 q1124 qs82 q200 q1125) rfl rfl rfl (by decide +kernel) hR) rfl hsz rfl hrm ⟨Nat.zero_le _, Nat.zero_le _⟩ hdg kk
def x_leastWhole_p5 (σ : St) (Q : Int32 → Prop) (K5 : Int32 → Int32 → Prop) (x1 : Int32) (x2 : Int32) : Prop :=
  (((σ.1 80) ≤ x2 → Q x1) ∧ (¬ (σ.1 80) ≤ x2 → (vp_in x2 12 ∧ (((gI σ 83 x2) = (σ.1 82) → (vp_in (fx_pieceOf x2 0 (σ.1 4)) 2028 ∧ K5 (fx_lesser x1 (gI σ 53 (fx_pieceOf x2 0 (σ.1 4)))) (x2 + 1))) ∧ (¬ (gI σ 83 x2) = (σ.1 82) → K5 x1 (x2 + 1))))))
def x_leastWhole (σ : St) (Q : Int32 → Prop) : Prop :=
  (Lp2 (x_leastWhole_p5 σ Q) 2000000000 0)
abbrev rm_x_leastWhole : Room := { frames := 2, cells := 0, slots := 0, locals := 43 }
set_option maxHeartbeats 4000000 in
theorem met_x_leastWhole (l : Launch) (D : va_G) (ct : Ct) (ad : Nat → Nat) (hJ : gJ shX ad ct) (σ : St) (Q : Int32 → Prop) (hf : x_leastWhole σ Q) : Met l yX0_leastWhole (ws_ yX0_leastWhole cX0_leastWhole 3 (some .int)) rm_x_leastWhole (va_Pc [.ref (ad 0)] (gP D ct shX ad σ)) (gR rvI Q) 0 0 (fun _ => False) := by
  refine g_metRI hJ (by decide) (Nat.le_of_ble_eq_true rfl) ?_
  intro p e s m args below meth c QQ ls H C hw hl hret
  replace hl : lv_has ls 3 [(0, .ref (ad 0))] := hl
  have B5 : ∀ (K5 : Int32 → Int32 → Prop) (_ : ∀ (x1 : Int32) (x2 : Int32) (ls : Array Slot), K5 x1 x2 → lv_has ls 3 [(0, .ref (ad 0)), (1, .int x1), (2, .int x2)] → W p l e rm_x_leastWhole s m args below meth c H [] 0 0 QQ (F0 m 5 ls [])) (x1 : Int32) (x2 : Int32) (ls : Array Slot), x_leastWhole_p5 σ Q K5 x1 x2 → lv_has ls 3 [(0, .ref (ad 0)), (1, .int x1), (2, .int x2)] → W p l e rm_x_leastWhole s m args below meth c H [] 0 0 QQ (F0 m 5 ls []) := by
    intro K5 hK5 x1 x2 ls hf hl
    unfold x_leastWhole_p5 at hf
    refine lv_iload_n C.1 C.2.1 dX0_leastWhole_5 rfl (lv_at hl 2 rfl) ?_
    refine lv_aload_n C.1 C.2.1 dX0_leastWhole_6 rfl (lv_at hl 0 rfl) ?_
    refine xg_grammar C hw dX0_leastWhole_7 ?_
    refine xn_many C hw dX0_leastWhole_10 ?_
    refine lv_icmp_ge (tgt := 60) C.1 C.2.1 dX0_leastWhole_13 (by decide) (fun h13 => ?_) (fun h13 => ?_)
    · replace hf := hf.1 h13
      refine lv_iload_n C.1 C.2.1 dX0_leastWhole_60 rfl (lv_at hl 1 rfl) ?_
      exact hret _ _ _ hf dX0_leastWhole_61
    · replace hf := hf.2 h13
      refine lv_aload_n C.1 C.2.1 dX0_leastWhole_16 rfl (lv_at hl 0 rfl) ?_
      refine xg_grammar C hw dX0_leastWhole_17 ?_
      refine xn_left C hw dX0_leastWhole_20 ?_
      refine lv_iload_n C.1 C.2.1 dX0_leastWhole_23 rfl (lv_at hl 2 rfl) ?_
      obtain ⟨b24, hf⟩ := hf
      refine g_iald C hw 83 rfl b24 dX0_leastWhole_24 ?_
      refine lv_aload_n C.1 C.2.1 dX0_leastWhole_25 rfl (lv_at hl 0 rfl) ?_
      refine xg_grammar C hw dX0_leastWhole_26 ?_
      refine xn_start C hw dX0_leastWhole_29 ?_
      refine lv_icmp_ne (tgt := 54) C.1 C.2.1 dX0_leastWhole_32 (by decide) (fun h32 => ?_) (fun h32 => ?_)
      · replace hf := hf.2 h32
        refine lv_iinc (v := (x2 + 1)) (lv' := [(2, .int (x2 + 1)), (0, .ref (ad 0)), (1, .int x1)]) C.1 C.2.1 dX0_leastWhole_54 hl (k := 2) rfl rfl (Nat.le_of_ble_eq_true rfl) rfl (fun ls hl => ?_)
        refine lv_goto (tgt := 5) C.1 C.2.1 dX0_leastWhole_57 (by decide) ?_
        exact hK5 _ _ _ hf (lv_sub hl [1, 2, 0] rfl)
      · replace hf := hf.1 h32
        refine lv_iload_n C.1 C.2.1 dX0_leastWhole_35 rfl (lv_at hl 1 rfl) ?_
        refine lv_aload_n C.1 C.2.1 dX0_leastWhole_36 rfl (lv_at hl 0 rfl) ?_
        refine xg_leastOf C hw dX0_leastWhole_37 ?_
        refine lv_iload_n C.1 C.2.1 dX0_leastWhole_40 rfl (lv_at hl 2 rfl) ?_
        refine lv_iconst (v := 0) C.1 C.2.1 dX0_leastWhole_41 rfl ?_
        refine lv_aload_n C.1 C.2.1 dX0_leastWhole_42 rfl (lv_at hl 0 rfl) ?_
        refine xg_textMany C hw dX0_leastWhole_43 ?_
        refine kx_pieceOf C hl.1 (Nat.le_of_ble_eq_true rfl) ⟨Nat.le_of_ble_eq_true rfl, Nat.le_of_ble_eq_true rfl⟩ dX0_leastWhole_46 ?_
        obtain ⟨b49, hf⟩ := hf
        refine g_iald C hw 53 rfl b49 dX0_leastWhole_49 ?_
        refine kx_lesser C hl.1 (Nat.le_of_ble_eq_true rfl) ⟨Nat.le_of_ble_eq_true rfl, Nat.le_of_ble_eq_true rfl⟩ dX0_leastWhole_50 ?_
        refine lv_istore_n (lv' := [(1, .int (fx_lesser x1 (gI σ 53 (fx_pieceOf x2 0 (σ.1 4))))), (0, .ref (ad 0)), (2, .int x2)]) C.1 C.2.1 dX0_leastWhole_53 rfl hl (Nat.le_of_ble_eq_true rfl) rfl (fun ls hl => ?_)
        refine lv_iinc (v := (x2 + 1)) (lv' := [(2, .int (x2 + 1)), (1, .int (fx_lesser x1 (gI σ 53 (fx_pieceOf x2 0 (σ.1 4))))), (0, .ref (ad 0))]) C.1 C.2.1 dX0_leastWhole_54 hl (k := 2) rfl rfl (Nat.le_of_ble_eq_true rfl) rfl (fun ls hl => ?_)
        refine lv_goto (tgt := 5) C.1 C.2.1 dX0_leastWhole_57 (by decide) ?_
        exact hK5 _ _ _ hf (lv_sub hl [2, 1, 0] rfl)
  have P5 : ∀ (n : Nat) (x1 : Int32) (x2 : Int32) (ls : Array Slot), LL2 (x_leastWhole_p5 σ Q) n x1 x2 → lv_has ls 3 [(0, .ref (ad 0)), (1, .int x1), (2, .int x2)] → W p l e rm_x_leastWhole s m args below meth c H [] 0 0 QQ (F0 m 5 ls []) := by
    intro  n
    induction n with
    | zero => intro x1 x2 ls hf; exact False.elim hf
    | succ n ih => intro x1 x2 ls hf hl; exact B5  (LL2 _ n) ih x1 x2 ls hf hl
  unfold x_leastWhole at hf
  refine lv_ldc C.1 C.2.1 C.2.2.2.1 (C.2.2.2.2 _ q355) dX0_leastWhole_0 ?_
  refine lv_istore_n (lv' := [(1, .int 2000000000), (0, .ref (ad 0))]) C.1 C.2.1 dX0_leastWhole_2 rfl hl (Nat.le_of_ble_eq_true rfl) rfl (fun ls hl => ?_)
  refine lv_iconst (v := 0) C.1 C.2.1 dX0_leastWhole_3 rfl ?_
  refine lv_istore_n (lv' := [(2, .int 0), (1, .int 2000000000), (0, .ref (ad 0))]) C.1 C.2.1 dX0_leastWhole_4 rfl hl (Nat.le_of_ble_eq_true rfl) rfl (fun ls hl => ?_)
  obtain ⟨n, hf⟩ := hf
  exact P5  n _ _ _ hf (lv_sub hl [2, 1, 0] rfl)
theorem kx_leastWhole {p : Program} {l : Launch} {e : Env} {R : Room} {s : State} {m : MethodId} {args : Array Value} {below : List Frame} {meth : Method} {c : Code} {H : Heap} {locs : List Loc} {Z : State → Prop} {cc : ByteArray} {nL pc : Nat} {ls : Array Slot} {rest : List Value} {D : va_G} {ct : Ct} {ad : Nat → Nat} {σ : St} {Qp : Int32 → Prop} (C : CallFix p m c cc nL s args lw_all RX0) (hw : gH D ct shX ad s σ H locs) (hsz : ls.size = nL) (hrm : (rest.map fun v => v.category).sum ≤ 8) (hR : rm_x_leastWhole.frames + 1 ≤ R.frames ∧ 8 + (3 + 11) + rm_x_leastWhole.locals ≤ R.locals) (hdg : decode cc pc = .ok (.invokevirtual 633, 3)) (hf : x_leastWhole σ Qp) (kk : ∀ (r : Int32), Qp r → W p l e R s m args below meth c H locs 0 0 Z (F0 m (pc + 3) ls (.int r :: rest))) : W p l e R s m args below meth c H locs 0 0 Z (F0 m pc ls (.ref (ad 0) :: rest)) :=
  g_callVR (As := []) (rest := rest) C hw rfl rfl (met_x_leastWhole l D ct ad hw.2.1 σ Qp hf) (cwV 0 C.2.2.2.2 (lw_V q1167 q1169 qs88 q200 q1170) rfl rfl rfl (by decide +kernel) hR) rfl hsz rfl hrm ⟨Nat.zero_le _, Nat.zero_le _⟩ hdg kk
def x_ruleOf_p5 (σ : St) (x1 : Int32) (Q : Int32 → Prop) (K5 : Int32 → Int32 → Prop) (x3 : Int32) (x4 : Int32) : Prop :=
  (((σ.1 80) ≤ x4 → Q (-1)) ∧ (¬ (σ.1 80) ≤ x4 → (((fx_isOn σ x4) = 0 → K5 x3 (x4 + 1)) ∧ (¬ (fx_isOn σ x4) = 0 → (vp_in x4 12 ∧ (((gI σ 83 x4) = x1 → ((x3 = 0 → Q x4) ∧ (¬ x3 = 0 → K5 (x3 + (-1)) (x4 + 1)))) ∧ (¬ (gI σ 83 x4) = x1 → K5 x3 (x4 + 1))))))))
def x_ruleOf (σ : St) (x1 : Int32) (x2 : Int32) (Q : Int32 → Prop) : Prop :=
  (Lp2 (x_ruleOf_p5 σ x1 Q) x2 0)
abbrev rm_x_ruleOf : Room := { frames := 2, cells := 0, slots := 0, locals := 42 }
set_option maxHeartbeats 4000000 in
theorem met_x_ruleOf (l : Launch) (D : va_G) (ct : Ct) (ad : Nat → Nat) (hJ : gJ shX ad ct) (σ : St) (x1 : Int32) (x2 : Int32) (Q : Int32 → Prop) (hf : x_ruleOf σ x1 x2 Q) : Met l yX0_ruleOf (ws_ yX0_ruleOf cX0_ruleOf 5 (some .int)) rm_x_ruleOf (va_Pc [.ref (ad 0), .int x1, .int x2] (gP D ct shX ad σ)) (gR rvI Q) 0 0 (fun _ => False) := by
  refine g_metRI hJ (by decide) (Nat.le_of_ble_eq_true rfl) ?_
  intro p e s m args below meth c QQ ls H C hw hl hret
  replace hl : lv_has ls 5 [(0, .ref (ad 0)), (1, .int x1), (2, .int x2)] := hl
  have B5 : ∀ (x1 : Int32) (K5 : Int32 → Int32 → Prop) (_ : ∀ (x3 : Int32) (x4 : Int32) (ls : Array Slot), K5 x3 x4 → lv_has ls 5 [(0, .ref (ad 0)), (1, .int x1), (3, .int x3), (4, .int x4)] → W p l e rm_x_ruleOf s m args below meth c H [] 0 0 QQ (F0 m 5 ls [])) (x3 : Int32) (x4 : Int32) (ls : Array Slot), x_ruleOf_p5 σ x1 Q K5 x3 x4 → lv_has ls 5 [(0, .ref (ad 0)), (1, .int x1), (3, .int x3), (4, .int x4)] → W p l e rm_x_ruleOf s m args below meth c H [] 0 0 QQ (F0 m 5 ls []) := by
    intro x1 K5 hK5 x3 x4 ls hf hl
    unfold x_ruleOf_p5 at hf
    refine lv_iload C.1 C.2.1 dX0_ruleOf_5 (lv_at hl 3 rfl) ?_
    refine lv_aload_n C.1 C.2.1 dX0_ruleOf_7 rfl (lv_at hl 0 rfl) ?_
    refine xg_grammar C hw dX0_ruleOf_8 ?_
    refine xn_many C hw dX0_ruleOf_11 ?_
    refine lv_icmp_ge (tgt := 59) C.1 C.2.1 dX0_ruleOf_14 (by decide) (fun h14 => ?_) (fun h14 => ?_)
    · replace hf := hf.1 h14
      refine lv_iconst (v := (-1)) C.1 C.2.1 dX0_ruleOf_59 rfl ?_
      exact hret _ _ _ hf dX0_ruleOf_60
    · replace hf := hf.2 h14
      refine lv_aload_n C.1 C.2.1 dX0_ruleOf_17 rfl (lv_at hl 0 rfl) ?_
      refine lv_iload C.1 C.2.1 dX0_ruleOf_18 (lv_at hl 3 rfl) ?_
      refine kx_isOn C hw hl.1 (Nat.le_of_ble_eq_true rfl) ⟨Nat.le_of_ble_eq_true rfl, Nat.le_of_ble_eq_true rfl⟩ dX0_ruleOf_20 ?_
      refine lv_if_eq (tgt := 53) C.1 C.2.1 dX0_ruleOf_23 (by decide) (fun h23 => ?_) (fun h23 => ?_)
      · replace hf := hf.1 h23
        refine lv_iinc (v := (x4 + 1)) (lv' := [(4, .int (x4 + 1)), (0, .ref (ad 0)), (1, .int x1), (3, .int x3)]) C.1 C.2.1 dX0_ruleOf_53 hl (k := 3) rfl rfl (Nat.le_of_ble_eq_true rfl) rfl (fun ls hl => ?_)
        refine lv_goto (tgt := 5) C.1 C.2.1 dX0_ruleOf_56 (by decide) ?_
        exact hK5 _ _ _ hf (lv_sub hl [1, 2, 3, 0] rfl)
      · replace hf := hf.2 h23
        refine lv_aload_n C.1 C.2.1 dX0_ruleOf_26 rfl (lv_at hl 0 rfl) ?_
        refine xg_grammar C hw dX0_ruleOf_27 ?_
        refine xn_left C hw dX0_ruleOf_30 ?_
        refine lv_iload C.1 C.2.1 dX0_ruleOf_33 (lv_at hl 3 rfl) ?_
        obtain ⟨b35, hf⟩ := hf
        refine g_iald C hw 83 rfl b35 dX0_ruleOf_35 ?_
        refine lv_iload_n C.1 C.2.1 dX0_ruleOf_36 rfl (lv_at hl 1 rfl) ?_
        refine lv_icmp_eq (tgt := 43) C.1 C.2.1 dX0_ruleOf_37 (by decide) (fun h37 => ?_) (fun h37 => ?_)
        · replace hf := hf.1 h37
          refine lv_iload_n C.1 C.2.1 dX0_ruleOf_43 rfl (lv_at hl 2 rfl) ?_
          refine lv_if_ne (tgt := 50) C.1 C.2.1 dX0_ruleOf_44 (by decide) (fun h44 => ?_) (fun h44 => ?_)
          · replace hf := hf.2 h44
            refine lv_iinc (v := (x3 + (-1))) (lv' := [(3, .int (x3 + (-1))), (0, .ref (ad 0)), (1, .int x1), (4, .int x4)]) C.1 C.2.1 dX0_ruleOf_50 hl (k := 2) rfl rfl (Nat.le_of_ble_eq_true rfl) rfl (fun ls hl => ?_)
            refine lv_iinc (v := (x4 + 1)) (lv' := [(4, .int (x4 + 1)), (3, .int (x3 + (-1))), (0, .ref (ad 0)), (1, .int x1)]) C.1 C.2.1 dX0_ruleOf_53 hl (k := 3) rfl rfl (Nat.le_of_ble_eq_true rfl) rfl (fun ls hl => ?_)
            refine lv_goto (tgt := 5) C.1 C.2.1 dX0_ruleOf_56 (by decide) ?_
            exact hK5 _ _ _ hf (lv_sub hl [2, 3, 1, 0] rfl)
          · replace hf := hf.1 h44
            refine lv_iload C.1 C.2.1 dX0_ruleOf_47 (lv_at hl 3 rfl) ?_
            exact hret _ _ _ hf dX0_ruleOf_49
        · replace hf := hf.2 h37
          refine lv_goto (tgt := 53) C.1 C.2.1 dX0_ruleOf_40 (by decide) ?_
          refine lv_iinc (v := (x4 + 1)) (lv' := [(4, .int (x4 + 1)), (0, .ref (ad 0)), (1, .int x1), (3, .int x3)]) C.1 C.2.1 dX0_ruleOf_53 hl (k := 3) rfl rfl (Nat.le_of_ble_eq_true rfl) rfl (fun ls hl => ?_)
          refine lv_goto (tgt := 5) C.1 C.2.1 dX0_ruleOf_56 (by decide) ?_
          exact hK5 _ _ _ hf (lv_sub hl [1, 2, 3, 0] rfl)
  have P5 : ∀ (x1 : Int32) (n : Nat) (x3 : Int32) (x4 : Int32) (ls : Array Slot), LL2 (x_ruleOf_p5 σ x1 Q) n x3 x4 → lv_has ls 5 [(0, .ref (ad 0)), (1, .int x1), (3, .int x3), (4, .int x4)] → W p l e rm_x_ruleOf s m args below meth c H [] 0 0 QQ (F0 m 5 ls []) := by
    intro x1 n
    induction n with
    | zero => intro x3 x4 ls hf; exact False.elim hf
    | succ n ih => intro x3 x4 ls hf hl; exact B5 x1 (LL2 _ n) ih x3 x4 ls hf hl
  unfold x_ruleOf at hf
  refine lv_iload_n C.1 C.2.1 dX0_ruleOf_0 rfl (lv_at hl 2 rfl) ?_
  refine lv_istore_n (lv' := [(3, .int x2), (0, .ref (ad 0)), (1, .int x1), (2, .int x2)]) C.1 C.2.1 dX0_ruleOf_1 rfl hl (Nat.le_of_ble_eq_true rfl) rfl (fun ls hl => ?_)
  refine lv_iconst (v := 0) C.1 C.2.1 dX0_ruleOf_2 rfl ?_
  refine lv_istore (lv' := [(4, .int 0), (3, .int x2), (0, .ref (ad 0)), (1, .int x1), (2, .int x2)]) C.1 C.2.1 dX0_ruleOf_3 hl (Nat.le_of_ble_eq_true rfl) rfl (fun ls hl => ?_)
  obtain ⟨n, hf⟩ := hf
  exact P5 _ n _ _ _ hf (lv_sub hl [2, 3, 1, 0] rfl)
theorem kx_ruleOf {p : Program} {l : Launch} {e : Env} {R : Room} {s : State} {m : MethodId} {args : Array Value} {below : List Frame} {meth : Method} {c : Code} {H : Heap} {locs : List Loc} {Z : State → Prop} {cc : ByteArray} {nL pc : Nat} {ls : Array Slot} {rest : List Value} {D : va_G} {ct : Ct} {ad : Nat → Nat} {σ : St} {x1 : Int32} {x2 : Int32} {Qp : Int32 → Prop} (C : CallFix p m c cc nL s args lw_all RX0) (hw : gH D ct shX ad s σ H locs) (hsz : ls.size = nL) (hrm : (rest.map fun v => v.category).sum ≤ 8) (hR : rm_x_ruleOf.frames + 1 ≤ R.frames ∧ 8 + (5 + 11) + rm_x_ruleOf.locals ≤ R.locals) (hdg : decode cc pc = .ok (.invokevirtual 686, 3)) (hf : x_ruleOf σ x1 x2 Qp) (kk : ∀ (r : Int32), Qp r → W p l e R s m args below meth c H locs 0 0 Z (F0 m (pc + 3) ls (.int r :: rest))) : W p l e R s m args below meth c H locs 0 0 Z (F0 m pc ls (.int x2 :: .int x1 :: .ref (ad 0) :: rest)) :=
  g_callVR (As := [.int x1, .int x2]) (rest := rest) C hw rfl rfl (met_x_ruleOf l D ct ad hw.2.1 σ x1 x2 Qp hf) (cwV 2 C.2.2.2.2 (lw_V q1263 q1265 qs97 q200 q1266) rfl rfl rfl (by decide +kernel) hR) rfl hsz rfl hrm ⟨Nat.zero_le _, Nat.zero_le _⟩ hdg kk
def x_rulesMany_p4 (σ : St) (x1 : Int32) (Q : Int32 → Prop) (K4 : Int32 → Int32 → Prop) (x2 : Int32) (x3 : Int32) : Prop :=
  (((σ.1 80) ≤ x3 → Q x2) ∧ (¬ (σ.1 80) ≤ x3 → (((fx_isOn σ x3) = 0 → K4 (x2 + 0) (x3 + 1)) ∧ (¬ (fx_isOn σ x3) = 0 → (vp_in x3 12 ∧ (((gI σ 83 x3) = x1 → K4 (x2 + 1) (x3 + 1)) ∧ (¬ (gI σ 83 x3) = x1 → K4 (x2 + 0) (x3 + 1))))))))
def x_rulesMany (σ : St) (x1 : Int32) (Q : Int32 → Prop) : Prop :=
  (Lp2 (x_rulesMany_p4 σ x1 Q) 0 0)
abbrev rm_x_rulesMany : Room := { frames := 2, cells := 0, slots := 0, locals := 42 }
set_option maxHeartbeats 4000000 in
theorem met_x_rulesMany (l : Launch) (D : va_G) (ct : Ct) (ad : Nat → Nat) (hJ : gJ shX ad ct) (σ : St) (x1 : Int32) (Q : Int32 → Prop) (hf : x_rulesMany σ x1 Q) : Met l yX0_rulesMany (ws_ yX0_rulesMany cX0_rulesMany 4 (some .int)) rm_x_rulesMany (va_Pc [.ref (ad 0), .int x1] (gP D ct shX ad σ)) (gR rvI Q) 0 0 (fun _ => False) := by
  refine g_metRI hJ (by decide) (Nat.le_of_ble_eq_true rfl) ?_
  intro p e s m args below meth c QQ ls H C hw hl hret
  replace hl : lv_has ls 4 [(0, .ref (ad 0)), (1, .int x1)] := hl
  have B4 : ∀ (x1 : Int32) (K4 : Int32 → Int32 → Prop) (_ : ∀ (x2 : Int32) (x3 : Int32) (ls : Array Slot), K4 x2 x3 → lv_has ls 4 [(0, .ref (ad 0)), (1, .int x1), (2, .int x2), (3, .int x3)] → W p l e rm_x_rulesMany s m args below meth c H [] 0 0 QQ (F0 m 4 ls [])) (x2 : Int32) (x3 : Int32) (ls : Array Slot), x_rulesMany_p4 σ x1 Q K4 x2 x3 → lv_has ls 4 [(0, .ref (ad 0)), (1, .int x1), (2, .int x2), (3, .int x3)] → W p l e rm_x_rulesMany s m args below meth c H [] 0 0 QQ (F0 m 4 ls []) := by
    intro x1 K4 hK4 x2 x3 ls hf hl
    unfold x_rulesMany_p4 at hf
    refine lv_iload_n C.1 C.2.1 dX0_rulesMany_4 rfl (lv_at hl 3 rfl) ?_
    refine lv_aload_n C.1 C.2.1 dX0_rulesMany_5 rfl (lv_at hl 0 rfl) ?_
    refine xg_grammar C hw dX0_rulesMany_6 ?_
    refine xn_many C hw dX0_rulesMany_9 ?_
    refine lv_icmp_ge (tgt := 50) C.1 C.2.1 dX0_rulesMany_12 (by decide) (fun h12 => ?_) (fun h12 => ?_)
    · replace hf := hf.1 h12
      refine lv_iload_n C.1 C.2.1 dX0_rulesMany_50 rfl (lv_at hl 2 rfl) ?_
      exact hret _ _ _ hf dX0_rulesMany_51
    · replace hf := hf.2 h12
      refine lv_iload_n C.1 C.2.1 dX0_rulesMany_15 rfl (lv_at hl 2 rfl) ?_
      refine lv_aload_n C.1 C.2.1 dX0_rulesMany_16 rfl (lv_at hl 0 rfl) ?_
      refine lv_iload_n C.1 C.2.1 dX0_rulesMany_17 rfl (lv_at hl 3 rfl) ?_
      refine kx_isOn C hw hl.1 (Nat.le_of_ble_eq_true rfl) ⟨Nat.le_of_ble_eq_true rfl, Nat.le_of_ble_eq_true rfl⟩ dX0_rulesMany_18 ?_
      refine lv_if_eq (tgt := 41) C.1 C.2.1 dX0_rulesMany_21 (by decide) (fun h21 => ?_) (fun h21 => ?_)
      · replace hf := hf.1 h21
        refine lv_iconst (v := 0) C.1 C.2.1 dX0_rulesMany_41 rfl ?_
        refine lv_iadd C.1 C.2.1 dX0_rulesMany_42 ?_
        refine lv_istore_n (lv' := [(2, .int (x2 + 0)), (0, .ref (ad 0)), (1, .int x1), (3, .int x3)]) C.1 C.2.1 dX0_rulesMany_43 rfl hl (Nat.le_of_ble_eq_true rfl) rfl (fun ls hl => ?_)
        refine lv_iinc (v := (x3 + 1)) (lv' := [(3, .int (x3 + 1)), (2, .int (x2 + 0)), (0, .ref (ad 0)), (1, .int x1)]) C.1 C.2.1 dX0_rulesMany_44 hl (k := 3) rfl rfl (Nat.le_of_ble_eq_true rfl) rfl (fun ls hl => ?_)
        refine lv_goto (tgt := 4) C.1 C.2.1 dX0_rulesMany_47 (by decide) ?_
        exact hK4 _ _ _ hf (lv_sub hl [2, 3, 1, 0] rfl)
      · replace hf := hf.2 h21
        refine lv_aload_n C.1 C.2.1 dX0_rulesMany_24 rfl (lv_at hl 0 rfl) ?_
        refine xg_grammar C hw dX0_rulesMany_25 ?_
        refine xn_left C hw dX0_rulesMany_28 ?_
        refine lv_iload_n C.1 C.2.1 dX0_rulesMany_31 rfl (lv_at hl 3 rfl) ?_
        obtain ⟨b32, hf⟩ := hf
        refine g_iald C hw 83 rfl b32 dX0_rulesMany_32 ?_
        refine lv_iload_n C.1 C.2.1 dX0_rulesMany_33 rfl (lv_at hl 1 rfl) ?_
        refine lv_icmp_ne (tgt := 41) C.1 C.2.1 dX0_rulesMany_34 (by decide) (fun h34 => ?_) (fun h34 => ?_)
        · replace hf := hf.2 h34
          refine lv_iconst (v := 0) C.1 C.2.1 dX0_rulesMany_41 rfl ?_
          refine lv_iadd C.1 C.2.1 dX0_rulesMany_42 ?_
          refine lv_istore_n (lv' := [(2, .int (x2 + 0)), (0, .ref (ad 0)), (1, .int x1), (3, .int x3)]) C.1 C.2.1 dX0_rulesMany_43 rfl hl (Nat.le_of_ble_eq_true rfl) rfl (fun ls hl => ?_)
          refine lv_iinc (v := (x3 + 1)) (lv' := [(3, .int (x3 + 1)), (2, .int (x2 + 0)), (0, .ref (ad 0)), (1, .int x1)]) C.1 C.2.1 dX0_rulesMany_44 hl (k := 3) rfl rfl (Nat.le_of_ble_eq_true rfl) rfl (fun ls hl => ?_)
          refine lv_goto (tgt := 4) C.1 C.2.1 dX0_rulesMany_47 (by decide) ?_
          exact hK4 _ _ _ hf (lv_sub hl [2, 3, 1, 0] rfl)
        · replace hf := hf.1 h34
          refine lv_iconst (v := 1) C.1 C.2.1 dX0_rulesMany_37 rfl ?_
          refine lv_goto (tgt := 42) C.1 C.2.1 dX0_rulesMany_38 (by decide) ?_
          refine lv_iadd C.1 C.2.1 dX0_rulesMany_42 ?_
          refine lv_istore_n (lv' := [(2, .int (x2 + 1)), (0, .ref (ad 0)), (1, .int x1), (3, .int x3)]) C.1 C.2.1 dX0_rulesMany_43 rfl hl (Nat.le_of_ble_eq_true rfl) rfl (fun ls hl => ?_)
          refine lv_iinc (v := (x3 + 1)) (lv' := [(3, .int (x3 + 1)), (2, .int (x2 + 1)), (0, .ref (ad 0)), (1, .int x1)]) C.1 C.2.1 dX0_rulesMany_44 hl (k := 3) rfl rfl (Nat.le_of_ble_eq_true rfl) rfl (fun ls hl => ?_)
          refine lv_goto (tgt := 4) C.1 C.2.1 dX0_rulesMany_47 (by decide) ?_
          exact hK4 _ _ _ hf (lv_sub hl [2, 3, 1, 0] rfl)
  have P4 : ∀ (x1 : Int32) (n : Nat) (x2 : Int32) (x3 : Int32) (ls : Array Slot), LL2 (x_rulesMany_p4 σ x1 Q) n x2 x3 → lv_has ls 4 [(0, .ref (ad 0)), (1, .int x1), (2, .int x2), (3, .int x3)] → W p l e rm_x_rulesMany s m args below meth c H [] 0 0 QQ (F0 m 4 ls []) := by
    intro x1 n
    induction n with
    | zero => intro x2 x3 ls hf; exact False.elim hf
    | succ n ih => intro x2 x3 ls hf hl; exact B4 x1 (LL2 _ n) ih x2 x3 ls hf hl
  unfold x_rulesMany at hf
  refine lv_iconst (v := 0) C.1 C.2.1 dX0_rulesMany_0 rfl ?_
  refine lv_istore_n (lv' := [(2, .int 0), (0, .ref (ad 0)), (1, .int x1)]) C.1 C.2.1 dX0_rulesMany_1 rfl hl (Nat.le_of_ble_eq_true rfl) rfl (fun ls hl => ?_)
  refine lv_iconst (v := 0) C.1 C.2.1 dX0_rulesMany_2 rfl ?_
  refine lv_istore_n (lv' := [(3, .int 0), (2, .int 0), (0, .ref (ad 0)), (1, .int x1)]) C.1 C.2.1 dX0_rulesMany_3 rfl hl (Nat.le_of_ble_eq_true rfl) rfl (fun ls hl => ?_)
  obtain ⟨n, hf⟩ := hf
  exact P4 _ n _ _ _ hf (lv_sub hl [2, 3, 1, 0] rfl)
theorem kx_rulesMany {p : Program} {l : Launch} {e : Env} {R : Room} {s : State} {m : MethodId} {args : Array Value} {below : List Frame} {meth : Method} {c : Code} {H : Heap} {locs : List Loc} {Z : State → Prop} {cc : ByteArray} {nL pc : Nat} {ls : Array Slot} {rest : List Value} {D : va_G} {ct : Ct} {ad : Nat → Nat} {σ : St} {x1 : Int32} {Qp : Int32 → Prop} (C : CallFix p m c cc nL s args lw_all RX0) (hw : gH D ct shX ad s σ H locs) (hsz : ls.size = nL) (hrm : (rest.map fun v => v.category).sum ≤ 8) (hR : rm_x_rulesMany.frames + 1 ≤ R.frames ∧ 8 + (4 + 11) + rm_x_rulesMany.locals ≤ R.locals) (hdg : decode cc pc = .ok (.invokevirtual 680, 3)) (hf : x_rulesMany σ x1 Qp) (kk : ∀ (r : Int32), Qp r → W p l e R s m args below meth c H locs 0 0 Z (F0 m (pc + 3) ls (.int r :: rest))) : W p l e R s m args below meth c H locs 0 0 Z (F0 m pc ls (.int x1 :: .ref (ad 0) :: rest)) :=
  g_callVR (As := [.int x1]) (rest := rest) C hw rfl rfl (met_x_rulesMany l D ct ad hw.2.1 σ x1 Qp hf) (cwV 1 C.2.2.2.2 (lw_V q1251 q1253 qs95 q200 q1254) rfl rfl rfl (by decide +kernel) hR) rfl hsz rfl hrm ⟨Nat.zero_le _, Nat.zero_le _⟩ hdg kk
def x_adds_p130 (σ : St) (x1 : Int32) (x2 : Int32) (x3 : Int32) (x4 : Int32) (Q : Int32 → St → Prop) : Prop :=
  (vp_in x2 26 ∧ (x_firstsFrom σ x1 0 (fun r140 => (∀ s144 : St, s144 = s_A σ 20 (Int32.toNatClampNeg x2) ((gI σ 20 x2) ||| r140) → (vp_in x2 26 ∧ (x_shortBy s144 x1 (fun r158 => (∀ s164 : St, s164 = s_A s144 22 (Int32.toNatClampNeg x2) (fx_lesser (gI s144 22 x2) r158) → ((x3 < ((((fj_bitCount (s164.1 15)) + (fj_bitCount (s164.1 16))) + (fj_bitCount (s164.1 17))) + (fj_bitCount (gI s164 20 x2))) → Q 1 s164) ∧ (¬ x3 < ((((fj_bitCount (s164.1 15)) + (fj_bitCount (s164.1 16))) + (fj_bitCount (s164.1 17))) + (fj_bitCount (gI s164 20 x2))) → ((x4 = (gI s164 22 x2) → Q 0 s164) ∧ (¬ x4 = (gI s164 22 x2) → Q 1 s164))))))))))))
def x_adds_p105 (σ : St) (x1 : Int32) (x2 : Int32) (x3 : Int32) (x4 : Int32) (Q : Int32 → St → Prop) : Prop :=
  (((fx_has (σ.1 17) x2) = 0 → (x_adds_p130 σ x1 x2 x3 x4 Q)) ∧ (¬ (fx_has (σ.1 17) x2) = 0 → (x_rightCapitals σ x1 (fun r123 => (∀ s127 : St, s127 = s_I σ 17 ((σ.1 17) ||| r123) → (x_adds_p130 s127 x1 x2 x3 x4 Q))))))
def x_adds_p85 (σ : St) (x1 : Int32) (x2 : Int32) (x3 : Int32) (x4 : Int32) (Q : Int32 → St → Prop) : Prop :=
  (x_doEnd σ x1 (fun r87 => ((r87 = 0 → (x_adds_p105 σ x1 x2 x3 x4 Q)) ∧ (¬ r87 = 0 → (∀ s102 : St, s102 = s_I σ 16 ((σ.1 16) ||| (1 <<< (x2 &&& 31))) → (x_adds_p105 s102 x1 x2 x3 x4 Q))))))
def x_adds (σ : St) (x1 : Int32) (Q : Int32 → St → Prop) : Prop :=
  (vp_in x1 12 ∧ (vp_in ((gI σ 83 x1) - 26) 26 ∧ (vp_in ((gI σ 83 x1) - 26) 26 ∧ (vp_in x1 12 ∧ (x_areEmpty σ x1 0 (gI σ 84 x1) (fun r67 => ((r67 = 0 → (x_adds_p85 σ x1 ((gI σ 83 x1) - 26) ((((fj_bitCount (σ.1 15)) + (fj_bitCount (σ.1 16))) + (fj_bitCount (σ.1 17))) + (fj_bitCount (gI σ 20 ((gI σ 83 x1) - 26)))) (gI σ 22 ((gI σ 83 x1) - 26)) Q)) ∧ (¬ r67 = 0 → (∀ s82 : St, s82 = s_I σ 15 ((σ.1 15) ||| (1 <<< (((gI σ 83 x1) - 26) &&& 31))) → (x_adds_p85 s82 x1 ((gI σ 83 x1) - 26) ((((fj_bitCount (σ.1 15)) + (fj_bitCount (σ.1 16))) + (fj_bitCount (σ.1 17))) + (fj_bitCount (gI σ 20 ((gI σ 83 x1) - 26)))) (gI σ 22 ((gI σ 83 x1) - 26)) Q))))))))))
abbrev rm_x_adds : Room := { frames := 3, cells := 0, slots := 0, locals := 67 }
set_option maxHeartbeats 4000000 in
theorem met_x_adds (l : Launch) (D : va_G) (ct : Ct) (ad : Nat → Nat) (hJ : gJ shX ad ct) (σ : St) (x1 : Int32) (Q : Int32 → St → Prop) (hf : x_adds σ x1 Q) : Met l yX0_adds (ws_ yX0_adds cX0_adds 5 (some .boolean)) rm_x_adds (va_Pc [.ref (ad 0), .int x1] (gP D ct shX ad σ)) (gQ rvI D ct shX ad Q) 0 0 (gA shX ad) := by
  refine g_metZ hJ (by decide) (Nat.le_of_ble_eq_true rfl) ?_
  intro p e s m args below meth c QQ ls C hw hl hret
  replace hl : lv_has ls 5 [(0, .ref (ad 0)), (1, .int x1)] := hl
  have J130 : ∀ (σ : St) (H : Heap) (locs : List Loc) (x1 : Int32) (x2 : Int32) (x3 : Int32) (x4 : Int32) (ls : Array Slot), x_adds_p130 σ x1 x2 x3 x4 Q → gH D ct shX ad s σ H locs → lv_has ls 5 [(0, .ref (ad 0)), (1, .int x1), (2, .int x2), (3, .int x3), (4, .int x4)] → W p l e rm_x_adds s m args below meth c H locs 0 0 QQ (F0 m 130 ls []) := by
    intro σ H locs x1 x2 x3 x4 ls hf hw hl
    unfold x_adds_p130 at hf
    refine lv_aload_n C.1 C.2.1 dX0_adds_130 rfl (lv_at hl 0 rfl) ?_
    refine xg_firstOf C hw dX0_adds_131 ?_
    refine lv_iload_n C.1 C.2.1 dX0_adds_134 rfl (lv_at hl 2 rfl) ?_
    refine lv_dup2_11 C.1 C.2.1 dX0_adds_135 rfl rfl ?_
    obtain ⟨b136, hf⟩ := hf
    refine g_iald C hw 20 rfl b136 dX0_adds_136 ?_
    refine lv_aload_n C.1 C.2.1 dX0_adds_137 rfl (lv_at hl 0 rfl) ?_
    refine lv_iload_n C.1 C.2.1 dX0_adds_138 rfl (lv_at hl 1 rfl) ?_
    refine lv_iconst (v := 0) C.1 C.2.1 dX0_adds_139 rfl ?_
    refine kx_firstsFrom C hw hl.1 (Nat.le_of_ble_eq_true rfl) ⟨Nat.le_of_ble_eq_true rfl, Nat.le_of_ble_eq_true rfl⟩ dX0_adds_140 hf (fun r140 hf => ?_)
    refine lv_ior C.1 C.2.1 dX0_adds_143 ?_
    refine g_iast C shX_sep hw 20 rfl b136 dX0_adds_144 (fun s144 H locs e144 hw => ?_)
    replace hf := hf s144 e144
    refine lv_aload_n C.1 C.2.1 dX0_adds_145 rfl (lv_at hl 0 rfl) ?_
    refine xg_shortOf C hw dX0_adds_146 ?_
    refine lv_iload_n C.1 C.2.1 dX0_adds_149 rfl (lv_at hl 2 rfl) ?_
    refine lv_aload_n C.1 C.2.1 dX0_adds_150 rfl (lv_at hl 0 rfl) ?_
    refine xg_shortOf C hw dX0_adds_151 ?_
    refine lv_iload_n C.1 C.2.1 dX0_adds_154 rfl (lv_at hl 2 rfl) ?_
    obtain ⟨b155, hf⟩ := hf
    refine g_iald C hw 22 rfl b155 dX0_adds_155 ?_
    refine lv_aload_n C.1 C.2.1 dX0_adds_156 rfl (lv_at hl 0 rfl) ?_
    refine lv_iload_n C.1 C.2.1 dX0_adds_157 rfl (lv_at hl 1 rfl) ?_
    refine kx_shortBy C hw hl.1 (Nat.le_of_ble_eq_true rfl) ⟨Nat.le_of_ble_eq_true rfl, Nat.le_of_ble_eq_true rfl⟩ dX0_adds_158 hf (fun r158 hf => ?_)
    refine kx_lesser C hl.1 (Nat.le_of_ble_eq_true rfl) ⟨Nat.le_of_ble_eq_true rfl, Nat.le_of_ble_eq_true rfl⟩ dX0_adds_161 ?_
    refine g_iast C shX_sep hw 22 rfl b155 dX0_adds_164 (fun s164 H locs e164 hw => ?_)
    replace hf := hf s164 e164
    refine lv_iload_n C.1 C.2.1 dX0_adds_165 rfl (lv_at hl 3 rfl) ?_
    refine lv_aload_n C.1 C.2.1 dX0_adds_166 rfl (lv_at hl 0 rfl) ?_
    refine xg_empties C hw dX0_adds_167 ?_
    refine kxj_bitCount C hl.1 (Nat.le_of_ble_eq_true rfl) ⟨Nat.le_of_ble_eq_true rfl, Nat.le_of_ble_eq_true rfl⟩ dX0_adds_170 ?_
    refine lv_aload_n C.1 C.2.1 dX0_adds_173 rfl (lv_at hl 0 rfl) ?_
    refine xg_ending C hw dX0_adds_174 ?_
    refine kxj_bitCount C hl.1 (Nat.le_of_ble_eq_true rfl) ⟨Nat.le_of_ble_eq_true rfl, Nat.le_of_ble_eq_true rfl⟩ dX0_adds_177 ?_
    refine lv_iadd C.1 C.2.1 dX0_adds_180 ?_
    refine lv_aload_n C.1 C.2.1 dX0_adds_181 rfl (lv_at hl 0 rfl) ?_
    refine xg_reached C hw dX0_adds_182 ?_
    refine kxj_bitCount C hl.1 (Nat.le_of_ble_eq_true rfl) ⟨Nat.le_of_ble_eq_true rfl, Nat.le_of_ble_eq_true rfl⟩ dX0_adds_185 ?_
    refine lv_iadd C.1 C.2.1 dX0_adds_188 ?_
    refine lv_aload_n C.1 C.2.1 dX0_adds_189 rfl (lv_at hl 0 rfl) ?_
    refine xg_firstOf C hw dX0_adds_190 ?_
    refine lv_iload_n C.1 C.2.1 dX0_adds_193 rfl (lv_at hl 2 rfl) ?_
    refine g_iald C hw 20 rfl b136 dX0_adds_194 ?_
    refine kxj_bitCount C hl.1 (Nat.le_of_ble_eq_true rfl) ⟨Nat.le_of_ble_eq_true rfl, Nat.le_of_ble_eq_true rfl⟩ dX0_adds_195 ?_
    refine lv_iadd C.1 C.2.1 dX0_adds_198 ?_
    refine lv_icmp_lt (tgt := 213) C.1 C.2.1 dX0_adds_199 (by decide) (fun h199 => ?_) (fun h199 => ?_)
    · replace hf := hf.1 h199
      refine lv_iconst (v := 1) C.1 C.2.1 dX0_adds_213 rfl ?_
      refine lv_goto (tgt := 218) C.1 C.2.1 dX0_adds_214 (by decide) ?_
      exact hret _ _ _ _ _ _ hf hw (Or.inr rfl) dX0_adds_218
    · replace hf := hf.2 h199
      refine lv_iload C.1 C.2.1 dX0_adds_202 (lv_at hl 4 rfl) ?_
      refine lv_aload_n C.1 C.2.1 dX0_adds_204 rfl (lv_at hl 0 rfl) ?_
      refine xg_shortOf C hw dX0_adds_205 ?_
      refine lv_iload_n C.1 C.2.1 dX0_adds_208 rfl (lv_at hl 2 rfl) ?_
      refine g_iald C hw 22 rfl b155 dX0_adds_209 ?_
      refine lv_icmp_eq (tgt := 217) C.1 C.2.1 dX0_adds_210 (by decide) (fun h210 => ?_) (fun h210 => ?_)
      · replace hf := hf.1 h210
        refine lv_iconst (v := 0) C.1 C.2.1 dX0_adds_217 rfl ?_
        exact hret _ _ _ _ _ _ hf hw (Or.inl rfl) dX0_adds_218
      · replace hf := hf.2 h210
        refine lv_iconst (v := 1) C.1 C.2.1 dX0_adds_213 rfl ?_
        refine lv_goto (tgt := 218) C.1 C.2.1 dX0_adds_214 (by decide) ?_
        exact hret _ _ _ _ _ _ hf hw (Or.inr rfl) dX0_adds_218
  have J105 : ∀ (σ : St) (H : Heap) (locs : List Loc) (x1 : Int32) (x2 : Int32) (x3 : Int32) (x4 : Int32) (ls : Array Slot), x_adds_p105 σ x1 x2 x3 x4 Q → gH D ct shX ad s σ H locs → lv_has ls 5 [(0, .ref (ad 0)), (1, .int x1), (2, .int x2), (3, .int x3), (4, .int x4)] → W p l e rm_x_adds s m args below meth c H locs 0 0 QQ (F0 m 105 ls []) := by
    intro σ H locs x1 x2 x3 x4 ls hf hw hl
    unfold x_adds_p105 at hf
    refine lv_aload_n C.1 C.2.1 dX0_adds_105 rfl (lv_at hl 0 rfl) ?_
    refine xg_reached C hw dX0_adds_106 ?_
    refine lv_iload_n C.1 C.2.1 dX0_adds_109 rfl (lv_at hl 2 rfl) ?_
    refine kx_has C hl.1 (Nat.le_of_ble_eq_true rfl) ⟨Nat.le_of_ble_eq_true rfl, Nat.le_of_ble_eq_true rfl⟩ dX0_adds_110 ?_
    refine lv_if_eq (tgt := 130) C.1 C.2.1 dX0_adds_113 (by decide) (fun h113 => ?_) (fun h113 => ?_)
    · replace hf := hf.1 h113
      exact J130 _ _ _ _ _ _ _ _ hf hw (lv_sub hl [0, 1, 2, 3, 4] rfl)
    · replace hf := hf.2 h113
      refine lv_aload_n C.1 C.2.1 dX0_adds_116 rfl (lv_at hl 0 rfl) ?_
      refine lv_dup C.1 C.2.1 dX0_adds_117 rfl ?_
      refine xg_reached C hw dX0_adds_118 ?_
      refine lv_aload_n C.1 C.2.1 dX0_adds_121 rfl (lv_at hl 0 rfl) ?_
      refine lv_iload_n C.1 C.2.1 dX0_adds_122 rfl (lv_at hl 1 rfl) ?_
      refine kx_rightCapitals C hw hl.1 (Nat.le_of_ble_eq_true rfl) ⟨Nat.le_of_ble_eq_true rfl, Nat.le_of_ble_eq_true rfl⟩ dX0_adds_123 hf (fun r123 hf => ?_)
      refine lv_ior C.1 C.2.1 dX0_adds_126 ?_
      refine xp_reached C hw dX0_adds_127 (fun s127 H locs e127 hw => ?_)
      replace hf := hf s127 e127
      exact J130 _ _ _ _ _ _ _ _ hf hw (lv_sub hl [0, 1, 2, 3, 4] rfl)
  have J85 : ∀ (σ : St) (H : Heap) (locs : List Loc) (x1 : Int32) (x2 : Int32) (x3 : Int32) (x4 : Int32) (ls : Array Slot), x_adds_p85 σ x1 x2 x3 x4 Q → gH D ct shX ad s σ H locs → lv_has ls 5 [(0, .ref (ad 0)), (1, .int x1), (2, .int x2), (3, .int x3), (4, .int x4)] → W p l e rm_x_adds s m args below meth c H locs 0 0 QQ (F0 m 85 ls []) := by
    intro σ H locs x1 x2 x3 x4 ls hf hw hl
    unfold x_adds_p85 at hf
    refine lv_aload_n C.1 C.2.1 dX0_adds_85 rfl (lv_at hl 0 rfl) ?_
    refine lv_iload_n C.1 C.2.1 dX0_adds_86 rfl (lv_at hl 1 rfl) ?_
    refine kx_doEnd C hw hl.1 (Nat.le_of_ble_eq_true rfl) ⟨Nat.le_of_ble_eq_true rfl, Nat.le_of_ble_eq_true rfl⟩ dX0_adds_87 hf (fun r87 hf => ?_)
    refine lv_if_eq (tgt := 105) C.1 C.2.1 dX0_adds_90 (by decide) (fun h90 => ?_) (fun h90 => ?_)
    · replace hf := hf.1 h90
      exact J105 _ _ _ _ _ _ _ _ hf hw (lv_sub hl [0, 1, 2, 3, 4] rfl)
    · replace hf := hf.2 h90
      refine lv_aload_n C.1 C.2.1 dX0_adds_93 rfl (lv_at hl 0 rfl) ?_
      refine lv_dup C.1 C.2.1 dX0_adds_94 rfl ?_
      refine xg_ending C hw dX0_adds_95 ?_
      refine lv_iconst (v := 1) C.1 C.2.1 dX0_adds_98 rfl ?_
      refine lv_iload_n C.1 C.2.1 dX0_adds_99 rfl (lv_at hl 2 rfl) ?_
      refine lv_ishl C.1 C.2.1 dX0_adds_100 ?_
      refine lv_ior C.1 C.2.1 dX0_adds_101 ?_
      refine xp_ending C hw dX0_adds_102 (fun s102 H locs e102 hw => ?_)
      replace hf := hf s102 e102
      exact J105 _ _ _ _ _ _ _ _ hf hw (lv_sub hl [0, 1, 2, 3, 4] rfl)
  unfold x_adds at hf
  obtain ⟨H, hH⟩ : ∃ q, q = s.heap := ⟨_, rfl⟩
  obtain ⟨locs, hL⟩ : ∃ q : List Loc, q = [] := ⟨_, rfl⟩
  rw [← hH, ← hL] at hw ⊢
  refine lv_aload_n C.1 C.2.1 dX0_adds_0 rfl (lv_at hl 0 rfl) ?_
  refine xg_grammar C hw dX0_adds_1 ?_
  refine xn_left C hw dX0_adds_4 ?_
  refine lv_iload_n C.1 C.2.1 dX0_adds_7 rfl (lv_at hl 1 rfl) ?_
  obtain ⟨b8, hf⟩ := hf
  refine g_iald C hw 83 rfl b8 dX0_adds_8 ?_
  refine lv_bipush (v := 26) C.1 C.2.1 dX0_adds_9 rfl ?_
  refine lv_isub C.1 C.2.1 dX0_adds_11 ?_
  refine lv_istore_n (lv' := [(2, .int ((gI σ 83 x1) - 26)), (0, .ref (ad 0)), (1, .int x1)]) C.1 C.2.1 dX0_adds_12 rfl hl (Nat.le_of_ble_eq_true rfl) rfl (fun ls hl => ?_)
  refine lv_aload_n C.1 C.2.1 dX0_adds_13 rfl (lv_at hl 1 rfl) ?_
  refine xg_empties C hw dX0_adds_14 ?_
  refine kxj_bitCount C hl.1 (Nat.le_of_ble_eq_true rfl) ⟨Nat.le_of_ble_eq_true rfl, Nat.le_of_ble_eq_true rfl⟩ dX0_adds_17 ?_
  refine lv_aload_n C.1 C.2.1 dX0_adds_20 rfl (lv_at hl 1 rfl) ?_
  refine xg_ending C hw dX0_adds_21 ?_
  refine kxj_bitCount C hl.1 (Nat.le_of_ble_eq_true rfl) ⟨Nat.le_of_ble_eq_true rfl, Nat.le_of_ble_eq_true rfl⟩ dX0_adds_24 ?_
  refine lv_iadd C.1 C.2.1 dX0_adds_27 ?_
  refine lv_aload_n C.1 C.2.1 dX0_adds_28 rfl (lv_at hl 1 rfl) ?_
  refine xg_reached C hw dX0_adds_29 ?_
  refine kxj_bitCount C hl.1 (Nat.le_of_ble_eq_true rfl) ⟨Nat.le_of_ble_eq_true rfl, Nat.le_of_ble_eq_true rfl⟩ dX0_adds_32 ?_
  refine lv_iadd C.1 C.2.1 dX0_adds_35 ?_
  refine lv_aload_n C.1 C.2.1 dX0_adds_36 rfl (lv_at hl 1 rfl) ?_
  refine xg_firstOf C hw dX0_adds_37 ?_
  refine lv_iload_n C.1 C.2.1 dX0_adds_40 rfl (lv_at hl 0 rfl) ?_
  obtain ⟨b41, hf⟩ := hf
  refine g_iald C hw 20 rfl b41 dX0_adds_41 ?_
  refine kxj_bitCount C hl.1 (Nat.le_of_ble_eq_true rfl) ⟨Nat.le_of_ble_eq_true rfl, Nat.le_of_ble_eq_true rfl⟩ dX0_adds_42 ?_
  refine lv_iadd C.1 C.2.1 dX0_adds_45 ?_
  refine lv_istore_n (lv' := [(3, .int ((((fj_bitCount (σ.1 15)) + (fj_bitCount (σ.1 16))) + (fj_bitCount (σ.1 17))) + (fj_bitCount (gI σ 20 ((gI σ 83 x1) - 26))))), (2, .int ((gI σ 83 x1) - 26)), (0, .ref (ad 0)), (1, .int x1)]) C.1 C.2.1 dX0_adds_46 rfl hl (Nat.le_of_ble_eq_true rfl) rfl (fun ls hl => ?_)
  refine lv_aload_n C.1 C.2.1 dX0_adds_47 rfl (lv_at hl 2 rfl) ?_
  refine xg_shortOf C hw dX0_adds_48 ?_
  refine lv_iload_n C.1 C.2.1 dX0_adds_51 rfl (lv_at hl 1 rfl) ?_
  obtain ⟨b52, hf⟩ := hf
  refine g_iald C hw 22 rfl b52 dX0_adds_52 ?_
  refine lv_istore (lv' := [(4, .int (gI σ 22 ((gI σ 83 x1) - 26))), (3, .int ((((fj_bitCount (σ.1 15)) + (fj_bitCount (σ.1 16))) + (fj_bitCount (σ.1 17))) + (fj_bitCount (gI σ 20 ((gI σ 83 x1) - 26))))), (2, .int ((gI σ 83 x1) - 26)), (0, .ref (ad 0)), (1, .int x1)]) C.1 C.2.1 dX0_adds_53 hl (Nat.le_of_ble_eq_true rfl) rfl (fun ls hl => ?_)
  refine lv_aload_n C.1 C.2.1 dX0_adds_55 rfl (lv_at hl 3 rfl) ?_
  refine lv_iload_n C.1 C.2.1 dX0_adds_56 rfl (lv_at hl 4 rfl) ?_
  refine lv_iconst (v := 0) C.1 C.2.1 dX0_adds_57 rfl ?_
  refine lv_aload_n C.1 C.2.1 dX0_adds_58 rfl (lv_at hl 3 rfl) ?_
  refine xg_grammar C hw dX0_adds_59 ?_
  refine xn_size C hw dX0_adds_62 ?_
  refine lv_iload_n C.1 C.2.1 dX0_adds_65 rfl (lv_at hl 4 rfl) ?_
  obtain ⟨b66, hf⟩ := hf
  refine g_iald C hw 84 rfl b66 dX0_adds_66 ?_
  refine kx_areEmpty C hw hl.1 (Nat.le_of_ble_eq_true rfl) ⟨Nat.le_of_ble_eq_true rfl, Nat.le_of_ble_eq_true rfl⟩ dX0_adds_67 hf (fun r67 hf => ?_)
  refine lv_if_eq (tgt := 85) C.1 C.2.1 dX0_adds_70 (by decide) (fun h70 => ?_) (fun h70 => ?_)
  · replace hf := hf.1 h70
    exact J85 _ _ _ _ _ _ _ _ hf hw (lv_sub hl [3, 4, 2, 1, 0] rfl)
  · replace hf := hf.2 h70
    refine lv_aload_n C.1 C.2.1 dX0_adds_73 rfl (lv_at hl 3 rfl) ?_
    refine lv_dup C.1 C.2.1 dX0_adds_74 rfl ?_
    refine xg_empties C hw dX0_adds_75 ?_
    refine lv_iconst (v := 1) C.1 C.2.1 dX0_adds_78 rfl ?_
    refine lv_iload_n C.1 C.2.1 dX0_adds_79 rfl (lv_at hl 2 rfl) ?_
    refine lv_ishl C.1 C.2.1 dX0_adds_80 ?_
    refine lv_ior C.1 C.2.1 dX0_adds_81 ?_
    refine xp_empties C hw dX0_adds_82 (fun s82 H locs e82 hw => ?_)
    replace hf := hf s82 e82
    exact J85 _ _ _ _ _ _ _ _ hf hw (lv_sub hl [3, 4, 2, 1, 0] rfl)
theorem kx_adds {p : Program} {l : Launch} {e : Env} {R : Room} {s : State} {m : MethodId} {args : Array Value} {below : List Frame} {meth : Method} {c : Code} {H : Heap} {locs : List Loc} {Z : State → Prop} {cc : ByteArray} {nL pc : Nat} {ls : Array Slot} {rest : List Value} {D : va_G} {ct : Ct} {ad : Nat → Nat} {σ : St} {x1 : Int32} {Qp : Int32 → St → Prop} (C : CallFix p m c cc nL s args lw_all RX0) (hw : gH D ct shX ad s σ H locs) (hsz : ls.size = nL) (hrm : (rest.map fun v => v.category).sum ≤ 8) (hR : rm_x_adds.frames + 1 ≤ R.frames ∧ 8 + (5 + 11) + rm_x_adds.locals ≤ R.locals) (hdg : decode cc pc = .ok (.invokevirtual 368, 3)) (hf : x_adds σ x1 Qp) (kk : ∀ (r : Int32) (σ1 : St) (H1 : Heap) (locs1 : List Loc), Qp r σ1 → gH D ct shX ad s σ1 H1 locs1 → W p l e R s m args below meth c H1 locs1 0 0 Z (F0 m (pc + 3) ls (.int r :: rest))) : W p l e R s m args below meth c H locs 0 0 Z (F0 m pc ls (.int x1 :: .ref (ad 0) :: rest)) :=
  g_callV (As := [.int x1]) (rest := rest) C hw rfl rfl (met_x_adds l D ct ad hw.2.1 σ x1 Qp hf) (cwV 1 C.2.2.2.2 (lw_V q763 q765 qs27 q200 q766) rfl rfl rfl (by decide +kernel) hR) rfl hsz rfl hrm ⟨Nat.zero_le _, Nat.zero_le _⟩ hdg kk
def x_addsFollow_p146 (σ : St) (x1 : Int32) (x3 : Int32) (x4 : Int32) (x5 : Int32) (x6 : Int32) (Q : Int32 → St → Prop) (K18 : St → Int32 → Int32 → Prop) (v0 : Int32) (v1 : Int32) : Prop :=
  (vp_in x5 26 ∧ (∀ s156 : St, s156 = s_A σ 21 (Int32.toNatClampNeg x5) x6 → K18 s156 (v1 ||| v0) (x4 + 1)))
def x_addsFollow_p125 (σ : St) (x1 : Int32) (x2 : Int32) (x3 : Int32) (x4 : Int32) (x5 : Int32) (Q : Int32 → St → Prop) (K18 : St → Int32 → Int32 → Prop) (v0 : Int32) (v1 : Int32) : Prop :=
  (vp_in x5 26 ∧ (((v1 ||| v0) = (gI σ 21 x5) → (x_addsFollow_p146 σ x1 x3 x4 x5 (v1 ||| v0) Q K18 0 x2)) ∧ (¬ (v1 ||| v0) = (gI σ 21 x5) → (x_addsFollow_p146 σ x1 x3 x4 x5 (v1 ||| v0) Q K18 1 x2))))
def x_addsFollow_p18 (x1 : Int32) (x3 : Int32) (Q : Int32 → St → Prop) (K18 : St → Int32 → Int32 → Prop) (σ : St) (x2 : Int32) (x4 : Int32) : Prop :=
  (vp_in x1 12 ∧ (((gI σ 84 x1) ≤ x4 → (zB x2 ∧ Q x2 σ)) ∧ (¬ (gI σ 84 x1) ≤ x4 → (((fx_has (σ.1 17) x3) = 0 → (zB x2 ∧ Q x2 σ)) ∧ (¬ (fx_has (σ.1 17) x3) = 0 → (x_at σ x1 x4 (fun r50 => (((fx_isCapital r50) = 0 → K18 σ x2 (x4 + 1)) ∧ (¬ (fx_isCapital r50) = 0 → (x_at σ x1 x4 (fun r69 => (vp_in (r69 - 26) 26 ∧ (x_firstsFrom σ x1 (x4 + 1) (fun r90 => (x_areEmpty σ x1 (x4 + 1) (gI σ 84 x1) (fun r109 => ((r109 = 0 → (x_addsFollow_p125 σ x1 x2 x3 x4 (r69 - 26) Q K18 0 ((gI σ 21 (r69 - 26)) ||| r90))) ∧ (¬ r109 = 0 → (vp_in x3 26 ∧ (x_addsFollow_p125 σ x1 x2 x3 x4 (r69 - 26) Q K18 (gI σ 21 x3) ((gI σ 21 (r69 - 26)) ||| r90)))))))))))))))))))))
def x_addsFollow (σ : St) (x1 : Int32) (Q : Int32 → St → Prop) : Prop :=
  (vp_in x1 12 ∧ (Lp3 (x_addsFollow_p18 x1 ((gI σ 83 x1) - 26) Q) σ 0 0))
abbrev rm_x_addsFollow : Room := { frames := 3, cells := 0, slots := 0, locals := 67 }
set_option maxHeartbeats 4000000 in
theorem met_x_addsFollow (l : Launch) (D : va_G) (ct : Ct) (ad : Nat → Nat) (hJ : gJ shX ad ct) (σ : St) (x1 : Int32) (Q : Int32 → St → Prop) (hf : x_addsFollow σ x1 Q) : Met l yX0_addsFollow (ws_ yX0_addsFollow cX0_addsFollow 7 (some .boolean)) rm_x_addsFollow (va_Pc [.ref (ad 0), .int x1] (gP D ct shX ad σ)) (gQ rvI D ct shX ad Q) 0 0 (gA shX ad) := by
  refine g_metZ hJ (by decide) (Nat.le_of_ble_eq_true rfl) ?_
  intro p e s m args below meth c QQ ls C hw hl hret
  replace hl : lv_has ls 7 [(0, .ref (ad 0)), (1, .int x1)] := hl
  have J146 : ∀ (σ : St) (H : Heap) (locs : List Loc) (x1 : Int32) (x3 : Int32) (x4 : Int32) (x5 : Int32) (x6 : Int32) (v0 : Int32) (v1 : Int32) (K18 : St → Int32 → Int32 → Prop) (_ : ∀ (σ : St) (H : Heap) (locs : List Loc) (x2 : Int32) (x4 : Int32) (ls : Array Slot), K18 σ x2 x4 → gH D ct shX ad s σ H locs → lv_has ls 7 [(0, .ref (ad 0)), (1, .int x1), (2, .int x2), (3, .int x3), (4, .int x4)] → W p l e rm_x_addsFollow s m args below meth c H locs 0 0 QQ (F0 m 18 ls [])) (ls : Array Slot), x_addsFollow_p146 σ x1 x3 x4 x5 x6 Q K18 v0 v1 → gH D ct shX ad s σ H locs → lv_has ls 7 [(0, .ref (ad 0)), (1, .int x1), (3, .int x3), (4, .int x4), (5, .int x5), (6, .int x6)] → W p l e rm_x_addsFollow s m args below meth c H locs 0 0 QQ (F0 m 146 ls [.int v0, .int v1]) := by
    intro σ H locs x1 x3 x4 x5 x6 v0 v1 K18 hK18 ls hf hw hl
    unfold x_addsFollow_p146 at hf
    refine lv_ior C.1 C.2.1 dX0_addsFollow_146 ?_
    refine lv_istore_n (lv' := [(2, .int (v1 ||| v0)), (0, .ref (ad 0)), (1, .int x1), (3, .int x3), (4, .int x4), (5, .int x5), (6, .int x6)]) C.1 C.2.1 dX0_addsFollow_147 rfl hl (Nat.le_of_ble_eq_true rfl) rfl (fun ls hl => ?_)
    refine lv_aload_n C.1 C.2.1 dX0_addsFollow_148 rfl (lv_at hl 1 rfl) ?_
    refine xg_followOf C hw dX0_addsFollow_149 ?_
    refine lv_iload C.1 C.2.1 dX0_addsFollow_152 (lv_at hl 5 rfl) ?_
    refine lv_iload C.1 C.2.1 dX0_addsFollow_154 (lv_at hl 6 rfl) ?_
    obtain ⟨b156, hf⟩ := hf
    refine g_iast C shX_sep hw 21 rfl b156 dX0_addsFollow_156 (fun s156 H locs e156 hw => ?_)
    replace hf := hf s156 e156
    refine lv_iinc (v := (x4 + 1)) (lv' := [(4, .int (x4 + 1)), (2, .int (v1 ||| v0)), (0, .ref (ad 0)), (1, .int x1), (3, .int x3), (5, .int x5), (6, .int x6)]) C.1 C.2.1 dX0_addsFollow_157 hl (k := 4) rfl rfl (Nat.le_of_ble_eq_true rfl) rfl (fun ls hl => ?_)
    refine lv_goto (tgt := 18) C.1 C.2.1 dX0_addsFollow_160 (by decide) ?_
    exact hK18 _ _ _ _ _ _ hf hw (lv_sub hl [2, 3, 1, 4, 0] rfl)
  have J125 : ∀ (σ : St) (H : Heap) (locs : List Loc) (x1 : Int32) (x2 : Int32) (x3 : Int32) (x4 : Int32) (x5 : Int32) (v0 : Int32) (v1 : Int32) (K18 : St → Int32 → Int32 → Prop) (_ : ∀ (σ : St) (H : Heap) (locs : List Loc) (x2 : Int32) (x4 : Int32) (ls : Array Slot), K18 σ x2 x4 → gH D ct shX ad s σ H locs → lv_has ls 7 [(0, .ref (ad 0)), (1, .int x1), (2, .int x2), (3, .int x3), (4, .int x4)] → W p l e rm_x_addsFollow s m args below meth c H locs 0 0 QQ (F0 m 18 ls [])) (ls : Array Slot), x_addsFollow_p125 σ x1 x2 x3 x4 x5 Q K18 v0 v1 → gH D ct shX ad s σ H locs → lv_has ls 7 [(0, .ref (ad 0)), (1, .int x1), (2, .int x2), (3, .int x3), (4, .int x4), (5, .int x5)] → W p l e rm_x_addsFollow s m args below meth c H locs 0 0 QQ (F0 m 125 ls [.int v0, .int v1]) := by
    intro σ H locs x1 x2 x3 x4 x5 v0 v1 K18 hK18 ls hf hw hl
    unfold x_addsFollow_p125 at hf
    refine lv_ior C.1 C.2.1 dX0_addsFollow_125 ?_
    refine lv_istore (lv' := [(6, .int (v1 ||| v0)), (0, .ref (ad 0)), (1, .int x1), (2, .int x2), (3, .int x3), (4, .int x4), (5, .int x5)]) C.1 C.2.1 dX0_addsFollow_126 hl (Nat.le_of_ble_eq_true rfl) rfl (fun ls hl => ?_)
    refine lv_iload_n C.1 C.2.1 dX0_addsFollow_128 rfl (lv_at hl 3 rfl) ?_
    refine lv_iload C.1 C.2.1 dX0_addsFollow_129 (lv_at hl 0 rfl) ?_
    refine lv_aload_n C.1 C.2.1 dX0_addsFollow_131 rfl (lv_at hl 1 rfl) ?_
    refine xg_followOf C hw dX0_addsFollow_132 ?_
    refine lv_iload C.1 C.2.1 dX0_addsFollow_135 (lv_at hl 6 rfl) ?_
    obtain ⟨b137, hf⟩ := hf
    refine g_iald C hw 21 rfl b137 dX0_addsFollow_137 ?_
    refine lv_icmp_eq (tgt := 145) C.1 C.2.1 dX0_addsFollow_138 (by decide) (fun h138 => ?_) (fun h138 => ?_)
    · replace hf := hf.1 h138
      refine lv_iconst (v := 0) C.1 C.2.1 dX0_addsFollow_145 rfl ?_
      exact J146 _ _ _ _ _ _ _ _ _ _ _ hK18 _ hf hw (lv_sub hl [1, 2, 4, 5, 6, 0] rfl)
    · replace hf := hf.2 h138
      refine lv_iconst (v := 1) C.1 C.2.1 dX0_addsFollow_141 rfl ?_
      refine lv_goto (tgt := 146) C.1 C.2.1 dX0_addsFollow_142 (by decide) ?_
      exact J146 _ _ _ _ _ _ _ _ _ _ _ hK18 _ hf hw (lv_sub hl [1, 2, 4, 5, 6, 0] rfl)
  have B18 : ∀ (x1 : Int32) (x3 : Int32) (K18 : St → Int32 → Int32 → Prop) (_ : ∀ (σ : St) (H : Heap) (locs : List Loc) (x2 : Int32) (x4 : Int32) (ls : Array Slot), K18 σ x2 x4 → gH D ct shX ad s σ H locs → lv_has ls 7 [(0, .ref (ad 0)), (1, .int x1), (2, .int x2), (3, .int x3), (4, .int x4)] → W p l e rm_x_addsFollow s m args below meth c H locs 0 0 QQ (F0 m 18 ls [])) (σ : St) (H : Heap) (locs : List Loc) (x2 : Int32) (x4 : Int32) (ls : Array Slot), x_addsFollow_p18 x1 x3 Q K18 σ x2 x4 → gH D ct shX ad s σ H locs → lv_has ls 7 [(0, .ref (ad 0)), (1, .int x1), (2, .int x2), (3, .int x3), (4, .int x4)] → W p l e rm_x_addsFollow s m args below meth c H locs 0 0 QQ (F0 m 18 ls []) := by
    intro x1 x3 K18 hK18 σ H locs x2 x4 ls hf hw hl
    unfold x_addsFollow_p18 at hf
    refine lv_iload C.1 C.2.1 dX0_addsFollow_18 (lv_at hl 4 rfl) ?_
    refine lv_aload_n C.1 C.2.1 dX0_addsFollow_20 rfl (lv_at hl 0 rfl) ?_
    refine xg_grammar C hw dX0_addsFollow_21 ?_
    refine xn_size C hw dX0_addsFollow_24 ?_
    refine lv_iload_n C.1 C.2.1 dX0_addsFollow_27 rfl (lv_at hl 1 rfl) ?_
    obtain ⟨b28, hf⟩ := hf
    refine g_iald C hw 84 rfl b28 dX0_addsFollow_28 ?_
    refine lv_icmp_ge (tgt := 163) C.1 C.2.1 dX0_addsFollow_29 (by decide) (fun h29 => ?_) (fun h29 => ?_)
    · replace hf := hf.1 h29
      refine lv_iload_n C.1 C.2.1 dX0_addsFollow_163 rfl (lv_at hl 2 rfl) ?_
      obtain ⟨hz, hf⟩ := hf
      exact hret _ _ _ _ _ _ hf hw hz dX0_addsFollow_164
    · replace hf := hf.2 h29
      refine lv_aload_n C.1 C.2.1 dX0_addsFollow_32 rfl (lv_at hl 0 rfl) ?_
      refine xg_reached C hw dX0_addsFollow_33 ?_
      refine lv_iload_n C.1 C.2.1 dX0_addsFollow_36 rfl (lv_at hl 3 rfl) ?_
      refine kx_has C hl.1 (Nat.le_of_ble_eq_true rfl) ⟨Nat.le_of_ble_eq_true rfl, Nat.le_of_ble_eq_true rfl⟩ dX0_addsFollow_37 ?_
      refine lv_if_eq (tgt := 163) C.1 C.2.1 dX0_addsFollow_40 (by decide) (fun h40 => ?_) (fun h40 => ?_)
      · replace hf := hf.1 h40
        refine lv_iload_n C.1 C.2.1 dX0_addsFollow_163 rfl (lv_at hl 2 rfl) ?_
        obtain ⟨hz, hf⟩ := hf
        exact hret _ _ _ _ _ _ hf hw hz dX0_addsFollow_164
      · replace hf := hf.2 h40
        refine lv_aload_n C.1 C.2.1 dX0_addsFollow_43 rfl (lv_at hl 0 rfl) ?_
        refine xg_grammar C hw dX0_addsFollow_44 ?_
        refine lv_iload_n C.1 C.2.1 dX0_addsFollow_47 rfl (lv_at hl 1 rfl) ?_
        refine lv_iload C.1 C.2.1 dX0_addsFollow_48 (lv_at hl 4 rfl) ?_
        refine kx_at C hw hl.1 (Nat.le_of_ble_eq_true rfl) ⟨Nat.le_of_ble_eq_true rfl, Nat.le_of_ble_eq_true rfl⟩ dX0_addsFollow_50 hf (fun r50 hf => ?_)
        refine kx_isCapital C hl.1 (Nat.le_of_ble_eq_true rfl) ⟨Nat.le_of_ble_eq_true rfl, Nat.le_of_ble_eq_true rfl⟩ dX0_addsFollow_53 ?_
        refine lv_if_ne (tgt := 62) C.1 C.2.1 dX0_addsFollow_56 (by decide) (fun h56 => ?_) (fun h56 => ?_)
        · replace hf := hf.2 h56
          refine lv_aload_n C.1 C.2.1 dX0_addsFollow_62 rfl (lv_at hl 0 rfl) ?_
          refine xg_grammar C hw dX0_addsFollow_63 ?_
          refine lv_iload_n C.1 C.2.1 dX0_addsFollow_66 rfl (lv_at hl 1 rfl) ?_
          refine lv_iload C.1 C.2.1 dX0_addsFollow_67 (lv_at hl 4 rfl) ?_
          refine kx_at C hw hl.1 (Nat.le_of_ble_eq_true rfl) ⟨Nat.le_of_ble_eq_true rfl, Nat.le_of_ble_eq_true rfl⟩ dX0_addsFollow_69 hf (fun r69 hf => ?_)
          refine lv_bipush (v := 26) C.1 C.2.1 dX0_addsFollow_72 rfl ?_
          refine lv_isub C.1 C.2.1 dX0_addsFollow_74 ?_
          refine lv_istore (lv' := [(5, .int (r69 - 26)), (0, .ref (ad 0)), (1, .int x1), (2, .int x2), (3, .int x3), (4, .int x4)]) C.1 C.2.1 dX0_addsFollow_75 hl (Nat.le_of_ble_eq_true rfl) rfl (fun ls hl => ?_)
          refine lv_aload_n C.1 C.2.1 dX0_addsFollow_77 rfl (lv_at hl 1 rfl) ?_
          refine xg_followOf C hw dX0_addsFollow_78 ?_
          refine lv_iload C.1 C.2.1 dX0_addsFollow_81 (lv_at hl 0 rfl) ?_
          obtain ⟨b83, hf⟩ := hf
          refine g_iald C hw 21 rfl b83 dX0_addsFollow_83 ?_
          refine lv_aload_n C.1 C.2.1 dX0_addsFollow_84 rfl (lv_at hl 1 rfl) ?_
          refine lv_iload_n C.1 C.2.1 dX0_addsFollow_85 rfl (lv_at hl 2 rfl) ?_
          refine lv_iload C.1 C.2.1 dX0_addsFollow_86 (lv_at hl 5 rfl) ?_
          refine lv_iconst (v := 1) C.1 C.2.1 dX0_addsFollow_88 rfl ?_
          refine lv_iadd C.1 C.2.1 dX0_addsFollow_89 ?_
          refine kx_firstsFrom C hw hl.1 (Nat.le_of_ble_eq_true rfl) ⟨Nat.le_of_ble_eq_true rfl, Nat.le_of_ble_eq_true rfl⟩ dX0_addsFollow_90 hf (fun r90 hf => ?_)
          refine lv_ior C.1 C.2.1 dX0_addsFollow_93 ?_
          refine lv_aload_n C.1 C.2.1 dX0_addsFollow_94 rfl (lv_at hl 1 rfl) ?_
          refine lv_iload_n C.1 C.2.1 dX0_addsFollow_95 rfl (lv_at hl 2 rfl) ?_
          refine lv_iload C.1 C.2.1 dX0_addsFollow_96 (lv_at hl 5 rfl) ?_
          refine lv_iconst (v := 1) C.1 C.2.1 dX0_addsFollow_98 rfl ?_
          refine lv_iadd C.1 C.2.1 dX0_addsFollow_99 ?_
          refine lv_aload_n C.1 C.2.1 dX0_addsFollow_100 rfl (lv_at hl 1 rfl) ?_
          refine xg_grammar C hw dX0_addsFollow_101 ?_
          refine xn_size C hw dX0_addsFollow_104 ?_
          refine lv_iload_n C.1 C.2.1 dX0_addsFollow_107 rfl (lv_at hl 2 rfl) ?_
          refine g_iald C hw 84 rfl b28 dX0_addsFollow_108 ?_
          refine kx_areEmpty C hw hl.1 (Nat.le_of_ble_eq_true rfl) ⟨Nat.le_of_ble_eq_true rfl, Nat.le_of_ble_eq_true rfl⟩ dX0_addsFollow_109 hf (fun r109 hf => ?_)
          refine lv_if_eq (tgt := 124) C.1 C.2.1 dX0_addsFollow_112 (by decide) (fun h112 => ?_) (fun h112 => ?_)
          · replace hf := hf.1 h112
            refine lv_iconst (v := 0) C.1 C.2.1 dX0_addsFollow_124 rfl ?_
            exact J125 _ _ _ _ _ _ _ _ _ _ _ hK18 _ hf hw (lv_sub hl [1, 2, 3, 4, 5, 0] rfl)
          · replace hf := hf.2 h112
            refine lv_aload_n C.1 C.2.1 dX0_addsFollow_115 rfl (lv_at hl 1 rfl) ?_
            refine xg_followOf C hw dX0_addsFollow_116 ?_
            refine lv_iload_n C.1 C.2.1 dX0_addsFollow_119 rfl (lv_at hl 4 rfl) ?_
            obtain ⟨b120, hf⟩ := hf
            refine g_iald C hw 21 rfl b120 dX0_addsFollow_120 ?_
            refine lv_goto (tgt := 125) C.1 C.2.1 dX0_addsFollow_121 (by decide) ?_
            exact J125 _ _ _ _ _ _ _ _ _ _ _ hK18 _ hf hw (lv_sub hl [1, 2, 3, 4, 5, 0] rfl)
        · replace hf := hf.1 h56
          refine lv_goto (tgt := 157) C.1 C.2.1 dX0_addsFollow_59 (by decide) ?_
          refine lv_iinc (v := (x4 + 1)) (lv' := [(4, .int (x4 + 1)), (0, .ref (ad 0)), (1, .int x1), (2, .int x2), (3, .int x3)]) C.1 C.2.1 dX0_addsFollow_157 hl (k := 4) rfl rfl (Nat.le_of_ble_eq_true rfl) rfl (fun ls hl => ?_)
          refine lv_goto (tgt := 18) C.1 C.2.1 dX0_addsFollow_160 (by decide) ?_
          exact hK18 _ _ _ _ _ _ hf hw (lv_sub hl [1, 2, 3, 4, 0] rfl)
  have P18 : ∀ (x1 : Int32) (x3 : Int32) (n : Nat) (σ : St) (x2 : Int32) (x4 : Int32) (ls : Array Slot) (H : Heap) (locs : List Loc), LL3 (x_addsFollow_p18 x1 x3 Q) n σ x2 x4 → gH D ct shX ad s σ H locs → lv_has ls 7 [(0, .ref (ad 0)), (1, .int x1), (2, .int x2), (3, .int x3), (4, .int x4)] → W p l e rm_x_addsFollow s m args below meth c H locs 0 0 QQ (F0 m 18 ls []) := by
    intro x1 x3 n
    induction n with
    | zero => intro σ x2 x4 ls H locs hf; exact False.elim hf
    | succ n ih => intro σ x2 x4 ls H locs hf hw hl; exact B18 x1 x3 (LL3 _ n) (fun σ H locs x2 x4 ls hf hw hl => ih σ x2 x4 ls H locs hf hw hl) σ H locs x2 x4 ls hf hw hl
  unfold x_addsFollow at hf
  obtain ⟨H, hH⟩ : ∃ q, q = s.heap := ⟨_, rfl⟩
  obtain ⟨locs, hL⟩ : ∃ q : List Loc, q = [] := ⟨_, rfl⟩
  rw [← hH, ← hL] at hw ⊢
  refine lv_iconst (v := 0) C.1 C.2.1 dX0_addsFollow_0 rfl ?_
  refine lv_istore_n (lv' := [(2, .int 0), (0, .ref (ad 0)), (1, .int x1)]) C.1 C.2.1 dX0_addsFollow_1 rfl hl (Nat.le_of_ble_eq_true rfl) rfl (fun ls hl => ?_)
  refine lv_aload_n C.1 C.2.1 dX0_addsFollow_2 rfl (lv_at hl 1 rfl) ?_
  refine xg_grammar C hw dX0_addsFollow_3 ?_
  refine xn_left C hw dX0_addsFollow_6 ?_
  refine lv_iload_n C.1 C.2.1 dX0_addsFollow_9 rfl (lv_at hl 2 rfl) ?_
  obtain ⟨b10, hf⟩ := hf
  refine g_iald C hw 83 rfl b10 dX0_addsFollow_10 ?_
  refine lv_bipush (v := 26) C.1 C.2.1 dX0_addsFollow_11 rfl ?_
  refine lv_isub C.1 C.2.1 dX0_addsFollow_13 ?_
  refine lv_istore_n (lv' := [(3, .int ((gI σ 83 x1) - 26)), (2, .int 0), (0, .ref (ad 0)), (1, .int x1)]) C.1 C.2.1 dX0_addsFollow_14 rfl hl (Nat.le_of_ble_eq_true rfl) rfl (fun ls hl => ?_)
  refine lv_iconst (v := 0) C.1 C.2.1 dX0_addsFollow_15 rfl ?_
  refine lv_istore (lv' := [(4, .int 0), (3, .int ((gI σ 83 x1) - 26)), (2, .int 0), (0, .ref (ad 0)), (1, .int x1)]) C.1 C.2.1 dX0_addsFollow_16 hl (Nat.le_of_ble_eq_true rfl) rfl (fun ls hl => ?_)
  obtain ⟨n, hf⟩ := hf
  exact P18 _ _ n _ _ _ _ _ _ hf hw (lv_sub hl [3, 4, 2, 1, 0] rfl)
theorem kx_addsFollow {p : Program} {l : Launch} {e : Env} {R : Room} {s : State} {m : MethodId} {args : Array Value} {below : List Frame} {meth : Method} {c : Code} {H : Heap} {locs : List Loc} {Z : State → Prop} {cc : ByteArray} {nL pc : Nat} {ls : Array Slot} {rest : List Value} {D : va_G} {ct : Ct} {ad : Nat → Nat} {σ : St} {x1 : Int32} {Qp : Int32 → St → Prop} (C : CallFix p m c cc nL s args lw_all RX0) (hw : gH D ct shX ad s σ H locs) (hsz : ls.size = nL) (hrm : (rest.map fun v => v.category).sum ≤ 8) (hR : rm_x_addsFollow.frames + 1 ≤ R.frames ∧ 8 + (7 + 11) + rm_x_addsFollow.locals ≤ R.locals) (hdg : decode cc pc = .ok (.invokevirtual 371, 3)) (hf : x_addsFollow σ x1 Qp) (kk : ∀ (r : Int32) (σ1 : St) (H1 : Heap) (locs1 : List Loc), Qp r σ1 → gH D ct shX ad s σ1 H1 locs1 → W p l e R s m args below meth c H1 locs1 0 0 Z (F0 m (pc + 3) ls (.int r :: rest))) : W p l e R s m args below meth c H locs 0 0 Z (F0 m pc ls (.int x1 :: .ref (ad 0) :: rest)) :=
  g_callV (As := [.int x1]) (rest := rest) C hw rfl rfl (met_x_addsFollow l D ct ad hw.2.1 σ x1 Qp hf) (cwV 1 C.2.2.2.2 (lw_V q793 q795 qs34 q200 q796) rfl rfl rfl (by decide +kernel) hR) rfl hsz rfl hrm ⟨Nat.zero_le _, Nat.zero_le _⟩ hdg kk
def x_stepsFrom_p120 (σ : St) (x1 : Int32) (x2 : Int32) (x3 : Int32) (x4 : Int32) (x5 : Int32) (Q : Int32 → Prop) (K5 : Int32 → Int32 → Prop) (K49 : Int32 → Int32 → Prop) : Prop :=
  (x_at σ x4 x5 (fun r130 => K49 (x3 ||| (1 <<< ((r130 - 26) &&& 31))) (x5 + 1)))
def x_stepsFrom_p49 (σ : St) (x1 : Int32) (x2 : Int32) (x4 : Int32) (Q : Int32 → Prop) (K5 : Int32 → Int32 → Prop) (K49 : Int32 → Int32 → Prop) (x3 : Int32) (x5 : Int32) : Prop :=
  (vp_in x4 12 ∧ (((gI σ 84 x4) ≤ x5 → K5 x3 (x4 + 1)) ∧ (¬ (gI σ 84 x4) ≤ x5 → (x_areEmpty σ x4 0 x5 (fun r70 => ((r70 = 0 → K5 x3 (x4 + 1)) ∧ (¬ r70 = 0 → (x_at σ x4 x5 (fun r84 => (((fx_isCapital r84) = 0 → K49 x3 (x5 + 1)) ∧ (¬ (fx_isCapital r84) = 0 → ((x2 = 0 → (x_stepsFrom_p120 σ x1 x2 x3 x4 x5 Q K5 K49)) ∧ (¬ x2 = 0 → (x_areEmpty σ x4 (x5 + 1) (gI σ 84 x4) (fun r114 => ((r114 = 0 → K49 x3 (x5 + 1)) ∧ (¬ r114 = 0 → (x_stepsFrom_p120 σ x1 x2 x3 x4 x5 Q K5 K49))))))))))))))))))
def x_stepsFrom_p5 (σ : St) (x1 : Int32) (x2 : Int32) (Q : Int32 → Prop) (K5 : Int32 → Int32 → Prop) (x3 : Int32) (x4 : Int32) : Prop :=
  (((σ.1 80) ≤ x4 → Q x3) ∧ (¬ (σ.1 80) ≤ x4 → (((fx_isOn σ x4) = 0 → K5 x3 (x4 + 1)) ∧ (¬ (fx_isOn σ x4) = 0 → (vp_in x4 12 ∧ ((((gI σ 83 x4) - 26) = x1 → (Lp2 (x_stepsFrom_p49 σ x1 x2 x4 Q K5) x3 0)) ∧ (¬ ((gI σ 83 x4) - 26) = x1 → K5 x3 (x4 + 1))))))))
def x_stepsFrom (σ : St) (x1 : Int32) (x2 : Int32) (Q : Int32 → Prop) : Prop :=
  (Lp2 (x_stepsFrom_p5 σ x1 x2 Q) 0 0)
abbrev rm_x_stepsFrom : Room := { frames := 3, cells := 0, slots := 0, locals := 66 }
set_option maxHeartbeats 4000000 in
theorem met_x_stepsFrom (l : Launch) (D : va_G) (ct : Ct) (ad : Nat → Nat) (hJ : gJ shX ad ct) (σ : St) (x1 : Int32) (x2 : Int32) (Q : Int32 → Prop) (hf : x_stepsFrom σ x1 x2 Q) : Met l yX0_stepsFrom (ws_ yX0_stepsFrom cX0_stepsFrom 6 (some .int)) rm_x_stepsFrom (va_Pc [.ref (ad 0), .int x1, .int x2] (gP D ct shX ad σ)) (gR rvI Q) 0 0 (fun _ => False) := by
  refine g_metRI hJ (by decide) (Nat.le_of_ble_eq_true rfl) ?_
  intro p e s m args below meth c QQ ls H C hw hl hret
  replace hl : lv_has ls 6 [(0, .ref (ad 0)), (1, .int x1), (2, .int x2)] := hl
  have J120 : ∀ (x1 : Int32) (x2 : Int32) (x3 : Int32) (x4 : Int32) (x5 : Int32) (K5 : Int32 → Int32 → Prop) (_ : ∀ (x3 : Int32) (x4 : Int32) (ls : Array Slot), K5 x3 x4 → lv_has ls 6 [(0, .ref (ad 0)), (1, .int x1), (2, .int x2), (3, .int x3), (4, .int x4)] → W p l e rm_x_stepsFrom s m args below meth c H [] 0 0 QQ (F0 m 5 ls [])) (K49 : Int32 → Int32 → Prop) (_ : ∀ (x3 : Int32) (x5 : Int32) (ls : Array Slot), K49 x3 x5 → lv_has ls 6 [(0, .ref (ad 0)), (1, .int x1), (2, .int x2), (3, .int x3), (4, .int x4), (5, .int x5)] → W p l e rm_x_stepsFrom s m args below meth c H [] 0 0 QQ (F0 m 49 ls [])) (ls : Array Slot), x_stepsFrom_p120 σ x1 x2 x3 x4 x5 Q K5 K49 → lv_has ls 6 [(0, .ref (ad 0)), (1, .int x1), (2, .int x2), (3, .int x3), (4, .int x4), (5, .int x5)] → W p l e rm_x_stepsFrom s m args below meth c H [] 0 0 QQ (F0 m 120 ls []) := by
    intro x1 x2 x3 x4 x5 K5 hK5 K49 hK49 ls hf hl
    unfold x_stepsFrom_p120 at hf
    refine lv_iload_n C.1 C.2.1 dX0_stepsFrom_120 rfl (lv_at hl 3 rfl) ?_
    refine lv_iconst (v := 1) C.1 C.2.1 dX0_stepsFrom_121 rfl ?_
    refine lv_aload_n C.1 C.2.1 dX0_stepsFrom_122 rfl (lv_at hl 0 rfl) ?_
    refine xg_grammar C hw dX0_stepsFrom_123 ?_
    refine lv_iload C.1 C.2.1 dX0_stepsFrom_126 (lv_at hl 4 rfl) ?_
    refine lv_iload C.1 C.2.1 dX0_stepsFrom_128 (lv_at hl 5 rfl) ?_
    refine kx_at C hw hl.1 (Nat.le_of_ble_eq_true rfl) ⟨Nat.le_of_ble_eq_true rfl, Nat.le_of_ble_eq_true rfl⟩ dX0_stepsFrom_130 hf (fun r130 hf => ?_)
    refine lv_bipush (v := 26) C.1 C.2.1 dX0_stepsFrom_133 rfl ?_
    refine lv_isub C.1 C.2.1 dX0_stepsFrom_135 ?_
    refine lv_ishl C.1 C.2.1 dX0_stepsFrom_136 ?_
    refine lv_ior C.1 C.2.1 dX0_stepsFrom_137 ?_
    refine lv_istore_n (lv' := [(3, .int (x3 ||| (1 <<< ((r130 - 26) &&& 31)))), (0, .ref (ad 0)), (1, .int x1), (2, .int x2), (4, .int x4), (5, .int x5)]) C.1 C.2.1 dX0_stepsFrom_138 rfl hl (Nat.le_of_ble_eq_true rfl) rfl (fun ls hl => ?_)
    refine lv_iinc (v := (x5 + 1)) (lv' := [(5, .int (x5 + 1)), (3, .int (x3 ||| (1 <<< ((r130 - 26) &&& 31)))), (0, .ref (ad 0)), (1, .int x1), (2, .int x2), (4, .int x4)]) C.1 C.2.1 dX0_stepsFrom_139 hl (k := 5) rfl rfl (Nat.le_of_ble_eq_true rfl) rfl (fun ls hl => ?_)
    refine lv_goto (tgt := 49) C.1 C.2.1 dX0_stepsFrom_142 (by decide) ?_
    exact hK49 _ _ _ hf (lv_sub hl [2, 3, 4, 1, 5, 0] rfl)
  have B49 : ∀ (x1 : Int32) (x2 : Int32) (x4 : Int32) (K5 : Int32 → Int32 → Prop) (_ : ∀ (x3 : Int32) (x4 : Int32) (ls : Array Slot), K5 x3 x4 → lv_has ls 6 [(0, .ref (ad 0)), (1, .int x1), (2, .int x2), (3, .int x3), (4, .int x4)] → W p l e rm_x_stepsFrom s m args below meth c H [] 0 0 QQ (F0 m 5 ls [])) (K49 : Int32 → Int32 → Prop) (_ : ∀ (x3 : Int32) (x5 : Int32) (ls : Array Slot), K49 x3 x5 → lv_has ls 6 [(0, .ref (ad 0)), (1, .int x1), (2, .int x2), (3, .int x3), (4, .int x4), (5, .int x5)] → W p l e rm_x_stepsFrom s m args below meth c H [] 0 0 QQ (F0 m 49 ls [])) (x3 : Int32) (x5 : Int32) (ls : Array Slot), x_stepsFrom_p49 σ x1 x2 x4 Q K5 K49 x3 x5 → lv_has ls 6 [(0, .ref (ad 0)), (1, .int x1), (2, .int x2), (3, .int x3), (4, .int x4), (5, .int x5)] → W p l e rm_x_stepsFrom s m args below meth c H [] 0 0 QQ (F0 m 49 ls []) := by
    intro x1 x2 x4 K5 hK5 K49 hK49 x3 x5 ls hf hl
    unfold x_stepsFrom_p49 at hf
    refine lv_iload C.1 C.2.1 dX0_stepsFrom_49 (lv_at hl 5 rfl) ?_
    refine lv_aload_n C.1 C.2.1 dX0_stepsFrom_51 rfl (lv_at hl 0 rfl) ?_
    refine xg_grammar C hw dX0_stepsFrom_52 ?_
    refine xn_size C hw dX0_stepsFrom_55 ?_
    refine lv_iload C.1 C.2.1 dX0_stepsFrom_58 (lv_at hl 4 rfl) ?_
    obtain ⟨b60, hf⟩ := hf
    refine g_iald C hw 84 rfl b60 dX0_stepsFrom_60 ?_
    refine lv_icmp_ge (tgt := 145) C.1 C.2.1 dX0_stepsFrom_61 (by decide) (fun h61 => ?_) (fun h61 => ?_)
    · replace hf := hf.1 h61
      refine lv_iinc (v := (x4 + 1)) (lv' := [(4, .int (x4 + 1)), (0, .ref (ad 0)), (1, .int x1), (2, .int x2), (3, .int x3), (5, .int x5)]) C.1 C.2.1 dX0_stepsFrom_145 hl (k := 4) rfl rfl (Nat.le_of_ble_eq_true rfl) rfl (fun ls hl => ?_)
      refine lv_goto (tgt := 5) C.1 C.2.1 dX0_stepsFrom_148 (by decide) ?_
      exact hK5 _ _ _ hf (lv_sub hl [1, 2, 3, 4, 0] rfl)
    · replace hf := hf.2 h61
      refine lv_aload_n C.1 C.2.1 dX0_stepsFrom_64 rfl (lv_at hl 0 rfl) ?_
      refine lv_iload C.1 C.2.1 dX0_stepsFrom_65 (lv_at hl 4 rfl) ?_
      refine lv_iconst (v := 0) C.1 C.2.1 dX0_stepsFrom_67 rfl ?_
      refine lv_iload C.1 C.2.1 dX0_stepsFrom_68 (lv_at hl 5 rfl) ?_
      refine kx_areEmpty C hw hl.1 (Nat.le_of_ble_eq_true rfl) ⟨Nat.le_of_ble_eq_true rfl, Nat.le_of_ble_eq_true rfl⟩ dX0_stepsFrom_70 hf (fun r70 hf => ?_)
      refine lv_if_eq (tgt := 145) C.1 C.2.1 dX0_stepsFrom_73 (by decide) (fun h73 => ?_) (fun h73 => ?_)
      · replace hf := hf.1 h73
        refine lv_iinc (v := (x4 + 1)) (lv' := [(4, .int (x4 + 1)), (0, .ref (ad 0)), (1, .int x1), (2, .int x2), (3, .int x3), (5, .int x5)]) C.1 C.2.1 dX0_stepsFrom_145 hl (k := 4) rfl rfl (Nat.le_of_ble_eq_true rfl) rfl (fun ls hl => ?_)
        refine lv_goto (tgt := 5) C.1 C.2.1 dX0_stepsFrom_148 (by decide) ?_
        exact hK5 _ _ _ hf (lv_sub hl [1, 2, 3, 4, 0] rfl)
      · replace hf := hf.2 h73
        refine lv_aload_n C.1 C.2.1 dX0_stepsFrom_76 rfl (lv_at hl 0 rfl) ?_
        refine xg_grammar C hw dX0_stepsFrom_77 ?_
        refine lv_iload C.1 C.2.1 dX0_stepsFrom_80 (lv_at hl 4 rfl) ?_
        refine lv_iload C.1 C.2.1 dX0_stepsFrom_82 (lv_at hl 5 rfl) ?_
        refine kx_at C hw hl.1 (Nat.le_of_ble_eq_true rfl) ⟨Nat.le_of_ble_eq_true rfl, Nat.le_of_ble_eq_true rfl⟩ dX0_stepsFrom_84 hf (fun r84 hf => ?_)
        refine kx_isCapital C hl.1 (Nat.le_of_ble_eq_true rfl) ⟨Nat.le_of_ble_eq_true rfl, Nat.le_of_ble_eq_true rfl⟩ dX0_stepsFrom_87 ?_
        refine lv_if_eq (tgt := 139) C.1 C.2.1 dX0_stepsFrom_90 (by decide) (fun h90 => ?_) (fun h90 => ?_)
        · replace hf := hf.1 h90
          refine lv_iinc (v := (x5 + 1)) (lv' := [(5, .int (x5 + 1)), (0, .ref (ad 0)), (1, .int x1), (2, .int x2), (3, .int x3), (4, .int x4)]) C.1 C.2.1 dX0_stepsFrom_139 hl (k := 5) rfl rfl (Nat.le_of_ble_eq_true rfl) rfl (fun ls hl => ?_)
          refine lv_goto (tgt := 49) C.1 C.2.1 dX0_stepsFrom_142 (by decide) ?_
          exact hK49 _ _ _ hf (lv_sub hl [1, 2, 3, 4, 5, 0] rfl)
        · replace hf := hf.2 h90
          refine lv_iload_n C.1 C.2.1 dX0_stepsFrom_93 rfl (lv_at hl 2 rfl) ?_
          refine lv_if_eq (tgt := 120) C.1 C.2.1 dX0_stepsFrom_94 (by decide) (fun h94 => ?_) (fun h94 => ?_)
          · replace hf := hf.1 h94
            exact J120 _ _ _ _ _ _ hK5 _ hK49 _ hf (lv_sub hl [0, 1, 2, 3, 4, 5] rfl)
          · replace hf := hf.2 h94
            refine lv_aload_n C.1 C.2.1 dX0_stepsFrom_97 rfl (lv_at hl 0 rfl) ?_
            refine lv_iload C.1 C.2.1 dX0_stepsFrom_98 (lv_at hl 4 rfl) ?_
            refine lv_iload C.1 C.2.1 dX0_stepsFrom_100 (lv_at hl 5 rfl) ?_
            refine lv_iconst (v := 1) C.1 C.2.1 dX0_stepsFrom_102 rfl ?_
            refine lv_iadd C.1 C.2.1 dX0_stepsFrom_103 ?_
            refine lv_aload_n C.1 C.2.1 dX0_stepsFrom_104 rfl (lv_at hl 0 rfl) ?_
            refine xg_grammar C hw dX0_stepsFrom_105 ?_
            refine xn_size C hw dX0_stepsFrom_108 ?_
            refine lv_iload C.1 C.2.1 dX0_stepsFrom_111 (lv_at hl 4 rfl) ?_
            refine g_iald C hw 84 rfl b60 dX0_stepsFrom_113 ?_
            refine kx_areEmpty C hw hl.1 (Nat.le_of_ble_eq_true rfl) ⟨Nat.le_of_ble_eq_true rfl, Nat.le_of_ble_eq_true rfl⟩ dX0_stepsFrom_114 hf (fun r114 hf => ?_)
            refine lv_if_eq (tgt := 139) C.1 C.2.1 dX0_stepsFrom_117 (by decide) (fun h117 => ?_) (fun h117 => ?_)
            · replace hf := hf.1 h117
              refine lv_iinc (v := (x5 + 1)) (lv' := [(5, .int (x5 + 1)), (0, .ref (ad 0)), (1, .int x1), (2, .int x2), (3, .int x3), (4, .int x4)]) C.1 C.2.1 dX0_stepsFrom_139 hl (k := 5) rfl rfl (Nat.le_of_ble_eq_true rfl) rfl (fun ls hl => ?_)
              refine lv_goto (tgt := 49) C.1 C.2.1 dX0_stepsFrom_142 (by decide) ?_
              exact hK49 _ _ _ hf (lv_sub hl [1, 2, 3, 4, 5, 0] rfl)
            · replace hf := hf.2 h117
              exact J120 _ _ _ _ _ _ hK5 _ hK49 _ hf (lv_sub hl [0, 1, 2, 3, 4, 5] rfl)
  have P49 : ∀ (x1 : Int32) (x2 : Int32) (x4 : Int32) (K5 : Int32 → Int32 → Prop) (_ : ∀ (x3 : Int32) (x4 : Int32) (ls : Array Slot), K5 x3 x4 → lv_has ls 6 [(0, .ref (ad 0)), (1, .int x1), (2, .int x2), (3, .int x3), (4, .int x4)] → W p l e rm_x_stepsFrom s m args below meth c H [] 0 0 QQ (F0 m 5 ls [])) (n : Nat) (x3 : Int32) (x5 : Int32) (ls : Array Slot), LL2 (x_stepsFrom_p49 σ x1 x2 x4 Q K5) n x3 x5 → lv_has ls 6 [(0, .ref (ad 0)), (1, .int x1), (2, .int x2), (3, .int x3), (4, .int x4), (5, .int x5)] → W p l e rm_x_stepsFrom s m args below meth c H [] 0 0 QQ (F0 m 49 ls []) := by
    intro x1 x2 x4 K5 hK5 n
    induction n with
    | zero => intro x3 x5 ls hf; exact False.elim hf
    | succ n ih => intro x3 x5 ls hf hl; exact B49 x1 x2 x4 K5 hK5 (LL2 _ n) ih x3 x5 ls hf hl
  have B5 : ∀ (x1 : Int32) (x2 : Int32) (K5 : Int32 → Int32 → Prop) (_ : ∀ (x3 : Int32) (x4 : Int32) (ls : Array Slot), K5 x3 x4 → lv_has ls 6 [(0, .ref (ad 0)), (1, .int x1), (2, .int x2), (3, .int x3), (4, .int x4)] → W p l e rm_x_stepsFrom s m args below meth c H [] 0 0 QQ (F0 m 5 ls [])) (x3 : Int32) (x4 : Int32) (ls : Array Slot), x_stepsFrom_p5 σ x1 x2 Q K5 x3 x4 → lv_has ls 6 [(0, .ref (ad 0)), (1, .int x1), (2, .int x2), (3, .int x3), (4, .int x4)] → W p l e rm_x_stepsFrom s m args below meth c H [] 0 0 QQ (F0 m 5 ls []) := by
    intro x1 x2 K5 hK5 x3 x4 ls hf hl
    unfold x_stepsFrom_p5 at hf
    refine lv_iload C.1 C.2.1 dX0_stepsFrom_5 (lv_at hl 4 rfl) ?_
    refine lv_aload_n C.1 C.2.1 dX0_stepsFrom_7 rfl (lv_at hl 0 rfl) ?_
    refine xg_grammar C hw dX0_stepsFrom_8 ?_
    refine xn_many C hw dX0_stepsFrom_11 ?_
    refine lv_icmp_ge (tgt := 151) C.1 C.2.1 dX0_stepsFrom_14 (by decide) (fun h14 => ?_) (fun h14 => ?_)
    · replace hf := hf.1 h14
      refine lv_iload_n C.1 C.2.1 dX0_stepsFrom_151 rfl (lv_at hl 3 rfl) ?_
      exact hret _ _ _ hf dX0_stepsFrom_152
    · replace hf := hf.2 h14
      refine lv_aload_n C.1 C.2.1 dX0_stepsFrom_17 rfl (lv_at hl 0 rfl) ?_
      refine lv_iload C.1 C.2.1 dX0_stepsFrom_18 (lv_at hl 4 rfl) ?_
      refine kx_isOn C hw hl.1 (Nat.le_of_ble_eq_true rfl) ⟨Nat.le_of_ble_eq_true rfl, Nat.le_of_ble_eq_true rfl⟩ dX0_stepsFrom_20 ?_
      refine lv_if_eq (tgt := 145) C.1 C.2.1 dX0_stepsFrom_23 (by decide) (fun h23 => ?_) (fun h23 => ?_)
      · replace hf := hf.1 h23
        refine lv_iinc (v := (x4 + 1)) (lv' := [(4, .int (x4 + 1)), (0, .ref (ad 0)), (1, .int x1), (2, .int x2), (3, .int x3)]) C.1 C.2.1 dX0_stepsFrom_145 hl (k := 4) rfl rfl (Nat.le_of_ble_eq_true rfl) rfl (fun ls hl => ?_)
        refine lv_goto (tgt := 5) C.1 C.2.1 dX0_stepsFrom_148 (by decide) ?_
        exact hK5 _ _ _ hf (lv_sub hl [1, 2, 3, 4, 0] rfl)
      · replace hf := hf.2 h23
        refine lv_aload_n C.1 C.2.1 dX0_stepsFrom_26 rfl (lv_at hl 0 rfl) ?_
        refine xg_grammar C hw dX0_stepsFrom_27 ?_
        refine xn_left C hw dX0_stepsFrom_30 ?_
        refine lv_iload C.1 C.2.1 dX0_stepsFrom_33 (lv_at hl 4 rfl) ?_
        obtain ⟨b35, hf⟩ := hf
        refine g_iald C hw 83 rfl b35 dX0_stepsFrom_35 ?_
        refine lv_bipush (v := 26) C.1 C.2.1 dX0_stepsFrom_36 rfl ?_
        refine lv_isub C.1 C.2.1 dX0_stepsFrom_38 ?_
        refine lv_iload_n C.1 C.2.1 dX0_stepsFrom_39 rfl (lv_at hl 1 rfl) ?_
        refine lv_icmp_eq (tgt := 46) C.1 C.2.1 dX0_stepsFrom_40 (by decide) (fun h40 => ?_) (fun h40 => ?_)
        · replace hf := hf.1 h40
          refine lv_iconst (v := 0) C.1 C.2.1 dX0_stepsFrom_46 rfl ?_
          refine lv_istore (lv' := [(5, .int 0), (0, .ref (ad 0)), (1, .int x1), (2, .int x2), (3, .int x3), (4, .int x4)]) C.1 C.2.1 dX0_stepsFrom_47 hl (Nat.le_of_ble_eq_true rfl) rfl (fun ls hl => ?_)
          obtain ⟨n, hf⟩ := hf
          exact P49 _ _ _ _ hK5 n _ _ _ hf (lv_sub hl [1, 2, 3, 4, 5, 0] rfl)
        · replace hf := hf.2 h40
          refine lv_goto (tgt := 145) C.1 C.2.1 dX0_stepsFrom_43 (by decide) ?_
          refine lv_iinc (v := (x4 + 1)) (lv' := [(4, .int (x4 + 1)), (0, .ref (ad 0)), (1, .int x1), (2, .int x2), (3, .int x3)]) C.1 C.2.1 dX0_stepsFrom_145 hl (k := 4) rfl rfl (Nat.le_of_ble_eq_true rfl) rfl (fun ls hl => ?_)
          refine lv_goto (tgt := 5) C.1 C.2.1 dX0_stepsFrom_148 (by decide) ?_
          exact hK5 _ _ _ hf (lv_sub hl [1, 2, 3, 4, 0] rfl)
  have P5 : ∀ (x1 : Int32) (x2 : Int32) (n : Nat) (x3 : Int32) (x4 : Int32) (ls : Array Slot), LL2 (x_stepsFrom_p5 σ x1 x2 Q) n x3 x4 → lv_has ls 6 [(0, .ref (ad 0)), (1, .int x1), (2, .int x2), (3, .int x3), (4, .int x4)] → W p l e rm_x_stepsFrom s m args below meth c H [] 0 0 QQ (F0 m 5 ls []) := by
    intro x1 x2 n
    induction n with
    | zero => intro x3 x4 ls hf; exact False.elim hf
    | succ n ih => intro x3 x4 ls hf hl; exact B5 x1 x2 (LL2 _ n) ih x3 x4 ls hf hl
  unfold x_stepsFrom at hf
  refine lv_iconst (v := 0) C.1 C.2.1 dX0_stepsFrom_0 rfl ?_
  refine lv_istore_n (lv' := [(3, .int 0), (0, .ref (ad 0)), (1, .int x1), (2, .int x2)]) C.1 C.2.1 dX0_stepsFrom_1 rfl hl (Nat.le_of_ble_eq_true rfl) rfl (fun ls hl => ?_)
  refine lv_iconst (v := 0) C.1 C.2.1 dX0_stepsFrom_2 rfl ?_
  refine lv_istore (lv' := [(4, .int 0), (3, .int 0), (0, .ref (ad 0)), (1, .int x1), (2, .int x2)]) C.1 C.2.1 dX0_stepsFrom_3 hl (Nat.le_of_ble_eq_true rfl) rfl (fun ls hl => ?_)
  obtain ⟨n, hf⟩ := hf
  exact P5 _ _ n _ _ _ hf (lv_sub hl [2, 3, 4, 1, 0] rfl)
theorem kx_stepsFrom {p : Program} {l : Launch} {e : Env} {R : Room} {s : State} {m : MethodId} {args : Array Value} {below : List Frame} {meth : Method} {c : Code} {H : Heap} {locs : List Loc} {Z : State → Prop} {cc : ByteArray} {nL pc : Nat} {ls : Array Slot} {rest : List Value} {D : va_G} {ct : Ct} {ad : Nat → Nat} {σ : St} {x1 : Int32} {x2 : Int32} {Qp : Int32 → Prop} (C : CallFix p m c cc nL s args lw_all RX0) (hw : gH D ct shX ad s σ H locs) (hsz : ls.size = nL) (hrm : (rest.map fun v => v.category).sum ≤ 8) (hR : rm_x_stepsFrom.frames + 1 ≤ R.frames ∧ 8 + (6 + 11) + rm_x_stepsFrom.locals ≤ R.locals) (hdg : decode cc pc = .ok (.invokevirtual 354, 3)) (hf : x_stepsFrom σ x1 x2 Qp) (kk : ∀ (r : Int32), Qp r → W p l e R s m args below meth c H locs 0 0 Z (F0 m (pc + 3) ls (.int r :: rest))) : W p l e R s m args below meth c H locs 0 0 Z (F0 m pc ls (.int x2 :: .int x1 :: .ref (ad 0) :: rest)) :=
  g_callVR (As := [.int x1, .int x2]) (rest := rest) C hw rfl rfl (met_x_stepsFrom l D ct ad hw.2.1 σ x1 x2 Qp hf) (cwV 2 C.2.2.2.2 (lw_V q801 q803 qs36 q200 q804) rfl rfl rfl (by decide +kernel) hR) rfl hsz rfl hrm ⟨Nat.zero_le _, Nat.zero_le _⟩ hdg kk
def x_closed_p35 (σ : St) (x5 : Int64) (x7 : Int32) (Q : Int64 → Prop) (K7 : Int64 → Int64 → Prop) (K20 : Int64 → Int32 → Prop) (K35 : Int64 → Int32 → Prop) (x3 : Int64) (x8 : Int32) : Prop :=
  (vp_in x7 12 ∧ (((gI σ 84 x7) ≤ x8 → K20 x3 (x7 + 1)) ∧ (¬ (gI σ 84 x7) ≤ x8 → (((fx_hasPoint σ x5 x7 x8) = 0 → K35 x3 (x8 + 1)) ∧ (¬ (fx_hasPoint σ x5 x7 x8) = 0 → (x_at σ x7 x8 (fun r71 => (((fx_isCapital r71) = 0 → K35 x3 (x8 + 1)) ∧ (¬ (fx_isCapital r71) = 0 → (x_at σ x7 x8 (fun r90 => (x_rulesOf σ r90 (fun r93 => K35 (x3 ||| r93) (x8 + 1))))))))))))))
def x_closed_p20 (σ : St) (x5 : Int64) (Q : Int64 → Prop) (K7 : Int64 → Int64 → Prop) (K20 : Int64 → Int32 → Prop) (x3 : Int64) (x7 : Int32) : Prop :=
  (((σ.1 80) ≤ x7 → K7 x3 x5) ∧ (¬ (σ.1 80) ≤ x7 → (Lp2 (x_closed_p35 σ x5 x7 Q K7 K20) x3 0)))
def x_closed_p7 (σ : St) (Q : Int64 → Prop) (K7 : Int64 → Int64 → Prop) (x3 : Int64) (x5 : Int64) : Prop :=
  ((x3 = x5 → Q x3) ∧ (¬ x3 = x5 → (Lp2 (x_closed_p20 σ x3 Q K7) x3 0)))
def x_closed (σ : St) (x1 : Int64) (Q : Int64 → Prop) : Prop :=
  (Lp2 (x_closed_p7 σ Q) x1 (-1))
abbrev rm_x_closed : Room := { frames := 3, cells := 0, slots := 0, locals := 66 }
set_option maxHeartbeats 4000000 in
theorem met_x_closed (l : Launch) (D : va_G) (ct : Ct) (ad : Nat → Nat) (hJ : gJ shX ad ct) (σ : St) (x1 : Int64) (Q : Int64 → Prop) (hf : x_closed σ x1 Q) : Met l yX0_closed (ws_ yX0_closed cX0_closed 9 (some .long)) rm_x_closed (va_Pc [.ref (ad 0), .long x1] (gP D ct shX ad σ)) (gR rvL Q) 0 0 (fun _ => False) := by
  refine g_metRL hJ (by decide) (Nat.le_of_ble_eq_true rfl) ?_
  intro p e s m args below meth c QQ ls H C hw hl hret
  replace hl : lv_has ls 9 [(0, .ref (ad 0)), (1, .long x1)] := hl
  have B35 : ∀ (x5 : Int64) (x7 : Int32) (K7 : Int64 → Int64 → Prop) (_ : ∀ (x3 : Int64) (x5 : Int64) (ls : Array Slot), K7 x3 x5 → lv_has ls 9 [(0, .ref (ad 0)), (3, .long x3), (5, .long x5)] → W p l e rm_x_closed s m args below meth c H [] 0 0 QQ (F0 m 7 ls [])) (K20 : Int64 → Int32 → Prop) (_ : ∀ (x3 : Int64) (x7 : Int32) (ls : Array Slot), K20 x3 x7 → lv_has ls 9 [(0, .ref (ad 0)), (3, .long x3), (5, .long x5), (7, .int x7)] → W p l e rm_x_closed s m args below meth c H [] 0 0 QQ (F0 m 20 ls [])) (K35 : Int64 → Int32 → Prop) (_ : ∀ (x3 : Int64) (x8 : Int32) (ls : Array Slot), K35 x3 x8 → lv_has ls 9 [(0, .ref (ad 0)), (3, .long x3), (5, .long x5), (7, .int x7), (8, .int x8)] → W p l e rm_x_closed s m args below meth c H [] 0 0 QQ (F0 m 35 ls [])) (x3 : Int64) (x8 : Int32) (ls : Array Slot), x_closed_p35 σ x5 x7 Q K7 K20 K35 x3 x8 → lv_has ls 9 [(0, .ref (ad 0)), (3, .long x3), (5, .long x5), (7, .int x7), (8, .int x8)] → W p l e rm_x_closed s m args below meth c H [] 0 0 QQ (F0 m 35 ls []) := by
    intro x5 x7 K7 hK7 K20 hK20 K35 hK35 x3 x8 ls hf hl
    unfold x_closed_p35 at hf
    refine lv_iload C.1 C.2.1 dX0_closed_35 (lv_at hl 4 rfl) ?_
    refine lv_aload_n C.1 C.2.1 dX0_closed_37 rfl (lv_at hl 0 rfl) ?_
    refine xg_grammar C hw dX0_closed_38 ?_
    refine xn_size C hw dX0_closed_41 ?_
    refine lv_iload C.1 C.2.1 dX0_closed_44 (lv_at hl 3 rfl) ?_
    obtain ⟨b46, hf⟩ := hf
    refine g_iald C hw 84 rfl b46 dX0_closed_46 ?_
    refine lv_icmp_ge (tgt := 104) C.1 C.2.1 dX0_closed_47 (by decide) (fun h47 => ?_) (fun h47 => ?_)
    · replace hf := hf.1 h47
      refine lv_iinc (v := (x7 + 1)) (lv' := [(7, .int (x7 + 1)), (0, .ref (ad 0)), (3, .long x3), (5, .long x5), (8, .int x8)]) C.1 C.2.1 dX0_closed_104 hl (k := 3) rfl rfl (Nat.le_of_ble_eq_true rfl) rfl (fun ls hl => ?_)
      refine lv_goto (tgt := 20) C.1 C.2.1 dX0_closed_107 (by decide) ?_
      exact hK20 _ _ _ hf (lv_sub hl [1, 2, 3, 0] rfl)
    · replace hf := hf.2 h47
      refine lv_aload_n C.1 C.2.1 dX0_closed_50 rfl (lv_at hl 0 rfl) ?_
      refine lv_lload C.1 C.2.1 dX0_closed_51 (lv_at hl 2 rfl) ?_
      refine lv_iload C.1 C.2.1 dX0_closed_53 (lv_at hl 3 rfl) ?_
      refine lv_iload C.1 C.2.1 dX0_closed_55 (lv_at hl 4 rfl) ?_
      refine kx_hasPoint C hw hl.1 (Nat.le_of_ble_eq_true rfl) ⟨Nat.le_of_ble_eq_true rfl, Nat.le_of_ble_eq_true rfl⟩ dX0_closed_57 ?_
      refine lv_if_eq (tgt := 98) C.1 C.2.1 dX0_closed_60 (by decide) (fun h60 => ?_) (fun h60 => ?_)
      · replace hf := hf.1 h60
        refine lv_iinc (v := (x8 + 1)) (lv' := [(8, .int (x8 + 1)), (0, .ref (ad 0)), (3, .long x3), (5, .long x5), (7, .int x7)]) C.1 C.2.1 dX0_closed_98 hl (k := 4) rfl rfl (Nat.le_of_ble_eq_true rfl) rfl (fun ls hl => ?_)
        refine lv_goto (tgt := 35) C.1 C.2.1 dX0_closed_101 (by decide) ?_
        exact hK35 _ _ _ hf (lv_sub hl [1, 2, 3, 4, 0] rfl)
      · replace hf := hf.2 h60
        refine lv_aload_n C.1 C.2.1 dX0_closed_63 rfl (lv_at hl 0 rfl) ?_
        refine xg_grammar C hw dX0_closed_64 ?_
        refine lv_iload C.1 C.2.1 dX0_closed_67 (lv_at hl 3 rfl) ?_
        refine lv_iload C.1 C.2.1 dX0_closed_69 (lv_at hl 4 rfl) ?_
        refine kx_at C hw hl.1 (Nat.le_of_ble_eq_true rfl) ⟨Nat.le_of_ble_eq_true rfl, Nat.le_of_ble_eq_true rfl⟩ dX0_closed_71 hf (fun r71 hf => ?_)
        refine kx_isCapital C hl.1 (Nat.le_of_ble_eq_true rfl) ⟨Nat.le_of_ble_eq_true rfl, Nat.le_of_ble_eq_true rfl⟩ dX0_closed_74 ?_
        refine lv_if_eq (tgt := 98) C.1 C.2.1 dX0_closed_77 (by decide) (fun h77 => ?_) (fun h77 => ?_)
        · replace hf := hf.1 h77
          refine lv_iinc (v := (x8 + 1)) (lv' := [(8, .int (x8 + 1)), (0, .ref (ad 0)), (3, .long x3), (5, .long x5), (7, .int x7)]) C.1 C.2.1 dX0_closed_98 hl (k := 4) rfl rfl (Nat.le_of_ble_eq_true rfl) rfl (fun ls hl => ?_)
          refine lv_goto (tgt := 35) C.1 C.2.1 dX0_closed_101 (by decide) ?_
          exact hK35 _ _ _ hf (lv_sub hl [1, 2, 3, 4, 0] rfl)
        · replace hf := hf.2 h77
          refine lv_lload_n C.1 C.2.1 dX0_closed_80 rfl (lv_at hl 1 rfl) ?_
          refine lv_aload_n C.1 C.2.1 dX0_closed_81 rfl (lv_at hl 0 rfl) ?_
          refine lv_aload_n C.1 C.2.1 dX0_closed_82 rfl (lv_at hl 0 rfl) ?_
          refine xg_grammar C hw dX0_closed_83 ?_
          refine lv_iload C.1 C.2.1 dX0_closed_86 (lv_at hl 3 rfl) ?_
          refine lv_iload C.1 C.2.1 dX0_closed_88 (lv_at hl 4 rfl) ?_
          refine kx_at C hw hl.1 (Nat.le_of_ble_eq_true rfl) ⟨Nat.le_of_ble_eq_true rfl, Nat.le_of_ble_eq_true rfl⟩ dX0_closed_90 hf (fun r90 hf => ?_)
          refine kx_rulesOf C hw hl.1 (Nat.le_of_ble_eq_true rfl) ⟨Nat.le_of_ble_eq_true rfl, Nat.le_of_ble_eq_true rfl⟩ dX0_closed_93 hf (fun r93 hf => ?_)
          refine lv_lor C.1 C.2.1 dX0_closed_96 ?_
          refine lv_lstore_n (lv' := [(3, .long (x3 ||| r93)), (0, .ref (ad 0)), (5, .long x5), (7, .int x7), (8, .int x8)]) C.1 C.2.1 dX0_closed_97 rfl hl (Nat.le_of_ble_eq_true rfl) rfl (fun ls hl => ?_)
          refine lv_iinc (v := (x8 + 1)) (lv' := [(8, .int (x8 + 1)), (3, .long (x3 ||| r93)), (0, .ref (ad 0)), (5, .long x5), (7, .int x7)]) C.1 C.2.1 dX0_closed_98 hl (k := 4) rfl rfl (Nat.le_of_ble_eq_true rfl) rfl (fun ls hl => ?_)
          refine lv_goto (tgt := 35) C.1 C.2.1 dX0_closed_101 (by decide) ?_
          exact hK35 _ _ _ hf (lv_sub hl [2, 1, 3, 4, 0] rfl)
  have P35 : ∀ (x5 : Int64) (x7 : Int32) (K7 : Int64 → Int64 → Prop) (_ : ∀ (x3 : Int64) (x5 : Int64) (ls : Array Slot), K7 x3 x5 → lv_has ls 9 [(0, .ref (ad 0)), (3, .long x3), (5, .long x5)] → W p l e rm_x_closed s m args below meth c H [] 0 0 QQ (F0 m 7 ls [])) (K20 : Int64 → Int32 → Prop) (_ : ∀ (x3 : Int64) (x7 : Int32) (ls : Array Slot), K20 x3 x7 → lv_has ls 9 [(0, .ref (ad 0)), (3, .long x3), (5, .long x5), (7, .int x7)] → W p l e rm_x_closed s m args below meth c H [] 0 0 QQ (F0 m 20 ls [])) (n : Nat) (x3 : Int64) (x8 : Int32) (ls : Array Slot), LL2 (x_closed_p35 σ x5 x7 Q K7 K20) n x3 x8 → lv_has ls 9 [(0, .ref (ad 0)), (3, .long x3), (5, .long x5), (7, .int x7), (8, .int x8)] → W p l e rm_x_closed s m args below meth c H [] 0 0 QQ (F0 m 35 ls []) := by
    intro x5 x7 K7 hK7 K20 hK20 n
    induction n with
    | zero => intro x3 x8 ls hf; exact False.elim hf
    | succ n ih => intro x3 x8 ls hf hl; exact B35 x5 x7 K7 hK7 K20 hK20 (LL2 _ n) ih x3 x8 ls hf hl
  have B20 : ∀ (x5 : Int64) (K7 : Int64 → Int64 → Prop) (_ : ∀ (x3 : Int64) (x5 : Int64) (ls : Array Slot), K7 x3 x5 → lv_has ls 9 [(0, .ref (ad 0)), (3, .long x3), (5, .long x5)] → W p l e rm_x_closed s m args below meth c H [] 0 0 QQ (F0 m 7 ls [])) (K20 : Int64 → Int32 → Prop) (_ : ∀ (x3 : Int64) (x7 : Int32) (ls : Array Slot), K20 x3 x7 → lv_has ls 9 [(0, .ref (ad 0)), (3, .long x3), (5, .long x5), (7, .int x7)] → W p l e rm_x_closed s m args below meth c H [] 0 0 QQ (F0 m 20 ls [])) (x3 : Int64) (x7 : Int32) (ls : Array Slot), x_closed_p20 σ x5 Q K7 K20 x3 x7 → lv_has ls 9 [(0, .ref (ad 0)), (3, .long x3), (5, .long x5), (7, .int x7)] → W p l e rm_x_closed s m args below meth c H [] 0 0 QQ (F0 m 20 ls []) := by
    intro x5 K7 hK7 K20 hK20 x3 x7 ls hf hl
    unfold x_closed_p20 at hf
    refine lv_iload C.1 C.2.1 dX0_closed_20 (lv_at hl 3 rfl) ?_
    refine lv_aload_n C.1 C.2.1 dX0_closed_22 rfl (lv_at hl 0 rfl) ?_
    refine xg_grammar C hw dX0_closed_23 ?_
    refine xn_many C hw dX0_closed_26 ?_
    refine lv_icmp_ge (tgt := 110) C.1 C.2.1 dX0_closed_29 (by decide) (fun h29 => ?_) (fun h29 => ?_)
    · replace hf := hf.1 h29
      refine lv_goto (tgt := 7) C.1 C.2.1 dX0_closed_110 (by decide) ?_
      exact hK7 _ _ _ hf (lv_sub hl [0, 1, 2] rfl)
    · replace hf := hf.2 h29
      refine lv_iconst (v := 0) C.1 C.2.1 dX0_closed_32 rfl ?_
      refine lv_istore (lv' := [(8, .int 0), (0, .ref (ad 0)), (3, .long x3), (5, .long x5), (7, .int x7)]) C.1 C.2.1 dX0_closed_33 hl (Nat.le_of_ble_eq_true rfl) rfl (fun ls hl => ?_)
      obtain ⟨n, hf⟩ := hf
      exact P35 _ _ _ hK7 _ hK20 n _ _ _ hf (lv_sub hl [1, 2, 3, 4, 0] rfl)
  have P20 : ∀ (x5 : Int64) (K7 : Int64 → Int64 → Prop) (_ : ∀ (x3 : Int64) (x5 : Int64) (ls : Array Slot), K7 x3 x5 → lv_has ls 9 [(0, .ref (ad 0)), (3, .long x3), (5, .long x5)] → W p l e rm_x_closed s m args below meth c H [] 0 0 QQ (F0 m 7 ls [])) (n : Nat) (x3 : Int64) (x7 : Int32) (ls : Array Slot), LL2 (x_closed_p20 σ x5 Q K7) n x3 x7 → lv_has ls 9 [(0, .ref (ad 0)), (3, .long x3), (5, .long x5), (7, .int x7)] → W p l e rm_x_closed s m args below meth c H [] 0 0 QQ (F0 m 20 ls []) := by
    intro x5 K7 hK7 n
    induction n with
    | zero => intro x3 x7 ls hf; exact False.elim hf
    | succ n ih => intro x3 x7 ls hf hl; exact B20 x5 K7 hK7 (LL2 _ n) ih x3 x7 ls hf hl
  have B7 : ∀ (K7 : Int64 → Int64 → Prop) (_ : ∀ (x3 : Int64) (x5 : Int64) (ls : Array Slot), K7 x3 x5 → lv_has ls 9 [(0, .ref (ad 0)), (3, .long x3), (5, .long x5)] → W p l e rm_x_closed s m args below meth c H [] 0 0 QQ (F0 m 7 ls [])) (x3 : Int64) (x5 : Int64) (ls : Array Slot), x_closed_p7 σ Q K7 x3 x5 → lv_has ls 9 [(0, .ref (ad 0)), (3, .long x3), (5, .long x5)] → W p l e rm_x_closed s m args below meth c H [] 0 0 QQ (F0 m 7 ls []) := by
    intro K7 hK7 x3 x5 ls hf hl
    unfold x_closed_p7 at hf
    refine lv_lload_n C.1 C.2.1 dX0_closed_7 rfl (lv_at hl 1 rfl) ?_
    refine lv_lload C.1 C.2.1 dX0_closed_8 (lv_at hl 2 rfl) ?_
    refine W.lcmp C.1 C.2.1 dX0_closed_10 ?_
    refine lv_if_eq (tgt := 113) C.1 C.2.1 dX0_closed_11 (by decide) (fun h11 => ?_) (fun h11 => ?_)
    · replace hf := hf.1 ((lg_cmp_eq _ _).mp h11)
      refine lv_lload_n C.1 C.2.1 dX0_closed_113 rfl (lv_at hl 1 rfl) ?_
      exact hret _ _ _ hf dX0_closed_114
    · replace hf := hf.2 (fun q => h11 ((lg_cmp_eq _ _).mpr q))
      refine lv_lload_n C.1 C.2.1 dX0_closed_14 rfl (lv_at hl 1 rfl) ?_
      refine lv_lstore (lv' := [(5, .long x3), (0, .ref (ad 0)), (3, .long x3)]) C.1 C.2.1 dX0_closed_15 hl (Nat.le_of_ble_eq_true rfl) rfl (fun ls hl => ?_)
      refine lv_iconst (v := 0) C.1 C.2.1 dX0_closed_17 rfl ?_
      refine lv_istore (lv' := [(7, .int 0), (5, .long x3), (0, .ref (ad 0)), (3, .long x3)]) C.1 C.2.1 dX0_closed_18 hl (Nat.le_of_ble_eq_true rfl) rfl (fun ls hl => ?_)
      obtain ⟨n, hf⟩ := hf
      exact P20 _ _ hK7 n _ _ _ hf (lv_sub hl [2, 3, 1, 0] rfl)
  have P7 : ∀ (n : Nat) (x3 : Int64) (x5 : Int64) (ls : Array Slot), LL2 (x_closed_p7 σ Q) n x3 x5 → lv_has ls 9 [(0, .ref (ad 0)), (3, .long x3), (5, .long x5)] → W p l e rm_x_closed s m args below meth c H [] 0 0 QQ (F0 m 7 ls []) := by
    intro  n
    induction n with
    | zero => intro x3 x5 ls hf; exact False.elim hf
    | succ n ih => intro x3 x5 ls hf hl; exact B7  (LL2 _ n) ih x3 x5 ls hf hl
  unfold x_closed at hf
  refine lv_lload_n C.1 C.2.1 dX0_closed_0 rfl (lv_at hl 1 rfl) ?_
  refine lv_lstore_n (lv' := [(3, .long x1), (0, .ref (ad 0)), (1, .long x1)]) C.1 C.2.1 dX0_closed_1 rfl hl (Nat.le_of_ble_eq_true rfl) rfl (fun ls hl => ?_)
  refine lv_ldc2 C.1 C.2.1 C.2.2.2.1 (C.2.2.2.2 _ q820) dX0_closed_2 ?_
  refine lv_lstore (lv' := [(5, .long (-1)), (3, .long x1), (0, .ref (ad 0)), (1, .long x1)]) C.1 C.2.1 dX0_closed_5 hl (Nat.le_of_ble_eq_true rfl) rfl (fun ls hl => ?_)
  obtain ⟨n, hf⟩ := hf
  exact P7  n _ _ _ hf (lv_sub hl [2, 1, 0] rfl)
theorem kx_closed {p : Program} {l : Launch} {e : Env} {R : Room} {s : State} {m : MethodId} {args : Array Value} {below : List Frame} {meth : Method} {c : Code} {H : Heap} {locs : List Loc} {Z : State → Prop} {cc : ByteArray} {nL pc : Nat} {ls : Array Slot} {rest : List Value} {D : va_G} {ct : Ct} {ad : Nat → Nat} {σ : St} {x1 : Int64} {Qp : Int64 → Prop} (C : CallFix p m c cc nL s args lw_all RX0) (hw : gH D ct shX ad s σ H locs) (hsz : ls.size = nL) (hrm : (rest.map fun v => v.category).sum ≤ 8) (hR : rm_x_closed.frames + 1 ≤ R.frames ∧ 8 + (9 + 11) + rm_x_closed.locals ≤ R.locals) (hdg : decode cc pc = .ok (.invokevirtual 395, 3)) (hf : x_closed σ x1 Qp) (kk : ∀ (r : Int64), Qp r → W p l e R s m args below meth c H locs 0 0 Z (F0 m (pc + 3) ls (.long r :: rest))) : W p l e R s m args below meth c H locs 0 0 Z (F0 m pc ls (.long x1 :: .ref (ad 0) :: rest)) :=
  g_callVR (As := [.long x1]) (rest := rest) C hw rfl rfl (met_x_closed l D ct ad hw.2.1 σ x1 Qp hf) (cwV 1 C.2.2.2.2 (lw_V q816 q818 qs39 q200 q819) rfl rfl rfl (by decide +kernel) hR) rfl hsz rfl hrm ⟨Nat.zero_le _, Nat.zero_le _⟩ hdg kk
def x_isDone_p2 (σ : St) (x1 : Int32) (x2 : Int32) (Q : Int32 → Prop) (K2 : Int32 → Prop) (x3 : Int32) : Prop :=
  (vp_in x2 12 ∧ (((gI σ 84 x2) < x3 → Q 0) ∧ (¬ (gI σ 84 x2) < x3 → (vp_in x1 91 ∧ (((fx_hasPoint σ (gL σ 23 x1) x2 x3) = 0 → K2 (x3 + 1)) ∧ (¬ (fx_hasPoint σ (gL σ 23 x1) x2 x3) = 0 → (x_areEmpty σ x2 x3 (gI σ 84 x2) (fun r42 => ((r42 = 0 → K2 (x3 + 1)) ∧ (¬ r42 = 0 → Q 1))))))))))
def x_isDone (σ : St) (x1 : Int32) (x2 : Int32) (Q : Int32 → Prop) : Prop :=
  (Lp1 (x_isDone_p2 σ x1 x2 Q) 0)
abbrev rm_x_isDone : Room := { frames := 3, cells := 0, slots := 0, locals := 66 }
set_option maxHeartbeats 4000000 in
theorem met_x_isDone (l : Launch) (D : va_G) (ct : Ct) (ad : Nat → Nat) (hJ : gJ shX ad ct) (σ : St) (x1 : Int32) (x2 : Int32) (Q : Int32 → Prop) (hf : x_isDone σ x1 x2 Q) : Met l yX0_isDone (ws_ yX0_isDone cX0_isDone 4 (some .boolean)) rm_x_isDone (va_Pc [.ref (ad 0), .int x1, .int x2] (gP D ct shX ad σ)) (gR rvI Q) 0 0 (fun _ => False) := by
  refine g_metRZ hJ (by decide) (Nat.le_of_ble_eq_true rfl) ?_
  intro p e s m args below meth c QQ ls H C hw hl hret
  replace hl : lv_has ls 4 [(0, .ref (ad 0)), (1, .int x1), (2, .int x2)] := hl
  have B2 : ∀ (x1 : Int32) (x2 : Int32) (K2 : Int32 → Prop) (_ : ∀ (x3 : Int32) (ls : Array Slot), K2 x3 → lv_has ls 4 [(0, .ref (ad 0)), (1, .int x1), (2, .int x2), (3, .int x3)] → W p l e rm_x_isDone s m args below meth c H [] 0 0 QQ (F0 m 2 ls [])) (x3 : Int32) (ls : Array Slot), x_isDone_p2 σ x1 x2 Q K2 x3 → lv_has ls 4 [(0, .ref (ad 0)), (1, .int x1), (2, .int x2), (3, .int x3)] → W p l e rm_x_isDone s m args below meth c H [] 0 0 QQ (F0 m 2 ls []) := by
    intro x1 x2 K2 hK2 x3 ls hf hl
    unfold x_isDone_p2 at hf
    refine lv_iload_n C.1 C.2.1 dX0_isDone_2 rfl (lv_at hl 3 rfl) ?_
    refine lv_aload_n C.1 C.2.1 dX0_isDone_3 rfl (lv_at hl 0 rfl) ?_
    refine xg_grammar C hw dX0_isDone_4 ?_
    refine xn_size C hw dX0_isDone_7 ?_
    refine lv_iload_n C.1 C.2.1 dX0_isDone_10 rfl (lv_at hl 2 rfl) ?_
    obtain ⟨b11, hf⟩ := hf
    refine g_iald C hw 84 rfl b11 dX0_isDone_11 ?_
    refine lv_icmp_gt (tgt := 56) C.1 C.2.1 dX0_isDone_12 (by decide) (fun h12 => ?_) (fun h12 => ?_)
    · replace hf := hf.1 h12
      refine lv_iconst (v := 0) C.1 C.2.1 dX0_isDone_56 rfl ?_
      exact hret _ _ _ hf (Or.inl rfl) dX0_isDone_57
    · replace hf := hf.2 h12
      refine lv_aload_n C.1 C.2.1 dX0_isDone_15 rfl (lv_at hl 0 rfl) ?_
      refine lv_aload_n C.1 C.2.1 dX0_isDone_16 rfl (lv_at hl 0 rfl) ?_
      refine xg_points C hw dX0_isDone_17 ?_
      refine lv_iload_n C.1 C.2.1 dX0_isDone_20 rfl (lv_at hl 1 rfl) ?_
      obtain ⟨b21, hf⟩ := hf
      refine g_lald C hw 23 rfl b21 dX0_isDone_21 ?_
      refine lv_iload_n C.1 C.2.1 dX0_isDone_22 rfl (lv_at hl 2 rfl) ?_
      refine lv_iload_n C.1 C.2.1 dX0_isDone_23 rfl (lv_at hl 3 rfl) ?_
      refine kx_hasPoint C hw hl.1 (Nat.le_of_ble_eq_true rfl) ⟨Nat.le_of_ble_eq_true rfl, Nat.le_of_ble_eq_true rfl⟩ dX0_isDone_24 ?_
      refine lv_if_eq (tgt := 50) C.1 C.2.1 dX0_isDone_27 (by decide) (fun h27 => ?_) (fun h27 => ?_)
      · replace hf := hf.1 h27
        refine lv_iinc (v := (x3 + 1)) (lv' := [(3, .int (x3 + 1)), (0, .ref (ad 0)), (1, .int x1), (2, .int x2)]) C.1 C.2.1 dX0_isDone_50 hl (k := 3) rfl rfl (Nat.le_of_ble_eq_true rfl) rfl (fun ls hl => ?_)
        refine lv_goto (tgt := 2) C.1 C.2.1 dX0_isDone_53 (by decide) ?_
        exact hK2 _ _ hf (lv_sub hl [1, 2, 3, 0] rfl)
      · replace hf := hf.2 h27
        refine lv_aload_n C.1 C.2.1 dX0_isDone_30 rfl (lv_at hl 0 rfl) ?_
        refine lv_iload_n C.1 C.2.1 dX0_isDone_31 rfl (lv_at hl 2 rfl) ?_
        refine lv_iload_n C.1 C.2.1 dX0_isDone_32 rfl (lv_at hl 3 rfl) ?_
        refine lv_aload_n C.1 C.2.1 dX0_isDone_33 rfl (lv_at hl 0 rfl) ?_
        refine xg_grammar C hw dX0_isDone_34 ?_
        refine xn_size C hw dX0_isDone_37 ?_
        refine lv_iload_n C.1 C.2.1 dX0_isDone_40 rfl (lv_at hl 2 rfl) ?_
        refine g_iald C hw 84 rfl b11 dX0_isDone_41 ?_
        refine kx_areEmpty C hw hl.1 (Nat.le_of_ble_eq_true rfl) ⟨Nat.le_of_ble_eq_true rfl, Nat.le_of_ble_eq_true rfl⟩ dX0_isDone_42 hf (fun r42 hf => ?_)
        refine lv_if_eq (tgt := 50) C.1 C.2.1 dX0_isDone_45 (by decide) (fun h45 => ?_) (fun h45 => ?_)
        · replace hf := hf.1 h45
          refine lv_iinc (v := (x3 + 1)) (lv' := [(3, .int (x3 + 1)), (0, .ref (ad 0)), (1, .int x1), (2, .int x2)]) C.1 C.2.1 dX0_isDone_50 hl (k := 3) rfl rfl (Nat.le_of_ble_eq_true rfl) rfl (fun ls hl => ?_)
          refine lv_goto (tgt := 2) C.1 C.2.1 dX0_isDone_53 (by decide) ?_
          exact hK2 _ _ hf (lv_sub hl [1, 2, 3, 0] rfl)
        · replace hf := hf.2 h45
          refine lv_iconst (v := 1) C.1 C.2.1 dX0_isDone_48 rfl ?_
          exact hret _ _ _ hf (Or.inr rfl) dX0_isDone_49
  have P2 : ∀ (x1 : Int32) (x2 : Int32) (n : Nat) (x3 : Int32) (ls : Array Slot), LL1 (x_isDone_p2 σ x1 x2 Q) n x3 → lv_has ls 4 [(0, .ref (ad 0)), (1, .int x1), (2, .int x2), (3, .int x3)] → W p l e rm_x_isDone s m args below meth c H [] 0 0 QQ (F0 m 2 ls []) := by
    intro x1 x2 n
    induction n with
    | zero => intro x3 ls hf; exact False.elim hf
    | succ n ih => intro x3 ls hf hl; exact B2 x1 x2 (LL1 _ n) ih x3 ls hf hl
  unfold x_isDone at hf
  refine lv_iconst (v := 0) C.1 C.2.1 dX0_isDone_0 rfl ?_
  refine lv_istore_n (lv' := [(3, .int 0), (0, .ref (ad 0)), (1, .int x1), (2, .int x2)]) C.1 C.2.1 dX0_isDone_1 rfl hl (Nat.le_of_ble_eq_true rfl) rfl (fun ls hl => ?_)
  obtain ⟨n, hf⟩ := hf
  exact P2 _ _ n _ _ hf (lv_sub hl [1, 2, 3, 0] rfl)
theorem kx_isDone {p : Program} {l : Launch} {e : Env} {R : Room} {s : State} {m : MethodId} {args : Array Value} {below : List Frame} {meth : Method} {c : Code} {H : Heap} {locs : List Loc} {Z : State → Prop} {cc : ByteArray} {nL pc : Nat} {ls : Array Slot} {rest : List Value} {D : va_G} {ct : Ct} {ad : Nat → Nat} {σ : St} {x1 : Int32} {x2 : Int32} {Qp : Int32 → Prop} (C : CallFix p m c cc nL s args lw_all RX0) (hw : gH D ct shX ad s σ H locs) (hsz : ls.size = nL) (hrm : (rest.map fun v => v.category).sum ≤ 8) (hR : rm_x_isDone.frames + 1 ≤ R.frames ∧ 8 + (4 + 11) + rm_x_isDone.locals ≤ R.locals) (hdg : decode cc pc = .ok (.invokevirtual 418, 3)) (hf : x_isDone σ x1 x2 Qp) (kk : ∀ (r : Int32), Qp r → W p l e R s m args below meth c H locs 0 0 Z (F0 m (pc + 3) ls (.int r :: rest))) : W p l e R s m args below meth c H locs 0 0 Z (F0 m pc ls (.int x2 :: .int x1 :: .ref (ad 0) :: rest)) :=
  g_callVR (As := [.int x1, .int x2]) (rest := rest) C hw rfl rfl (met_x_isDone l D ct ad hw.2.1 σ x1 x2 Qp hf) (cwV 2 C.2.2.2.2 (lw_V q892 q894 qs46 q200 q895) rfl rfl rfl (by decide +kernel) hR) rfl hsz rfl hrm ⟨Nat.zero_le _, Nat.zero_le _⟩ hdg kk
def x_doesClash_p39 (σ : St) (x1 : Int32) (x2 : Int32) (Q : Int32 → Prop) (K2 : Int32 → Prop) (K39 : Int32 → Int32 → Prop) (x3 : Int32) (x4 : Int32) : Prop :=
  (((σ.1 80) ≤ x4 → ((x3 ≤ 1 → K2 (x2 + 1)) ∧ (¬ x3 ≤ 1 → Q 1))) ∧ (¬ (σ.1 80) ≤ x4 → (x_isAtEnd σ x1 x4 (fun r56 => ((r56 = 0 → K39 (x3 + 0) (x4 + 1)) ∧ (¬ r56 = 0 → (vp_in x4 12 ∧ (vp_in ((gI σ 83 x4) - 26) 26 ∧ (((fx_has (gI σ 21 ((gI σ 83 x4) - 26)) x2) = 0 → K39 (x3 + 0) (x4 + 1)) ∧ (¬ (fx_has (gI σ 21 ((gI σ 83 x4) - 26)) x2) = 0 → K39 (x3 + 1) (x4 + 1)))))))))))
def x_doesClash_p2 (σ : St) (x1 : Int32) (Q : Int32 → Prop) (K2 : Int32 → Prop) (x2 : Int32) : Prop :=
  ((26 < x2 → Q 0) ∧ (¬ 26 < x2 → ((26 ≤ x2 → (Lp2 (x_doesClash_p39 σ x1 x2 Q K2) 0 0)) ∧ (¬ 26 ≤ x2 → (vp_in ((52 * x1) + x2) 4732 ∧ (((gI σ 24 ((52 * x1) + x2)) = (-2) → (Lp2 (x_doesClash_p39 σ x1 x2 Q K2) 0 0)) ∧ (¬ (gI σ 24 ((52 * x1) + x2)) = (-2) → (Lp2 (x_doesClash_p39 σ x1 x2 Q K2) 1 0))))))))
def x_doesClash (σ : St) (x1 : Int32) (Q : Int32 → Prop) : Prop :=
  (Lp1 (x_doesClash_p2 σ x1 Q) 0)
abbrev rm_x_doesClash : Room := { frames := 3, cells := 0, slots := 0, locals := 67 }
set_option maxHeartbeats 4000000 in
theorem met_x_doesClash (l : Launch) (D : va_G) (ct : Ct) (ad : Nat → Nat) (hJ : gJ shX ad ct) (σ : St) (x1 : Int32) (Q : Int32 → Prop) (hf : x_doesClash σ x1 Q) : Met l yX0_doesClash (ws_ yX0_doesClash cX0_doesClash 5 (some .boolean)) rm_x_doesClash (va_Pc [.ref (ad 0), .int x1] (gP D ct shX ad σ)) (gR rvI Q) 0 0 (fun _ => False) := by
  refine g_metRZ hJ (by decide) (Nat.le_of_ble_eq_true rfl) ?_
  intro p e s m args below meth c QQ ls H C hw hl hret
  replace hl : lv_has ls 5 [(0, .ref (ad 0)), (1, .int x1)] := hl
  have B39 : ∀ (x1 : Int32) (x2 : Int32) (K2 : Int32 → Prop) (_ : ∀ (x2 : Int32) (ls : Array Slot), K2 x2 → lv_has ls 5 [(0, .ref (ad 0)), (1, .int x1), (2, .int x2)] → W p l e rm_x_doesClash s m args below meth c H [] 0 0 QQ (F0 m 2 ls [])) (K39 : Int32 → Int32 → Prop) (_ : ∀ (x3 : Int32) (x4 : Int32) (ls : Array Slot), K39 x3 x4 → lv_has ls 5 [(0, .ref (ad 0)), (1, .int x1), (2, .int x2), (3, .int x3), (4, .int x4)] → W p l e rm_x_doesClash s m args below meth c H [] 0 0 QQ (F0 m 39 ls [])) (x3 : Int32) (x4 : Int32) (ls : Array Slot), x_doesClash_p39 σ x1 x2 Q K2 K39 x3 x4 → lv_has ls 5 [(0, .ref (ad 0)), (1, .int x1), (2, .int x2), (3, .int x3), (4, .int x4)] → W p l e rm_x_doesClash s m args below meth c H [] 0 0 QQ (F0 m 39 ls []) := by
    intro x1 x2 K2 hK2 K39 hK39 x3 x4 ls hf hl
    unfold x_doesClash_p39 at hf
    refine lv_iload C.1 C.2.1 dX0_doesClash_39 (lv_at hl 4 rfl) ?_
    refine lv_aload_n C.1 C.2.1 dX0_doesClash_41 rfl (lv_at hl 0 rfl) ?_
    refine xg_grammar C hw dX0_doesClash_42 ?_
    refine xn_many C hw dX0_doesClash_45 ?_
    refine lv_icmp_ge (tgt := 100) C.1 C.2.1 dX0_doesClash_48 (by decide) (fun h48 => ?_) (fun h48 => ?_)
    · replace hf := hf.1 h48
      refine lv_iload_n C.1 C.2.1 dX0_doesClash_100 rfl (lv_at hl 3 rfl) ?_
      refine lv_iconst (v := 1) C.1 C.2.1 dX0_doesClash_101 rfl ?_
      refine lv_icmp_le (tgt := 107) C.1 C.2.1 dX0_doesClash_102 (by decide) (fun h102 => ?_) (fun h102 => ?_)
      · replace hf := hf.1 h102
        refine lv_iinc (v := (x2 + 1)) (lv' := [(2, .int (x2 + 1)), (0, .ref (ad 0)), (1, .int x1), (3, .int x3), (4, .int x4)]) C.1 C.2.1 dX0_doesClash_107 hl (k := 2) rfl rfl (Nat.le_of_ble_eq_true rfl) rfl (fun ls hl => ?_)
        refine lv_goto (tgt := 2) C.1 C.2.1 dX0_doesClash_110 (by decide) ?_
        exact hK2 _ _ hf (lv_sub hl [1, 2, 0] rfl)
      · replace hf := hf.2 h102
        refine lv_iconst (v := 1) C.1 C.2.1 dX0_doesClash_105 rfl ?_
        exact hret _ _ _ hf (Or.inr rfl) dX0_doesClash_106
    · replace hf := hf.2 h48
      refine lv_iload_n C.1 C.2.1 dX0_doesClash_51 rfl (lv_at hl 3 rfl) ?_
      refine lv_aload_n C.1 C.2.1 dX0_doesClash_52 rfl (lv_at hl 0 rfl) ?_
      refine lv_iload_n C.1 C.2.1 dX0_doesClash_53 rfl (lv_at hl 1 rfl) ?_
      refine lv_iload C.1 C.2.1 dX0_doesClash_54 (lv_at hl 4 rfl) ?_
      refine kx_isAtEnd C hw hl.1 (Nat.le_of_ble_eq_true rfl) ⟨Nat.le_of_ble_eq_true rfl, Nat.le_of_ble_eq_true rfl⟩ dX0_doesClash_56 hf (fun r56 hf => ?_)
      refine lv_if_eq (tgt := 91) C.1 C.2.1 dX0_doesClash_59 (by decide) (fun h59 => ?_) (fun h59 => ?_)
      · replace hf := hf.1 h59
        refine lv_iconst (v := 0) C.1 C.2.1 dX0_doesClash_91 rfl ?_
        refine lv_iadd C.1 C.2.1 dX0_doesClash_92 ?_
        refine lv_istore_n (lv' := [(3, .int (x3 + 0)), (0, .ref (ad 0)), (1, .int x1), (2, .int x2), (4, .int x4)]) C.1 C.2.1 dX0_doesClash_93 rfl hl (Nat.le_of_ble_eq_true rfl) rfl (fun ls hl => ?_)
        refine lv_iinc (v := (x4 + 1)) (lv' := [(4, .int (x4 + 1)), (3, .int (x3 + 0)), (0, .ref (ad 0)), (1, .int x1), (2, .int x2)]) C.1 C.2.1 dX0_doesClash_94 hl (k := 4) rfl rfl (Nat.le_of_ble_eq_true rfl) rfl (fun ls hl => ?_)
        refine lv_goto (tgt := 39) C.1 C.2.1 dX0_doesClash_97 (by decide) ?_
        exact hK39 _ _ _ hf (lv_sub hl [2, 3, 4, 1, 0] rfl)
      · replace hf := hf.2 h59
        refine lv_aload_n C.1 C.2.1 dX0_doesClash_62 rfl (lv_at hl 0 rfl) ?_
        refine xg_followOf C hw dX0_doesClash_63 ?_
        refine lv_aload_n C.1 C.2.1 dX0_doesClash_66 rfl (lv_at hl 0 rfl) ?_
        refine xg_grammar C hw dX0_doesClash_67 ?_
        refine xn_left C hw dX0_doesClash_70 ?_
        refine lv_iload C.1 C.2.1 dX0_doesClash_73 (lv_at hl 4 rfl) ?_
        obtain ⟨b75, hf⟩ := hf
        refine g_iald C hw 83 rfl b75 dX0_doesClash_75 ?_
        refine lv_bipush (v := 26) C.1 C.2.1 dX0_doesClash_76 rfl ?_
        refine lv_isub C.1 C.2.1 dX0_doesClash_78 ?_
        obtain ⟨b79, hf⟩ := hf
        refine g_iald C hw 21 rfl b79 dX0_doesClash_79 ?_
        refine lv_iload_n C.1 C.2.1 dX0_doesClash_80 rfl (lv_at hl 2 rfl) ?_
        refine kx_has C hl.1 (Nat.le_of_ble_eq_true rfl) ⟨Nat.le_of_ble_eq_true rfl, Nat.le_of_ble_eq_true rfl⟩ dX0_doesClash_81 ?_
        refine lv_if_eq (tgt := 91) C.1 C.2.1 dX0_doesClash_84 (by decide) (fun h84 => ?_) (fun h84 => ?_)
        · replace hf := hf.1 h84
          refine lv_iconst (v := 0) C.1 C.2.1 dX0_doesClash_91 rfl ?_
          refine lv_iadd C.1 C.2.1 dX0_doesClash_92 ?_
          refine lv_istore_n (lv' := [(3, .int (x3 + 0)), (0, .ref (ad 0)), (1, .int x1), (2, .int x2), (4, .int x4)]) C.1 C.2.1 dX0_doesClash_93 rfl hl (Nat.le_of_ble_eq_true rfl) rfl (fun ls hl => ?_)
          refine lv_iinc (v := (x4 + 1)) (lv' := [(4, .int (x4 + 1)), (3, .int (x3 + 0)), (0, .ref (ad 0)), (1, .int x1), (2, .int x2)]) C.1 C.2.1 dX0_doesClash_94 hl (k := 4) rfl rfl (Nat.le_of_ble_eq_true rfl) rfl (fun ls hl => ?_)
          refine lv_goto (tgt := 39) C.1 C.2.1 dX0_doesClash_97 (by decide) ?_
          exact hK39 _ _ _ hf (lv_sub hl [2, 3, 4, 1, 0] rfl)
        · replace hf := hf.2 h84
          refine lv_iconst (v := 1) C.1 C.2.1 dX0_doesClash_87 rfl ?_
          refine lv_goto (tgt := 92) C.1 C.2.1 dX0_doesClash_88 (by decide) ?_
          refine lv_iadd C.1 C.2.1 dX0_doesClash_92 ?_
          refine lv_istore_n (lv' := [(3, .int (x3 + 1)), (0, .ref (ad 0)), (1, .int x1), (2, .int x2), (4, .int x4)]) C.1 C.2.1 dX0_doesClash_93 rfl hl (Nat.le_of_ble_eq_true rfl) rfl (fun ls hl => ?_)
          refine lv_iinc (v := (x4 + 1)) (lv' := [(4, .int (x4 + 1)), (3, .int (x3 + 1)), (0, .ref (ad 0)), (1, .int x1), (2, .int x2)]) C.1 C.2.1 dX0_doesClash_94 hl (k := 4) rfl rfl (Nat.le_of_ble_eq_true rfl) rfl (fun ls hl => ?_)
          refine lv_goto (tgt := 39) C.1 C.2.1 dX0_doesClash_97 (by decide) ?_
          exact hK39 _ _ _ hf (lv_sub hl [2, 3, 4, 1, 0] rfl)
  have P39 : ∀ (x1 : Int32) (x2 : Int32) (K2 : Int32 → Prop) (_ : ∀ (x2 : Int32) (ls : Array Slot), K2 x2 → lv_has ls 5 [(0, .ref (ad 0)), (1, .int x1), (2, .int x2)] → W p l e rm_x_doesClash s m args below meth c H [] 0 0 QQ (F0 m 2 ls [])) (n : Nat) (x3 : Int32) (x4 : Int32) (ls : Array Slot), LL2 (x_doesClash_p39 σ x1 x2 Q K2) n x3 x4 → lv_has ls 5 [(0, .ref (ad 0)), (1, .int x1), (2, .int x2), (3, .int x3), (4, .int x4)] → W p l e rm_x_doesClash s m args below meth c H [] 0 0 QQ (F0 m 39 ls []) := by
    intro x1 x2 K2 hK2 n
    induction n with
    | zero => intro x3 x4 ls hf; exact False.elim hf
    | succ n ih => intro x3 x4 ls hf hl; exact B39 x1 x2 K2 hK2 (LL2 _ n) ih x3 x4 ls hf hl
  have B2 : ∀ (x1 : Int32) (K2 : Int32 → Prop) (_ : ∀ (x2 : Int32) (ls : Array Slot), K2 x2 → lv_has ls 5 [(0, .ref (ad 0)), (1, .int x1), (2, .int x2)] → W p l e rm_x_doesClash s m args below meth c H [] 0 0 QQ (F0 m 2 ls [])) (x2 : Int32) (ls : Array Slot), x_doesClash_p2 σ x1 Q K2 x2 → lv_has ls 5 [(0, .ref (ad 0)), (1, .int x1), (2, .int x2)] → W p l e rm_x_doesClash s m args below meth c H [] 0 0 QQ (F0 m 2 ls []) := by
    intro x1 K2 hK2 x2 ls hf hl
    unfold x_doesClash_p2 at hf
    refine lv_iload_n C.1 C.2.1 dX0_doesClash_2 rfl (lv_at hl 2 rfl) ?_
    refine lv_bipush (v := 26) C.1 C.2.1 dX0_doesClash_3 rfl ?_
    refine lv_icmp_gt (tgt := 113) C.1 C.2.1 dX0_doesClash_5 (by decide) (fun h5 => ?_) (fun h5 => ?_)
    · replace hf := hf.1 h5
      refine lv_iconst (v := 0) C.1 C.2.1 dX0_doesClash_113 rfl ?_
      exact hret _ _ _ hf (Or.inl rfl) dX0_doesClash_114
    · replace hf := hf.2 h5
      refine lv_iload_n C.1 C.2.1 dX0_doesClash_8 rfl (lv_at hl 2 rfl) ?_
      refine lv_bipush (v := 26) C.1 C.2.1 dX0_doesClash_9 rfl ?_
      refine lv_icmp_ge (tgt := 34) C.1 C.2.1 dX0_doesClash_11 (by decide) (fun h11 => ?_) (fun h11 => ?_)
      · replace hf := hf.1 h11
        refine lv_iconst (v := 0) C.1 C.2.1 dX0_doesClash_34 rfl ?_
        refine lv_istore_n (lv' := [(3, .int 0), (0, .ref (ad 0)), (1, .int x1), (2, .int x2)]) C.1 C.2.1 dX0_doesClash_35 rfl hl (Nat.le_of_ble_eq_true rfl) rfl (fun ls hl => ?_)
        refine lv_iconst (v := 0) C.1 C.2.1 dX0_doesClash_36 rfl ?_
        refine lv_istore (lv' := [(4, .int 0), (3, .int 0), (0, .ref (ad 0)), (1, .int x1), (2, .int x2)]) C.1 C.2.1 dX0_doesClash_37 hl (Nat.le_of_ble_eq_true rfl) rfl (fun ls hl => ?_)
        obtain ⟨n, hf⟩ := hf
        exact P39 _ _ _ hK2 n _ _ _ hf (lv_sub hl [2, 3, 4, 1, 0] rfl)
      · replace hf := hf.2 h11
        refine lv_aload_n C.1 C.2.1 dX0_doesClash_14 rfl (lv_at hl 0 rfl) ?_
        refine xg_goesTo C hw dX0_doesClash_15 ?_
        refine lv_bipush (v := 52) C.1 C.2.1 dX0_doesClash_18 rfl ?_
        refine lv_iload_n C.1 C.2.1 dX0_doesClash_20 rfl (lv_at hl 1 rfl) ?_
        refine lv_imul C.1 C.2.1 dX0_doesClash_21 ?_
        refine lv_iload_n C.1 C.2.1 dX0_doesClash_22 rfl (lv_at hl 2 rfl) ?_
        refine lv_iadd C.1 C.2.1 dX0_doesClash_23 ?_
        obtain ⟨b24, hf⟩ := hf
        refine g_iald C hw 24 rfl b24 dX0_doesClash_24 ?_
        refine lv_bipush (v := (-2)) C.1 C.2.1 dX0_doesClash_25 rfl ?_
        refine lv_icmp_eq (tgt := 34) C.1 C.2.1 dX0_doesClash_27 (by decide) (fun h27 => ?_) (fun h27 => ?_)
        · replace hf := hf.1 h27
          refine lv_iconst (v := 0) C.1 C.2.1 dX0_doesClash_34 rfl ?_
          refine lv_istore_n (lv' := [(3, .int 0), (0, .ref (ad 0)), (1, .int x1), (2, .int x2)]) C.1 C.2.1 dX0_doesClash_35 rfl hl (Nat.le_of_ble_eq_true rfl) rfl (fun ls hl => ?_)
          refine lv_iconst (v := 0) C.1 C.2.1 dX0_doesClash_36 rfl ?_
          refine lv_istore (lv' := [(4, .int 0), (3, .int 0), (0, .ref (ad 0)), (1, .int x1), (2, .int x2)]) C.1 C.2.1 dX0_doesClash_37 hl (Nat.le_of_ble_eq_true rfl) rfl (fun ls hl => ?_)
          obtain ⟨n, hf⟩ := hf
          exact P39 _ _ _ hK2 n _ _ _ hf (lv_sub hl [2, 3, 4, 1, 0] rfl)
        · replace hf := hf.2 h27
          refine lv_iconst (v := 1) C.1 C.2.1 dX0_doesClash_30 rfl ?_
          refine lv_goto (tgt := 35) C.1 C.2.1 dX0_doesClash_31 (by decide) ?_
          refine lv_istore_n (lv' := [(3, .int 1), (0, .ref (ad 0)), (1, .int x1), (2, .int x2)]) C.1 C.2.1 dX0_doesClash_35 rfl hl (Nat.le_of_ble_eq_true rfl) rfl (fun ls hl => ?_)
          refine lv_iconst (v := 0) C.1 C.2.1 dX0_doesClash_36 rfl ?_
          refine lv_istore (lv' := [(4, .int 0), (3, .int 1), (0, .ref (ad 0)), (1, .int x1), (2, .int x2)]) C.1 C.2.1 dX0_doesClash_37 hl (Nat.le_of_ble_eq_true rfl) rfl (fun ls hl => ?_)
          obtain ⟨n, hf⟩ := hf
          exact P39 _ _ _ hK2 n _ _ _ hf (lv_sub hl [2, 3, 4, 1, 0] rfl)
  have P2 : ∀ (x1 : Int32) (n : Nat) (x2 : Int32) (ls : Array Slot), LL1 (x_doesClash_p2 σ x1 Q) n x2 → lv_has ls 5 [(0, .ref (ad 0)), (1, .int x1), (2, .int x2)] → W p l e rm_x_doesClash s m args below meth c H [] 0 0 QQ (F0 m 2 ls []) := by
    intro x1 n
    induction n with
    | zero => intro x2 ls hf; exact False.elim hf
    | succ n ih => intro x2 ls hf hl; exact B2 x1 (LL1 _ n) ih x2 ls hf hl
  unfold x_doesClash at hf
  refine lv_iconst (v := 0) C.1 C.2.1 dX0_doesClash_0 rfl ?_
  refine lv_istore_n (lv' := [(2, .int 0), (0, .ref (ad 0)), (1, .int x1)]) C.1 C.2.1 dX0_doesClash_1 rfl hl (Nat.le_of_ble_eq_true rfl) rfl (fun ls hl => ?_)
  obtain ⟨n, hf⟩ := hf
  exact P2 _ n _ _ hf (lv_sub hl [1, 2, 0] rfl)
theorem kx_doesClash {p : Program} {l : Launch} {e : Env} {R : Room} {s : State} {m : MethodId} {args : Array Value} {below : List Frame} {meth : Method} {c : Code} {H : Heap} {locs : List Loc} {Z : State → Prop} {cc : ByteArray} {nL pc : Nat} {ls : Array Slot} {rest : List Value} {D : va_G} {ct : Ct} {ad : Nat → Nat} {σ : St} {x1 : Int32} {Qp : Int32 → Prop} (C : CallFix p m c cc nL s args lw_all RX0) (hw : gH D ct shX ad s σ H locs) (hsz : ls.size = nL) (hrm : (rest.map fun v => v.category).sum ≤ 8) (hR : rm_x_doesClash.frames + 1 ≤ R.frames ∧ 8 + (5 + 11) + rm_x_doesClash.locals ≤ R.locals) (hdg : decode cc pc = .ok (.invokevirtual 424, 3)) (hf : x_doesClash σ x1 Qp) (kk : ∀ (r : Int32), Qp r → W p l e R s m args below meth c H locs 0 0 Z (F0 m (pc + 3) ls (.int r :: rest))) : W p l e R s m args below meth c H locs 0 0 Z (F0 m pc ls (.int x1 :: .ref (ad 0) :: rest)) :=
  g_callVR (As := [.int x1]) (rest := rest) C hw rfl rfl (met_x_doesClash l D ct ad hw.2.1 σ x1 Qp hf) (cwV 1 C.2.2.2.2 (lw_V q900 q902 qs47 q200 q903) rfl rfl rfl (by decide +kernel) hR) rfl hsz rfl hrm ⟨Nat.zero_le _, Nat.zero_le _⟩ hdg kk
def x_reduces_p127 (x1 : Int32) (x2 : Int32) (x4 : Int32) (Q : Int32 → St → Prop) (K93 : St → Int32 → Int32 → Prop) (K127 : St → Int32 → Int32 → Prop) (σ : St) (x3 : Int32) (x5 : Int32) : Prop :=
  ((x2 < x5 → K93 σ x3 (x4 + 1)) ∧ (¬ x2 < x5 → (vp_in x4 4680 ∧ (vp_in (gI σ 28 x4) 90 ∧ (((fx_has (gI σ 33 (gI σ 28 x4)) x5) = 0 → K127 σ x3 (x5 + 1)) ∧ (¬ (fx_has (gI σ 33 (gI σ 28 x4)) x5) = 0 → (x_joins σ x4 x5 x2 x3 (fun r160 s160 => K127 s160 r160 (x5 + 1)))))))))
def x_reduces_p93 (x1 : Int32) (x2 : Int32) (Q : Int32 → St → Prop) (K93 : St → Int32 → Int32 → Prop) (σ : St) (x3 : Int32) (x4 : Int32) : Prop :=
  (((σ.1 35) ≤ x4 → (zB x3 ∧ Q x3 σ)) ∧ (¬ (σ.1 35) ≤ x4 → (vp_in x4 4680 ∧ (vp_in x1 12 ∧ (((gI σ 29 x4) = (gI σ 83 x1) → (Lp3 (x_reduces_p127 x1 x2 x4 Q K93) σ x3 0)) ∧ (¬ (gI σ 29 x4) = (gI σ 83 x1) → K93 σ x3 (x4 + 1)))))))
def x_reduces_p65 (x1 : Int32) (x2 : Int32) (x3 : Int32) (Q : Int32 → St → Prop) (K65 : St → Int32 → Prop) (σ : St) (x4 : Int32) : Prop :=
  ((x4 < 0 → (Lp3 (x_reduces_p93 x1 x2 Q) σ x3 0)) ∧ (¬ x4 < 0 → (x_at σ x1 x4 (fun r78 => (x_goesBack σ r78 (fun _ s81 => K65 s81 (x4 + (-1))))))))
def x_reduces_p45 (σ : St) (x1 : Int32) (x2 : Int32) (x3 : Int32) (x4 : Int32) (Q : Int32 → St → Prop) (K5 : St → Int32 → Prop) (v0 : Int32) (v1 : Int32) : Prop :=
  (vp_in v1 90 ∧ (∀ s45 : St, s45 = s_A σ 33 (Int32.toNatClampNeg v1) v0 → K5 s45 (x4 + 1)))
def x_reduces_p5 (x1 : Int32) (x2 : Int32) (x3 : Int32) (Q : Int32 → St → Prop) (K5 : St → Int32 → Prop) (σ : St) (x4 : Int32) : Prop :=
  (((σ.1 25) ≤ x4 → (vp_in x1 12 ∧ (Lp2 (x_reduces_p65 x1 x2 x3 Q) σ ((gI σ 84 x1) - 1)))) ∧ (¬ (σ.1 25) ≤ x4 → (x_isAtEnd σ x4 x1 (fun r24 => ((r24 = 0 → (x_reduces_p45 σ x1 x2 x3 x4 Q K5 0 x4)) ∧ (¬ r24 = 0 → (vp_in x4 90 ∧ (x_reduces_p45 σ x1 x2 x3 x4 Q K5 ((gI σ 32 x4) &&& (1 <<< (x2 &&& 31))) x4))))))))
def x_reduces (σ : St) (x1 : Int32) (x2 : Int32) (Q : Int32 → St → Prop) : Prop :=
  (Lp2 (x_reduces_p5 x1 x2 0 Q) σ 0)
abbrev rm_x_reduces : Room := { frames := 3, cells := 0, slots := 0, locals := 87 }
set_option maxHeartbeats 4000000 in
theorem met_x_reduces (l : Launch) (D : va_G) (ct : Ct) (ad : Nat → Nat) (hJ : gJ shX ad ct) (σ : St) (x1 : Int32) (x2 : Int32) (Q : Int32 → St → Prop) (hf : x_reduces σ x1 x2 Q) : Met l yX0_reduces (ws_ yX0_reduces cX0_reduces 6 (some .boolean)) rm_x_reduces (va_Pc [.ref (ad 0), .int x1, .int x2] (gP D ct shX ad σ)) (gQ rvI D ct shX ad Q) 0 0 (gA shX ad) := by
  refine g_metZ hJ (by decide) (Nat.le_of_ble_eq_true rfl) ?_
  intro p e s m args below meth c QQ ls C hw hl hret
  replace hl : lv_has ls 6 [(0, .ref (ad 0)), (1, .int x1), (2, .int x2)] := hl
  have B127 : ∀ (x1 : Int32) (x2 : Int32) (x4 : Int32) (K93 : St → Int32 → Int32 → Prop) (_ : ∀ (σ : St) (H : Heap) (locs : List Loc) (x3 : Int32) (x4 : Int32) (ls : Array Slot), K93 σ x3 x4 → gH D ct shX ad s σ H locs → lv_has ls 6 [(0, .ref (ad 0)), (1, .int x1), (2, .int x2), (3, .int x3), (4, .int x4)] → W p l e rm_x_reduces s m args below meth c H locs 0 0 QQ (F0 m 93 ls [])) (K127 : St → Int32 → Int32 → Prop) (_ : ∀ (σ : St) (H : Heap) (locs : List Loc) (x3 : Int32) (x5 : Int32) (ls : Array Slot), K127 σ x3 x5 → gH D ct shX ad s σ H locs → lv_has ls 6 [(0, .ref (ad 0)), (1, .int x1), (2, .int x2), (3, .int x3), (4, .int x4), (5, .int x5)] → W p l e rm_x_reduces s m args below meth c H locs 0 0 QQ (F0 m 127 ls [])) (σ : St) (H : Heap) (locs : List Loc) (x3 : Int32) (x5 : Int32) (ls : Array Slot), x_reduces_p127 x1 x2 x4 Q K93 K127 σ x3 x5 → gH D ct shX ad s σ H locs → lv_has ls 6 [(0, .ref (ad 0)), (1, .int x1), (2, .int x2), (3, .int x3), (4, .int x4), (5, .int x5)] → W p l e rm_x_reduces s m args below meth c H locs 0 0 QQ (F0 m 127 ls []) := by
    intro x1 x2 x4 K93 hK93 K127 hK127 σ H locs x3 x5 ls hf hw hl
    unfold x_reduces_p127 at hf
    refine lv_iload C.1 C.2.1 dX0_reduces_127 (lv_at hl 5 rfl) ?_
    refine lv_iload_n C.1 C.2.1 dX0_reduces_129 rfl (lv_at hl 2 rfl) ?_
    refine lv_icmp_gt (tgt := 170) C.1 C.2.1 dX0_reduces_130 (by decide) (fun h130 => ?_) (fun h130 => ?_)
    · replace hf := hf.1 h130
      refine lv_iinc (v := (x4 + 1)) (lv' := [(4, .int (x4 + 1)), (0, .ref (ad 0)), (1, .int x1), (2, .int x2), (3, .int x3), (5, .int x5)]) C.1 C.2.1 dX0_reduces_170 hl (k := 4) rfl rfl (Nat.le_of_ble_eq_true rfl) rfl (fun ls hl => ?_)
      refine lv_goto (tgt := 93) C.1 C.2.1 dX0_reduces_173 (by decide) ?_
      exact hK93 _ _ _ _ _ _ hf hw (lv_sub hl [1, 2, 3, 4, 0] rfl)
    · replace hf := hf.2 h130
      refine lv_aload_n C.1 C.2.1 dX0_reduces_133 rfl (lv_at hl 0 rfl) ?_
      refine xg_maskOf C hw dX0_reduces_134 ?_
      refine lv_aload_n C.1 C.2.1 dX0_reduces_137 rfl (lv_at hl 0 rfl) ?_
      refine xg_fromOf C hw dX0_reduces_138 ?_
      refine lv_iload C.1 C.2.1 dX0_reduces_141 (lv_at hl 4 rfl) ?_
      obtain ⟨b143, hf⟩ := hf
      refine g_iald C hw 28 rfl b143 dX0_reduces_143 ?_
      obtain ⟨b144, hf⟩ := hf
      refine g_iald C hw 33 rfl b144 dX0_reduces_144 ?_
      refine lv_iload C.1 C.2.1 dX0_reduces_145 (lv_at hl 5 rfl) ?_
      refine kx_has C hl.1 (Nat.le_of_ble_eq_true rfl) ⟨Nat.le_of_ble_eq_true rfl, Nat.le_of_ble_eq_true rfl⟩ dX0_reduces_147 ?_
      refine lv_if_eq (tgt := 164) C.1 C.2.1 dX0_reduces_150 (by decide) (fun h150 => ?_) (fun h150 => ?_)
      · replace hf := hf.1 h150
        refine lv_iinc (v := (x5 + 1)) (lv' := [(5, .int (x5 + 1)), (0, .ref (ad 0)), (1, .int x1), (2, .int x2), (3, .int x3), (4, .int x4)]) C.1 C.2.1 dX0_reduces_164 hl (k := 5) rfl rfl (Nat.le_of_ble_eq_true rfl) rfl (fun ls hl => ?_)
        refine lv_goto (tgt := 127) C.1 C.2.1 dX0_reduces_167 (by decide) ?_
        exact hK127 _ _ _ _ _ _ hf hw (lv_sub hl [1, 2, 3, 4, 5, 0] rfl)
      · replace hf := hf.2 h150
        refine lv_aload_n C.1 C.2.1 dX0_reduces_153 rfl (lv_at hl 0 rfl) ?_
        refine lv_iload C.1 C.2.1 dX0_reduces_154 (lv_at hl 4 rfl) ?_
        refine lv_iload C.1 C.2.1 dX0_reduces_156 (lv_at hl 5 rfl) ?_
        refine lv_iload_n C.1 C.2.1 dX0_reduces_158 rfl (lv_at hl 2 rfl) ?_
        refine lv_iload_n C.1 C.2.1 dX0_reduces_159 rfl (lv_at hl 3 rfl) ?_
        refine kx_joins C hw hl.1 (Nat.le_of_ble_eq_true rfl) ⟨Nat.le_of_ble_eq_true rfl, Nat.le_of_ble_eq_true rfl⟩ dX0_reduces_160 hf (fun r160 s160 H locs hf hw => ?_)
        refine lv_istore_n (lv' := [(3, .int r160), (0, .ref (ad 0)), (1, .int x1), (2, .int x2), (4, .int x4), (5, .int x5)]) C.1 C.2.1 dX0_reduces_163 rfl hl (Nat.le_of_ble_eq_true rfl) rfl (fun ls hl => ?_)
        refine lv_iinc (v := (x5 + 1)) (lv' := [(5, .int (x5 + 1)), (3, .int r160), (0, .ref (ad 0)), (1, .int x1), (2, .int x2), (4, .int x4)]) C.1 C.2.1 dX0_reduces_164 hl (k := 5) rfl rfl (Nat.le_of_ble_eq_true rfl) rfl (fun ls hl => ?_)
        refine lv_goto (tgt := 127) C.1 C.2.1 dX0_reduces_167 (by decide) ?_
        exact hK127 _ _ _ _ _ _ hf hw (lv_sub hl [2, 3, 4, 1, 5, 0] rfl)
  have P127 : ∀ (x1 : Int32) (x2 : Int32) (x4 : Int32) (K93 : St → Int32 → Int32 → Prop) (_ : ∀ (σ : St) (H : Heap) (locs : List Loc) (x3 : Int32) (x4 : Int32) (ls : Array Slot), K93 σ x3 x4 → gH D ct shX ad s σ H locs → lv_has ls 6 [(0, .ref (ad 0)), (1, .int x1), (2, .int x2), (3, .int x3), (4, .int x4)] → W p l e rm_x_reduces s m args below meth c H locs 0 0 QQ (F0 m 93 ls [])) (n : Nat) (σ : St) (x3 : Int32) (x5 : Int32) (ls : Array Slot) (H : Heap) (locs : List Loc), LL3 (x_reduces_p127 x1 x2 x4 Q K93) n σ x3 x5 → gH D ct shX ad s σ H locs → lv_has ls 6 [(0, .ref (ad 0)), (1, .int x1), (2, .int x2), (3, .int x3), (4, .int x4), (5, .int x5)] → W p l e rm_x_reduces s m args below meth c H locs 0 0 QQ (F0 m 127 ls []) := by
    intro x1 x2 x4 K93 hK93 n
    induction n with
    | zero => intro σ x3 x5 ls H locs hf; exact False.elim hf
    | succ n ih => intro σ x3 x5 ls H locs hf hw hl; exact B127 x1 x2 x4 K93 hK93 (LL3 _ n) (fun σ H locs x3 x5 ls hf hw hl => ih σ x3 x5 ls H locs hf hw hl) σ H locs x3 x5 ls hf hw hl
  have B93 : ∀ (x1 : Int32) (x2 : Int32) (K93 : St → Int32 → Int32 → Prop) (_ : ∀ (σ : St) (H : Heap) (locs : List Loc) (x3 : Int32) (x4 : Int32) (ls : Array Slot), K93 σ x3 x4 → gH D ct shX ad s σ H locs → lv_has ls 6 [(0, .ref (ad 0)), (1, .int x1), (2, .int x2), (3, .int x3), (4, .int x4)] → W p l e rm_x_reduces s m args below meth c H locs 0 0 QQ (F0 m 93 ls [])) (σ : St) (H : Heap) (locs : List Loc) (x3 : Int32) (x4 : Int32) (ls : Array Slot), x_reduces_p93 x1 x2 Q K93 σ x3 x4 → gH D ct shX ad s σ H locs → lv_has ls 6 [(0, .ref (ad 0)), (1, .int x1), (2, .int x2), (3, .int x3), (4, .int x4)] → W p l e rm_x_reduces s m args below meth c H locs 0 0 QQ (F0 m 93 ls []) := by
    intro x1 x2 K93 hK93 σ H locs x3 x4 ls hf hw hl
    unfold x_reduces_p93 at hf
    refine lv_iload C.1 C.2.1 dX0_reduces_93 (lv_at hl 4 rfl) ?_
    refine lv_aload_n C.1 C.2.1 dX0_reduces_95 rfl (lv_at hl 0 rfl) ?_
    refine xg_goingMany C hw dX0_reduces_96 ?_
    refine lv_icmp_ge (tgt := 176) C.1 C.2.1 dX0_reduces_99 (by decide) (fun h99 => ?_) (fun h99 => ?_)
    · replace hf := hf.1 h99
      refine lv_iload_n C.1 C.2.1 dX0_reduces_176 rfl (lv_at hl 3 rfl) ?_
      obtain ⟨hz, hf⟩ := hf
      exact hret _ _ _ _ _ _ hf hw hz dX0_reduces_177
    · replace hf := hf.2 h99
      refine lv_aload_n C.1 C.2.1 dX0_reduces_102 rfl (lv_at hl 0 rfl) ?_
      refine xg_byOf C hw dX0_reduces_103 ?_
      refine lv_iload C.1 C.2.1 dX0_reduces_106 (lv_at hl 4 rfl) ?_
      obtain ⟨b108, hf⟩ := hf
      refine g_iald C hw 29 rfl b108 dX0_reduces_108 ?_
      refine lv_aload_n C.1 C.2.1 dX0_reduces_109 rfl (lv_at hl 0 rfl) ?_
      refine xg_grammar C hw dX0_reduces_110 ?_
      refine xn_left C hw dX0_reduces_113 ?_
      refine lv_iload_n C.1 C.2.1 dX0_reduces_116 rfl (lv_at hl 1 rfl) ?_
      obtain ⟨b117, hf⟩ := hf
      refine g_iald C hw 83 rfl b117 dX0_reduces_117 ?_
      refine lv_icmp_eq (tgt := 124) C.1 C.2.1 dX0_reduces_118 (by decide) (fun h118 => ?_) (fun h118 => ?_)
      · replace hf := hf.1 h118
        refine lv_iconst (v := 0) C.1 C.2.1 dX0_reduces_124 rfl ?_
        refine lv_istore (lv' := [(5, .int 0), (0, .ref (ad 0)), (1, .int x1), (2, .int x2), (3, .int x3), (4, .int x4)]) C.1 C.2.1 dX0_reduces_125 hl (Nat.le_of_ble_eq_true rfl) rfl (fun ls hl => ?_)
        obtain ⟨n, hf⟩ := hf
        exact P127 _ _ _ _ hK93 n _ _ _ _ _ _ hf hw (lv_sub hl [1, 2, 3, 4, 5, 0] rfl)
      · replace hf := hf.2 h118
        refine lv_goto (tgt := 170) C.1 C.2.1 dX0_reduces_121 (by decide) ?_
        refine lv_iinc (v := (x4 + 1)) (lv' := [(4, .int (x4 + 1)), (0, .ref (ad 0)), (1, .int x1), (2, .int x2), (3, .int x3)]) C.1 C.2.1 dX0_reduces_170 hl (k := 4) rfl rfl (Nat.le_of_ble_eq_true rfl) rfl (fun ls hl => ?_)
        refine lv_goto (tgt := 93) C.1 C.2.1 dX0_reduces_173 (by decide) ?_
        exact hK93 _ _ _ _ _ _ hf hw (lv_sub hl [1, 2, 3, 4, 0] rfl)
  have P93 : ∀ (x1 : Int32) (x2 : Int32) (n : Nat) (σ : St) (x3 : Int32) (x4 : Int32) (ls : Array Slot) (H : Heap) (locs : List Loc), LL3 (x_reduces_p93 x1 x2 Q) n σ x3 x4 → gH D ct shX ad s σ H locs → lv_has ls 6 [(0, .ref (ad 0)), (1, .int x1), (2, .int x2), (3, .int x3), (4, .int x4)] → W p l e rm_x_reduces s m args below meth c H locs 0 0 QQ (F0 m 93 ls []) := by
    intro x1 x2 n
    induction n with
    | zero => intro σ x3 x4 ls H locs hf; exact False.elim hf
    | succ n ih => intro σ x3 x4 ls H locs hf hw hl; exact B93 x1 x2 (LL3 _ n) (fun σ H locs x3 x4 ls hf hw hl => ih σ x3 x4 ls H locs hf hw hl) σ H locs x3 x4 ls hf hw hl
  have B65 : ∀ (x1 : Int32) (x2 : Int32) (x3 : Int32) (K65 : St → Int32 → Prop) (_ : ∀ (σ : St) (H : Heap) (locs : List Loc) (x4 : Int32) (ls : Array Slot), K65 σ x4 → gH D ct shX ad s σ H locs → lv_has ls 6 [(0, .ref (ad 0)), (1, .int x1), (2, .int x2), (3, .int x3), (4, .int x4)] → W p l e rm_x_reduces s m args below meth c H locs 0 0 QQ (F0 m 65 ls [])) (σ : St) (H : Heap) (locs : List Loc) (x4 : Int32) (ls : Array Slot), x_reduces_p65 x1 x2 x3 Q K65 σ x4 → gH D ct shX ad s σ H locs → lv_has ls 6 [(0, .ref (ad 0)), (1, .int x1), (2, .int x2), (3, .int x3), (4, .int x4)] → W p l e rm_x_reduces s m args below meth c H locs 0 0 QQ (F0 m 65 ls []) := by
    intro x1 x2 x3 K65 hK65 σ H locs x4 ls hf hw hl
    unfold x_reduces_p65 at hf
    refine lv_iload C.1 C.2.1 dX0_reduces_65 (lv_at hl 4 rfl) ?_
    refine lv_if_lt (tgt := 90) C.1 C.2.1 dX0_reduces_67 (by decide) (fun h67 => ?_) (fun h67 => ?_)
    · replace hf := hf.1 h67
      refine lv_iconst (v := 0) C.1 C.2.1 dX0_reduces_90 rfl ?_
      refine lv_istore (lv' := [(4, .int 0), (0, .ref (ad 0)), (1, .int x1), (2, .int x2), (3, .int x3)]) C.1 C.2.1 dX0_reduces_91 hl (Nat.le_of_ble_eq_true rfl) rfl (fun ls hl => ?_)
      obtain ⟨n, hf⟩ := hf
      exact P93 _ _ n _ _ _ _ _ _ hf hw (lv_sub hl [1, 2, 3, 4, 0] rfl)
    · replace hf := hf.2 h67
      refine lv_aload_n C.1 C.2.1 dX0_reduces_70 rfl (lv_at hl 0 rfl) ?_
      refine lv_aload_n C.1 C.2.1 dX0_reduces_71 rfl (lv_at hl 0 rfl) ?_
      refine xg_grammar C hw dX0_reduces_72 ?_
      refine lv_iload_n C.1 C.2.1 dX0_reduces_75 rfl (lv_at hl 1 rfl) ?_
      refine lv_iload C.1 C.2.1 dX0_reduces_76 (lv_at hl 4 rfl) ?_
      refine kx_at C hw hl.1 (Nat.le_of_ble_eq_true rfl) ⟨Nat.le_of_ble_eq_true rfl, Nat.le_of_ble_eq_true rfl⟩ dX0_reduces_78 hf (fun r78 hf => ?_)
      refine kx_goesBack C hw hl.1 (Nat.le_of_ble_eq_true rfl) ⟨Nat.le_of_ble_eq_true rfl, Nat.le_of_ble_eq_true rfl⟩ dX0_reduces_81 hf (fun _ s81 H locs hf hw => ?_)
      refine lv_iinc (v := (x4 + (-1))) (lv' := [(4, .int (x4 + (-1))), (0, .ref (ad 0)), (1, .int x1), (2, .int x2), (3, .int x3)]) C.1 C.2.1 dX0_reduces_84 hl (k := 4) rfl rfl (Nat.le_of_ble_eq_true rfl) rfl (fun ls hl => ?_)
      refine lv_goto (tgt := 65) C.1 C.2.1 dX0_reduces_87 (by decide) ?_
      exact hK65 _ _ _ _ _ hf hw (lv_sub hl [1, 2, 3, 4, 0] rfl)
  have P65 : ∀ (x1 : Int32) (x2 : Int32) (x3 : Int32) (n : Nat) (σ : St) (x4 : Int32) (ls : Array Slot) (H : Heap) (locs : List Loc), LL2 (x_reduces_p65 x1 x2 x3 Q) n σ x4 → gH D ct shX ad s σ H locs → lv_has ls 6 [(0, .ref (ad 0)), (1, .int x1), (2, .int x2), (3, .int x3), (4, .int x4)] → W p l e rm_x_reduces s m args below meth c H locs 0 0 QQ (F0 m 65 ls []) := by
    intro x1 x2 x3 n
    induction n with
    | zero => intro σ x4 ls H locs hf; exact False.elim hf
    | succ n ih => intro σ x4 ls H locs hf hw hl; exact B65 x1 x2 x3 (LL2 _ n) (fun σ H locs x4 ls hf hw hl => ih σ x4 ls H locs hf hw hl) σ H locs x4 ls hf hw hl
  have J45 : ∀ (σ : St) (H : Heap) (locs : List Loc) (x1 : Int32) (x2 : Int32) (x3 : Int32) (x4 : Int32) (v0 : Int32) (v1 : Int32) (K5 : St → Int32 → Prop) (_ : ∀ (σ : St) (H : Heap) (locs : List Loc) (x4 : Int32) (ls : Array Slot), K5 σ x4 → gH D ct shX ad s σ H locs → lv_has ls 6 [(0, .ref (ad 0)), (1, .int x1), (2, .int x2), (3, .int x3), (4, .int x4)] → W p l e rm_x_reduces s m args below meth c H locs 0 0 QQ (F0 m 5 ls [])) (ls : Array Slot), x_reduces_p45 σ x1 x2 x3 x4 Q K5 v0 v1 → gH D ct shX ad s σ H locs → lv_has ls 6 [(0, .ref (ad 0)), (1, .int x1), (2, .int x2), (3, .int x3), (4, .int x4)] → W p l e rm_x_reduces s m args below meth c H locs 0 0 QQ (F0 m 45 ls [.int v0, .int v1, .ref (ad 33)]) := by
    intro σ H locs x1 x2 x3 x4 v0 v1 K5 hK5 ls hf hw hl
    unfold x_reduces_p45 at hf
    obtain ⟨b45, hf⟩ := hf
    refine g_iast C shX_sep hw 33 rfl b45 dX0_reduces_45 (fun s45 H locs e45 hw => ?_)
    replace hf := hf s45 e45
    refine lv_iinc (v := (x4 + 1)) (lv' := [(4, .int (x4 + 1)), (0, .ref (ad 0)), (1, .int x1), (2, .int x2), (3, .int x3)]) C.1 C.2.1 dX0_reduces_46 hl (k := 4) rfl rfl (Nat.le_of_ble_eq_true rfl) rfl (fun ls hl => ?_)
    refine lv_goto (tgt := 5) C.1 C.2.1 dX0_reduces_49 (by decide) ?_
    exact hK5 _ _ _ _ _ hf hw (lv_sub hl [1, 2, 3, 4, 0] rfl)
  have B5 : ∀ (x1 : Int32) (x2 : Int32) (x3 : Int32) (K5 : St → Int32 → Prop) (_ : ∀ (σ : St) (H : Heap) (locs : List Loc) (x4 : Int32) (ls : Array Slot), K5 σ x4 → gH D ct shX ad s σ H locs → lv_has ls 6 [(0, .ref (ad 0)), (1, .int x1), (2, .int x2), (3, .int x3), (4, .int x4)] → W p l e rm_x_reduces s m args below meth c H locs 0 0 QQ (F0 m 5 ls [])) (σ : St) (H : Heap) (locs : List Loc) (x4 : Int32) (ls : Array Slot), x_reduces_p5 x1 x2 x3 Q K5 σ x4 → gH D ct shX ad s σ H locs → lv_has ls 6 [(0, .ref (ad 0)), (1, .int x1), (2, .int x2), (3, .int x3), (4, .int x4)] → W p l e rm_x_reduces s m args below meth c H locs 0 0 QQ (F0 m 5 ls []) := by
    intro x1 x2 x3 K5 hK5 σ H locs x4 ls hf hw hl
    unfold x_reduces_p5 at hf
    refine lv_iload C.1 C.2.1 dX0_reduces_5 (lv_at hl 4 rfl) ?_
    refine lv_aload_n C.1 C.2.1 dX0_reduces_7 rfl (lv_at hl 0 rfl) ?_
    refine xg_stateMany C hw dX0_reduces_8 ?_
    refine lv_icmp_ge (tgt := 52) C.1 C.2.1 dX0_reduces_11 (by decide) (fun h11 => ?_) (fun h11 => ?_)
    · replace hf := hf.1 h11
      refine lv_aload_n C.1 C.2.1 dX0_reduces_52 rfl (lv_at hl 0 rfl) ?_
      refine xg_grammar C hw dX0_reduces_53 ?_
      refine xn_size C hw dX0_reduces_56 ?_
      refine lv_iload_n C.1 C.2.1 dX0_reduces_59 rfl (lv_at hl 1 rfl) ?_
      obtain ⟨b60, hf⟩ := hf
      refine g_iald C hw 84 rfl b60 dX0_reduces_60 ?_
      refine lv_iconst (v := 1) C.1 C.2.1 dX0_reduces_61 rfl ?_
      refine lv_isub C.1 C.2.1 dX0_reduces_62 ?_
      refine lv_istore (lv' := [(4, .int ((gI σ 84 x1) - 1)), (0, .ref (ad 0)), (1, .int x1), (2, .int x2), (3, .int x3)]) C.1 C.2.1 dX0_reduces_63 hl (Nat.le_of_ble_eq_true rfl) rfl (fun ls hl => ?_)
      obtain ⟨n, hf⟩ := hf
      exact P65 _ _ _ n _ _ _ _ _ hf hw (lv_sub hl [1, 2, 3, 4, 0] rfl)
    · replace hf := hf.2 h11
      refine lv_aload_n C.1 C.2.1 dX0_reduces_14 rfl (lv_at hl 0 rfl) ?_
      refine xg_maskOf C hw dX0_reduces_15 ?_
      refine lv_iload C.1 C.2.1 dX0_reduces_18 (lv_at hl 4 rfl) ?_
      refine lv_aload_n C.1 C.2.1 dX0_reduces_20 rfl (lv_at hl 0 rfl) ?_
      refine lv_iload C.1 C.2.1 dX0_reduces_21 (lv_at hl 4 rfl) ?_
      refine lv_iload_n C.1 C.2.1 dX0_reduces_23 rfl (lv_at hl 1 rfl) ?_
      refine kx_isAtEnd C hw hl.1 (Nat.le_of_ble_eq_true rfl) ⟨Nat.le_of_ble_eq_true rfl, Nat.le_of_ble_eq_true rfl⟩ dX0_reduces_24 hf (fun r24 hf => ?_)
      refine lv_if_eq (tgt := 44) C.1 C.2.1 dX0_reduces_27 (by decide) (fun h27 => ?_) (fun h27 => ?_)
      · replace hf := hf.1 h27
        refine lv_iconst (v := 0) C.1 C.2.1 dX0_reduces_44 rfl ?_
        exact J45 _ _ _ _ _ _ _ _ _ _ hK5 _ hf hw (lv_sub hl [0, 1, 2, 3, 4] rfl)
      · replace hf := hf.2 h27
        refine lv_aload_n C.1 C.2.1 dX0_reduces_30 rfl (lv_at hl 0 rfl) ?_
        refine xg_aliveOf C hw dX0_reduces_31 ?_
        refine lv_iload C.1 C.2.1 dX0_reduces_34 (lv_at hl 4 rfl) ?_
        obtain ⟨b36, hf⟩ := hf
        refine g_iald C hw 32 rfl b36 dX0_reduces_36 ?_
        refine lv_iconst (v := 1) C.1 C.2.1 dX0_reduces_37 rfl ?_
        refine lv_iload_n C.1 C.2.1 dX0_reduces_38 rfl (lv_at hl 2 rfl) ?_
        refine lv_ishl C.1 C.2.1 dX0_reduces_39 ?_
        refine lv_iand C.1 C.2.1 dX0_reduces_40 ?_
        refine lv_goto (tgt := 45) C.1 C.2.1 dX0_reduces_41 (by decide) ?_
        exact J45 _ _ _ _ _ _ _ _ _ _ hK5 _ hf hw (lv_sub hl [0, 1, 2, 3, 4] rfl)
  have P5 : ∀ (x1 : Int32) (x2 : Int32) (x3 : Int32) (n : Nat) (σ : St) (x4 : Int32) (ls : Array Slot) (H : Heap) (locs : List Loc), LL2 (x_reduces_p5 x1 x2 x3 Q) n σ x4 → gH D ct shX ad s σ H locs → lv_has ls 6 [(0, .ref (ad 0)), (1, .int x1), (2, .int x2), (3, .int x3), (4, .int x4)] → W p l e rm_x_reduces s m args below meth c H locs 0 0 QQ (F0 m 5 ls []) := by
    intro x1 x2 x3 n
    induction n with
    | zero => intro σ x4 ls H locs hf; exact False.elim hf
    | succ n ih => intro σ x4 ls H locs hf hw hl; exact B5 x1 x2 x3 (LL2 _ n) (fun σ H locs x4 ls hf hw hl => ih σ x4 ls H locs hf hw hl) σ H locs x4 ls hf hw hl
  unfold x_reduces at hf
  obtain ⟨H, hH⟩ : ∃ q, q = s.heap := ⟨_, rfl⟩
  obtain ⟨locs, hL⟩ : ∃ q : List Loc, q = [] := ⟨_, rfl⟩
  rw [← hH, ← hL] at hw ⊢
  refine lv_iconst (v := 0) C.1 C.2.1 dX0_reduces_0 rfl ?_
  refine lv_istore_n (lv' := [(3, .int 0), (0, .ref (ad 0)), (1, .int x1), (2, .int x2)]) C.1 C.2.1 dX0_reduces_1 rfl hl (Nat.le_of_ble_eq_true rfl) rfl (fun ls hl => ?_)
  refine lv_iconst (v := 0) C.1 C.2.1 dX0_reduces_2 rfl ?_
  refine lv_istore (lv' := [(4, .int 0), (3, .int 0), (0, .ref (ad 0)), (1, .int x1), (2, .int x2)]) C.1 C.2.1 dX0_reduces_3 hl (Nat.le_of_ble_eq_true rfl) rfl (fun ls hl => ?_)
  obtain ⟨n, hf⟩ := hf
  exact P5 _ _ _ n _ _ _ _ _ hf hw (lv_sub hl [2, 3, 4, 1, 0] rfl)
theorem kx_reduces {p : Program} {l : Launch} {e : Env} {R : Room} {s : State} {m : MethodId} {args : Array Value} {below : List Frame} {meth : Method} {c : Code} {H : Heap} {locs : List Loc} {Z : State → Prop} {cc : ByteArray} {nL pc : Nat} {ls : Array Slot} {rest : List Value} {D : va_G} {ct : Ct} {ad : Nat → Nat} {σ : St} {x1 : Int32} {x2 : Int32} {Qp : Int32 → St → Prop} (C : CallFix p m c cc nL s args lw_all RX0) (hw : gH D ct shX ad s σ H locs) (hsz : ls.size = nL) (hrm : (rest.map fun v => v.category).sum ≤ 8) (hR : rm_x_reduces.frames + 1 ≤ R.frames ∧ 8 + (6 + 11) + rm_x_reduces.locals ≤ R.locals) (hdg : decode cc pc = .ok (.invokevirtual 516, 3)) (hf : x_reduces σ x1 x2 Qp) (kk : ∀ (r : Int32) (σ1 : St) (H1 : Heap) (locs1 : List Loc), Qp r σ1 → gH D ct shX ad s σ1 H1 locs1 → W p l e R s m args below meth c H1 locs1 0 0 Z (F0 m (pc + 3) ls (.int r :: rest))) : W p l e R s m args below meth c H locs 0 0 Z (F0 m pc ls (.int x2 :: .int x1 :: .ref (ad 0) :: rest)) :=
  g_callV (As := [.int x1, .int x2]) (rest := rest) C hw rfl rfl (met_x_reduces l D ct ad hw.2.1 σ x1 x2 Qp hf) (cwV 2 C.2.2.2.2 (lw_V q1037 q1039 qs66 q200 q1040) rfl rfl rfl (by decide +kernel) hR) rfl hsz rfl hrm ⟨Nat.zero_le _, Nat.zero_le _⟩ hdg kk
def x_canBeBelow (σ : St) (x1 : Int32) (x2 : Int32) (x3 : Int32) (Q : Int32 → Prop) : Prop :=
  (((fx_isOn σ x3) = 0 → Q 0) ∧ (¬ (fx_isOn σ x3) = 0 → (vp_in x3 12 ∧ (x_at σ x1 x2 (fun r23 => (((gI σ 83 x3) = r23 → (x_isForbidden σ x1 x2 x3 (fun r33 => ((r33 = 0 → Q 1) ∧ (¬ r33 = 0 → Q 0))))) ∧ (¬ (gI σ 83 x3) = r23 → Q 0)))))))
abbrev rm_x_canBeBelow : Room := { frames := 4, cells := 0, slots := 0, locals := 143 }
set_option maxHeartbeats 4000000 in
theorem met_x_canBeBelow (l : Launch) (D : va_G) (ct : Ct) (ad : Nat → Nat) (hJ : gJ shX ad ct) (σ : St) (x1 : Int32) (x2 : Int32) (x3 : Int32) (Q : Int32 → Prop) (hf : x_canBeBelow σ x1 x2 x3 Q) : Met l yX0_canBeBelow (ws_ yX0_canBeBelow cX0_canBeBelow 4 (some .boolean)) rm_x_canBeBelow (va_Pc [.ref (ad 0), .int x1, .int x2, .int x3] (gP D ct shX ad σ)) (gR rvI Q) 0 0 (fun _ => False) := by
  refine g_metRZ hJ (by decide) (Nat.le_of_ble_eq_true rfl) ?_
  intro p e s m args below meth c QQ ls H C hw hl hret
  replace hl : lv_has ls 4 [(0, .ref (ad 0)), (1, .int x1), (2, .int x2), (3, .int x3)] := hl
  unfold x_canBeBelow at hf
  refine lv_aload_n C.1 C.2.1 dX0_canBeBelow_0 rfl (lv_at hl 0 rfl) ?_
  refine lv_iload_n C.1 C.2.1 dX0_canBeBelow_1 rfl (lv_at hl 3 rfl) ?_
  refine kx_isOn C hw hl.1 (Nat.le_of_ble_eq_true rfl) ⟨Nat.le_of_ble_eq_true rfl, Nat.le_of_ble_eq_true rfl⟩ dX0_canBeBelow_2 ?_
  refine lv_if_eq (tgt := 43) C.1 C.2.1 dX0_canBeBelow_5 (by decide) (fun h5 => ?_) (fun h5 => ?_)
  · replace hf := hf.1 h5
    refine lv_iconst (v := 0) C.1 C.2.1 dX0_canBeBelow_43 rfl ?_
    exact hret _ _ _ hf (Or.inl rfl) dX0_canBeBelow_44
  · replace hf := hf.2 h5
    refine lv_aload_n C.1 C.2.1 dX0_canBeBelow_8 rfl (lv_at hl 0 rfl) ?_
    refine xg_grammar C hw dX0_canBeBelow_9 ?_
    refine xn_left C hw dX0_canBeBelow_12 ?_
    refine lv_iload_n C.1 C.2.1 dX0_canBeBelow_15 rfl (lv_at hl 3 rfl) ?_
    obtain ⟨b16, hf⟩ := hf
    refine g_iald C hw 83 rfl b16 dX0_canBeBelow_16 ?_
    refine lv_aload_n C.1 C.2.1 dX0_canBeBelow_17 rfl (lv_at hl 0 rfl) ?_
    refine xg_grammar C hw dX0_canBeBelow_18 ?_
    refine lv_iload_n C.1 C.2.1 dX0_canBeBelow_21 rfl (lv_at hl 1 rfl) ?_
    refine lv_iload_n C.1 C.2.1 dX0_canBeBelow_22 rfl (lv_at hl 2 rfl) ?_
    refine kx_at C hw hl.1 (Nat.le_of_ble_eq_true rfl) ⟨Nat.le_of_ble_eq_true rfl, Nat.le_of_ble_eq_true rfl⟩ dX0_canBeBelow_23 hf (fun r23 hf => ?_)
    refine lv_icmp_ne (tgt := 43) C.1 C.2.1 dX0_canBeBelow_26 (by decide) (fun h26 => ?_) (fun h26 => ?_)
    · replace hf := hf.2 h26
      refine lv_iconst (v := 0) C.1 C.2.1 dX0_canBeBelow_43 rfl ?_
      exact hret _ _ _ hf (Or.inl rfl) dX0_canBeBelow_44
    · replace hf := hf.1 h26
      refine lv_aload_n C.1 C.2.1 dX0_canBeBelow_29 rfl (lv_at hl 0 rfl) ?_
      refine lv_iload_n C.1 C.2.1 dX0_canBeBelow_30 rfl (lv_at hl 1 rfl) ?_
      refine lv_iload_n C.1 C.2.1 dX0_canBeBelow_31 rfl (lv_at hl 2 rfl) ?_
      refine lv_iload_n C.1 C.2.1 dX0_canBeBelow_32 rfl (lv_at hl 3 rfl) ?_
      refine kx_isForbidden C hw hl.1 (Nat.le_of_ble_eq_true rfl) ⟨Nat.le_of_ble_eq_true rfl, Nat.le_of_ble_eq_true rfl⟩ dX0_canBeBelow_33 hf (fun r33 hf => ?_)
      refine lv_if_ne (tgt := 43) C.1 C.2.1 dX0_canBeBelow_36 (by decide) (fun h36 => ?_) (fun h36 => ?_)
      · replace hf := hf.2 h36
        refine lv_iconst (v := 0) C.1 C.2.1 dX0_canBeBelow_43 rfl ?_
        exact hret _ _ _ hf (Or.inl rfl) dX0_canBeBelow_44
      · replace hf := hf.1 h36
        refine lv_iconst (v := 1) C.1 C.2.1 dX0_canBeBelow_39 rfl ?_
        refine lv_goto (tgt := 44) C.1 C.2.1 dX0_canBeBelow_40 (by decide) ?_
        exact hret _ _ _ hf (Or.inr rfl) dX0_canBeBelow_44
theorem kx_canBeBelow {p : Program} {l : Launch} {e : Env} {R : Room} {s : State} {m : MethodId} {args : Array Value} {below : List Frame} {meth : Method} {c : Code} {H : Heap} {locs : List Loc} {Z : State → Prop} {cc : ByteArray} {nL pc : Nat} {ls : Array Slot} {rest : List Value} {D : va_G} {ct : Ct} {ad : Nat → Nat} {σ : St} {x1 : Int32} {x2 : Int32} {x3 : Int32} {Qp : Int32 → Prop} (C : CallFix p m c cc nL s args lw_all RX0) (hw : gH D ct shX ad s σ H locs) (hsz : ls.size = nL) (hrm : (rest.map fun v => v.category).sum ≤ 8) (hR : rm_x_canBeBelow.frames + 1 ≤ R.frames ∧ 8 + (4 + 11) + rm_x_canBeBelow.locals ≤ R.locals) (hdg : decode cc pc = .ok (.invokevirtual 549, 3)) (hf : x_canBeBelow σ x1 x2 x3 Qp) (kk : ∀ (r : Int32), Qp r → W p l e R s m args below meth c H locs 0 0 Z (F0 m (pc + 3) ls (.int r :: rest))) : W p l e R s m args below meth c H locs 0 0 Z (F0 m pc ls (.int x3 :: .int x2 :: .int x1 :: .ref (ad 0) :: rest)) :=
  g_callVR (As := [.int x1, .int x2, .int x3]) (rest := rest) C hw rfl rfl (met_x_canBeBelow l D ct ad hw.2.1 σ x1 x2 x3 Qp hf) (cwV 3 C.2.2.2.2 (lw_V q329 q331 qs4 q200 q332) rfl rfl rfl (by decide +kernel) hR) rfl hsz rfl hrm ⟨Nat.zero_le _, Nat.zero_le _⟩ hdg kk
def x_speaks_p20 (Q : Int32 → St → Prop) (K20 : St → Int32 → Prop) (σ : St) (x1 : Int32) : Prop :=
  ((30 ≤ x1 → (x_firstCapital σ (fun r85 => ((r85 = (-1) → Q 1 σ) ∧ (¬ r85 = (-1) → Q 0 σ))))) ∧ (¬ 30 ≤ x1 → (x_firstCapital σ (fun r27 => ((r27 = (-1) → Q 1 σ) ∧ (¬ r27 = (-1) → (vp_in r27 24 ∧ (x_rulesMany σ (gI σ 64 r27) (fun r45 => ((r45 = 0 → Q 0 σ) ∧ (¬ r45 = 0 → (x_drawn σ r45 (fun r64 s64 => (x_ruleOf s64 (gI σ 64 r27) r64 (fun r67 => (x_puts s64 r27 r67 (fun r70 s70 => ((r70 = 0 → Q 0 s70) ∧ (¬ r70 = 0 → K20 s70 (x1 + 1))))))))))))))))))))
def x_speaks (σ : St) (Q : Int32 → St → Prop) : Prop :=
  (∀ s12 : St, s12 = s_A σ 64 (Int32.toNatClampNeg 0) (σ.1 82) → (∀ s15 : St, s15 = s_I s12 65 1 → (Lp2 (x_speaks_p20 Q) s15 0)))
abbrev rm_x_speaks : Room := { frames := 3, cells := 0, slots := 0, locals := 88 }
set_option maxHeartbeats 4000000 in
theorem met_x_speaks (l : Launch) (D : va_G) (ct : Ct) (ad : Nat → Nat) (hJ : gJ shX ad ct) (σ : St) (Q : Int32 → St → Prop) (hf : x_speaks σ Q) : Met l yX0_speaks (ws_ yX0_speaks cX0_speaks 4 (some .boolean)) rm_x_speaks (va_Pc [.ref (ad 0)] (gP D ct shX ad σ)) (gQ rvI D ct shX ad Q) 0 0 (gA shX ad) := by
  refine g_metZ hJ (by decide) (Nat.le_of_ble_eq_true rfl) ?_
  intro p e s m args below meth c QQ ls C hw hl hret
  replace hl : lv_has ls 4 [(0, .ref (ad 0))] := hl
  have B20 : ∀ (K20 : St → Int32 → Prop) (_ : ∀ (σ : St) (H : Heap) (locs : List Loc) (x1 : Int32) (ls : Array Slot), K20 σ x1 → gH D ct shX ad s σ H locs → lv_has ls 4 [(0, .ref (ad 0)), (1, .int x1)] → W p l e rm_x_speaks s m args below meth c H locs 0 0 QQ (F0 m 20 ls [])) (σ : St) (H : Heap) (locs : List Loc) (x1 : Int32) (ls : Array Slot), x_speaks_p20 Q K20 σ x1 → gH D ct shX ad s σ H locs → lv_has ls 4 [(0, .ref (ad 0)), (1, .int x1)] → W p l e rm_x_speaks s m args below meth c H locs 0 0 QQ (F0 m 20 ls []) := by
    intro K20 hK20 σ H locs x1 ls hf hw hl
    unfold x_speaks_p20 at hf
    refine lv_iload_n C.1 C.2.1 dX0_speaks_20 rfl (lv_at hl 1 rfl) ?_
    refine lv_bipush (v := 30) C.1 C.2.1 dX0_speaks_21 rfl ?_
    refine lv_icmp_ge (tgt := 84) C.1 C.2.1 dX0_speaks_23 (by decide) (fun h23 => ?_) (fun h23 => ?_)
    · replace hf := hf.1 h23
      refine lv_aload_n C.1 C.2.1 dX0_speaks_84 rfl (lv_at hl 0 rfl) ?_
      refine kx_firstCapital C hw hl.1 (Nat.le_of_ble_eq_true rfl) ⟨Nat.le_of_ble_eq_true rfl, Nat.le_of_ble_eq_true rfl⟩ dX0_speaks_85 hf (fun r85 hf => ?_)
      refine lv_iconst (v := (-1)) C.1 C.2.1 dX0_speaks_88 rfl ?_
      refine lv_icmp_ne (tgt := 96) C.1 C.2.1 dX0_speaks_89 (by decide) (fun h89 => ?_) (fun h89 => ?_)
      · replace hf := hf.2 h89
        refine lv_iconst (v := 0) C.1 C.2.1 dX0_speaks_96 rfl ?_
        exact hret _ _ _ _ _ _ hf hw (Or.inl rfl) dX0_speaks_97
      · replace hf := hf.1 h89
        refine lv_iconst (v := 1) C.1 C.2.1 dX0_speaks_92 rfl ?_
        refine lv_goto (tgt := 97) C.1 C.2.1 dX0_speaks_93 (by decide) ?_
        exact hret _ _ _ _ _ _ hf hw (Or.inr rfl) dX0_speaks_97
    · replace hf := hf.2 h23
      refine lv_aload_n C.1 C.2.1 dX0_speaks_26 rfl (lv_at hl 0 rfl) ?_
      refine kx_firstCapital C hw hl.1 (Nat.le_of_ble_eq_true rfl) ⟨Nat.le_of_ble_eq_true rfl, Nat.le_of_ble_eq_true rfl⟩ dX0_speaks_27 hf (fun r27 hf => ?_)
      refine lv_istore_n (lv' := [(2, .int r27), (0, .ref (ad 0)), (1, .int x1)]) C.1 C.2.1 dX0_speaks_30 rfl hl (Nat.le_of_ble_eq_true rfl) rfl (fun ls hl => ?_)
      refine lv_iload_n C.1 C.2.1 dX0_speaks_31 rfl (lv_at hl 0 rfl) ?_
      refine lv_iconst (v := (-1)) C.1 C.2.1 dX0_speaks_32 rfl ?_
      refine lv_icmp_ne (tgt := 38) C.1 C.2.1 dX0_speaks_33 (by decide) (fun h33 => ?_) (fun h33 => ?_)
      · replace hf := hf.2 h33
        refine lv_aload_n C.1 C.2.1 dX0_speaks_38 rfl (lv_at hl 1 rfl) ?_
        refine lv_aload_n C.1 C.2.1 dX0_speaks_39 rfl (lv_at hl 1 rfl) ?_
        refine xg_spoken C hw dX0_speaks_40 ?_
        refine lv_iload_n C.1 C.2.1 dX0_speaks_43 rfl (lv_at hl 0 rfl) ?_
        obtain ⟨b44, hf⟩ := hf
        refine g_iald C hw 64 rfl b44 dX0_speaks_44 ?_
        refine kx_rulesMany C hw hl.1 (Nat.le_of_ble_eq_true rfl) ⟨Nat.le_of_ble_eq_true rfl, Nat.le_of_ble_eq_true rfl⟩ dX0_speaks_45 hf (fun r45 hf => ?_)
        refine lv_istore_n (lv' := [(3, .int r45), (2, .int r27), (0, .ref (ad 0)), (1, .int x1)]) C.1 C.2.1 dX0_speaks_48 rfl hl (Nat.le_of_ble_eq_true rfl) rfl (fun ls hl => ?_)
        refine lv_iload_n C.1 C.2.1 dX0_speaks_49 rfl (lv_at hl 0 rfl) ?_
        refine lv_if_eq (tgt := 76) C.1 C.2.1 dX0_speaks_50 (by decide) (fun h50 => ?_) (fun h50 => ?_)
        · replace hf := hf.1 h50
          refine lv_iconst (v := 0) C.1 C.2.1 dX0_speaks_76 rfl ?_
          exact hret _ _ _ _ _ _ hf hw (Or.inl rfl) dX0_speaks_77
        · replace hf := hf.2 h50
          refine lv_aload_n C.1 C.2.1 dX0_speaks_53 rfl (lv_at hl 2 rfl) ?_
          refine lv_iload_n C.1 C.2.1 dX0_speaks_54 rfl (lv_at hl 1 rfl) ?_
          refine lv_aload_n C.1 C.2.1 dX0_speaks_55 rfl (lv_at hl 2 rfl) ?_
          refine lv_aload_n C.1 C.2.1 dX0_speaks_56 rfl (lv_at hl 2 rfl) ?_
          refine xg_spoken C hw dX0_speaks_57 ?_
          refine lv_iload_n C.1 C.2.1 dX0_speaks_60 rfl (lv_at hl 1 rfl) ?_
          refine g_iald C hw 64 rfl b44 dX0_speaks_61 ?_
          refine lv_aload_n C.1 C.2.1 dX0_speaks_62 rfl (lv_at hl 2 rfl) ?_
          refine lv_iload_n C.1 C.2.1 dX0_speaks_63 rfl (lv_at hl 0 rfl) ?_
          refine kx_drawn C hw hl.1 (Nat.le_of_ble_eq_true rfl) ⟨Nat.le_of_ble_eq_true rfl, Nat.le_of_ble_eq_true rfl⟩ dX0_speaks_64 hf (fun r64 s64 H locs hf hw => ?_)
          refine kx_ruleOf C hw hl.1 (Nat.le_of_ble_eq_true rfl) ⟨Nat.le_of_ble_eq_true rfl, Nat.le_of_ble_eq_true rfl⟩ dX0_speaks_67 hf (fun r67 hf => ?_)
          refine kx_puts C hw hl.1 (Nat.le_of_ble_eq_true rfl) ⟨Nat.le_of_ble_eq_true rfl, Nat.le_of_ble_eq_true rfl⟩ dX0_speaks_70 hf (fun r70 s70 H locs hf hw => ?_)
          refine lv_if_ne (tgt := 78) C.1 C.2.1 dX0_speaks_73 (by decide) (fun h73 => ?_) (fun h73 => ?_)
          · replace hf := hf.2 h73
            refine lv_iinc (v := (x1 + 1)) (lv' := [(1, .int (x1 + 1)), (3, .int r45), (2, .int r27), (0, .ref (ad 0))]) C.1 C.2.1 dX0_speaks_78 hl (k := 3) rfl rfl (Nat.le_of_ble_eq_true rfl) rfl (fun ls hl => ?_)
            refine lv_goto (tgt := 20) C.1 C.2.1 dX0_speaks_81 (by decide) ?_
            exact hK20 _ _ _ _ _ hf hw (lv_sub hl [3, 0] rfl)
          · replace hf := hf.1 h73
            refine lv_iconst (v := 0) C.1 C.2.1 dX0_speaks_76 rfl ?_
            exact hret _ _ _ _ _ _ hf hw (Or.inl rfl) dX0_speaks_77
      · replace hf := hf.1 h33
        refine lv_iconst (v := 1) C.1 C.2.1 dX0_speaks_36 rfl ?_
        exact hret _ _ _ _ _ _ hf hw (Or.inr rfl) dX0_speaks_37
  have P20 : ∀ (n : Nat) (σ : St) (x1 : Int32) (ls : Array Slot) (H : Heap) (locs : List Loc), LL2 (x_speaks_p20 Q) n σ x1 → gH D ct shX ad s σ H locs → lv_has ls 4 [(0, .ref (ad 0)), (1, .int x1)] → W p l e rm_x_speaks s m args below meth c H locs 0 0 QQ (F0 m 20 ls []) := by
    intro  n
    induction n with
    | zero => intro σ x1 ls H locs hf; exact False.elim hf
    | succ n ih => intro σ x1 ls H locs hf hw hl; exact B20  (LL2 _ n) (fun σ H locs x1 ls hf hw hl => ih σ x1 ls H locs hf hw hl) σ H locs x1 ls hf hw hl
  unfold x_speaks at hf
  obtain ⟨H, hH⟩ : ∃ q, q = s.heap := ⟨_, rfl⟩
  obtain ⟨locs, hL⟩ : ∃ q : List Loc, q = [] := ⟨_, rfl⟩
  rw [← hH, ← hL] at hw ⊢
  refine lv_aload_n C.1 C.2.1 dX0_speaks_0 rfl (lv_at hl 0 rfl) ?_
  refine xg_spoken C hw dX0_speaks_1 ?_
  refine lv_iconst (v := 0) C.1 C.2.1 dX0_speaks_4 rfl ?_
  refine lv_aload_n C.1 C.2.1 dX0_speaks_5 rfl (lv_at hl 0 rfl) ?_
  refine xg_grammar C hw dX0_speaks_6 ?_
  refine xn_start C hw dX0_speaks_9 ?_
  refine g_iast C shX_sep hw 64 rfl (vpD rfl) dX0_speaks_12 (fun s12 H locs e12 hw => ?_)
  replace hf := hf s12 e12
  refine lv_aload_n C.1 C.2.1 dX0_speaks_13 rfl (lv_at hl 0 rfl) ?_
  refine lv_iconst (v := 1) C.1 C.2.1 dX0_speaks_14 rfl ?_
  refine xp_spokenMany C hw dX0_speaks_15 (fun s15 H locs e15 hw => ?_)
  replace hf := hf s15 e15
  refine lv_iconst (v := 0) C.1 C.2.1 dX0_speaks_18 rfl ?_
  refine lv_istore_n (lv' := [(1, .int 0), (0, .ref (ad 0))]) C.1 C.2.1 dX0_speaks_19 rfl hl (Nat.le_of_ble_eq_true rfl) rfl (fun ls hl => ?_)
  obtain ⟨n, hf⟩ := hf
  exact P20  n _ _ _ _ _ hf hw (lv_sub hl [1, 0] rfl)
theorem kx_speaks {p : Program} {l : Launch} {e : Env} {R : Room} {s : State} {m : MethodId} {args : Array Value} {below : List Frame} {meth : Method} {c : Code} {H : Heap} {locs : List Loc} {Z : State → Prop} {cc : ByteArray} {nL pc : Nat} {ls : Array Slot} {rest : List Value} {D : va_G} {ct : Ct} {ad : Nat → Nat} {σ : St} {Qp : Int32 → St → Prop} (C : CallFix p m c cc nL s args lw_all RX0) (hw : gH D ct shX ad s σ H locs) (hsz : ls.size = nL) (hrm : (rest.map fun v => v.category).sum ≤ 8) (hR : rm_x_speaks.frames + 1 ≤ R.frames ∧ 8 + (4 + 11) + rm_x_speaks.locals ≤ R.locals) (hdg : decode cc pc = .ok (.invokevirtual 696, 3)) (hf : x_speaks σ Qp) (kk : ∀ (r : Int32) (σ1 : St) (H1 : Heap) (locs1 : List Loc), Qp r σ1 → gH D ct shX ad s σ1 H1 locs1 → W p l e R s m args below meth c H1 locs1 0 0 Z (F0 m (pc + 3) ls (.int r :: rest))) : W p l e R s m args below meth c H locs 0 0 Z (F0 m pc ls (.ref (ad 0) :: rest)) :=
  g_callV (As := []) (rest := rest) C hw rfl rfl (met_x_speaks l D ct ad hw.2.1 σ Qp hf) (cwV 0 C.2.2.2.2 (lw_V q1243 q1245 qs93 q200 q1246) rfl rfl rfl (by decide +kernel) hR) rfl hsz rfl hrm ⟨Nat.zero_le _, Nat.zero_le _⟩ hdg kk
