set_option maxRecDepth 100000
def x_comesBack_p19 (σ : St) (x1 : Int32) (x2 : Int32) (x4 : Int32) (Q : Int32 → Prop) (K10 : Int32 → Int32 → Prop) (K19 : Int32 → Int32 → Prop) (x3 : Int32) (x5 : Int32) : Prop :=
  ((26 ≤ x5 → K10 x3 (x4 + 1)) ∧ (¬ 26 ≤ x5 → (((fx_has x3 x5) = 0 → K19 x3 (x5 + 1)) ∧ (¬ (fx_has x3 x5) = 0 → (x_stepsFrom σ x5 x2 (fun r40 => K19 (x3 ||| r40) (x5 + 1)))))))
def x_comesBack_p10 (σ : St) (x1 : Int32) (x2 : Int32) (Q : Int32 → Prop) (K10 : Int32 → Int32 → Prop) (x3 : Int32) (x4 : Int32) : Prop :=
  ((5 ≤ x4 → (zB (fx_has x3 x1) ∧ Q (fx_has x3 x1))) ∧ (¬ 5 ≤ x4 → (Lp2 (x_comesBack_p19 σ x1 x2 x4 Q K10) x3 0)))
def x_comesBack (σ : St) (x1 : Int32) (x2 : Int32) (Q : Int32 → Prop) : Prop :=
  (x_stepsFrom σ x1 x2 (fun r3 => (Lp2 (x_comesBack_p10 σ x1 x2 Q) r3 0)))
abbrev rm_x_comesBack : Room := { frames := 4, cells := 0, slots := 0, locals := 91 }
set_option maxHeartbeats 4000000 in
theorem met_x_comesBack (l : Launch) (D : va_G) (ct : Ct) (ad : Nat → Nat) (hJ : gJ shX ad ct) (σ : St) (x1 : Int32) (x2 : Int32) (Q : Int32 → Prop) (hf : x_comesBack σ x1 x2 Q) : Met l yX0_comesBack (ws_ yX0_comesBack cX0_comesBack 6 (some .boolean)) rm_x_comesBack (va_Pc [.ref (ad 0), .int x1, .int x2] (gP D ct shX ad σ)) (gR rvI Q) 0 0 (fun _ => False) := by
  refine g_metRZ hJ (by decide) (Nat.le_of_ble_eq_true rfl) ?_
  intro p e s m args below meth c QQ ls H C hw hl hret
  replace hl : lv_has ls 6 [(0, .ref (ad 0)), (1, .int x1), (2, .int x2)] := hl
  have B19 : ∀ (x1 : Int32) (x2 : Int32) (x4 : Int32) (K10 : Int32 → Int32 → Prop) (_ : ∀ (x3 : Int32) (x4 : Int32) (ls : Array Slot), K10 x3 x4 → lv_has ls 6 [(0, .ref (ad 0)), (1, .int x1), (2, .int x2), (3, .int x3), (4, .int x4)] → W p l e rm_x_comesBack s m args below meth c H [] 0 0 QQ (F0 m 10 ls [])) (K19 : Int32 → Int32 → Prop) (_ : ∀ (x3 : Int32) (x5 : Int32) (ls : Array Slot), K19 x3 x5 → lv_has ls 6 [(0, .ref (ad 0)), (1, .int x1), (2, .int x2), (3, .int x3), (4, .int x4), (5, .int x5)] → W p l e rm_x_comesBack s m args below meth c H [] 0 0 QQ (F0 m 19 ls [])) (x3 : Int32) (x5 : Int32) (ls : Array Slot), x_comesBack_p19 σ x1 x2 x4 Q K10 K19 x3 x5 → lv_has ls 6 [(0, .ref (ad 0)), (1, .int x1), (2, .int x2), (3, .int x3), (4, .int x4), (5, .int x5)] → W p l e rm_x_comesBack s m args below meth c H [] 0 0 QQ (F0 m 19 ls []) := by
    intro x1 x2 x4 K10 hK10 K19 hK19 x3 x5 ls hf hl
    unfold x_comesBack_p19 at hf
    refine lv_iload C.1 C.2.1 dX0_comesBack_19 (lv_at hl 5 rfl) ?_
    refine lv_bipush (v := 26) C.1 C.2.1 dX0_comesBack_21 rfl ?_
    refine lv_icmp_ge (tgt := 51) C.1 C.2.1 dX0_comesBack_23 (by decide) (fun h23 => ?_) (fun h23 => ?_)
    · replace hf := hf.1 h23
      refine lv_iinc (v := (x4 + 1)) (lv' := [(4, .int (x4 + 1)), (0, .ref (ad 0)), (1, .int x1), (2, .int x2), (3, .int x3), (5, .int x5)]) C.1 C.2.1 dX0_comesBack_51 hl (k := 4) rfl rfl (Nat.le_of_ble_eq_true rfl) rfl (fun ls hl => ?_)
      refine lv_goto (tgt := 10) C.1 C.2.1 dX0_comesBack_54 (by decide) ?_
      exact hK10 _ _ _ hf (lv_sub hl [1, 2, 3, 4, 0] rfl)
    · replace hf := hf.2 h23
      refine lv_iload_n C.1 C.2.1 dX0_comesBack_26 rfl (lv_at hl 3 rfl) ?_
      refine lv_iload C.1 C.2.1 dX0_comesBack_27 (lv_at hl 5 rfl) ?_
      refine kx_has C hl.1 (Nat.le_of_ble_eq_true rfl) ⟨Nat.le_of_ble_eq_true rfl, Nat.le_of_ble_eq_true rfl⟩ dX0_comesBack_29 ?_
      refine lv_if_eq (tgt := 45) C.1 C.2.1 dX0_comesBack_32 (by decide) (fun h32 => ?_) (fun h32 => ?_)
      · replace hf := hf.1 h32
        refine lv_iinc (v := (x5 + 1)) (lv' := [(5, .int (x5 + 1)), (0, .ref (ad 0)), (1, .int x1), (2, .int x2), (3, .int x3), (4, .int x4)]) C.1 C.2.1 dX0_comesBack_45 hl (k := 5) rfl rfl (Nat.le_of_ble_eq_true rfl) rfl (fun ls hl => ?_)
        refine lv_goto (tgt := 19) C.1 C.2.1 dX0_comesBack_48 (by decide) ?_
        exact hK19 _ _ _ hf (lv_sub hl [1, 2, 3, 4, 5, 0] rfl)
      · replace hf := hf.2 h32
        refine lv_iload_n C.1 C.2.1 dX0_comesBack_35 rfl (lv_at hl 3 rfl) ?_
        refine lv_aload_n C.1 C.2.1 dX0_comesBack_36 rfl (lv_at hl 0 rfl) ?_
        refine lv_iload C.1 C.2.1 dX0_comesBack_37 (lv_at hl 5 rfl) ?_
        refine lv_iload_n C.1 C.2.1 dX0_comesBack_39 rfl (lv_at hl 2 rfl) ?_
        refine kx_stepsFrom C hw hl.1 (Nat.le_of_ble_eq_true rfl) ⟨Nat.le_of_ble_eq_true rfl, Nat.le_of_ble_eq_true rfl⟩ dX0_comesBack_40 hf (fun r40 hf => ?_)
        refine lv_ior C.1 C.2.1 dX0_comesBack_43 ?_
        refine lv_istore_n (lv' := [(3, .int (x3 ||| r40)), (0, .ref (ad 0)), (1, .int x1), (2, .int x2), (4, .int x4), (5, .int x5)]) C.1 C.2.1 dX0_comesBack_44 rfl hl (Nat.le_of_ble_eq_true rfl) rfl (fun ls hl => ?_)
        refine lv_iinc (v := (x5 + 1)) (lv' := [(5, .int (x5 + 1)), (3, .int (x3 ||| r40)), (0, .ref (ad 0)), (1, .int x1), (2, .int x2), (4, .int x4)]) C.1 C.2.1 dX0_comesBack_45 hl (k := 5) rfl rfl (Nat.le_of_ble_eq_true rfl) rfl (fun ls hl => ?_)
        refine lv_goto (tgt := 19) C.1 C.2.1 dX0_comesBack_48 (by decide) ?_
        exact hK19 _ _ _ hf (lv_sub hl [2, 3, 4, 1, 5, 0] rfl)
  have P19 : ∀ (x1 : Int32) (x2 : Int32) (x4 : Int32) (K10 : Int32 → Int32 → Prop) (_ : ∀ (x3 : Int32) (x4 : Int32) (ls : Array Slot), K10 x3 x4 → lv_has ls 6 [(0, .ref (ad 0)), (1, .int x1), (2, .int x2), (3, .int x3), (4, .int x4)] → W p l e rm_x_comesBack s m args below meth c H [] 0 0 QQ (F0 m 10 ls [])) (n : Nat) (x3 : Int32) (x5 : Int32) (ls : Array Slot), LL2 (x_comesBack_p19 σ x1 x2 x4 Q K10) n x3 x5 → lv_has ls 6 [(0, .ref (ad 0)), (1, .int x1), (2, .int x2), (3, .int x3), (4, .int x4), (5, .int x5)] → W p l e rm_x_comesBack s m args below meth c H [] 0 0 QQ (F0 m 19 ls []) := by
    intro x1 x2 x4 K10 hK10 n
    induction n with
    | zero => intro x3 x5 ls hf; exact False.elim hf
    | succ n ih => intro x3 x5 ls hf hl; exact B19 x1 x2 x4 K10 hK10 (LL2 _ n) ih x3 x5 ls hf hl
  have B10 : ∀ (x1 : Int32) (x2 : Int32) (K10 : Int32 → Int32 → Prop) (_ : ∀ (x3 : Int32) (x4 : Int32) (ls : Array Slot), K10 x3 x4 → lv_has ls 6 [(0, .ref (ad 0)), (1, .int x1), (2, .int x2), (3, .int x3), (4, .int x4)] → W p l e rm_x_comesBack s m args below meth c H [] 0 0 QQ (F0 m 10 ls [])) (x3 : Int32) (x4 : Int32) (ls : Array Slot), x_comesBack_p10 σ x1 x2 Q K10 x3 x4 → lv_has ls 6 [(0, .ref (ad 0)), (1, .int x1), (2, .int x2), (3, .int x3), (4, .int x4)] → W p l e rm_x_comesBack s m args below meth c H [] 0 0 QQ (F0 m 10 ls []) := by
    intro x1 x2 K10 hK10 x3 x4 ls hf hl
    unfold x_comesBack_p10 at hf
    refine lv_iload C.1 C.2.1 dX0_comesBack_10 (lv_at hl 4 rfl) ?_
    refine lv_iconst (v := 5) C.1 C.2.1 dX0_comesBack_12 rfl ?_
    refine lv_icmp_ge (tgt := 57) C.1 C.2.1 dX0_comesBack_13 (by decide) (fun h13 => ?_) (fun h13 => ?_)
    · replace hf := hf.1 h13
      refine lv_iload_n C.1 C.2.1 dX0_comesBack_57 rfl (lv_at hl 3 rfl) ?_
      refine lv_iload_n C.1 C.2.1 dX0_comesBack_58 rfl (lv_at hl 1 rfl) ?_
      refine kx_has C hl.1 (Nat.le_of_ble_eq_true rfl) ⟨Nat.le_of_ble_eq_true rfl, Nat.le_of_ble_eq_true rfl⟩ dX0_comesBack_59 ?_
      obtain ⟨hz, hf⟩ := hf
      exact hret _ _ _ hf hz dX0_comesBack_62
    · replace hf := hf.2 h13
      refine lv_iconst (v := 0) C.1 C.2.1 dX0_comesBack_16 rfl ?_
      refine lv_istore (lv' := [(5, .int 0), (0, .ref (ad 0)), (1, .int x1), (2, .int x2), (3, .int x3), (4, .int x4)]) C.1 C.2.1 dX0_comesBack_17 hl (Nat.le_of_ble_eq_true rfl) rfl (fun ls hl => ?_)
      obtain ⟨n, hf⟩ := hf
      exact P19 _ _ _ _ hK10 n _ _ _ hf (lv_sub hl [1, 2, 3, 4, 5, 0] rfl)
  have P10 : ∀ (x1 : Int32) (x2 : Int32) (n : Nat) (x3 : Int32) (x4 : Int32) (ls : Array Slot), LL2 (x_comesBack_p10 σ x1 x2 Q) n x3 x4 → lv_has ls 6 [(0, .ref (ad 0)), (1, .int x1), (2, .int x2), (3, .int x3), (4, .int x4)] → W p l e rm_x_comesBack s m args below meth c H [] 0 0 QQ (F0 m 10 ls []) := by
    intro x1 x2 n
    induction n with
    | zero => intro x3 x4 ls hf; exact False.elim hf
    | succ n ih => intro x3 x4 ls hf hl; exact B10 x1 x2 (LL2 _ n) ih x3 x4 ls hf hl
  unfold x_comesBack at hf
  refine lv_aload_n C.1 C.2.1 dX0_comesBack_0 rfl (lv_at hl 0 rfl) ?_
  refine lv_iload_n C.1 C.2.1 dX0_comesBack_1 rfl (lv_at hl 1 rfl) ?_
  refine lv_iload_n C.1 C.2.1 dX0_comesBack_2 rfl (lv_at hl 2 rfl) ?_
  refine kx_stepsFrom C hw hl.1 (Nat.le_of_ble_eq_true rfl) ⟨Nat.le_of_ble_eq_true rfl, Nat.le_of_ble_eq_true rfl⟩ dX0_comesBack_3 hf (fun r3 hf => ?_)
  refine lv_istore_n (lv' := [(3, .int r3), (0, .ref (ad 0)), (1, .int x1), (2, .int x2)]) C.1 C.2.1 dX0_comesBack_6 rfl hl (Nat.le_of_ble_eq_true rfl) rfl (fun ls hl => ?_)
  refine lv_iconst (v := 0) C.1 C.2.1 dX0_comesBack_7 rfl ?_
  refine lv_istore (lv' := [(4, .int 0), (3, .int r3), (0, .ref (ad 0)), (1, .int x1), (2, .int x2)]) C.1 C.2.1 dX0_comesBack_8 hl (Nat.le_of_ble_eq_true rfl) rfl (fun ls hl => ?_)
  obtain ⟨n, hf⟩ := hf
  exact P10 _ _ n _ _ _ hf (lv_sub hl [2, 3, 4, 1, 0] rfl)
theorem kx_comesBack {p : Program} {l : Launch} {e : Env} {R : Room} {s : State} {m : MethodId} {args : Array Value} {below : List Frame} {meth : Method} {c : Code} {H : Heap} {locs : List Loc} {Z : State → Prop} {cc : ByteArray} {nL pc : Nat} {ls : Array Slot} {rest : List Value} {D : va_G} {ct : Ct} {ad : Nat → Nat} {σ : St} {x1 : Int32} {x2 : Int32} {Qp : Int32 → Prop} (C : CallFix p m c cc nL s args lw_all RX0) (hw : gH D ct shX ad s σ H locs) (hsz : ls.size = nL) (hrm : (rest.map fun v => v.category).sum ≤ 8) (hR : rm_x_comesBack.frames + 1 ≤ R.frames ∧ 8 + (6 + 11) + rm_x_comesBack.locals ≤ R.locals) (hdg : decode cc pc = .ok (.invokevirtual 374, 3)) (hf : x_comesBack σ x1 x2 Qp) (kk : ∀ (r : Int32), Qp r → W p l e R s m args below meth c H locs 0 0 Z (F0 m (pc + 3) ls (.int r :: rest))) : W p l e R s m args below meth c H locs 0 0 Z (F0 m pc ls (.int x2 :: .int x1 :: .ref (ad 0) :: rest)) :=
  g_callVR (As := [.int x1, .int x2]) (rest := rest) C hw rfl rfl (met_x_comesBack l D ct ad hw.2.1 σ x1 x2 Qp hf) (cwV 2 C.2.2.2.2 (lw_V q797 q799 qs35 q200 q800) rfl rfl rfl (by decide +kernel) hR) rfl hsz rfl hrm ⟨Nat.zero_le _, Nat.zero_le _⟩ hdg kk
def x_behind_p21 (σ : St) (x1 : Int64) (x3 : Int32) (x6 : Int32) (Q : Int64 → Prop) (K6 : Int64 → Int32 → Prop) (K21 : Int64 → Int32 → Prop) (x4 : Int64) (x7 : Int32) : Prop :=
  (vp_in x6 12 ∧ (((gI σ 84 x6) ≤ x7 → K6 x4 (x6 + 1)) ∧ (¬ (gI σ 84 x6) ≤ x7 → (((fx_hasPoint σ x1 x6 x7) = 0 → K21 x4 (x7 + 1)) ∧ (¬ (fx_hasPoint σ x1 x6 x7) = 0 → (x_at σ x6 x7 (fun r56 => ((r56 = x3 → K21 (x4 ||| (fx_pointOf x6 (x7 + 1))) (x7 + 1)) ∧ (¬ r56 = x3 → K21 x4 (x7 + 1))))))))))
def x_behind_p6 (σ : St) (x1 : Int64) (x3 : Int32) (Q : Int64 → Prop) (K6 : Int64 → Int32 → Prop) (x4 : Int64) (x6 : Int32) : Prop :=
  (((σ.1 80) ≤ x6 → (x_closed σ x4 (fun r92 => Q r92))) ∧ (¬ (σ.1 80) ≤ x6 → (Lp2 (x_behind_p21 σ x1 x3 x6 Q K6) x4 0)))
def x_behind (σ : St) (x1 : Int64) (x3 : Int32) (Q : Int64 → Prop) : Prop :=
  (Lp2 (x_behind_p6 σ x1 x3 Q) 0 0)
abbrev rm_x_behind : Room := { frames := 4, cells := 0, slots := 0, locals := 94 }
set_option maxHeartbeats 4000000 in
theorem met_x_behind (l : Launch) (D : va_G) (ct : Ct) (ad : Nat → Nat) (hJ : gJ shX ad ct) (σ : St) (x1 : Int64) (x3 : Int32) (Q : Int64 → Prop) (hf : x_behind σ x1 x3 Q) : Met l yX0_behind (ws_ yX0_behind cX0_behind 8 (some .long)) rm_x_behind (va_Pc [.ref (ad 0), .long x1, .int x3] (gP D ct shX ad σ)) (gR rvL Q) 0 0 (fun _ => False) := by
  refine g_metRL hJ (by decide) (Nat.le_of_ble_eq_true rfl) ?_
  intro p e s m args below meth c QQ ls H C hw hl hret
  replace hl : lv_has ls 8 [(0, .ref (ad 0)), (1, .long x1), (3, .int x3)] := hl
  have B21 : ∀ (x1 : Int64) (x3 : Int32) (x6 : Int32) (K6 : Int64 → Int32 → Prop) (_ : ∀ (x4 : Int64) (x6 : Int32) (ls : Array Slot), K6 x4 x6 → lv_has ls 8 [(0, .ref (ad 0)), (1, .long x1), (3, .int x3), (4, .long x4), (6, .int x6)] → W p l e rm_x_behind s m args below meth c H [] 0 0 QQ (F0 m 6 ls [])) (K21 : Int64 → Int32 → Prop) (_ : ∀ (x4 : Int64) (x7 : Int32) (ls : Array Slot), K21 x4 x7 → lv_has ls 8 [(0, .ref (ad 0)), (1, .long x1), (3, .int x3), (4, .long x4), (6, .int x6), (7, .int x7)] → W p l e rm_x_behind s m args below meth c H [] 0 0 QQ (F0 m 21 ls [])) (x4 : Int64) (x7 : Int32) (ls : Array Slot), x_behind_p21 σ x1 x3 x6 Q K6 K21 x4 x7 → lv_has ls 8 [(0, .ref (ad 0)), (1, .long x1), (3, .int x3), (4, .long x4), (6, .int x6), (7, .int x7)] → W p l e rm_x_behind s m args below meth c H [] 0 0 QQ (F0 m 21 ls []) := by
    intro x1 x3 x6 K6 hK6 K21 hK21 x4 x7 ls hf hl
    unfold x_behind_p21 at hf
    refine lv_iload C.1 C.2.1 dX0_behind_21 (lv_at hl 5 rfl) ?_
    refine lv_aload_n C.1 C.2.1 dX0_behind_23 rfl (lv_at hl 0 rfl) ?_
    refine xg_grammar C hw dX0_behind_24 ?_
    refine xn_size C hw dX0_behind_27 ?_
    refine lv_iload C.1 C.2.1 dX0_behind_30 (lv_at hl 4 rfl) ?_
    obtain ⟨b32, hf⟩ := hf
    refine g_iald C hw 84 rfl b32 dX0_behind_32 ?_
    refine lv_icmp_ge (tgt := 83) C.1 C.2.1 dX0_behind_33 (by decide) (fun h33 => ?_) (fun h33 => ?_)
    · replace hf := hf.1 h33
      refine lv_iinc (v := (x6 + 1)) (lv' := [(6, .int (x6 + 1)), (0, .ref (ad 0)), (1, .long x1), (3, .int x3), (4, .long x4), (7, .int x7)]) C.1 C.2.1 dX0_behind_83 hl (k := 4) rfl rfl (Nat.le_of_ble_eq_true rfl) rfl (fun ls hl => ?_)
      refine lv_goto (tgt := 6) C.1 C.2.1 dX0_behind_86 (by decide) ?_
      exact hK6 _ _ _ hf (lv_sub hl [1, 2, 3, 4, 0] rfl)
    · replace hf := hf.2 h33
      refine lv_aload_n C.1 C.2.1 dX0_behind_36 rfl (lv_at hl 0 rfl) ?_
      refine lv_lload_n C.1 C.2.1 dX0_behind_37 rfl (lv_at hl 1 rfl) ?_
      refine lv_iload C.1 C.2.1 dX0_behind_38 (lv_at hl 4 rfl) ?_
      refine lv_iload C.1 C.2.1 dX0_behind_40 (lv_at hl 5 rfl) ?_
      refine kx_hasPoint C hw hl.1 (Nat.le_of_ble_eq_true rfl) ⟨Nat.le_of_ble_eq_true rfl, Nat.le_of_ble_eq_true rfl⟩ dX0_behind_42 ?_
      refine lv_if_eq (tgt := 77) C.1 C.2.1 dX0_behind_45 (by decide) (fun h45 => ?_) (fun h45 => ?_)
      · replace hf := hf.1 h45
        refine lv_iinc (v := (x7 + 1)) (lv' := [(7, .int (x7 + 1)), (0, .ref (ad 0)), (1, .long x1), (3, .int x3), (4, .long x4), (6, .int x6)]) C.1 C.2.1 dX0_behind_77 hl (k := 5) rfl rfl (Nat.le_of_ble_eq_true rfl) rfl (fun ls hl => ?_)
        refine lv_goto (tgt := 21) C.1 C.2.1 dX0_behind_80 (by decide) ?_
        exact hK21 _ _ _ hf (lv_sub hl [1, 2, 3, 4, 5, 0] rfl)
      · replace hf := hf.2 h45
        refine lv_aload_n C.1 C.2.1 dX0_behind_48 rfl (lv_at hl 0 rfl) ?_
        refine xg_grammar C hw dX0_behind_49 ?_
        refine lv_iload C.1 C.2.1 dX0_behind_52 (lv_at hl 4 rfl) ?_
        refine lv_iload C.1 C.2.1 dX0_behind_54 (lv_at hl 5 rfl) ?_
        refine kx_at C hw hl.1 (Nat.le_of_ble_eq_true rfl) ⟨Nat.le_of_ble_eq_true rfl, Nat.le_of_ble_eq_true rfl⟩ dX0_behind_56 hf (fun r56 hf => ?_)
        refine lv_iload_n C.1 C.2.1 dX0_behind_59 rfl (lv_at hl 2 rfl) ?_
        refine lv_icmp_ne (tgt := 77) C.1 C.2.1 dX0_behind_60 (by decide) (fun h60 => ?_) (fun h60 => ?_)
        · replace hf := hf.2 h60
          refine lv_iinc (v := (x7 + 1)) (lv' := [(7, .int (x7 + 1)), (0, .ref (ad 0)), (1, .long x1), (3, .int x3), (4, .long x4), (6, .int x6)]) C.1 C.2.1 dX0_behind_77 hl (k := 5) rfl rfl (Nat.le_of_ble_eq_true rfl) rfl (fun ls hl => ?_)
          refine lv_goto (tgt := 21) C.1 C.2.1 dX0_behind_80 (by decide) ?_
          exact hK21 _ _ _ hf (lv_sub hl [1, 2, 3, 4, 5, 0] rfl)
        · replace hf := hf.1 h60
          refine lv_lload C.1 C.2.1 dX0_behind_63 (lv_at hl 3 rfl) ?_
          refine lv_iload C.1 C.2.1 dX0_behind_65 (lv_at hl 4 rfl) ?_
          refine lv_iload C.1 C.2.1 dX0_behind_67 (lv_at hl 5 rfl) ?_
          refine lv_iconst (v := 1) C.1 C.2.1 dX0_behind_69 rfl ?_
          refine lv_iadd C.1 C.2.1 dX0_behind_70 ?_
          refine kx_pointOf C hl.1 (Nat.le_of_ble_eq_true rfl) ⟨Nat.le_of_ble_eq_true rfl, Nat.le_of_ble_eq_true rfl⟩ dX0_behind_71 ?_
          refine lv_lor C.1 C.2.1 dX0_behind_74 ?_
          refine lv_lstore (lv' := [(4, .long (x4 ||| (fx_pointOf x6 (x7 + 1)))), (0, .ref (ad 0)), (1, .long x1), (3, .int x3), (6, .int x6), (7, .int x7)]) C.1 C.2.1 dX0_behind_75 hl (Nat.le_of_ble_eq_true rfl) rfl (fun ls hl => ?_)
          refine lv_iinc (v := (x7 + 1)) (lv' := [(7, .int (x7 + 1)), (4, .long (x4 ||| (fx_pointOf x6 (x7 + 1)))), (0, .ref (ad 0)), (1, .long x1), (3, .int x3), (6, .int x6)]) C.1 C.2.1 dX0_behind_77 hl (k := 5) rfl rfl (Nat.le_of_ble_eq_true rfl) rfl (fun ls hl => ?_)
          refine lv_goto (tgt := 21) C.1 C.2.1 dX0_behind_80 (by decide) ?_
          exact hK21 _ _ _ hf (lv_sub hl [2, 3, 4, 1, 5, 0] rfl)
  have P21 : ∀ (x1 : Int64) (x3 : Int32) (x6 : Int32) (K6 : Int64 → Int32 → Prop) (_ : ∀ (x4 : Int64) (x6 : Int32) (ls : Array Slot), K6 x4 x6 → lv_has ls 8 [(0, .ref (ad 0)), (1, .long x1), (3, .int x3), (4, .long x4), (6, .int x6)] → W p l e rm_x_behind s m args below meth c H [] 0 0 QQ (F0 m 6 ls [])) (n : Nat) (x4 : Int64) (x7 : Int32) (ls : Array Slot), LL2 (x_behind_p21 σ x1 x3 x6 Q K6) n x4 x7 → lv_has ls 8 [(0, .ref (ad 0)), (1, .long x1), (3, .int x3), (4, .long x4), (6, .int x6), (7, .int x7)] → W p l e rm_x_behind s m args below meth c H [] 0 0 QQ (F0 m 21 ls []) := by
    intro x1 x3 x6 K6 hK6 n
    induction n with
    | zero => intro x4 x7 ls hf; exact False.elim hf
    | succ n ih => intro x4 x7 ls hf hl; exact B21 x1 x3 x6 K6 hK6 (LL2 _ n) ih x4 x7 ls hf hl
  have B6 : ∀ (x1 : Int64) (x3 : Int32) (K6 : Int64 → Int32 → Prop) (_ : ∀ (x4 : Int64) (x6 : Int32) (ls : Array Slot), K6 x4 x6 → lv_has ls 8 [(0, .ref (ad 0)), (1, .long x1), (3, .int x3), (4, .long x4), (6, .int x6)] → W p l e rm_x_behind s m args below meth c H [] 0 0 QQ (F0 m 6 ls [])) (x4 : Int64) (x6 : Int32) (ls : Array Slot), x_behind_p6 σ x1 x3 Q K6 x4 x6 → lv_has ls 8 [(0, .ref (ad 0)), (1, .long x1), (3, .int x3), (4, .long x4), (6, .int x6)] → W p l e rm_x_behind s m args below meth c H [] 0 0 QQ (F0 m 6 ls []) := by
    intro x1 x3 K6 hK6 x4 x6 ls hf hl
    unfold x_behind_p6 at hf
    refine lv_iload C.1 C.2.1 dX0_behind_6 (lv_at hl 4 rfl) ?_
    refine lv_aload_n C.1 C.2.1 dX0_behind_8 rfl (lv_at hl 0 rfl) ?_
    refine xg_grammar C hw dX0_behind_9 ?_
    refine xn_many C hw dX0_behind_12 ?_
    refine lv_icmp_ge (tgt := 89) C.1 C.2.1 dX0_behind_15 (by decide) (fun h15 => ?_) (fun h15 => ?_)
    · replace hf := hf.1 h15
      refine lv_aload_n C.1 C.2.1 dX0_behind_89 rfl (lv_at hl 0 rfl) ?_
      refine lv_lload C.1 C.2.1 dX0_behind_90 (lv_at hl 3 rfl) ?_
      refine kx_closed C hw hl.1 (Nat.le_of_ble_eq_true rfl) ⟨Nat.le_of_ble_eq_true rfl, Nat.le_of_ble_eq_true rfl⟩ dX0_behind_92 hf (fun r92 hf => ?_)
      exact hret _ _ _ hf dX0_behind_95
    · replace hf := hf.2 h15
      refine lv_iconst (v := 0) C.1 C.2.1 dX0_behind_18 rfl ?_
      refine lv_istore (lv' := [(7, .int 0), (0, .ref (ad 0)), (1, .long x1), (3, .int x3), (4, .long x4), (6, .int x6)]) C.1 C.2.1 dX0_behind_19 hl (Nat.le_of_ble_eq_true rfl) rfl (fun ls hl => ?_)
      obtain ⟨n, hf⟩ := hf
      exact P21 _ _ _ _ hK6 n _ _ _ hf (lv_sub hl [1, 2, 3, 4, 5, 0] rfl)
  have P6 : ∀ (x1 : Int64) (x3 : Int32) (n : Nat) (x4 : Int64) (x6 : Int32) (ls : Array Slot), LL2 (x_behind_p6 σ x1 x3 Q) n x4 x6 → lv_has ls 8 [(0, .ref (ad 0)), (1, .long x1), (3, .int x3), (4, .long x4), (6, .int x6)] → W p l e rm_x_behind s m args below meth c H [] 0 0 QQ (F0 m 6 ls []) := by
    intro x1 x3 n
    induction n with
    | zero => intro x4 x6 ls hf; exact False.elim hf
    | succ n ih => intro x4 x6 ls hf hl; exact B6 x1 x3 (LL2 _ n) ih x4 x6 ls hf hl
  unfold x_behind at hf
  refine lv_lconst (v := 0) C.1 C.2.1 dX0_behind_0 rfl ?_
  refine lv_lstore (lv' := [(4, .long 0), (0, .ref (ad 0)), (1, .long x1), (3, .int x3)]) C.1 C.2.1 dX0_behind_1 hl (Nat.le_of_ble_eq_true rfl) rfl (fun ls hl => ?_)
  refine lv_iconst (v := 0) C.1 C.2.1 dX0_behind_3 rfl ?_
  refine lv_istore (lv' := [(6, .int 0), (4, .long 0), (0, .ref (ad 0)), (1, .long x1), (3, .int x3)]) C.1 C.2.1 dX0_behind_4 hl (Nat.le_of_ble_eq_true rfl) rfl (fun ls hl => ?_)
  obtain ⟨n, hf⟩ := hf
  exact P6 _ _ n _ _ _ hf (lv_sub hl [2, 3, 4, 1, 0] rfl)
theorem kx_behind {p : Program} {l : Launch} {e : Env} {R : Room} {s : State} {m : MethodId} {args : Array Value} {below : List Frame} {meth : Method} {c : Code} {H : Heap} {locs : List Loc} {Z : State → Prop} {cc : ByteArray} {nL pc : Nat} {ls : Array Slot} {rest : List Value} {D : va_G} {ct : Ct} {ad : Nat → Nat} {σ : St} {x1 : Int64} {x3 : Int32} {Qp : Int64 → Prop} (C : CallFix p m c cc nL s args lw_all RX0) (hw : gH D ct shX ad s σ H locs) (hsz : ls.size = nL) (hrm : (rest.map fun v => v.category).sum ≤ 8) (hR : rm_x_behind.frames + 1 ≤ R.frames ∧ 8 + (8 + 11) + rm_x_behind.locals ≤ R.locals) (hdg : decode cc pc = .ok (.invokevirtual 409, 3)) (hf : x_behind σ x1 x3 Qp) (kk : ∀ (r : Int64), Qp r → W p l e R s m args below meth c H locs 0 0 Z (F0 m (pc + 3) ls (.long r :: rest))) : W p l e R s m args below meth c H locs 0 0 Z (F0 m pc ls (.int x3 :: .long x1 :: .ref (ad 0) :: rest)) :=
  g_callVR (As := [.long x1, .int x3]) (rest := rest) C hw rfl rfl (met_x_behind l D ct ad hw.2.1 σ x1 x3 Qp hf) (cwV 2 C.2.2.2.2 (lw_V q832 q834 qs42 q200 q835) rfl rfl rfl (by decide +kernel) hR) rfl hsz rfl hrm ⟨Nat.zero_le _, Nat.zero_le _⟩ hdg kk
def x_done_p14 (σ : St) (x1 : Int32) (Q : Int32 → Prop) (K14 : Int32 → Int32 → Prop) (x2 : Int32) (x3 : Int32) : Prop :=
  (((σ.1 80) ≤ x3 → Q x2) ∧ (¬ (σ.1 80) ≤ x3 → (x_isDone σ x1 x3 (fun r29 => ((r29 = 0 → K14 (x2 ||| 0) (x3 + 1)) ∧ (¬ r29 = 0 → K14 (x2 ||| (1 <<< (x3 &&& 31))) (x3 + 1)))))))
def x_done (σ : St) (x1 : Int32) (Q : Int32 → Prop) : Prop :=
  (((fx_isState σ x1) = 0 → Q (-1)) ∧ (¬ (fx_isState σ x1) = 0 → (Lp2 (x_done_p14 σ x1 Q) 0 0)))
abbrev rm_x_done : Room := { frames := 4, cells := 0, slots := 0, locals := 89 }
set_option maxHeartbeats 4000000 in
theorem met_x_done (l : Launch) (D : va_G) (ct : Ct) (ad : Nat → Nat) (hJ : gJ shX ad ct) (σ : St) (x1 : Int32) (Q : Int32 → Prop) (hf : x_done σ x1 Q) : Met l yX0_done (ws_ yX0_done cX0_done 4 (some .int)) rm_x_done (va_Pc [.ref (ad 0), .int x1] (gP D ct shX ad σ)) (gR rvI Q) 0 0 (fun _ => False) := by
  refine g_metRI hJ (by decide) (Nat.le_of_ble_eq_true rfl) ?_
  intro p e s m args below meth c QQ ls H C hw hl hret
  replace hl : lv_has ls 4 [(0, .ref (ad 0)), (1, .int x1)] := hl
  have B14 : ∀ (x1 : Int32) (K14 : Int32 → Int32 → Prop) (_ : ∀ (x2 : Int32) (x3 : Int32) (ls : Array Slot), K14 x2 x3 → lv_has ls 4 [(0, .ref (ad 0)), (1, .int x1), (2, .int x2), (3, .int x3)] → W p l e rm_x_done s m args below meth c H [] 0 0 QQ (F0 m 14 ls [])) (x2 : Int32) (x3 : Int32) (ls : Array Slot), x_done_p14 σ x1 Q K14 x2 x3 → lv_has ls 4 [(0, .ref (ad 0)), (1, .int x1), (2, .int x2), (3, .int x3)] → W p l e rm_x_done s m args below meth c H [] 0 0 QQ (F0 m 14 ls []) := by
    intro x1 K14 hK14 x2 x3 ls hf hl
    unfold x_done_p14 at hf
    refine lv_iload_n C.1 C.2.1 dX0_done_14 rfl (lv_at hl 3 rfl) ?_
    refine lv_aload_n C.1 C.2.1 dX0_done_15 rfl (lv_at hl 0 rfl) ?_
    refine xg_grammar C hw dX0_done_16 ?_
    refine xn_many C hw dX0_done_19 ?_
    refine lv_icmp_ge (tgt := 50) C.1 C.2.1 dX0_done_22 (by decide) (fun h22 => ?_) (fun h22 => ?_)
    · replace hf := hf.1 h22
      refine lv_iload_n C.1 C.2.1 dX0_done_50 rfl (lv_at hl 2 rfl) ?_
      exact hret _ _ _ hf dX0_done_51
    · replace hf := hf.2 h22
      refine lv_iload_n C.1 C.2.1 dX0_done_25 rfl (lv_at hl 2 rfl) ?_
      refine lv_aload_n C.1 C.2.1 dX0_done_26 rfl (lv_at hl 0 rfl) ?_
      refine lv_iload_n C.1 C.2.1 dX0_done_27 rfl (lv_at hl 1 rfl) ?_
      refine lv_iload_n C.1 C.2.1 dX0_done_28 rfl (lv_at hl 3 rfl) ?_
      refine kx_isDone C hw hl.1 (Nat.le_of_ble_eq_true rfl) ⟨Nat.le_of_ble_eq_true rfl, Nat.le_of_ble_eq_true rfl⟩ dX0_done_29 hf (fun r29 hf => ?_)
      refine lv_if_eq (tgt := 41) C.1 C.2.1 dX0_done_32 (by decide) (fun h32 => ?_) (fun h32 => ?_)
      · replace hf := hf.1 h32
        refine lv_iconst (v := 0) C.1 C.2.1 dX0_done_41 rfl ?_
        refine lv_ior C.1 C.2.1 dX0_done_42 ?_
        refine lv_istore_n (lv' := [(2, .int (x2 ||| 0)), (0, .ref (ad 0)), (1, .int x1), (3, .int x3)]) C.1 C.2.1 dX0_done_43 rfl hl (Nat.le_of_ble_eq_true rfl) rfl (fun ls hl => ?_)
        refine lv_iinc (v := (x3 + 1)) (lv' := [(3, .int (x3 + 1)), (2, .int (x2 ||| 0)), (0, .ref (ad 0)), (1, .int x1)]) C.1 C.2.1 dX0_done_44 hl (k := 3) rfl rfl (Nat.le_of_ble_eq_true rfl) rfl (fun ls hl => ?_)
        refine lv_goto (tgt := 14) C.1 C.2.1 dX0_done_47 (by decide) ?_
        exact hK14 _ _ _ hf (lv_sub hl [2, 3, 1, 0] rfl)
      · replace hf := hf.2 h32
        refine lv_iconst (v := 1) C.1 C.2.1 dX0_done_35 rfl ?_
        refine lv_iload_n C.1 C.2.1 dX0_done_36 rfl (lv_at hl 3 rfl) ?_
        refine lv_ishl C.1 C.2.1 dX0_done_37 ?_
        refine lv_goto (tgt := 42) C.1 C.2.1 dX0_done_38 (by decide) ?_
        refine lv_ior C.1 C.2.1 dX0_done_42 ?_
        refine lv_istore_n (lv' := [(2, .int (x2 ||| (1 <<< (x3 &&& 31)))), (0, .ref (ad 0)), (1, .int x1), (3, .int x3)]) C.1 C.2.1 dX0_done_43 rfl hl (Nat.le_of_ble_eq_true rfl) rfl (fun ls hl => ?_)
        refine lv_iinc (v := (x3 + 1)) (lv' := [(3, .int (x3 + 1)), (2, .int (x2 ||| (1 <<< (x3 &&& 31)))), (0, .ref (ad 0)), (1, .int x1)]) C.1 C.2.1 dX0_done_44 hl (k := 3) rfl rfl (Nat.le_of_ble_eq_true rfl) rfl (fun ls hl => ?_)
        refine lv_goto (tgt := 14) C.1 C.2.1 dX0_done_47 (by decide) ?_
        exact hK14 _ _ _ hf (lv_sub hl [2, 3, 1, 0] rfl)
  have P14 : ∀ (x1 : Int32) (n : Nat) (x2 : Int32) (x3 : Int32) (ls : Array Slot), LL2 (x_done_p14 σ x1 Q) n x2 x3 → lv_has ls 4 [(0, .ref (ad 0)), (1, .int x1), (2, .int x2), (3, .int x3)] → W p l e rm_x_done s m args below meth c H [] 0 0 QQ (F0 m 14 ls []) := by
    intro x1 n
    induction n with
    | zero => intro x2 x3 ls hf; exact False.elim hf
    | succ n ih => intro x2 x3 ls hf hl; exact B14 x1 (LL2 _ n) ih x2 x3 ls hf hl
  unfold x_done at hf
  refine lv_aload_n C.1 C.2.1 dX0_done_0 rfl (lv_at hl 0 rfl) ?_
  refine lv_iload_n C.1 C.2.1 dX0_done_1 rfl (lv_at hl 1 rfl) ?_
  refine kx_isState C hw hl.1 (Nat.le_of_ble_eq_true rfl) ⟨Nat.le_of_ble_eq_true rfl, Nat.le_of_ble_eq_true rfl⟩ dX0_done_2 ?_
  refine lv_if_ne (tgt := 10) C.1 C.2.1 dX0_done_5 (by decide) (fun h5 => ?_) (fun h5 => ?_)
  · replace hf := hf.2 h5
    refine lv_iconst (v := 0) C.1 C.2.1 dX0_done_10 rfl ?_
    refine lv_istore_n (lv' := [(2, .int 0), (0, .ref (ad 0)), (1, .int x1)]) C.1 C.2.1 dX0_done_11 rfl hl (Nat.le_of_ble_eq_true rfl) rfl (fun ls hl => ?_)
    refine lv_iconst (v := 0) C.1 C.2.1 dX0_done_12 rfl ?_
    refine lv_istore_n (lv' := [(3, .int 0), (2, .int 0), (0, .ref (ad 0)), (1, .int x1)]) C.1 C.2.1 dX0_done_13 rfl hl (Nat.le_of_ble_eq_true rfl) rfl (fun ls hl => ?_)
    obtain ⟨n, hf⟩ := hf
    exact P14 _ n _ _ _ hf (lv_sub hl [2, 3, 1, 0] rfl)
  · replace hf := hf.1 h5
    refine lv_iconst (v := (-1)) C.1 C.2.1 dX0_done_8 rfl ?_
    exact hret _ _ _ hf dX0_done_9
def x_clashes_p13 (σ : St) (Q : Int32 → Prop) (K13 : Int32 → Int32 → Prop) (x1 : Int32) (x2 : Int32) : Prop :=
  (((σ.1 25) ≤ x2 → Q x1) ∧ (¬ (σ.1 25) ≤ x2 → (x_doesClash σ x2 (fun r24 => ((r24 = 0 → K13 (x1 + 0) (x2 + 1)) ∧ (¬ r24 = 0 → K13 (x1 + 1) (x2 + 1)))))))
def x_clashes (σ : St) (Q : Int32 → Prop) : Prop :=
  (Lp2 (x_clashes_p13 σ Q) 0 0)
abbrev rm_x_clashes : Room := { frames := 4, cells := 0, slots := 0, locals := 91 }
set_option maxHeartbeats 4000000 in
theorem met_x_clashes (l : Launch) (D : va_G) (ct : Ct) (ad : Nat → Nat) (hJ : gJ shX ad ct) (σ : St) (Q : Int32 → Prop) (hf : x_clashes σ Q) : Met l yX0_clashes (ws_ yX0_clashes cX0_clashes 3 (some .int)) rm_x_clashes (va_Pc [.ref (ad 0)] (gP D ct shX ad σ)) (gR rvI Q) 0 0 (fun _ => False) := by
  refine g_metRI hJ (by decide) (Nat.le_of_ble_eq_true rfl) ?_
  intro p e s m args below meth c QQ ls H C hw hl hret
  replace hl : lv_has ls 3 [(0, .ref (ad 0))] := hl
  have B13 : ∀ (K13 : Int32 → Int32 → Prop) (_ : ∀ (x1 : Int32) (x2 : Int32) (ls : Array Slot), K13 x1 x2 → lv_has ls 3 [(0, .ref (ad 0)), (1, .int x1), (2, .int x2)] → W p l e rm_x_clashes s m args below meth c H [] 0 0 QQ (F0 m 13 ls [])) (x1 : Int32) (x2 : Int32) (ls : Array Slot), x_clashes_p13 σ Q K13 x1 x2 → lv_has ls 3 [(0, .ref (ad 0)), (1, .int x1), (2, .int x2)] → W p l e rm_x_clashes s m args below meth c H [] 0 0 QQ (F0 m 13 ls []) := by
    intro K13 hK13 x1 x2 ls hf hl
    unfold x_clashes_p13 at hf
    refine lv_iload_n C.1 C.2.1 dX0_clashes_13 rfl (lv_at hl 2 rfl) ?_
    refine lv_aload_n C.1 C.2.1 dX0_clashes_14 rfl (lv_at hl 0 rfl) ?_
    refine xg_stateMany C hw dX0_clashes_15 ?_
    refine lv_icmp_ge (tgt := 43) C.1 C.2.1 dX0_clashes_18 (by decide) (fun h18 => ?_) (fun h18 => ?_)
    · replace hf := hf.1 h18
      refine lv_iload_n C.1 C.2.1 dX0_clashes_43 rfl (lv_at hl 1 rfl) ?_
      exact hret _ _ _ hf dX0_clashes_44
    · replace hf := hf.2 h18
      refine lv_iload_n C.1 C.2.1 dX0_clashes_21 rfl (lv_at hl 1 rfl) ?_
      refine lv_aload_n C.1 C.2.1 dX0_clashes_22 rfl (lv_at hl 0 rfl) ?_
      refine lv_iload_n C.1 C.2.1 dX0_clashes_23 rfl (lv_at hl 2 rfl) ?_
      refine kx_doesClash C hw hl.1 (Nat.le_of_ble_eq_true rfl) ⟨Nat.le_of_ble_eq_true rfl, Nat.le_of_ble_eq_true rfl⟩ dX0_clashes_24 hf (fun r24 hf => ?_)
      refine lv_if_eq (tgt := 34) C.1 C.2.1 dX0_clashes_27 (by decide) (fun h27 => ?_) (fun h27 => ?_)
      · replace hf := hf.1 h27
        refine lv_iconst (v := 0) C.1 C.2.1 dX0_clashes_34 rfl ?_
        refine lv_iadd C.1 C.2.1 dX0_clashes_35 ?_
        refine lv_istore_n (lv' := [(1, .int (x1 + 0)), (0, .ref (ad 0)), (2, .int x2)]) C.1 C.2.1 dX0_clashes_36 rfl hl (Nat.le_of_ble_eq_true rfl) rfl (fun ls hl => ?_)
        refine lv_iinc (v := (x2 + 1)) (lv' := [(2, .int (x2 + 1)), (1, .int (x1 + 0)), (0, .ref (ad 0))]) C.1 C.2.1 dX0_clashes_37 hl (k := 2) rfl rfl (Nat.le_of_ble_eq_true rfl) rfl (fun ls hl => ?_)
        refine lv_goto (tgt := 13) C.1 C.2.1 dX0_clashes_40 (by decide) ?_
        exact hK13 _ _ _ hf (lv_sub hl [2, 1, 0] rfl)
      · replace hf := hf.2 h27
        refine lv_iconst (v := 1) C.1 C.2.1 dX0_clashes_30 rfl ?_
        refine lv_goto (tgt := 35) C.1 C.2.1 dX0_clashes_31 (by decide) ?_
        refine lv_iadd C.1 C.2.1 dX0_clashes_35 ?_
        refine lv_istore_n (lv' := [(1, .int (x1 + 1)), (0, .ref (ad 0)), (2, .int x2)]) C.1 C.2.1 dX0_clashes_36 rfl hl (Nat.le_of_ble_eq_true rfl) rfl (fun ls hl => ?_)
        refine lv_iinc (v := (x2 + 1)) (lv' := [(2, .int (x2 + 1)), (1, .int (x1 + 1)), (0, .ref (ad 0))]) C.1 C.2.1 dX0_clashes_37 hl (k := 2) rfl rfl (Nat.le_of_ble_eq_true rfl) rfl (fun ls hl => ?_)
        refine lv_goto (tgt := 13) C.1 C.2.1 dX0_clashes_40 (by decide) ?_
        exact hK13 _ _ _ hf (lv_sub hl [2, 1, 0] rfl)
  have P13 : ∀ (n : Nat) (x1 : Int32) (x2 : Int32) (ls : Array Slot), LL2 (x_clashes_p13 σ Q) n x1 x2 → lv_has ls 3 [(0, .ref (ad 0)), (1, .int x1), (2, .int x2)] → W p l e rm_x_clashes s m args below meth c H [] 0 0 QQ (F0 m 13 ls []) := by
    intro  n
    induction n with
    | zero => intro x1 x2 ls hf; exact False.elim hf
    | succ n ih => intro x1 x2 ls hf hl; exact B13  (LL2 _ n) ih x1 x2 ls hf hl
  unfold x_clashes at hf
  refine lv_aload_n C.1 C.2.1 dX0_clashes_0 rfl (lv_at hl 0 rfl) ?_
  refine xg_grammar C hw dX0_clashes_1 ?_
  refine lv_ifnonnull (tgt := 9) C.1 C.2.1 dX0_clashes_4 (by decide) ?_
  refine lv_iconst (v := 0) C.1 C.2.1 dX0_clashes_9 rfl ?_
  refine lv_istore_n (lv' := [(1, .int 0), (0, .ref (ad 0))]) C.1 C.2.1 dX0_clashes_10 rfl hl (Nat.le_of_ble_eq_true rfl) rfl (fun ls hl => ?_)
  refine lv_iconst (v := 0) C.1 C.2.1 dX0_clashes_11 rfl ?_
  refine lv_istore_n (lv' := [(2, .int 0), (1, .int 0), (0, .ref (ad 0))]) C.1 C.2.1 dX0_clashes_12 rfl hl (Nat.le_of_ble_eq_true rfl) rfl (fun ls hl => ?_)
  obtain ⟨n, hf⟩ := hf
  exact P13  n _ _ _ hf (lv_sub hl [2, 1, 0] rfl)
def x_stacks_p37 (x1 : Int32) (Q : Unit → St → Prop) (K19 : St → Int32 → Prop) (K29 : St → Int32 → Prop) (K37 : St → Int32 → Int32 → Prop) (σ : St) (x2 : Int32) (x3 : Int32) : Prop :=
  (((σ.1 80) ≤ x3 → K29 σ x2) ∧ (¬ (σ.1 80) ≤ x3 → (((fx_isOn σ x3) = 0 → K37 σ x2 (x3 + 1)) ∧ (¬ (fx_isOn σ x3) = 0 → (x_reduces σ x3 x1 (fun r60 s60 => K37 s60 (x2 ||| r60) (x3 + 1)))))))
def x_stacks_p29 (x1 : Int32) (Q : Unit → St → Prop) (K19 : St → Int32 → Prop) (K29 : St → Int32 → Prop) (σ : St) (x2 : Int32) : Prop :=
  ((x2 = 0 → (((σ.1 4) ≤ x1 → K19 σ (x1 + 1)) ∧ (¬ (σ.1 4) ≤ x1 → (x_shifts σ x1 (fun _ s84 => K19 s84 (x1 + 1)))))) ∧ (¬ x2 = 0 → (Lp3 (x_stacks_p37 x1 Q K19 K29) σ 0 0)))
def x_stacks_p19 (Q : Unit → St → Prop) (K19 : St → Int32 → Prop) (σ : St) (x1 : Int32) : Prop :=
  (((σ.1 4) < x1 → Q () σ) ∧ (¬ (σ.1 4) < x1 → (Lp2 (x_stacks_p29 x1 Q K19) σ 1)))
def x_stacks (σ : St) (Q : Unit → St → Prop) : Prop :=
  (((σ.1 26) = 0 → (∀ s10 : St, s10 = s_I σ 26 1 → (x_gathersGoings s10 (fun _ s14 => (Lp2 (x_stacks_p19 Q) s14 0))))) ∧ (¬ (σ.1 26) = 0 → Q () σ))
abbrev rm_x_stacks : Room := { frames := 4, cells := 0, slots := 0, locals := 112 }
set_option maxHeartbeats 4000000 in
theorem met_x_stacks (l : Launch) (D : va_G) (ct : Ct) (ad : Nat → Nat) (hJ : gJ shX ad ct) (σ : St) (Q : Unit → St → Prop) (hf : x_stacks σ Q) : Met l yX0_stacks (ws_ yX0_stacks cX0_stacks 4 (none)) rm_x_stacks (va_Pc [.ref (ad 0)] (gP D ct shX ad σ)) (gQ rvV D ct shX ad Q) 0 0 (gA shX ad) := by
  refine g_metV hJ (by decide) (Nat.le_of_ble_eq_true rfl) ?_
  intro p e s m args below meth c QQ ls C hw hl hret
  replace hl : lv_has ls 4 [(0, .ref (ad 0))] := hl
  have B37 : ∀ (x1 : Int32) (K19 : St → Int32 → Prop) (_ : ∀ (σ : St) (H : Heap) (locs : List Loc) (x1 : Int32) (ls : Array Slot), K19 σ x1 → gH D ct shX ad s σ H locs → lv_has ls 4 [(0, .ref (ad 0)), (1, .int x1)] → W p l e rm_x_stacks s m args below meth c H locs 0 0 QQ (F0 m 19 ls [])) (K29 : St → Int32 → Prop) (_ : ∀ (σ : St) (H : Heap) (locs : List Loc) (x2 : Int32) (ls : Array Slot), K29 σ x2 → gH D ct shX ad s σ H locs → lv_has ls 4 [(0, .ref (ad 0)), (1, .int x1), (2, .int x2)] → W p l e rm_x_stacks s m args below meth c H locs 0 0 QQ (F0 m 29 ls [])) (K37 : St → Int32 → Int32 → Prop) (_ : ∀ (σ : St) (H : Heap) (locs : List Loc) (x2 : Int32) (x3 : Int32) (ls : Array Slot), K37 σ x2 x3 → gH D ct shX ad s σ H locs → lv_has ls 4 [(0, .ref (ad 0)), (1, .int x1), (2, .int x2), (3, .int x3)] → W p l e rm_x_stacks s m args below meth c H locs 0 0 QQ (F0 m 37 ls [])) (σ : St) (H : Heap) (locs : List Loc) (x2 : Int32) (x3 : Int32) (ls : Array Slot), x_stacks_p37 x1 Q K19 K29 K37 σ x2 x3 → gH D ct shX ad s σ H locs → lv_has ls 4 [(0, .ref (ad 0)), (1, .int x1), (2, .int x2), (3, .int x3)] → W p l e rm_x_stacks s m args below meth c H locs 0 0 QQ (F0 m 37 ls []) := by
    intro x1 K19 hK19 K29 hK29 K37 hK37 σ H locs x2 x3 ls hf hw hl
    unfold x_stacks_p37 at hf
    refine lv_iload_n C.1 C.2.1 dX0_stacks_37 rfl (lv_at hl 3 rfl) ?_
    refine lv_aload_n C.1 C.2.1 dX0_stacks_38 rfl (lv_at hl 0 rfl) ?_
    refine xg_grammar C hw dX0_stacks_39 ?_
    refine xn_many C hw dX0_stacks_42 ?_
    refine lv_icmp_ge (tgt := 71) C.1 C.2.1 dX0_stacks_45 (by decide) (fun h45 => ?_) (fun h45 => ?_)
    · replace hf := hf.1 h45
      refine lv_goto (tgt := 29) C.1 C.2.1 dX0_stacks_71 (by decide) ?_
      exact hK29 _ _ _ _ _ hf hw (lv_sub hl [0, 1, 2] rfl)
    · replace hf := hf.2 h45
      refine lv_aload_n C.1 C.2.1 dX0_stacks_48 rfl (lv_at hl 0 rfl) ?_
      refine lv_iload_n C.1 C.2.1 dX0_stacks_49 rfl (lv_at hl 3 rfl) ?_
      refine kx_isOn C hw hl.1 (Nat.le_of_ble_eq_true rfl) ⟨Nat.le_of_ble_eq_true rfl, Nat.le_of_ble_eq_true rfl⟩ dX0_stacks_50 ?_
      refine lv_if_eq (tgt := 65) C.1 C.2.1 dX0_stacks_53 (by decide) (fun h53 => ?_) (fun h53 => ?_)
      · replace hf := hf.1 h53
        refine lv_iinc (v := (x3 + 1)) (lv' := [(3, .int (x3 + 1)), (0, .ref (ad 0)), (1, .int x1), (2, .int x2)]) C.1 C.2.1 dX0_stacks_65 hl (k := 3) rfl rfl (Nat.le_of_ble_eq_true rfl) rfl (fun ls hl => ?_)
        refine lv_goto (tgt := 37) C.1 C.2.1 dX0_stacks_68 (by decide) ?_
        exact hK37 _ _ _ _ _ _ hf hw (lv_sub hl [1, 2, 3, 0] rfl)
      · replace hf := hf.2 h53
        refine lv_iload_n C.1 C.2.1 dX0_stacks_56 rfl (lv_at hl 2 rfl) ?_
        refine lv_aload_n C.1 C.2.1 dX0_stacks_57 rfl (lv_at hl 0 rfl) ?_
        refine lv_iload_n C.1 C.2.1 dX0_stacks_58 rfl (lv_at hl 3 rfl) ?_
        refine lv_iload_n C.1 C.2.1 dX0_stacks_59 rfl (lv_at hl 1 rfl) ?_
        refine kx_reduces C hw hl.1 (Nat.le_of_ble_eq_true rfl) ⟨Nat.le_of_ble_eq_true rfl, Nat.le_of_ble_eq_true rfl⟩ dX0_stacks_60 hf (fun r60 s60 H locs hf hw => ?_)
        refine lv_ior C.1 C.2.1 dX0_stacks_63 ?_
        refine lv_istore_n (lv' := [(2, .int (x2 ||| r60)), (0, .ref (ad 0)), (1, .int x1), (3, .int x3)]) C.1 C.2.1 dX0_stacks_64 rfl hl (Nat.le_of_ble_eq_true rfl) rfl (fun ls hl => ?_)
        refine lv_iinc (v := (x3 + 1)) (lv' := [(3, .int (x3 + 1)), (2, .int (x2 ||| r60)), (0, .ref (ad 0)), (1, .int x1)]) C.1 C.2.1 dX0_stacks_65 hl (k := 3) rfl rfl (Nat.le_of_ble_eq_true rfl) rfl (fun ls hl => ?_)
        refine lv_goto (tgt := 37) C.1 C.2.1 dX0_stacks_68 (by decide) ?_
        exact hK37 _ _ _ _ _ _ hf hw (lv_sub hl [2, 3, 1, 0] rfl)
  have P37 : ∀ (x1 : Int32) (K19 : St → Int32 → Prop) (_ : ∀ (σ : St) (H : Heap) (locs : List Loc) (x1 : Int32) (ls : Array Slot), K19 σ x1 → gH D ct shX ad s σ H locs → lv_has ls 4 [(0, .ref (ad 0)), (1, .int x1)] → W p l e rm_x_stacks s m args below meth c H locs 0 0 QQ (F0 m 19 ls [])) (K29 : St → Int32 → Prop) (_ : ∀ (σ : St) (H : Heap) (locs : List Loc) (x2 : Int32) (ls : Array Slot), K29 σ x2 → gH D ct shX ad s σ H locs → lv_has ls 4 [(0, .ref (ad 0)), (1, .int x1), (2, .int x2)] → W p l e rm_x_stacks s m args below meth c H locs 0 0 QQ (F0 m 29 ls [])) (n : Nat) (σ : St) (x2 : Int32) (x3 : Int32) (ls : Array Slot) (H : Heap) (locs : List Loc), LL3 (x_stacks_p37 x1 Q K19 K29) n σ x2 x3 → gH D ct shX ad s σ H locs → lv_has ls 4 [(0, .ref (ad 0)), (1, .int x1), (2, .int x2), (3, .int x3)] → W p l e rm_x_stacks s m args below meth c H locs 0 0 QQ (F0 m 37 ls []) := by
    intro x1 K19 hK19 K29 hK29 n
    induction n with
    | zero => intro σ x2 x3 ls H locs hf; exact False.elim hf
    | succ n ih => intro σ x2 x3 ls H locs hf hw hl; exact B37 x1 K19 hK19 K29 hK29 (LL3 _ n) (fun σ H locs x2 x3 ls hf hw hl => ih σ x2 x3 ls H locs hf hw hl) σ H locs x2 x3 ls hf hw hl
  have B29 : ∀ (x1 : Int32) (K19 : St → Int32 → Prop) (_ : ∀ (σ : St) (H : Heap) (locs : List Loc) (x1 : Int32) (ls : Array Slot), K19 σ x1 → gH D ct shX ad s σ H locs → lv_has ls 4 [(0, .ref (ad 0)), (1, .int x1)] → W p l e rm_x_stacks s m args below meth c H locs 0 0 QQ (F0 m 19 ls [])) (K29 : St → Int32 → Prop) (_ : ∀ (σ : St) (H : Heap) (locs : List Loc) (x2 : Int32) (ls : Array Slot), K29 σ x2 → gH D ct shX ad s σ H locs → lv_has ls 4 [(0, .ref (ad 0)), (1, .int x1), (2, .int x2)] → W p l e rm_x_stacks s m args below meth c H locs 0 0 QQ (F0 m 29 ls [])) (σ : St) (H : Heap) (locs : List Loc) (x2 : Int32) (ls : Array Slot), x_stacks_p29 x1 Q K19 K29 σ x2 → gH D ct shX ad s σ H locs → lv_has ls 4 [(0, .ref (ad 0)), (1, .int x1), (2, .int x2)] → W p l e rm_x_stacks s m args below meth c H locs 0 0 QQ (F0 m 29 ls []) := by
    intro x1 K19 hK19 K29 hK29 σ H locs x2 ls hf hw hl
    unfold x_stacks_p29 at hf
    refine lv_iload_n C.1 C.2.1 dX0_stacks_29 rfl (lv_at hl 2 rfl) ?_
    refine lv_if_eq (tgt := 74) C.1 C.2.1 dX0_stacks_30 (by decide) (fun h30 => ?_) (fun h30 => ?_)
    · replace hf := hf.1 h30
      refine lv_iload_n C.1 C.2.1 dX0_stacks_74 rfl (lv_at hl 1 rfl) ?_
      refine lv_aload_n C.1 C.2.1 dX0_stacks_75 rfl (lv_at hl 0 rfl) ?_
      refine xg_textMany C hw dX0_stacks_76 ?_
      refine lv_icmp_ge (tgt := 87) C.1 C.2.1 dX0_stacks_79 (by decide) (fun h79 => ?_) (fun h79 => ?_)
      · replace hf := hf.1 h79
        refine lv_iinc (v := (x1 + 1)) (lv' := [(1, .int (x1 + 1)), (0, .ref (ad 0)), (2, .int x2)]) C.1 C.2.1 dX0_stacks_87 hl (k := 1) rfl rfl (Nat.le_of_ble_eq_true rfl) rfl (fun ls hl => ?_)
        refine lv_goto (tgt := 19) C.1 C.2.1 dX0_stacks_90 (by decide) ?_
        exact hK19 _ _ _ _ _ hf hw (lv_sub hl [1, 0] rfl)
      · replace hf := hf.2 h79
        refine lv_aload_n C.1 C.2.1 dX0_stacks_82 rfl (lv_at hl 0 rfl) ?_
        refine lv_iload_n C.1 C.2.1 dX0_stacks_83 rfl (lv_at hl 1 rfl) ?_
        refine kx_shifts C hw hl.1 (Nat.le_of_ble_eq_true rfl) ⟨Nat.le_of_ble_eq_true rfl, Nat.le_of_ble_eq_true rfl⟩ dX0_stacks_84 hf (fun _ s84 H locs hf hw => ?_)
        refine lv_iinc (v := (x1 + 1)) (lv' := [(1, .int (x1 + 1)), (0, .ref (ad 0)), (2, .int x2)]) C.1 C.2.1 dX0_stacks_87 hl (k := 1) rfl rfl (Nat.le_of_ble_eq_true rfl) rfl (fun ls hl => ?_)
        refine lv_goto (tgt := 19) C.1 C.2.1 dX0_stacks_90 (by decide) ?_
        exact hK19 _ _ _ _ _ hf hw (lv_sub hl [1, 0] rfl)
    · replace hf := hf.2 h30
      refine lv_iconst (v := 0) C.1 C.2.1 dX0_stacks_33 rfl ?_
      refine lv_istore_n (lv' := [(2, .int 0), (0, .ref (ad 0)), (1, .int x1)]) C.1 C.2.1 dX0_stacks_34 rfl hl (Nat.le_of_ble_eq_true rfl) rfl (fun ls hl => ?_)
      refine lv_iconst (v := 0) C.1 C.2.1 dX0_stacks_35 rfl ?_
      refine lv_istore_n (lv' := [(3, .int 0), (2, .int 0), (0, .ref (ad 0)), (1, .int x1)]) C.1 C.2.1 dX0_stacks_36 rfl hl (Nat.le_of_ble_eq_true rfl) rfl (fun ls hl => ?_)
      obtain ⟨n, hf⟩ := hf
      exact P37 _ _ hK19 _ hK29 n _ _ _ _ _ _ hf hw (lv_sub hl [2, 3, 1, 0] rfl)
  have P29 : ∀ (x1 : Int32) (K19 : St → Int32 → Prop) (_ : ∀ (σ : St) (H : Heap) (locs : List Loc) (x1 : Int32) (ls : Array Slot), K19 σ x1 → gH D ct shX ad s σ H locs → lv_has ls 4 [(0, .ref (ad 0)), (1, .int x1)] → W p l e rm_x_stacks s m args below meth c H locs 0 0 QQ (F0 m 19 ls [])) (n : Nat) (σ : St) (x2 : Int32) (ls : Array Slot) (H : Heap) (locs : List Loc), LL2 (x_stacks_p29 x1 Q K19) n σ x2 → gH D ct shX ad s σ H locs → lv_has ls 4 [(0, .ref (ad 0)), (1, .int x1), (2, .int x2)] → W p l e rm_x_stacks s m args below meth c H locs 0 0 QQ (F0 m 29 ls []) := by
    intro x1 K19 hK19 n
    induction n with
    | zero => intro σ x2 ls H locs hf; exact False.elim hf
    | succ n ih => intro σ x2 ls H locs hf hw hl; exact B29 x1 K19 hK19 (LL2 _ n) (fun σ H locs x2 ls hf hw hl => ih σ x2 ls H locs hf hw hl) σ H locs x2 ls hf hw hl
  have B19 : ∀ (K19 : St → Int32 → Prop) (_ : ∀ (σ : St) (H : Heap) (locs : List Loc) (x1 : Int32) (ls : Array Slot), K19 σ x1 → gH D ct shX ad s σ H locs → lv_has ls 4 [(0, .ref (ad 0)), (1, .int x1)] → W p l e rm_x_stacks s m args below meth c H locs 0 0 QQ (F0 m 19 ls [])) (σ : St) (H : Heap) (locs : List Loc) (x1 : Int32) (ls : Array Slot), x_stacks_p19 Q K19 σ x1 → gH D ct shX ad s σ H locs → lv_has ls 4 [(0, .ref (ad 0)), (1, .int x1)] → W p l e rm_x_stacks s m args below meth c H locs 0 0 QQ (F0 m 19 ls []) := by
    intro K19 hK19 σ H locs x1 ls hf hw hl
    unfold x_stacks_p19 at hf
    refine lv_iload_n C.1 C.2.1 dX0_stacks_19 rfl (lv_at hl 1 rfl) ?_
    refine lv_aload_n C.1 C.2.1 dX0_stacks_20 rfl (lv_at hl 0 rfl) ?_
    refine xg_textMany C hw dX0_stacks_21 ?_
    refine lv_icmp_gt (tgt := 93) C.1 C.2.1 dX0_stacks_24 (by decide) (fun h24 => ?_) (fun h24 => ?_)
    · replace hf := hf.1 h24
      exact hret _ _ _ _ _ _ hf hw dX0_stacks_93
    · replace hf := hf.2 h24
      refine lv_iconst (v := 1) C.1 C.2.1 dX0_stacks_27 rfl ?_
      refine lv_istore_n (lv' := [(2, .int 1), (0, .ref (ad 0)), (1, .int x1)]) C.1 C.2.1 dX0_stacks_28 rfl hl (Nat.le_of_ble_eq_true rfl) rfl (fun ls hl => ?_)
      obtain ⟨n, hf⟩ := hf
      exact P29 _ _ hK19 n _ _ _ _ _ hf hw (lv_sub hl [1, 2, 0] rfl)
  have P19 : ∀ (n : Nat) (σ : St) (x1 : Int32) (ls : Array Slot) (H : Heap) (locs : List Loc), LL2 (x_stacks_p19 Q) n σ x1 → gH D ct shX ad s σ H locs → lv_has ls 4 [(0, .ref (ad 0)), (1, .int x1)] → W p l e rm_x_stacks s m args below meth c H locs 0 0 QQ (F0 m 19 ls []) := by
    intro  n
    induction n with
    | zero => intro σ x1 ls H locs hf; exact False.elim hf
    | succ n ih => intro σ x1 ls H locs hf hw hl; exact B19  (LL2 _ n) (fun σ H locs x1 ls hf hw hl => ih σ x1 ls H locs hf hw hl) σ H locs x1 ls hf hw hl
  unfold x_stacks at hf
  obtain ⟨H, hH⟩ : ∃ q, q = s.heap := ⟨_, rfl⟩
  obtain ⟨locs, hL⟩ : ∃ q : List Loc, q = [] := ⟨_, rfl⟩
  rw [← hH, ← hL] at hw ⊢
  refine lv_aload_n C.1 C.2.1 dX0_stacks_0 rfl (lv_at hl 0 rfl) ?_
  refine xg_isStacked C hw dX0_stacks_1 ?_
  refine lv_if_eq (tgt := 8) C.1 C.2.1 dX0_stacks_4 (by decide) (fun h4 => ?_) (fun h4 => ?_)
  · replace hf := hf.1 h4
    refine lv_aload_n C.1 C.2.1 dX0_stacks_8 rfl (lv_at hl 0 rfl) ?_
    refine lv_iconst (v := 1) C.1 C.2.1 dX0_stacks_9 rfl ?_
    refine xp_isStacked C hw (Or.inr rfl) dX0_stacks_10 (fun s10 H locs e10 hw => ?_)
    replace hf := hf s10 e10
    refine lv_aload_n C.1 C.2.1 dX0_stacks_13 rfl (lv_at hl 0 rfl) ?_
    refine kx_gathersGoings C hw hl.1 (Nat.le_of_ble_eq_true rfl) ⟨Nat.le_of_ble_eq_true rfl, Nat.le_of_ble_eq_true rfl⟩ dX0_stacks_14 hf (fun _ s14 H locs hf hw => ?_)
    refine lv_iconst (v := 0) C.1 C.2.1 dX0_stacks_17 rfl ?_
    refine lv_istore_n (lv' := [(1, .int 0), (0, .ref (ad 0))]) C.1 C.2.1 dX0_stacks_18 rfl hl (Nat.le_of_ble_eq_true rfl) rfl (fun ls hl => ?_)
    obtain ⟨n, hf⟩ := hf
    exact P19  n _ _ _ _ _ hf hw (lv_sub hl [1, 0] rfl)
  · replace hf := hf.2 h4
    exact hret _ _ _ _ _ _ hf hw dX0_stacks_7
theorem kx_stacks {p : Program} {l : Launch} {e : Env} {R : Room} {s : State} {m : MethodId} {args : Array Value} {below : List Frame} {meth : Method} {c : Code} {H : Heap} {locs : List Loc} {Z : State → Prop} {cc : ByteArray} {nL pc : Nat} {ls : Array Slot} {rest : List Value} {D : va_G} {ct : Ct} {ad : Nat → Nat} {σ : St} {Qp : Unit → St → Prop} (C : CallFix p m c cc nL s args lw_all RX0) (hw : gH D ct shX ad s σ H locs) (hsz : ls.size = nL) (hrm : (rest.map fun v => v.category).sum ≤ 8) (hR : rm_x_stacks.frames + 1 ≤ R.frames ∧ 8 + (4 + 11) + rm_x_stacks.locals ≤ R.locals) (hdg : decode cc pc = .ok (.invokevirtual 525, 3)) (hf : x_stacks σ Qp) (kk : ∀ (r : Unit) (σ1 : St) (H1 : Heap) (locs1 : List Loc), Qp r σ1 → gH D ct shX ad s σ1 H1 locs1 → W p l e R s m args below meth c H1 locs1 0 0 Z (F0 m (pc + 3) ls (rest))) : W p l e R s m args below meth c H locs 0 0 Z (F0 m pc ls (.ref (ad 0) :: rest)) :=
  g_callV (As := []) (rest := rest) C hw rfl rfl (met_x_stacks l D ct ad hw.2.1 σ Qp hf) (cwV 0 C.2.2.2.2 (lw_V q1029 q1031 qs64 q200 q1032) rfl rfl rfl (by decide +kernel) hR) rfl hsz rfl hrm ⟨Nat.zero_le _, Nat.zero_le _⟩ hdg kk
def x_partLives_p40 (σ : St) (x1 : Int32) (x2 : Int32) (x3 : Int32) (x4 : Int32) (Q : Int32 → Prop) (K40 : Int32 → Prop) (x6 : Int32) : Prop :=
  (((σ.1 80) ≤ x6 → Q 0) ∧ (¬ (σ.1 80) ≤ x6 → (vp_in (fx_pieceOf x6 x3 x4) 2028 ∧ (((gI σ 51 (fx_pieceOf x6 x3 x4)) = 0 → K40 (x6 + 1)) ∧ (¬ (gI σ 51 (fx_pieceOf x6 x3 x4)) = 0 → (x_canBeBelow σ x1 x2 x6 (fun r73 => ((r73 = 0 → K40 (x6 + 1)) ∧ (¬ r73 = 0 → Q 1)))))))))
def x_partLives (σ : St) (x1 : Int32) (x2 : Int32) (x3 : Int32) (x4 : Int32) (Q : Int32 → Prop) : Prop :=
  (x_at σ x1 x2 (fun r6 => (((fx_isCapital r6) = 0 → (x_isHere σ r6 x3 x4 (fun r25 => ((r25 = 0 → Q 0) ∧ (¬ r25 = 0 → Q 1))))) ∧ (¬ (fx_isCapital r6) = 0 → (Lp1 (x_partLives_p40 σ x1 x2 x3 x4 Q) 0)))))
abbrev rm_x_partLives : Room := { frames := 5, cells := 0, slots := 0, locals := 166 }
set_option maxHeartbeats 4000000 in
theorem met_x_partLives (l : Launch) (D : va_G) (ct : Ct) (ad : Nat → Nat) (hJ : gJ shX ad ct) (σ : St) (x1 : Int32) (x2 : Int32) (x3 : Int32) (x4 : Int32) (Q : Int32 → Prop) (hf : x_partLives σ x1 x2 x3 x4 Q) : Met l yX0_partLives (ws_ yX0_partLives cX0_partLives 7 (some .int)) rm_x_partLives (va_Pc [.ref (ad 0), .int x1, .int x2, .int x3, .int x4] (gP D ct shX ad σ)) (gR rvI Q) 0 0 (fun _ => False) := by
  refine g_metRI hJ (by decide) (Nat.le_of_ble_eq_true rfl) ?_
  intro p e s m args below meth c QQ ls H C hw hl hret
  replace hl : lv_has ls 7 [(0, .ref (ad 0)), (1, .int x1), (2, .int x2), (3, .int x3), (4, .int x4)] := hl
  have B40 : ∀ (x1 : Int32) (x2 : Int32) (x3 : Int32) (x4 : Int32) (K40 : Int32 → Prop) (_ : ∀ (x6 : Int32) (ls : Array Slot), K40 x6 → lv_has ls 7 [(0, .ref (ad 0)), (1, .int x1), (2, .int x2), (3, .int x3), (4, .int x4), (6, .int x6)] → W p l e rm_x_partLives s m args below meth c H [] 0 0 QQ (F0 m 40 ls [])) (x6 : Int32) (ls : Array Slot), x_partLives_p40 σ x1 x2 x3 x4 Q K40 x6 → lv_has ls 7 [(0, .ref (ad 0)), (1, .int x1), (2, .int x2), (3, .int x3), (4, .int x4), (6, .int x6)] → W p l e rm_x_partLives s m args below meth c H [] 0 0 QQ (F0 m 40 ls []) := by
    intro x1 x2 x3 x4 K40 hK40 x6 ls hf hl
    unfold x_partLives_p40 at hf
    refine lv_iload C.1 C.2.1 dX0_partLives_40 (lv_at hl 5 rfl) ?_
    refine lv_aload_n C.1 C.2.1 dX0_partLives_42 rfl (lv_at hl 0 rfl) ?_
    refine xg_grammar C hw dX0_partLives_43 ?_
    refine xn_many C hw dX0_partLives_46 ?_
    refine lv_icmp_ge (tgt := 87) C.1 C.2.1 dX0_partLives_49 (by decide) (fun h49 => ?_) (fun h49 => ?_)
    · replace hf := hf.1 h49
      refine lv_iconst (v := 0) C.1 C.2.1 dX0_partLives_87 rfl ?_
      exact hret _ _ _ hf dX0_partLives_88
    · replace hf := hf.2 h49
      refine lv_aload_n C.1 C.2.1 dX0_partLives_52 rfl (lv_at hl 0 rfl) ?_
      refine xg_livesOf C hw dX0_partLives_53 ?_
      refine lv_iload C.1 C.2.1 dX0_partLives_56 (lv_at hl 5 rfl) ?_
      refine lv_iload_n C.1 C.2.1 dX0_partLives_58 rfl (lv_at hl 3 rfl) ?_
      refine lv_iload C.1 C.2.1 dX0_partLives_59 (lv_at hl 4 rfl) ?_
      refine kx_pieceOf C hl.1 (Nat.le_of_ble_eq_true rfl) ⟨Nat.le_of_ble_eq_true rfl, Nat.le_of_ble_eq_true rfl⟩ dX0_partLives_61 ?_
      obtain ⟨b64, hf⟩ := hf
      refine g_zald C hw 51 rfl b64 dX0_partLives_64 ?_
      refine lv_if_eq (tgt := 81) C.1 C.2.1 dX0_partLives_65 (by decide) (fun h65 => ?_) (fun h65 => ?_)
      · replace hf := hf.1 h65
        refine lv_iinc (v := (x6 + 1)) (lv' := [(6, .int (x6 + 1)), (0, .ref (ad 0)), (1, .int x1), (2, .int x2), (3, .int x3), (4, .int x4)]) C.1 C.2.1 dX0_partLives_81 hl (k := 5) rfl rfl (Nat.le_of_ble_eq_true rfl) rfl (fun ls hl => ?_)
        refine lv_goto (tgt := 40) C.1 C.2.1 dX0_partLives_84 (by decide) ?_
        exact hK40 _ _ hf (lv_sub hl [1, 2, 3, 4, 5, 0] rfl)
      · replace hf := hf.2 h65
        refine lv_aload_n C.1 C.2.1 dX0_partLives_68 rfl (lv_at hl 0 rfl) ?_
        refine lv_iload_n C.1 C.2.1 dX0_partLives_69 rfl (lv_at hl 1 rfl) ?_
        refine lv_iload_n C.1 C.2.1 dX0_partLives_70 rfl (lv_at hl 2 rfl) ?_
        refine lv_iload C.1 C.2.1 dX0_partLives_71 (lv_at hl 5 rfl) ?_
        refine kx_canBeBelow C hw hl.1 (Nat.le_of_ble_eq_true rfl) ⟨Nat.le_of_ble_eq_true rfl, Nat.le_of_ble_eq_true rfl⟩ dX0_partLives_73 hf (fun r73 hf => ?_)
        refine lv_if_eq (tgt := 81) C.1 C.2.1 dX0_partLives_76 (by decide) (fun h76 => ?_) (fun h76 => ?_)
        · replace hf := hf.1 h76
          refine lv_iinc (v := (x6 + 1)) (lv' := [(6, .int (x6 + 1)), (0, .ref (ad 0)), (1, .int x1), (2, .int x2), (3, .int x3), (4, .int x4)]) C.1 C.2.1 dX0_partLives_81 hl (k := 5) rfl rfl (Nat.le_of_ble_eq_true rfl) rfl (fun ls hl => ?_)
          refine lv_goto (tgt := 40) C.1 C.2.1 dX0_partLives_84 (by decide) ?_
          exact hK40 _ _ hf (lv_sub hl [1, 2, 3, 4, 5, 0] rfl)
        · replace hf := hf.2 h76
          refine lv_iconst (v := 1) C.1 C.2.1 dX0_partLives_79 rfl ?_
          exact hret _ _ _ hf dX0_partLives_80
  have P40 : ∀ (x1 : Int32) (x2 : Int32) (x3 : Int32) (x4 : Int32) (n : Nat) (x6 : Int32) (ls : Array Slot), LL1 (x_partLives_p40 σ x1 x2 x3 x4 Q) n x6 → lv_has ls 7 [(0, .ref (ad 0)), (1, .int x1), (2, .int x2), (3, .int x3), (4, .int x4), (6, .int x6)] → W p l e rm_x_partLives s m args below meth c H [] 0 0 QQ (F0 m 40 ls []) := by
    intro x1 x2 x3 x4 n
    induction n with
    | zero => intro x6 ls hf; exact False.elim hf
    | succ n ih => intro x6 ls hf hl; exact B40 x1 x2 x3 x4 (LL1 _ n) ih x6 ls hf hl
  unfold x_partLives at hf
  refine lv_aload_n C.1 C.2.1 dX0_partLives_0 rfl (lv_at hl 0 rfl) ?_
  refine xg_grammar C hw dX0_partLives_1 ?_
  refine lv_iload_n C.1 C.2.1 dX0_partLives_4 rfl (lv_at hl 1 rfl) ?_
  refine lv_iload_n C.1 C.2.1 dX0_partLives_5 rfl (lv_at hl 2 rfl) ?_
  refine kx_at C hw hl.1 (Nat.le_of_ble_eq_true rfl) ⟨Nat.le_of_ble_eq_true rfl, Nat.le_of_ble_eq_true rfl⟩ dX0_partLives_6 hf (fun r6 hf => ?_)
  refine lv_istore (lv' := [(5, .int r6), (0, .ref (ad 0)), (1, .int x1), (2, .int x2), (3, .int x3), (4, .int x4)]) C.1 C.2.1 dX0_partLives_9 hl (Nat.le_of_ble_eq_true rfl) rfl (fun ls hl => ?_)
  refine lv_iload C.1 C.2.1 dX0_partLives_11 (lv_at hl 0 rfl) ?_
  refine kx_isCapital C hl.1 (Nat.le_of_ble_eq_true rfl) ⟨Nat.le_of_ble_eq_true rfl, Nat.le_of_ble_eq_true rfl⟩ dX0_partLives_13 ?_
  refine lv_if_ne (tgt := 37) C.1 C.2.1 dX0_partLives_16 (by decide) (fun h16 => ?_) (fun h16 => ?_)
  · replace hf := hf.2 h16
    refine lv_iconst (v := 0) C.1 C.2.1 dX0_partLives_37 rfl ?_
    refine lv_istore (lv' := [(6, .int 0), (5, .int r6), (0, .ref (ad 0)), (1, .int x1), (2, .int x2), (3, .int x3), (4, .int x4)]) C.1 C.2.1 dX0_partLives_38 hl (Nat.le_of_ble_eq_true rfl) rfl (fun ls hl => ?_)
    obtain ⟨n, hf⟩ := hf
    exact P40 _ _ _ _ n _ _ hf (lv_sub hl [2, 3, 4, 5, 6, 0] rfl)
  · replace hf := hf.1 h16
    refine lv_aload_n C.1 C.2.1 dX0_partLives_19 rfl (lv_at hl 1 rfl) ?_
    refine lv_iload C.1 C.2.1 dX0_partLives_20 (lv_at hl 0 rfl) ?_
    refine lv_iload_n C.1 C.2.1 dX0_partLives_22 rfl (lv_at hl 4 rfl) ?_
    refine lv_iload C.1 C.2.1 dX0_partLives_23 (lv_at hl 5 rfl) ?_
    refine kx_isHere C hw hl.1 (Nat.le_of_ble_eq_true rfl) ⟨Nat.le_of_ble_eq_true rfl, Nat.le_of_ble_eq_true rfl⟩ dX0_partLives_25 hf (fun r25 hf => ?_)
    refine lv_if_eq (tgt := 35) C.1 C.2.1 dX0_partLives_28 (by decide) (fun h28 => ?_) (fun h28 => ?_)
    · replace hf := hf.1 h28
      refine lv_iconst (v := 0) C.1 C.2.1 dX0_partLives_35 rfl ?_
      exact hret _ _ _ hf dX0_partLives_36
    · replace hf := hf.2 h28
      refine lv_iconst (v := 1) C.1 C.2.1 dX0_partLives_31 rfl ?_
      refine lv_goto (tgt := 36) C.1 C.2.1 dX0_partLives_32 (by decide) ?_
      exact hret _ _ _ hf dX0_partLives_36
theorem kx_partLives {p : Program} {l : Launch} {e : Env} {R : Room} {s : State} {m : MethodId} {args : Array Value} {below : List Frame} {meth : Method} {c : Code} {H : Heap} {locs : List Loc} {Z : State → Prop} {cc : ByteArray} {nL pc : Nat} {ls : Array Slot} {rest : List Value} {D : va_G} {ct : Ct} {ad : Nat → Nat} {σ : St} {x1 : Int32} {x2 : Int32} {x3 : Int32} {x4 : Int32} {Qp : Int32 → Prop} (C : CallFix p m c cc nL s args lw_all RX0) (hw : gH D ct shX ad s σ H locs) (hsz : ls.size = nL) (hrm : (rest.map fun v => v.category).sum ≤ 8) (hR : rm_x_partLives.frames + 1 ≤ R.frames ∧ 8 + (7 + 11) + rm_x_partLives.locals ≤ R.locals) (hdg : decode cc pc = .ok (.invokevirtual 562, 3)) (hf : x_partLives σ x1 x2 x3 x4 Qp) (kk : ∀ (r : Int32), Qp r → W p l e R s m args below meth c H locs 0 0 Z (F0 m (pc + 3) ls (.int r :: rest))) : W p l e R s m args below meth c H locs 0 0 Z (F0 m pc ls (.int x4 :: .int x3 :: .int x2 :: .int x1 :: .ref (ad 0) :: rest)) :=
  g_callVR (As := [.int x1, .int x2, .int x3, .int x4]) (rest := rest) C hw rfl rfl (met_x_partLives l D ct ad hw.2.1 σ x1 x2 x3 x4 Qp hf) (cwV 4 C.2.2.2.2 (lw_V q1109 q324 qs3 q200 q325) rfl rfl rfl (by decide +kernel) hR) rfl hsz rfl hrm ⟨Nat.zero_le _, Nat.zero_le _⟩ hdg kk
def x_partTrees_p43 (σ : St) (x1 : Int32) (x2 : Int32) (x3 : Int32) (x4 : Int32) (Q : Int32 → Prop) (K43 : Int32 → Int32 → Prop) (x6 : Int32) (x7 : Int32) : Prop :=
  (((σ.1 80) ≤ x7 → Q x6) ∧ (¬ (σ.1 80) ≤ x7 → (vp_in (fx_pieceOf x7 x3 x4) 2028 ∧ (((gI σ 51 (fx_pieceOf x7 x3 x4)) = 0 → K43 x6 (x7 + 1)) ∧ (¬ (gI σ 51 (fx_pieceOf x7 x3 x4)) = 0 → (x_canBeBelow σ x1 x2 x7 (fun r76 => ((r76 = 0 → K43 x6 (x7 + 1)) ∧ (¬ r76 = 0 → (vp_in (fx_pieceOf x7 x3 x4) 2028 ∧ K43 (fx_more x6 (gI σ 52 (fx_pieceOf x7 x3 x4))) (x7 + 1)))))))))))
def x_partTrees (σ : St) (x1 : Int32) (x2 : Int32) (x3 : Int32) (x4 : Int32) (Q : Int32 → Prop) : Prop :=
  (x_at σ x1 x2 (fun r6 => (((fx_isCapital r6) = 0 → (x_isHere σ r6 x3 x4 (fun r25 => ((r25 = 0 → Q 0) ∧ (¬ r25 = 0 → Q 1))))) ∧ (¬ (fx_isCapital r6) = 0 → (Lp2 (x_partTrees_p43 σ x1 x2 x3 x4 Q) 0 0)))))
abbrev rm_x_partTrees : Room := { frames := 5, cells := 0, slots := 0, locals := 166 }
set_option maxHeartbeats 4000000 in
theorem met_x_partTrees (l : Launch) (D : va_G) (ct : Ct) (ad : Nat → Nat) (hJ : gJ shX ad ct) (σ : St) (x1 : Int32) (x2 : Int32) (x3 : Int32) (x4 : Int32) (Q : Int32 → Prop) (hf : x_partTrees σ x1 x2 x3 x4 Q) : Met l yX0_partTrees (ws_ yX0_partTrees cX0_partTrees 8 (some .int)) rm_x_partTrees (va_Pc [.ref (ad 0), .int x1, .int x2, .int x3, .int x4] (gP D ct shX ad σ)) (gR rvI Q) 0 0 (fun _ => False) := by
  refine g_metRI hJ (by decide) (Nat.le_of_ble_eq_true rfl) ?_
  intro p e s m args below meth c QQ ls H C hw hl hret
  replace hl : lv_has ls 8 [(0, .ref (ad 0)), (1, .int x1), (2, .int x2), (3, .int x3), (4, .int x4)] := hl
  have B43 : ∀ (x1 : Int32) (x2 : Int32) (x3 : Int32) (x4 : Int32) (K43 : Int32 → Int32 → Prop) (_ : ∀ (x6 : Int32) (x7 : Int32) (ls : Array Slot), K43 x6 x7 → lv_has ls 8 [(0, .ref (ad 0)), (1, .int x1), (2, .int x2), (3, .int x3), (4, .int x4), (6, .int x6), (7, .int x7)] → W p l e rm_x_partTrees s m args below meth c H [] 0 0 QQ (F0 m 43 ls [])) (x6 : Int32) (x7 : Int32) (ls : Array Slot), x_partTrees_p43 σ x1 x2 x3 x4 Q K43 x6 x7 → lv_has ls 8 [(0, .ref (ad 0)), (1, .int x1), (2, .int x2), (3, .int x3), (4, .int x4), (6, .int x6), (7, .int x7)] → W p l e rm_x_partTrees s m args below meth c H [] 0 0 QQ (F0 m 43 ls []) := by
    intro x1 x2 x3 x4 K43 hK43 x6 x7 ls hf hl
    unfold x_partTrees_p43 at hf
    refine lv_iload C.1 C.2.1 dX0_partTrees_43 (lv_at hl 6 rfl) ?_
    refine lv_aload_n C.1 C.2.1 dX0_partTrees_45 rfl (lv_at hl 0 rfl) ?_
    refine xg_grammar C hw dX0_partTrees_46 ?_
    refine xn_many C hw dX0_partTrees_49 ?_
    refine lv_icmp_ge (tgt := 108) C.1 C.2.1 dX0_partTrees_52 (by decide) (fun h52 => ?_) (fun h52 => ?_)
    · replace hf := hf.1 h52
      refine lv_iload C.1 C.2.1 dX0_partTrees_108 (lv_at hl 5 rfl) ?_
      exact hret _ _ _ hf dX0_partTrees_110
    · replace hf := hf.2 h52
      refine lv_aload_n C.1 C.2.1 dX0_partTrees_55 rfl (lv_at hl 0 rfl) ?_
      refine xg_livesOf C hw dX0_partTrees_56 ?_
      refine lv_iload C.1 C.2.1 dX0_partTrees_59 (lv_at hl 6 rfl) ?_
      refine lv_iload_n C.1 C.2.1 dX0_partTrees_61 rfl (lv_at hl 3 rfl) ?_
      refine lv_iload C.1 C.2.1 dX0_partTrees_62 (lv_at hl 4 rfl) ?_
      refine kx_pieceOf C hl.1 (Nat.le_of_ble_eq_true rfl) ⟨Nat.le_of_ble_eq_true rfl, Nat.le_of_ble_eq_true rfl⟩ dX0_partTrees_64 ?_
      obtain ⟨b67, hf⟩ := hf
      refine g_zald C hw 51 rfl b67 dX0_partTrees_67 ?_
      refine lv_if_eq (tgt := 102) C.1 C.2.1 dX0_partTrees_68 (by decide) (fun h68 => ?_) (fun h68 => ?_)
      · replace hf := hf.1 h68
        refine lv_iinc (v := (x7 + 1)) (lv' := [(7, .int (x7 + 1)), (0, .ref (ad 0)), (1, .int x1), (2, .int x2), (3, .int x3), (4, .int x4), (6, .int x6)]) C.1 C.2.1 dX0_partTrees_102 hl (k := 6) rfl rfl (Nat.le_of_ble_eq_true rfl) rfl (fun ls hl => ?_)
        refine lv_goto (tgt := 43) C.1 C.2.1 dX0_partTrees_105 (by decide) ?_
        exact hK43 _ _ _ hf (lv_sub hl [1, 2, 3, 4, 5, 6, 0] rfl)
      · replace hf := hf.2 h68
        refine lv_aload_n C.1 C.2.1 dX0_partTrees_71 rfl (lv_at hl 0 rfl) ?_
        refine lv_iload_n C.1 C.2.1 dX0_partTrees_72 rfl (lv_at hl 1 rfl) ?_
        refine lv_iload_n C.1 C.2.1 dX0_partTrees_73 rfl (lv_at hl 2 rfl) ?_
        refine lv_iload C.1 C.2.1 dX0_partTrees_74 (lv_at hl 6 rfl) ?_
        refine kx_canBeBelow C hw hl.1 (Nat.le_of_ble_eq_true rfl) ⟨Nat.le_of_ble_eq_true rfl, Nat.le_of_ble_eq_true rfl⟩ dX0_partTrees_76 hf (fun r76 hf => ?_)
        refine lv_if_eq (tgt := 102) C.1 C.2.1 dX0_partTrees_79 (by decide) (fun h79 => ?_) (fun h79 => ?_)
        · replace hf := hf.1 h79
          refine lv_iinc (v := (x7 + 1)) (lv' := [(7, .int (x7 + 1)), (0, .ref (ad 0)), (1, .int x1), (2, .int x2), (3, .int x3), (4, .int x4), (6, .int x6)]) C.1 C.2.1 dX0_partTrees_102 hl (k := 6) rfl rfl (Nat.le_of_ble_eq_true rfl) rfl (fun ls hl => ?_)
          refine lv_goto (tgt := 43) C.1 C.2.1 dX0_partTrees_105 (by decide) ?_
          exact hK43 _ _ _ hf (lv_sub hl [1, 2, 3, 4, 5, 6, 0] rfl)
        · replace hf := hf.2 h79
          refine lv_iload C.1 C.2.1 dX0_partTrees_82 (lv_at hl 5 rfl) ?_
          refine lv_aload_n C.1 C.2.1 dX0_partTrees_84 rfl (lv_at hl 0 rfl) ?_
          refine xg_treesOf C hw dX0_partTrees_85 ?_
          refine lv_iload C.1 C.2.1 dX0_partTrees_88 (lv_at hl 6 rfl) ?_
          refine lv_iload_n C.1 C.2.1 dX0_partTrees_90 rfl (lv_at hl 3 rfl) ?_
          refine lv_iload C.1 C.2.1 dX0_partTrees_91 (lv_at hl 4 rfl) ?_
          refine kx_pieceOf C hl.1 (Nat.le_of_ble_eq_true rfl) ⟨Nat.le_of_ble_eq_true rfl, Nat.le_of_ble_eq_true rfl⟩ dX0_partTrees_93 ?_
          obtain ⟨b96, hf⟩ := hf
          refine g_iald C hw 52 rfl b96 dX0_partTrees_96 ?_
          refine kx_more C hl.1 (Nat.le_of_ble_eq_true rfl) ⟨Nat.le_of_ble_eq_true rfl, Nat.le_of_ble_eq_true rfl⟩ dX0_partTrees_97 ?_
          refine lv_istore (lv' := [(6, .int (fx_more x6 (gI σ 52 (fx_pieceOf x7 x3 x4)))), (0, .ref (ad 0)), (1, .int x1), (2, .int x2), (3, .int x3), (4, .int x4), (7, .int x7)]) C.1 C.2.1 dX0_partTrees_100 hl (Nat.le_of_ble_eq_true rfl) rfl (fun ls hl => ?_)
          refine lv_iinc (v := (x7 + 1)) (lv' := [(7, .int (x7 + 1)), (6, .int (fx_more x6 (gI σ 52 (fx_pieceOf x7 x3 x4)))), (0, .ref (ad 0)), (1, .int x1), (2, .int x2), (3, .int x3), (4, .int x4)]) C.1 C.2.1 dX0_partTrees_102 hl (k := 6) rfl rfl (Nat.le_of_ble_eq_true rfl) rfl (fun ls hl => ?_)
          refine lv_goto (tgt := 43) C.1 C.2.1 dX0_partTrees_105 (by decide) ?_
          exact hK43 _ _ _ hf (lv_sub hl [2, 3, 4, 5, 6, 1, 0] rfl)
  have P43 : ∀ (x1 : Int32) (x2 : Int32) (x3 : Int32) (x4 : Int32) (n : Nat) (x6 : Int32) (x7 : Int32) (ls : Array Slot), LL2 (x_partTrees_p43 σ x1 x2 x3 x4 Q) n x6 x7 → lv_has ls 8 [(0, .ref (ad 0)), (1, .int x1), (2, .int x2), (3, .int x3), (4, .int x4), (6, .int x6), (7, .int x7)] → W p l e rm_x_partTrees s m args below meth c H [] 0 0 QQ (F0 m 43 ls []) := by
    intro x1 x2 x3 x4 n
    induction n with
    | zero => intro x6 x7 ls hf; exact False.elim hf
    | succ n ih => intro x6 x7 ls hf hl; exact B43 x1 x2 x3 x4 (LL2 _ n) ih x6 x7 ls hf hl
  unfold x_partTrees at hf
  refine lv_aload_n C.1 C.2.1 dX0_partTrees_0 rfl (lv_at hl 0 rfl) ?_
  refine xg_grammar C hw dX0_partTrees_1 ?_
  refine lv_iload_n C.1 C.2.1 dX0_partTrees_4 rfl (lv_at hl 1 rfl) ?_
  refine lv_iload_n C.1 C.2.1 dX0_partTrees_5 rfl (lv_at hl 2 rfl) ?_
  refine kx_at C hw hl.1 (Nat.le_of_ble_eq_true rfl) ⟨Nat.le_of_ble_eq_true rfl, Nat.le_of_ble_eq_true rfl⟩ dX0_partTrees_6 hf (fun r6 hf => ?_)
  refine lv_istore (lv' := [(5, .int r6), (0, .ref (ad 0)), (1, .int x1), (2, .int x2), (3, .int x3), (4, .int x4)]) C.1 C.2.1 dX0_partTrees_9 hl (Nat.le_of_ble_eq_true rfl) rfl (fun ls hl => ?_)
  refine lv_iload C.1 C.2.1 dX0_partTrees_11 (lv_at hl 0 rfl) ?_
  refine kx_isCapital C hl.1 (Nat.le_of_ble_eq_true rfl) ⟨Nat.le_of_ble_eq_true rfl, Nat.le_of_ble_eq_true rfl⟩ dX0_partTrees_13 ?_
  refine lv_if_ne (tgt := 37) C.1 C.2.1 dX0_partTrees_16 (by decide) (fun h16 => ?_) (fun h16 => ?_)
  · replace hf := hf.2 h16
    refine lv_iconst (v := 0) C.1 C.2.1 dX0_partTrees_37 rfl ?_
    refine lv_istore (lv' := [(6, .int 0), (5, .int r6), (0, .ref (ad 0)), (1, .int x1), (2, .int x2), (3, .int x3), (4, .int x4)]) C.1 C.2.1 dX0_partTrees_38 hl (Nat.le_of_ble_eq_true rfl) rfl (fun ls hl => ?_)
    refine lv_iconst (v := 0) C.1 C.2.1 dX0_partTrees_40 rfl ?_
    refine lv_istore (lv' := [(7, .int 0), (6, .int 0), (5, .int r6), (0, .ref (ad 0)), (1, .int x1), (2, .int x2), (3, .int x3), (4, .int x4)]) C.1 C.2.1 dX0_partTrees_41 hl (Nat.le_of_ble_eq_true rfl) rfl (fun ls hl => ?_)
    obtain ⟨n, hf⟩ := hf
    exact P43 _ _ _ _ n _ _ _ hf (lv_sub hl [3, 4, 5, 6, 7, 1, 0] rfl)
  · replace hf := hf.1 h16
    refine lv_aload_n C.1 C.2.1 dX0_partTrees_19 rfl (lv_at hl 1 rfl) ?_
    refine lv_iload C.1 C.2.1 dX0_partTrees_20 (lv_at hl 0 rfl) ?_
    refine lv_iload_n C.1 C.2.1 dX0_partTrees_22 rfl (lv_at hl 4 rfl) ?_
    refine lv_iload C.1 C.2.1 dX0_partTrees_23 (lv_at hl 5 rfl) ?_
    refine kx_isHere C hw hl.1 (Nat.le_of_ble_eq_true rfl) ⟨Nat.le_of_ble_eq_true rfl, Nat.le_of_ble_eq_true rfl⟩ dX0_partTrees_25 hf (fun r25 hf => ?_)
    refine lv_if_eq (tgt := 35) C.1 C.2.1 dX0_partTrees_28 (by decide) (fun h28 => ?_) (fun h28 => ?_)
    · replace hf := hf.1 h28
      refine lv_iconst (v := 0) C.1 C.2.1 dX0_partTrees_35 rfl ?_
      exact hret _ _ _ hf dX0_partTrees_36
    · replace hf := hf.2 h28
      refine lv_iconst (v := 1) C.1 C.2.1 dX0_partTrees_31 rfl ?_
      refine lv_goto (tgt := 36) C.1 C.2.1 dX0_partTrees_32 (by decide) ?_
      exact hret _ _ _ hf dX0_partTrees_36
def x_partLeast_p45 (σ : St) (x1 : Int32) (x2 : Int32) (x3 : Int32) (x4 : Int32) (Q : Int32 → Prop) (K45 : Int32 → Int32 → Prop) (x6 : Int32) (x7 : Int32) : Prop :=
  (((σ.1 80) ≤ x7 → Q x6) ∧ (¬ (σ.1 80) ≤ x7 → (vp_in (fx_pieceOf x7 x3 x4) 2028 ∧ (((gI σ 51 (fx_pieceOf x7 x3 x4)) = 0 → K45 x6 (x7 + 1)) ∧ (¬ (gI σ 51 (fx_pieceOf x7 x3 x4)) = 0 → (x_canBeBelow σ x1 x2 x7 (fun r78 => ((r78 = 0 → K45 x6 (x7 + 1)) ∧ (¬ r78 = 0 → (vp_in (fx_pieceOf x7 x3 x4) 2028 ∧ K45 (fx_lesser x6 (gI σ 53 (fx_pieceOf x7 x3 x4))) (x7 + 1)))))))))))
def x_partLeast (σ : St) (x1 : Int32) (x2 : Int32) (x3 : Int32) (x4 : Int32) (Q : Int32 → Prop) : Prop :=
  (x_at σ x1 x2 (fun r6 => (((fx_isCapital r6) = 0 → (x_isHere σ r6 x3 x4 (fun r25 => ((r25 = 0 → Q 2000000000) ∧ (¬ r25 = 0 → Q 0))))) ∧ (¬ (fx_isCapital r6) = 0 → (Lp2 (x_partLeast_p45 σ x1 x2 x3 x4 Q) 2000000000 0)))))
abbrev rm_x_partLeast : Room := { frames := 5, cells := 0, slots := 0, locals := 166 }
set_option maxHeartbeats 4000000 in
theorem met_x_partLeast (l : Launch) (D : va_G) (ct : Ct) (ad : Nat → Nat) (hJ : gJ shX ad ct) (σ : St) (x1 : Int32) (x2 : Int32) (x3 : Int32) (x4 : Int32) (Q : Int32 → Prop) (hf : x_partLeast σ x1 x2 x3 x4 Q) : Met l yX0_partLeast (ws_ yX0_partLeast cX0_partLeast 8 (some .int)) rm_x_partLeast (va_Pc [.ref (ad 0), .int x1, .int x2, .int x3, .int x4] (gP D ct shX ad σ)) (gR rvI Q) 0 0 (fun _ => False) := by
  refine g_metRI hJ (by decide) (Nat.le_of_ble_eq_true rfl) ?_
  intro p e s m args below meth c QQ ls H C hw hl hret
  replace hl : lv_has ls 8 [(0, .ref (ad 0)), (1, .int x1), (2, .int x2), (3, .int x3), (4, .int x4)] := hl
  have B45 : ∀ (x1 : Int32) (x2 : Int32) (x3 : Int32) (x4 : Int32) (K45 : Int32 → Int32 → Prop) (_ : ∀ (x6 : Int32) (x7 : Int32) (ls : Array Slot), K45 x6 x7 → lv_has ls 8 [(0, .ref (ad 0)), (1, .int x1), (2, .int x2), (3, .int x3), (4, .int x4), (6, .int x6), (7, .int x7)] → W p l e rm_x_partLeast s m args below meth c H [] 0 0 QQ (F0 m 45 ls [])) (x6 : Int32) (x7 : Int32) (ls : Array Slot), x_partLeast_p45 σ x1 x2 x3 x4 Q K45 x6 x7 → lv_has ls 8 [(0, .ref (ad 0)), (1, .int x1), (2, .int x2), (3, .int x3), (4, .int x4), (6, .int x6), (7, .int x7)] → W p l e rm_x_partLeast s m args below meth c H [] 0 0 QQ (F0 m 45 ls []) := by
    intro x1 x2 x3 x4 K45 hK45 x6 x7 ls hf hl
    unfold x_partLeast_p45 at hf
    refine lv_iload C.1 C.2.1 dX0_partLeast_45 (lv_at hl 6 rfl) ?_
    refine lv_aload_n C.1 C.2.1 dX0_partLeast_47 rfl (lv_at hl 0 rfl) ?_
    refine xg_grammar C hw dX0_partLeast_48 ?_
    refine xn_many C hw dX0_partLeast_51 ?_
    refine lv_icmp_ge (tgt := 110) C.1 C.2.1 dX0_partLeast_54 (by decide) (fun h54 => ?_) (fun h54 => ?_)
    · replace hf := hf.1 h54
      refine lv_iload C.1 C.2.1 dX0_partLeast_110 (lv_at hl 5 rfl) ?_
      exact hret _ _ _ hf dX0_partLeast_112
    · replace hf := hf.2 h54
      refine lv_aload_n C.1 C.2.1 dX0_partLeast_57 rfl (lv_at hl 0 rfl) ?_
      refine xg_livesOf C hw dX0_partLeast_58 ?_
      refine lv_iload C.1 C.2.1 dX0_partLeast_61 (lv_at hl 6 rfl) ?_
      refine lv_iload_n C.1 C.2.1 dX0_partLeast_63 rfl (lv_at hl 3 rfl) ?_
      refine lv_iload C.1 C.2.1 dX0_partLeast_64 (lv_at hl 4 rfl) ?_
      refine kx_pieceOf C hl.1 (Nat.le_of_ble_eq_true rfl) ⟨Nat.le_of_ble_eq_true rfl, Nat.le_of_ble_eq_true rfl⟩ dX0_partLeast_66 ?_
      obtain ⟨b69, hf⟩ := hf
      refine g_zald C hw 51 rfl b69 dX0_partLeast_69 ?_
      refine lv_if_eq (tgt := 104) C.1 C.2.1 dX0_partLeast_70 (by decide) (fun h70 => ?_) (fun h70 => ?_)
      · replace hf := hf.1 h70
        refine lv_iinc (v := (x7 + 1)) (lv' := [(7, .int (x7 + 1)), (0, .ref (ad 0)), (1, .int x1), (2, .int x2), (3, .int x3), (4, .int x4), (6, .int x6)]) C.1 C.2.1 dX0_partLeast_104 hl (k := 6) rfl rfl (Nat.le_of_ble_eq_true rfl) rfl (fun ls hl => ?_)
        refine lv_goto (tgt := 45) C.1 C.2.1 dX0_partLeast_107 (by decide) ?_
        exact hK45 _ _ _ hf (lv_sub hl [1, 2, 3, 4, 5, 6, 0] rfl)
      · replace hf := hf.2 h70
        refine lv_aload_n C.1 C.2.1 dX0_partLeast_73 rfl (lv_at hl 0 rfl) ?_
        refine lv_iload_n C.1 C.2.1 dX0_partLeast_74 rfl (lv_at hl 1 rfl) ?_
        refine lv_iload_n C.1 C.2.1 dX0_partLeast_75 rfl (lv_at hl 2 rfl) ?_
        refine lv_iload C.1 C.2.1 dX0_partLeast_76 (lv_at hl 6 rfl) ?_
        refine kx_canBeBelow C hw hl.1 (Nat.le_of_ble_eq_true rfl) ⟨Nat.le_of_ble_eq_true rfl, Nat.le_of_ble_eq_true rfl⟩ dX0_partLeast_78 hf (fun r78 hf => ?_)
        refine lv_if_eq (tgt := 104) C.1 C.2.1 dX0_partLeast_81 (by decide) (fun h81 => ?_) (fun h81 => ?_)
        · replace hf := hf.1 h81
          refine lv_iinc (v := (x7 + 1)) (lv' := [(7, .int (x7 + 1)), (0, .ref (ad 0)), (1, .int x1), (2, .int x2), (3, .int x3), (4, .int x4), (6, .int x6)]) C.1 C.2.1 dX0_partLeast_104 hl (k := 6) rfl rfl (Nat.le_of_ble_eq_true rfl) rfl (fun ls hl => ?_)
          refine lv_goto (tgt := 45) C.1 C.2.1 dX0_partLeast_107 (by decide) ?_
          exact hK45 _ _ _ hf (lv_sub hl [1, 2, 3, 4, 5, 6, 0] rfl)
        · replace hf := hf.2 h81
          refine lv_iload C.1 C.2.1 dX0_partLeast_84 (lv_at hl 5 rfl) ?_
          refine lv_aload_n C.1 C.2.1 dX0_partLeast_86 rfl (lv_at hl 0 rfl) ?_
          refine xg_leastOf C hw dX0_partLeast_87 ?_
          refine lv_iload C.1 C.2.1 dX0_partLeast_90 (lv_at hl 6 rfl) ?_
          refine lv_iload_n C.1 C.2.1 dX0_partLeast_92 rfl (lv_at hl 3 rfl) ?_
          refine lv_iload C.1 C.2.1 dX0_partLeast_93 (lv_at hl 4 rfl) ?_
          refine kx_pieceOf C hl.1 (Nat.le_of_ble_eq_true rfl) ⟨Nat.le_of_ble_eq_true rfl, Nat.le_of_ble_eq_true rfl⟩ dX0_partLeast_95 ?_
          obtain ⟨b98, hf⟩ := hf
          refine g_iald C hw 53 rfl b98 dX0_partLeast_98 ?_
          refine kx_lesser C hl.1 (Nat.le_of_ble_eq_true rfl) ⟨Nat.le_of_ble_eq_true rfl, Nat.le_of_ble_eq_true rfl⟩ dX0_partLeast_99 ?_
          refine lv_istore (lv' := [(6, .int (fx_lesser x6 (gI σ 53 (fx_pieceOf x7 x3 x4)))), (0, .ref (ad 0)), (1, .int x1), (2, .int x2), (3, .int x3), (4, .int x4), (7, .int x7)]) C.1 C.2.1 dX0_partLeast_102 hl (Nat.le_of_ble_eq_true rfl) rfl (fun ls hl => ?_)
          refine lv_iinc (v := (x7 + 1)) (lv' := [(7, .int (x7 + 1)), (6, .int (fx_lesser x6 (gI σ 53 (fx_pieceOf x7 x3 x4)))), (0, .ref (ad 0)), (1, .int x1), (2, .int x2), (3, .int x3), (4, .int x4)]) C.1 C.2.1 dX0_partLeast_104 hl (k := 6) rfl rfl (Nat.le_of_ble_eq_true rfl) rfl (fun ls hl => ?_)
          refine lv_goto (tgt := 45) C.1 C.2.1 dX0_partLeast_107 (by decide) ?_
          exact hK45 _ _ _ hf (lv_sub hl [2, 3, 4, 5, 6, 1, 0] rfl)
  have P45 : ∀ (x1 : Int32) (x2 : Int32) (x3 : Int32) (x4 : Int32) (n : Nat) (x6 : Int32) (x7 : Int32) (ls : Array Slot), LL2 (x_partLeast_p45 σ x1 x2 x3 x4 Q) n x6 x7 → lv_has ls 8 [(0, .ref (ad 0)), (1, .int x1), (2, .int x2), (3, .int x3), (4, .int x4), (6, .int x6), (7, .int x7)] → W p l e rm_x_partLeast s m args below meth c H [] 0 0 QQ (F0 m 45 ls []) := by
    intro x1 x2 x3 x4 n
    induction n with
    | zero => intro x6 x7 ls hf; exact False.elim hf
    | succ n ih => intro x6 x7 ls hf hl; exact B45 x1 x2 x3 x4 (LL2 _ n) ih x6 x7 ls hf hl
  unfold x_partLeast at hf
  refine lv_aload_n C.1 C.2.1 dX0_partLeast_0 rfl (lv_at hl 0 rfl) ?_
  refine xg_grammar C hw dX0_partLeast_1 ?_
  refine lv_iload_n C.1 C.2.1 dX0_partLeast_4 rfl (lv_at hl 1 rfl) ?_
  refine lv_iload_n C.1 C.2.1 dX0_partLeast_5 rfl (lv_at hl 2 rfl) ?_
  refine kx_at C hw hl.1 (Nat.le_of_ble_eq_true rfl) ⟨Nat.le_of_ble_eq_true rfl, Nat.le_of_ble_eq_true rfl⟩ dX0_partLeast_6 hf (fun r6 hf => ?_)
  refine lv_istore (lv' := [(5, .int r6), (0, .ref (ad 0)), (1, .int x1), (2, .int x2), (3, .int x3), (4, .int x4)]) C.1 C.2.1 dX0_partLeast_9 hl (Nat.le_of_ble_eq_true rfl) rfl (fun ls hl => ?_)
  refine lv_iload C.1 C.2.1 dX0_partLeast_11 (lv_at hl 0 rfl) ?_
  refine kx_isCapital C hl.1 (Nat.le_of_ble_eq_true rfl) ⟨Nat.le_of_ble_eq_true rfl, Nat.le_of_ble_eq_true rfl⟩ dX0_partLeast_13 ?_
  refine lv_if_ne (tgt := 38) C.1 C.2.1 dX0_partLeast_16 (by decide) (fun h16 => ?_) (fun h16 => ?_)
  · replace hf := hf.2 h16
    refine lv_ldc C.1 C.2.1 C.2.2.2.1 (C.2.2.2.2 _ q355) dX0_partLeast_38 ?_
    refine lv_istore (lv' := [(6, .int 2000000000), (5, .int r6), (0, .ref (ad 0)), (1, .int x1), (2, .int x2), (3, .int x3), (4, .int x4)]) C.1 C.2.1 dX0_partLeast_40 hl (Nat.le_of_ble_eq_true rfl) rfl (fun ls hl => ?_)
    refine lv_iconst (v := 0) C.1 C.2.1 dX0_partLeast_42 rfl ?_
    refine lv_istore (lv' := [(7, .int 0), (6, .int 2000000000), (5, .int r6), (0, .ref (ad 0)), (1, .int x1), (2, .int x2), (3, .int x3), (4, .int x4)]) C.1 C.2.1 dX0_partLeast_43 hl (Nat.le_of_ble_eq_true rfl) rfl (fun ls hl => ?_)
    obtain ⟨n, hf⟩ := hf
    exact P45 _ _ _ _ n _ _ _ hf (lv_sub hl [3, 4, 5, 6, 7, 1, 0] rfl)
  · replace hf := hf.1 h16
    refine lv_aload_n C.1 C.2.1 dX0_partLeast_19 rfl (lv_at hl 1 rfl) ?_
    refine lv_iload C.1 C.2.1 dX0_partLeast_20 (lv_at hl 0 rfl) ?_
    refine lv_iload_n C.1 C.2.1 dX0_partLeast_22 rfl (lv_at hl 4 rfl) ?_
    refine lv_iload C.1 C.2.1 dX0_partLeast_23 (lv_at hl 5 rfl) ?_
    refine kx_isHere C hw hl.1 (Nat.le_of_ble_eq_true rfl) ⟨Nat.le_of_ble_eq_true rfl, Nat.le_of_ble_eq_true rfl⟩ dX0_partLeast_25 hf (fun r25 hf => ?_)
    refine lv_if_eq (tgt := 35) C.1 C.2.1 dX0_partLeast_28 (by decide) (fun h28 => ?_) (fun h28 => ?_)
    · replace hf := hf.1 h28
      refine lv_ldc C.1 C.2.1 C.2.2.2.1 (C.2.2.2.2 _ q355) dX0_partLeast_35 ?_
      exact hret _ _ _ hf dX0_partLeast_37
    · replace hf := hf.2 h28
      refine lv_iconst (v := 0) C.1 C.2.1 dX0_partLeast_31 rfl ?_
      refine lv_goto (tgt := 37) C.1 C.2.1 dX0_partLeast_32 (by decide) ?_
      exact hret _ _ _ hf dX0_partLeast_37
theorem kx_partLeast {p : Program} {l : Launch} {e : Env} {R : Room} {s : State} {m : MethodId} {args : Array Value} {below : List Frame} {meth : Method} {c : Code} {H : Heap} {locs : List Loc} {Z : State → Prop} {cc : ByteArray} {nL pc : Nat} {ls : Array Slot} {rest : List Value} {D : va_G} {ct : Ct} {ad : Nat → Nat} {σ : St} {x1 : Int32} {x2 : Int32} {x3 : Int32} {x4 : Int32} {Qp : Int32 → Prop} (C : CallFix p m c cc nL s args lw_all RX0) (hw : gH D ct shX ad s σ H locs) (hsz : ls.size = nL) (hrm : (rest.map fun v => v.category).sum ≤ 8) (hR : rm_x_partLeast.frames + 1 ≤ R.frames ∧ 8 + (8 + 11) + rm_x_partLeast.locals ≤ R.locals) (hdg : decode cc pc = .ok (.invokevirtual 636, 3)) (hf : x_partLeast σ x1 x2 x3 x4 Qp) (kk : ∀ (r : Int32), Qp r → W p l e R s m args below meth c H locs 0 0 Z (F0 m (pc + 3) ls (.int r :: rest))) : W p l e R s m args below meth c H locs 0 0 Z (F0 m pc ls (.int x4 :: .int x3 :: .int x2 :: .int x1 :: .ref (ad 0) :: rest)) :=
  g_callVR (As := [.int x1, .int x2, .int x3, .int x4]) (rest := rest) C hw rfl rfl (met_x_partLeast l D ct ad hw.2.1 σ x1 x2 x3 x4 Qp hf) (cwV 4 C.2.2.2.2 (lw_V q1213 q353 qs8 q200 q354) rfl rfl rfl (by decide +kernel) hR) rfl hsz rfl hrm ⟨Nat.zero_le _, Nat.zero_le _⟩ hdg kk
def x_spoken_p49 (x1 : Int32) (x2 : Int32) (Q : Int32 → St → Prop) (K49 : St → Int32 → Int32 → Prop) (σ : St) (x3 : Int32) (x4 : Int32) : Prop :=
  ((x1 ≤ x4 → ((x3 = 0 → Q (-2) σ) ∧ (¬ x3 = 0 → ((x2 = (-1) → Q (σ.1 65) σ) ∧ (¬ x2 = (-1) → (((σ.1 65) ≤ x2 → Q (-1) σ) ∧ (¬ (σ.1 65) ≤ x2 → (vp_in x2 24 ∧ Q (gI σ 64 x2) σ)))))))) ∧ (¬ x1 ≤ x4 → (x_speaks σ (fun r56 s56 => K49 s56 r56 (x4 + 1)))))
def x_spoken (σ : St) (x1 : Int32) (x2 : Int32) (Q : Int32 → St → Prop) : Prop :=
  (((fx_in (Int32.toInt64 x1) 1 10) = 0 → Q (-3) σ) ∧ (¬ (fx_in (Int32.toInt64 x1) 1 10) = 0 → (((fx_in (Int32.toInt64 x2) (-1) 23) = 0 → Q (-3) σ) ∧ (¬ (fx_in (Int32.toInt64 x2) (-1) 23) = 0 → (∀ s41 : St, s41 = s_I σ 63 (σ.1 10) → (Lp3 (x_spoken_p49 x1 x2 Q) s41 0 0))))))
abbrev rm_x_spoken : Room := { frames := 4, cells := 0, slots := 0, locals := 111 }
set_option maxHeartbeats 4000000 in
theorem met_x_spoken (l : Launch) (D : va_G) (ct : Ct) (ad : Nat → Nat) (hJ : gJ shX ad ct) (σ : St) (x1 : Int32) (x2 : Int32) (Q : Int32 → St → Prop) (hf : x_spoken σ x1 x2 Q) : Met l yX0_spoken (ws_ yX0_spoken cX0_spoken 5 (some .int)) rm_x_spoken (va_Pc [.ref (ad 0), .int x1, .int x2] (gP D ct shX ad σ)) (gQ rvI D ct shX ad Q) 0 0 (gA shX ad) := by
  refine g_metI hJ (by decide) (Nat.le_of_ble_eq_true rfl) ?_
  intro p e s m args below meth c QQ ls C hw hl hret
  replace hl : lv_has ls 5 [(0, .ref (ad 0)), (1, .int x1), (2, .int x2)] := hl
  have B49 : ∀ (x1 : Int32) (x2 : Int32) (K49 : St → Int32 → Int32 → Prop) (_ : ∀ (σ : St) (H : Heap) (locs : List Loc) (x3 : Int32) (x4 : Int32) (ls : Array Slot), K49 σ x3 x4 → gH D ct shX ad s σ H locs → lv_has ls 5 [(0, .ref (ad 0)), (1, .int x1), (2, .int x2), (3, .int x3), (4, .int x4)] → W p l e rm_x_spoken s m args below meth c H locs 0 0 QQ (F0 m 49 ls [])) (σ : St) (H : Heap) (locs : List Loc) (x3 : Int32) (x4 : Int32) (ls : Array Slot), x_spoken_p49 x1 x2 Q K49 σ x3 x4 → gH D ct shX ad s σ H locs → lv_has ls 5 [(0, .ref (ad 0)), (1, .int x1), (2, .int x2), (3, .int x3), (4, .int x4)] → W p l e rm_x_spoken s m args below meth c H locs 0 0 QQ (F0 m 49 ls []) := by
    intro x1 x2 K49 hK49 σ H locs x3 x4 ls hf hw hl
    unfold x_spoken_p49 at hf
    refine lv_iload C.1 C.2.1 dX0_spoken_49 (lv_at hl 4 rfl) ?_
    refine lv_iload_n C.1 C.2.1 dX0_spoken_51 rfl (lv_at hl 1 rfl) ?_
    refine lv_icmp_ge (tgt := 66) C.1 C.2.1 dX0_spoken_52 (by decide) (fun h52 => ?_) (fun h52 => ?_)
    · replace hf := hf.1 h52
      refine lv_iload_n C.1 C.2.1 dX0_spoken_66 rfl (lv_at hl 3 rfl) ?_
      refine lv_if_ne (tgt := 73) C.1 C.2.1 dX0_spoken_67 (by decide) (fun h67 => ?_) (fun h67 => ?_)
      · replace hf := hf.2 h67
        refine lv_iload_n C.1 C.2.1 dX0_spoken_73 rfl (lv_at hl 2 rfl) ?_
        refine lv_iconst (v := (-1)) C.1 C.2.1 dX0_spoken_74 rfl ?_
        refine lv_icmp_ne (tgt := 85) C.1 C.2.1 dX0_spoken_75 (by decide) (fun h75 => ?_) (fun h75 => ?_)
        · replace hf := hf.2 h75
          refine lv_iload_n C.1 C.2.1 dX0_spoken_85 rfl (lv_at hl 2 rfl) ?_
          refine lv_aload_n C.1 C.2.1 dX0_spoken_86 rfl (lv_at hl 0 rfl) ?_
          refine xg_spokenMany C hw dX0_spoken_87 ?_
          refine lv_icmp_ge (tgt := 102) C.1 C.2.1 dX0_spoken_90 (by decide) (fun h90 => ?_) (fun h90 => ?_)
          · replace hf := hf.1 h90
            refine lv_iconst (v := (-1)) C.1 C.2.1 dX0_spoken_102 rfl ?_
            exact hret _ _ _ _ _ _ hf hw dX0_spoken_103
          · replace hf := hf.2 h90
            refine lv_aload_n C.1 C.2.1 dX0_spoken_93 rfl (lv_at hl 0 rfl) ?_
            refine xg_spoken C hw dX0_spoken_94 ?_
            refine lv_iload_n C.1 C.2.1 dX0_spoken_97 rfl (lv_at hl 2 rfl) ?_
            obtain ⟨b98, hf⟩ := hf
            refine g_iald C hw 64 rfl b98 dX0_spoken_98 ?_
            refine lv_goto (tgt := 103) C.1 C.2.1 dX0_spoken_99 (by decide) ?_
            exact hret _ _ _ _ _ _ hf hw dX0_spoken_103
        · replace hf := hf.1 h75
          refine lv_aload_n C.1 C.2.1 dX0_spoken_78 rfl (lv_at hl 0 rfl) ?_
          refine xg_spokenMany C hw dX0_spoken_79 ?_
          refine lv_goto (tgt := 103) C.1 C.2.1 dX0_spoken_82 (by decide) ?_
          exact hret _ _ _ _ _ _ hf hw dX0_spoken_103
      · replace hf := hf.1 h67
        refine lv_bipush (v := (-2)) C.1 C.2.1 dX0_spoken_70 rfl ?_
        exact hret _ _ _ _ _ _ hf hw dX0_spoken_72
    · replace hf := hf.2 h52
      refine lv_aload_n C.1 C.2.1 dX0_spoken_55 rfl (lv_at hl 0 rfl) ?_
      refine kx_speaks C hw hl.1 (Nat.le_of_ble_eq_true rfl) ⟨Nat.le_of_ble_eq_true rfl, Nat.le_of_ble_eq_true rfl⟩ dX0_spoken_56 hf (fun r56 s56 H locs hf hw => ?_)
      refine lv_istore_n (lv' := [(3, .int r56), (0, .ref (ad 0)), (1, .int x1), (2, .int x2), (4, .int x4)]) C.1 C.2.1 dX0_spoken_59 rfl hl (Nat.le_of_ble_eq_true rfl) rfl (fun ls hl => ?_)
      refine lv_iinc (v := (x4 + 1)) (lv' := [(4, .int (x4 + 1)), (3, .int r56), (0, .ref (ad 0)), (1, .int x1), (2, .int x2)]) C.1 C.2.1 dX0_spoken_60 hl (k := 4) rfl rfl (Nat.le_of_ble_eq_true rfl) rfl (fun ls hl => ?_)
      refine lv_goto (tgt := 49) C.1 C.2.1 dX0_spoken_63 (by decide) ?_
      exact hK49 _ _ _ _ _ _ hf hw (lv_sub hl [2, 3, 4, 1, 0] rfl)
  have P49 : ∀ (x1 : Int32) (x2 : Int32) (n : Nat) (σ : St) (x3 : Int32) (x4 : Int32) (ls : Array Slot) (H : Heap) (locs : List Loc), LL3 (x_spoken_p49 x1 x2 Q) n σ x3 x4 → gH D ct shX ad s σ H locs → lv_has ls 5 [(0, .ref (ad 0)), (1, .int x1), (2, .int x2), (3, .int x3), (4, .int x4)] → W p l e rm_x_spoken s m args below meth c H locs 0 0 QQ (F0 m 49 ls []) := by
    intro x1 x2 n
    induction n with
    | zero => intro σ x3 x4 ls H locs hf; exact False.elim hf
    | succ n ih => intro σ x3 x4 ls H locs hf hw hl; exact B49 x1 x2 (LL3 _ n) (fun σ H locs x3 x4 ls hf hw hl => ih σ x3 x4 ls H locs hf hw hl) σ H locs x3 x4 ls hf hw hl
  unfold x_spoken at hf
  obtain ⟨H, hH⟩ : ∃ q, q = s.heap := ⟨_, rfl⟩
  obtain ⟨locs, hL⟩ : ∃ q : List Loc, q = [] := ⟨_, rfl⟩
  rw [← hH, ← hL] at hw ⊢
  refine lv_aload_n C.1 C.2.1 dX0_spoken_0 rfl (lv_at hl 0 rfl) ?_
  refine xg_grammar C hw dX0_spoken_1 ?_
  refine lv_ifnull C.1 C.2.1 dX0_spoken_4 ?_
  refine lv_iload_n C.1 C.2.1 dX0_spoken_7 rfl (lv_at hl 1 rfl) ?_
  refine lv_i2l C.1 C.2.1 dX0_spoken_8 rfl ?_
  refine lv_lconst (v := 1) C.1 C.2.1 dX0_spoken_9 rfl ?_
  refine lv_ldc2 C.1 C.2.1 C.2.2.2.1 (C.2.2.2.2 _ q1241) dX0_spoken_10 ?_
  refine kx_in C hl.1 (Nat.le_of_ble_eq_true rfl) ⟨Nat.le_of_ble_eq_true rfl, Nat.le_of_ble_eq_true rfl⟩ dX0_spoken_13 ?_
  refine lv_if_eq (tgt := 33) C.1 C.2.1 dX0_spoken_16 (by decide) (fun h16 => ?_) (fun h16 => ?_)
  · replace hf := hf.1 h16
    refine lv_bipush (v := (-3)) C.1 C.2.1 dX0_spoken_33 rfl ?_
    exact hret _ _ _ _ _ _ hf hw dX0_spoken_35
  · replace hf := hf.2 h16
    refine lv_iload_n C.1 C.2.1 dX0_spoken_19 rfl (lv_at hl 2 rfl) ?_
    refine lv_i2l C.1 C.2.1 dX0_spoken_20 rfl ?_
    refine lv_ldc2 C.1 C.2.1 C.2.2.2.1 (C.2.2.2.2 _ q820) dX0_spoken_21 ?_
    refine lv_ldc2 C.1 C.2.1 C.2.2.2.1 (C.2.2.2.2 _ q1242) dX0_spoken_24 ?_
    refine kx_in C hl.1 (Nat.le_of_ble_eq_true rfl) ⟨Nat.le_of_ble_eq_true rfl, Nat.le_of_ble_eq_true rfl⟩ dX0_spoken_27 ?_
    refine lv_if_ne (tgt := 36) C.1 C.2.1 dX0_spoken_30 (by decide) (fun h30 => ?_) (fun h30 => ?_)
    · replace hf := hf.2 h30
      refine lv_aload_n C.1 C.2.1 dX0_spoken_36 rfl (lv_at hl 0 rfl) ?_
      refine lv_aload_n C.1 C.2.1 dX0_spoken_37 rfl (lv_at hl 0 rfl) ?_
      refine xg_x C hw dX0_spoken_38 ?_
      refine xp_drawX C hw dX0_spoken_41 (fun s41 H locs e41 hw => ?_)
      replace hf := hf s41 e41
      refine lv_iconst (v := 0) C.1 C.2.1 dX0_spoken_44 rfl ?_
      refine lv_istore_n (lv' := [(3, .int 0), (0, .ref (ad 0)), (1, .int x1), (2, .int x2)]) C.1 C.2.1 dX0_spoken_45 rfl hl (Nat.le_of_ble_eq_true rfl) rfl (fun ls hl => ?_)
      refine lv_iconst (v := 0) C.1 C.2.1 dX0_spoken_46 rfl ?_
      refine lv_istore (lv' := [(4, .int 0), (3, .int 0), (0, .ref (ad 0)), (1, .int x1), (2, .int x2)]) C.1 C.2.1 dX0_spoken_47 hl (Nat.le_of_ble_eq_true rfl) rfl (fun ls hl => ?_)
      obtain ⟨n, hf⟩ := hf
      exact P49 _ _ n _ _ _ _ _ _ hf hw (lv_sub hl [2, 3, 4, 1, 0] rfl)
    · replace hf := hf.1 h30
      refine lv_bipush (v := (-3)) C.1 C.2.1 dX0_spoken_33 rfl ?_
      exact hret _ _ _ _ _ _ hf hw dX0_spoken_35
def x_gathersFacts_p253 (σ : St) (x2 : Int32) (Q : Unit → St → Prop) (K184 : St → Int32 → Prop) (v0 : Int32) (v1 : Int32) : Prop :=
  (∀ s254 : St, s254 = s_I σ 19 (v1 ||| v0) → K184 s254 (x2 + 1))
def x_gathersFacts_p228 (σ : St) (x2 : Int32) (Q : Unit → St → Prop) (K184 : St → Int32 → Prop) (v0 : Int32) (v1 : Int32) : Prop :=
  (∀ s229 : St, s229 = s_I σ 18 (v1 ||| v0) → (x_comesBack s229 x2 0 (fun r240 => ((r240 = 0 → (x_gathersFacts_p253 s229 x2 Q K184 0 (s229.1 19))) ∧ (¬ r240 = 0 → (x_gathersFacts_p253 s229 x2 Q K184 (1 <<< (x2 &&& 31)) (s229.1 19)))))))
def x_gathersFacts_p184 (Q : Unit → St → Prop) (K184 : St → Int32 → Prop) (σ : St) (x2 : Int32) : Prop :=
  ((26 ≤ x2 → Q () σ) ∧ (¬ 26 ≤ x2 → (((fx_has (σ.1 81) x2) = 0 → K184 σ (x2 + 1)) ∧ (¬ (fx_has (σ.1 81) x2) = 0 → (x_comesBack σ x2 1 (fun r215 => ((r215 = 0 → (x_gathersFacts_p228 σ x2 Q K184 0 (σ.1 18))) ∧ (¬ r215 = 0 → (x_gathersFacts_p228 σ x2 Q K184 (1 <<< (x2 &&& 31)) (σ.1 18))))))))))
def x_gathersFacts_p146 (Q : Unit → St → Prop) (K138 : St → Int32 → Prop) (K146 : St → Int32 → Int32 → Prop) (σ : St) (x1 : Int32) (x2 : Int32) : Prop :=
  (((σ.1 80) ≤ x2 → K138 σ x1) ∧ (¬ (σ.1 80) ≤ x2 → (((fx_isOn σ x2) = 0 → K146 σ x1 (x2 + 1)) ∧ (¬ (fx_isOn σ x2) = 0 → (x_addsFollow σ x2 (fun r168 s168 => K146 s168 (x1 ||| r168) (x2 + 1)))))))
def x_gathersFacts_p138 (Q : Unit → St → Prop) (K138 : St → Int32 → Prop) (σ : St) (x1 : Int32) : Prop :=
  ((x1 = 0 → (Lp2 (x_gathersFacts_p184 Q) σ 0)) ∧ (¬ x1 = 0 → (Lp3 (x_gathersFacts_p146 Q K138) σ 0 0)))
def x_gathersFacts_p100 (Q : Unit → St → Prop) (K92 : St → Int32 → Prop) (K100 : St → Int32 → Int32 → Prop) (σ : St) (x1 : Int32) (x2 : Int32) : Prop :=
  (((σ.1 80) ≤ x2 → K92 σ x1) ∧ (¬ (σ.1 80) ≤ x2 → (((fx_isOn σ x2) = 0 → K100 σ x1 (x2 + 1)) ∧ (¬ (fx_isOn σ x2) = 0 → (x_adds σ x2 (fun r122 s122 => K100 s122 (x1 ||| r122) (x2 + 1)))))))
def x_gathersFacts_p92 (Q : Unit → St → Prop) (K92 : St → Int32 → Prop) (σ : St) (x1 : Int32) : Prop :=
  ((x1 = 0 → (Lp2 (x_gathersFacts_p138 Q) σ 1)) ∧ (¬ x1 = 0 → (Lp3 (x_gathersFacts_p100 Q K92) σ 0 0)))
def x_gathersFacts_p38 (Q : Unit → St → Prop) (K38 : St → Int32 → Prop) (σ : St) (x1 : Int32) : Prop :=
  ((26 ≤ x1 → (vp_in ((σ.1 82) - 26) 26 ∧ (∀ s89 : St, s89 = s_A σ 21 (Int32.toNatClampNeg ((σ.1 82) - 26)) 67108864 → (Lp2 (x_gathersFacts_p92 Q) s89 1)))) ∧ (¬ 26 ≤ x1 → (vp_in x1 26 ∧ (∀ s50 : St, s50 = s_A σ 20 (Int32.toNatClampNeg x1) 0 → (vp_in x1 26 ∧ (∀ s57 : St, s57 = s_A s50 21 (Int32.toNatClampNeg x1) 0 → (vp_in x1 26 ∧ (∀ s65 : St, s65 = s_A s57 22 (Int32.toNatClampNeg x1) 2000000000 → K38 s65 (x1 + 1)))))))))
def x_gathersFacts (σ : St) (Q : Unit → St → Prop) : Prop :=
  (∀ s2 : St, s2 = s_I σ 15 0 → (∀ s7 : St, s7 = s_I s2 16 0 → (∀ s23 : St, s23 = s_I s7 17 (1 <<< (((s7.1 82) - 26) &&& 31)) → (∀ s28 : St, s28 = s_I s23 18 0 → (∀ s33 : St, s33 = s_I s28 19 0 → (Lp2 (x_gathersFacts_p38 Q) s33 0))))))
abbrev rm_x_gathersFacts : Room := { frames := 5, cells := 0, slots := 0, locals := 116 }
set_option maxHeartbeats 4000000 in
theorem met_x_gathersFacts (l : Launch) (D : va_G) (ct : Ct) (ad : Nat → Nat) (hJ : gJ shX ad ct) (σ : St) (Q : Unit → St → Prop) (hf : x_gathersFacts σ Q) : Met l yX0_gathersFacts (ws_ yX0_gathersFacts cX0_gathersFacts 3 (none)) rm_x_gathersFacts (va_Pc [.ref (ad 0)] (gP D ct shX ad σ)) (gQ rvV D ct shX ad Q) 0 0 (gA shX ad) := by
  refine g_metV hJ (by decide) (Nat.le_of_ble_eq_true rfl) ?_
  intro p e s m args below meth c QQ ls C hw hl hret
  replace hl : lv_has ls 3 [(0, .ref (ad 0))] := hl
  have J253 : ∀ (σ : St) (H : Heap) (locs : List Loc) (x2 : Int32) (v0 : Int32) (v1 : Int32) (K184 : St → Int32 → Prop) (_ : ∀ (σ : St) (H : Heap) (locs : List Loc) (x2 : Int32) (ls : Array Slot), K184 σ x2 → gH D ct shX ad s σ H locs → lv_has ls 3 [(0, .ref (ad 0)), (2, .int x2)] → W p l e rm_x_gathersFacts s m args below meth c H locs 0 0 QQ (F0 m 184 ls [])) (ls : Array Slot), x_gathersFacts_p253 σ x2 Q K184 v0 v1 → gH D ct shX ad s σ H locs → lv_has ls 3 [(0, .ref (ad 0)), (2, .int x2)] → W p l e rm_x_gathersFacts s m args below meth c H locs 0 0 QQ (F0 m 253 ls [.int v0, .int v1, .ref (ad 0)]) := by
    intro σ H locs x2 v0 v1 K184 hK184 ls hf hw hl
    unfold x_gathersFacts_p253 at hf
    refine lv_ior C.1 C.2.1 dX0_gathersFacts_253 ?_
    refine xp_recurs C hw dX0_gathersFacts_254 (fun s254 H locs e254 hw => ?_)
    replace hf := hf s254 e254
    refine lv_iinc (v := (x2 + 1)) (lv' := [(2, .int (x2 + 1)), (0, .ref (ad 0))]) C.1 C.2.1 dX0_gathersFacts_257 hl (k := 1) rfl rfl (Nat.le_of_ble_eq_true rfl) rfl (fun ls hl => ?_)
    refine lv_goto (tgt := 184) C.1 C.2.1 dX0_gathersFacts_260 (by decide) ?_
    exact hK184 _ _ _ _ _ hf hw (lv_sub hl [1, 0] rfl)
  have J228 : ∀ (σ : St) (H : Heap) (locs : List Loc) (x2 : Int32) (v0 : Int32) (v1 : Int32) (K184 : St → Int32 → Prop) (_ : ∀ (σ : St) (H : Heap) (locs : List Loc) (x2 : Int32) (ls : Array Slot), K184 σ x2 → gH D ct shX ad s σ H locs → lv_has ls 3 [(0, .ref (ad 0)), (2, .int x2)] → W p l e rm_x_gathersFacts s m args below meth c H locs 0 0 QQ (F0 m 184 ls [])) (ls : Array Slot), x_gathersFacts_p228 σ x2 Q K184 v0 v1 → gH D ct shX ad s σ H locs → lv_has ls 3 [(0, .ref (ad 0)), (2, .int x2)] → W p l e rm_x_gathersFacts s m args below meth c H locs 0 0 QQ (F0 m 228 ls [.int v0, .int v1, .ref (ad 0)]) := by
    intro σ H locs x2 v0 v1 K184 hK184 ls hf hw hl
    unfold x_gathersFacts_p228 at hf
    refine lv_ior C.1 C.2.1 dX0_gathersFacts_228 ?_
    refine xp_loops C hw dX0_gathersFacts_229 (fun s229 H locs e229 hw => ?_)
    replace hf := hf s229 e229
    refine lv_aload_n C.1 C.2.1 dX0_gathersFacts_232 rfl (lv_at hl 0 rfl) ?_
    refine lv_dup C.1 C.2.1 dX0_gathersFacts_233 rfl ?_
    refine xg_recurs C hw dX0_gathersFacts_234 ?_
    refine lv_aload_n C.1 C.2.1 dX0_gathersFacts_237 rfl (lv_at hl 0 rfl) ?_
    refine lv_iload_n C.1 C.2.1 dX0_gathersFacts_238 rfl (lv_at hl 1 rfl) ?_
    refine lv_iconst (v := 0) C.1 C.2.1 dX0_gathersFacts_239 rfl ?_
    refine kx_comesBack C hw hl.1 (Nat.le_of_ble_eq_true rfl) ⟨Nat.le_of_ble_eq_true rfl, Nat.le_of_ble_eq_true rfl⟩ dX0_gathersFacts_240 hf (fun r240 hf => ?_)
    refine lv_if_eq (tgt := 252) C.1 C.2.1 dX0_gathersFacts_243 (by decide) (fun h243 => ?_) (fun h243 => ?_)
    · replace hf := hf.1 h243
      refine lv_iconst (v := 0) C.1 C.2.1 dX0_gathersFacts_252 rfl ?_
      exact J253 _ _ _ _ _ _ _ hK184 _ hf hw (lv_sub hl [0, 1] rfl)
    · replace hf := hf.2 h243
      refine lv_iconst (v := 1) C.1 C.2.1 dX0_gathersFacts_246 rfl ?_
      refine lv_iload_n C.1 C.2.1 dX0_gathersFacts_247 rfl (lv_at hl 1 rfl) ?_
      refine lv_ishl C.1 C.2.1 dX0_gathersFacts_248 ?_
      refine lv_goto (tgt := 253) C.1 C.2.1 dX0_gathersFacts_249 (by decide) ?_
      exact J253 _ _ _ _ _ _ _ hK184 _ hf hw (lv_sub hl [0, 1] rfl)
  have B184 : ∀ (K184 : St → Int32 → Prop) (_ : ∀ (σ : St) (H : Heap) (locs : List Loc) (x2 : Int32) (ls : Array Slot), K184 σ x2 → gH D ct shX ad s σ H locs → lv_has ls 3 [(0, .ref (ad 0)), (2, .int x2)] → W p l e rm_x_gathersFacts s m args below meth c H locs 0 0 QQ (F0 m 184 ls [])) (σ : St) (H : Heap) (locs : List Loc) (x2 : Int32) (ls : Array Slot), x_gathersFacts_p184 Q K184 σ x2 → gH D ct shX ad s σ H locs → lv_has ls 3 [(0, .ref (ad 0)), (2, .int x2)] → W p l e rm_x_gathersFacts s m args below meth c H locs 0 0 QQ (F0 m 184 ls []) := by
    intro K184 hK184 σ H locs x2 ls hf hw hl
    unfold x_gathersFacts_p184 at hf
    refine lv_iload_n C.1 C.2.1 dX0_gathersFacts_184 rfl (lv_at hl 1 rfl) ?_
    refine lv_bipush (v := 26) C.1 C.2.1 dX0_gathersFacts_185 rfl ?_
    refine lv_icmp_ge (tgt := 263) C.1 C.2.1 dX0_gathersFacts_187 (by decide) (fun h187 => ?_) (fun h187 => ?_)
    · replace hf := hf.1 h187
      exact hret _ _ _ _ _ _ hf hw dX0_gathersFacts_263
    · replace hf := hf.2 h187
      refine lv_aload_n C.1 C.2.1 dX0_gathersFacts_190 rfl (lv_at hl 0 rfl) ?_
      refine xg_grammar C hw dX0_gathersFacts_191 ?_
      refine xn_lefts C hw dX0_gathersFacts_194 ?_
      refine lv_iload_n C.1 C.2.1 dX0_gathersFacts_197 rfl (lv_at hl 1 rfl) ?_
      refine kx_has C hl.1 (Nat.le_of_ble_eq_true rfl) ⟨Nat.le_of_ble_eq_true rfl, Nat.le_of_ble_eq_true rfl⟩ dX0_gathersFacts_198 ?_
      refine lv_if_ne (tgt := 207) C.1 C.2.1 dX0_gathersFacts_201 (by decide) (fun h201 => ?_) (fun h201 => ?_)
      · replace hf := hf.2 h201
        refine lv_aload_n C.1 C.2.1 dX0_gathersFacts_207 rfl (lv_at hl 0 rfl) ?_
        refine lv_dup C.1 C.2.1 dX0_gathersFacts_208 rfl ?_
        refine xg_loops C hw dX0_gathersFacts_209 ?_
        refine lv_aload_n C.1 C.2.1 dX0_gathersFacts_212 rfl (lv_at hl 0 rfl) ?_
        refine lv_iload_n C.1 C.2.1 dX0_gathersFacts_213 rfl (lv_at hl 1 rfl) ?_
        refine lv_iconst (v := 1) C.1 C.2.1 dX0_gathersFacts_214 rfl ?_
        refine kx_comesBack C hw hl.1 (Nat.le_of_ble_eq_true rfl) ⟨Nat.le_of_ble_eq_true rfl, Nat.le_of_ble_eq_true rfl⟩ dX0_gathersFacts_215 hf (fun r215 hf => ?_)
        refine lv_if_eq (tgt := 227) C.1 C.2.1 dX0_gathersFacts_218 (by decide) (fun h218 => ?_) (fun h218 => ?_)
        · replace hf := hf.1 h218
          refine lv_iconst (v := 0) C.1 C.2.1 dX0_gathersFacts_227 rfl ?_
          exact J228 _ _ _ _ _ _ _ hK184 _ hf hw (lv_sub hl [0, 1] rfl)
        · replace hf := hf.2 h218
          refine lv_iconst (v := 1) C.1 C.2.1 dX0_gathersFacts_221 rfl ?_
          refine lv_iload_n C.1 C.2.1 dX0_gathersFacts_222 rfl (lv_at hl 1 rfl) ?_
          refine lv_ishl C.1 C.2.1 dX0_gathersFacts_223 ?_
          refine lv_goto (tgt := 228) C.1 C.2.1 dX0_gathersFacts_224 (by decide) ?_
          exact J228 _ _ _ _ _ _ _ hK184 _ hf hw (lv_sub hl [0, 1] rfl)
      · replace hf := hf.1 h201
        refine lv_goto (tgt := 257) C.1 C.2.1 dX0_gathersFacts_204 (by decide) ?_
        refine lv_iinc (v := (x2 + 1)) (lv' := [(2, .int (x2 + 1)), (0, .ref (ad 0))]) C.1 C.2.1 dX0_gathersFacts_257 hl (k := 1) rfl rfl (Nat.le_of_ble_eq_true rfl) rfl (fun ls hl => ?_)
        refine lv_goto (tgt := 184) C.1 C.2.1 dX0_gathersFacts_260 (by decide) ?_
        exact hK184 _ _ _ _ _ hf hw (lv_sub hl [1, 0] rfl)
  have P184 : ∀ (n : Nat) (σ : St) (x2 : Int32) (ls : Array Slot) (H : Heap) (locs : List Loc), LL2 (x_gathersFacts_p184 Q) n σ x2 → gH D ct shX ad s σ H locs → lv_has ls 3 [(0, .ref (ad 0)), (2, .int x2)] → W p l e rm_x_gathersFacts s m args below meth c H locs 0 0 QQ (F0 m 184 ls []) := by
    intro  n
    induction n with
    | zero => intro σ x2 ls H locs hf; exact False.elim hf
    | succ n ih => intro σ x2 ls H locs hf hw hl; exact B184  (LL2 _ n) (fun σ H locs x2 ls hf hw hl => ih σ x2 ls H locs hf hw hl) σ H locs x2 ls hf hw hl
  have B146 : ∀ (K138 : St → Int32 → Prop) (_ : ∀ (σ : St) (H : Heap) (locs : List Loc) (x1 : Int32) (ls : Array Slot), K138 σ x1 → gH D ct shX ad s σ H locs → lv_has ls 3 [(0, .ref (ad 0)), (1, .int x1)] → W p l e rm_x_gathersFacts s m args below meth c H locs 0 0 QQ (F0 m 138 ls [])) (K146 : St → Int32 → Int32 → Prop) (_ : ∀ (σ : St) (H : Heap) (locs : List Loc) (x1 : Int32) (x2 : Int32) (ls : Array Slot), K146 σ x1 x2 → gH D ct shX ad s σ H locs → lv_has ls 3 [(0, .ref (ad 0)), (1, .int x1), (2, .int x2)] → W p l e rm_x_gathersFacts s m args below meth c H locs 0 0 QQ (F0 m 146 ls [])) (σ : St) (H : Heap) (locs : List Loc) (x1 : Int32) (x2 : Int32) (ls : Array Slot), x_gathersFacts_p146 Q K138 K146 σ x1 x2 → gH D ct shX ad s σ H locs → lv_has ls 3 [(0, .ref (ad 0)), (1, .int x1), (2, .int x2)] → W p l e rm_x_gathersFacts s m args below meth c H locs 0 0 QQ (F0 m 146 ls []) := by
    intro K138 hK138 K146 hK146 σ H locs x1 x2 ls hf hw hl
    unfold x_gathersFacts_p146 at hf
    refine lv_iload_n C.1 C.2.1 dX0_gathersFacts_146 rfl (lv_at hl 2 rfl) ?_
    refine lv_aload_n C.1 C.2.1 dX0_gathersFacts_147 rfl (lv_at hl 0 rfl) ?_
    refine xg_grammar C hw dX0_gathersFacts_148 ?_
    refine xn_many C hw dX0_gathersFacts_151 ?_
    refine lv_icmp_ge (tgt := 179) C.1 C.2.1 dX0_gathersFacts_154 (by decide) (fun h154 => ?_) (fun h154 => ?_)
    · replace hf := hf.1 h154
      refine lv_goto (tgt := 138) C.1 C.2.1 dX0_gathersFacts_179 (by decide) ?_
      exact hK138 _ _ _ _ _ hf hw (lv_sub hl [0, 1] rfl)
    · replace hf := hf.2 h154
      refine lv_aload_n C.1 C.2.1 dX0_gathersFacts_157 rfl (lv_at hl 0 rfl) ?_
      refine lv_iload_n C.1 C.2.1 dX0_gathersFacts_158 rfl (lv_at hl 2 rfl) ?_
      refine kx_isOn C hw hl.1 (Nat.le_of_ble_eq_true rfl) ⟨Nat.le_of_ble_eq_true rfl, Nat.le_of_ble_eq_true rfl⟩ dX0_gathersFacts_159 ?_
      refine lv_if_eq (tgt := 173) C.1 C.2.1 dX0_gathersFacts_162 (by decide) (fun h162 => ?_) (fun h162 => ?_)
      · replace hf := hf.1 h162
        refine lv_iinc (v := (x2 + 1)) (lv' := [(2, .int (x2 + 1)), (0, .ref (ad 0)), (1, .int x1)]) C.1 C.2.1 dX0_gathersFacts_173 hl (k := 2) rfl rfl (Nat.le_of_ble_eq_true rfl) rfl (fun ls hl => ?_)
        refine lv_goto (tgt := 146) C.1 C.2.1 dX0_gathersFacts_176 (by decide) ?_
        exact hK146 _ _ _ _ _ _ hf hw (lv_sub hl [1, 2, 0] rfl)
      · replace hf := hf.2 h162
        refine lv_iload_n C.1 C.2.1 dX0_gathersFacts_165 rfl (lv_at hl 1 rfl) ?_
        refine lv_aload_n C.1 C.2.1 dX0_gathersFacts_166 rfl (lv_at hl 0 rfl) ?_
        refine lv_iload_n C.1 C.2.1 dX0_gathersFacts_167 rfl (lv_at hl 2 rfl) ?_
        refine kx_addsFollow C hw hl.1 (Nat.le_of_ble_eq_true rfl) ⟨Nat.le_of_ble_eq_true rfl, Nat.le_of_ble_eq_true rfl⟩ dX0_gathersFacts_168 hf (fun r168 s168 H locs hf hw => ?_)
        refine lv_ior C.1 C.2.1 dX0_gathersFacts_171 ?_
        refine lv_istore_n (lv' := [(1, .int (x1 ||| r168)), (0, .ref (ad 0)), (2, .int x2)]) C.1 C.2.1 dX0_gathersFacts_172 rfl hl (Nat.le_of_ble_eq_true rfl) rfl (fun ls hl => ?_)
        refine lv_iinc (v := (x2 + 1)) (lv' := [(2, .int (x2 + 1)), (1, .int (x1 ||| r168)), (0, .ref (ad 0))]) C.1 C.2.1 dX0_gathersFacts_173 hl (k := 2) rfl rfl (Nat.le_of_ble_eq_true rfl) rfl (fun ls hl => ?_)
        refine lv_goto (tgt := 146) C.1 C.2.1 dX0_gathersFacts_176 (by decide) ?_
        exact hK146 _ _ _ _ _ _ hf hw (lv_sub hl [2, 1, 0] rfl)
  have P146 : ∀ (K138 : St → Int32 → Prop) (_ : ∀ (σ : St) (H : Heap) (locs : List Loc) (x1 : Int32) (ls : Array Slot), K138 σ x1 → gH D ct shX ad s σ H locs → lv_has ls 3 [(0, .ref (ad 0)), (1, .int x1)] → W p l e rm_x_gathersFacts s m args below meth c H locs 0 0 QQ (F0 m 138 ls [])) (n : Nat) (σ : St) (x1 : Int32) (x2 : Int32) (ls : Array Slot) (H : Heap) (locs : List Loc), LL3 (x_gathersFacts_p146 Q K138) n σ x1 x2 → gH D ct shX ad s σ H locs → lv_has ls 3 [(0, .ref (ad 0)), (1, .int x1), (2, .int x2)] → W p l e rm_x_gathersFacts s m args below meth c H locs 0 0 QQ (F0 m 146 ls []) := by
    intro K138 hK138 n
    induction n with
    | zero => intro σ x1 x2 ls H locs hf; exact False.elim hf
    | succ n ih => intro σ x1 x2 ls H locs hf hw hl; exact B146 K138 hK138 (LL3 _ n) (fun σ H locs x1 x2 ls hf hw hl => ih σ x1 x2 ls H locs hf hw hl) σ H locs x1 x2 ls hf hw hl
  have B138 : ∀ (K138 : St → Int32 → Prop) (_ : ∀ (σ : St) (H : Heap) (locs : List Loc) (x1 : Int32) (ls : Array Slot), K138 σ x1 → gH D ct shX ad s σ H locs → lv_has ls 3 [(0, .ref (ad 0)), (1, .int x1)] → W p l e rm_x_gathersFacts s m args below meth c H locs 0 0 QQ (F0 m 138 ls [])) (σ : St) (H : Heap) (locs : List Loc) (x1 : Int32) (ls : Array Slot), x_gathersFacts_p138 Q K138 σ x1 → gH D ct shX ad s σ H locs → lv_has ls 3 [(0, .ref (ad 0)), (1, .int x1)] → W p l e rm_x_gathersFacts s m args below meth c H locs 0 0 QQ (F0 m 138 ls []) := by
    intro K138 hK138 σ H locs x1 ls hf hw hl
    unfold x_gathersFacts_p138 at hf
    refine lv_iload_n C.1 C.2.1 dX0_gathersFacts_138 rfl (lv_at hl 1 rfl) ?_
    refine lv_if_eq (tgt := 182) C.1 C.2.1 dX0_gathersFacts_139 (by decide) (fun h139 => ?_) (fun h139 => ?_)
    · replace hf := hf.1 h139
      refine lv_iconst (v := 0) C.1 C.2.1 dX0_gathersFacts_182 rfl ?_
      refine lv_istore_n (lv' := [(2, .int 0), (0, .ref (ad 0)), (1, .int x1)]) C.1 C.2.1 dX0_gathersFacts_183 rfl hl (Nat.le_of_ble_eq_true rfl) rfl (fun ls hl => ?_)
      obtain ⟨n, hf⟩ := hf
      exact P184  n _ _ _ _ _ hf hw (lv_sub hl [1, 0] rfl)
    · replace hf := hf.2 h139
      refine lv_iconst (v := 0) C.1 C.2.1 dX0_gathersFacts_142 rfl ?_
      refine lv_istore_n (lv' := [(1, .int 0), (0, .ref (ad 0))]) C.1 C.2.1 dX0_gathersFacts_143 rfl hl (Nat.le_of_ble_eq_true rfl) rfl (fun ls hl => ?_)
      refine lv_iconst (v := 0) C.1 C.2.1 dX0_gathersFacts_144 rfl ?_
      refine lv_istore_n (lv' := [(2, .int 0), (1, .int 0), (0, .ref (ad 0))]) C.1 C.2.1 dX0_gathersFacts_145 rfl hl (Nat.le_of_ble_eq_true rfl) rfl (fun ls hl => ?_)
      obtain ⟨n, hf⟩ := hf
      exact P146 _ hK138 n _ _ _ _ _ _ hf hw (lv_sub hl [2, 1, 0] rfl)
  have P138 : ∀ (n : Nat) (σ : St) (x1 : Int32) (ls : Array Slot) (H : Heap) (locs : List Loc), LL2 (x_gathersFacts_p138 Q) n σ x1 → gH D ct shX ad s σ H locs → lv_has ls 3 [(0, .ref (ad 0)), (1, .int x1)] → W p l e rm_x_gathersFacts s m args below meth c H locs 0 0 QQ (F0 m 138 ls []) := by
    intro  n
    induction n with
    | zero => intro σ x1 ls H locs hf; exact False.elim hf
    | succ n ih => intro σ x1 ls H locs hf hw hl; exact B138  (LL2 _ n) (fun σ H locs x1 ls hf hw hl => ih σ x1 ls H locs hf hw hl) σ H locs x1 ls hf hw hl
  have B100 : ∀ (K92 : St → Int32 → Prop) (_ : ∀ (σ : St) (H : Heap) (locs : List Loc) (x1 : Int32) (ls : Array Slot), K92 σ x1 → gH D ct shX ad s σ H locs → lv_has ls 3 [(0, .ref (ad 0)), (1, .int x1)] → W p l e rm_x_gathersFacts s m args below meth c H locs 0 0 QQ (F0 m 92 ls [])) (K100 : St → Int32 → Int32 → Prop) (_ : ∀ (σ : St) (H : Heap) (locs : List Loc) (x1 : Int32) (x2 : Int32) (ls : Array Slot), K100 σ x1 x2 → gH D ct shX ad s σ H locs → lv_has ls 3 [(0, .ref (ad 0)), (1, .int x1), (2, .int x2)] → W p l e rm_x_gathersFacts s m args below meth c H locs 0 0 QQ (F0 m 100 ls [])) (σ : St) (H : Heap) (locs : List Loc) (x1 : Int32) (x2 : Int32) (ls : Array Slot), x_gathersFacts_p100 Q K92 K100 σ x1 x2 → gH D ct shX ad s σ H locs → lv_has ls 3 [(0, .ref (ad 0)), (1, .int x1), (2, .int x2)] → W p l e rm_x_gathersFacts s m args below meth c H locs 0 0 QQ (F0 m 100 ls []) := by
    intro K92 hK92 K100 hK100 σ H locs x1 x2 ls hf hw hl
    unfold x_gathersFacts_p100 at hf
    refine lv_iload_n C.1 C.2.1 dX0_gathersFacts_100 rfl (lv_at hl 2 rfl) ?_
    refine lv_aload_n C.1 C.2.1 dX0_gathersFacts_101 rfl (lv_at hl 0 rfl) ?_
    refine xg_grammar C hw dX0_gathersFacts_102 ?_
    refine xn_many C hw dX0_gathersFacts_105 ?_
    refine lv_icmp_ge (tgt := 133) C.1 C.2.1 dX0_gathersFacts_108 (by decide) (fun h108 => ?_) (fun h108 => ?_)
    · replace hf := hf.1 h108
      refine lv_goto (tgt := 92) C.1 C.2.1 dX0_gathersFacts_133 (by decide) ?_
      exact hK92 _ _ _ _ _ hf hw (lv_sub hl [0, 1] rfl)
    · replace hf := hf.2 h108
      refine lv_aload_n C.1 C.2.1 dX0_gathersFacts_111 rfl (lv_at hl 0 rfl) ?_
      refine lv_iload_n C.1 C.2.1 dX0_gathersFacts_112 rfl (lv_at hl 2 rfl) ?_
      refine kx_isOn C hw hl.1 (Nat.le_of_ble_eq_true rfl) ⟨Nat.le_of_ble_eq_true rfl, Nat.le_of_ble_eq_true rfl⟩ dX0_gathersFacts_113 ?_
      refine lv_if_eq (tgt := 127) C.1 C.2.1 dX0_gathersFacts_116 (by decide) (fun h116 => ?_) (fun h116 => ?_)
      · replace hf := hf.1 h116
        refine lv_iinc (v := (x2 + 1)) (lv' := [(2, .int (x2 + 1)), (0, .ref (ad 0)), (1, .int x1)]) C.1 C.2.1 dX0_gathersFacts_127 hl (k := 2) rfl rfl (Nat.le_of_ble_eq_true rfl) rfl (fun ls hl => ?_)
        refine lv_goto (tgt := 100) C.1 C.2.1 dX0_gathersFacts_130 (by decide) ?_
        exact hK100 _ _ _ _ _ _ hf hw (lv_sub hl [1, 2, 0] rfl)
      · replace hf := hf.2 h116
        refine lv_iload_n C.1 C.2.1 dX0_gathersFacts_119 rfl (lv_at hl 1 rfl) ?_
        refine lv_aload_n C.1 C.2.1 dX0_gathersFacts_120 rfl (lv_at hl 0 rfl) ?_
        refine lv_iload_n C.1 C.2.1 dX0_gathersFacts_121 rfl (lv_at hl 2 rfl) ?_
        refine kx_adds C hw hl.1 (Nat.le_of_ble_eq_true rfl) ⟨Nat.le_of_ble_eq_true rfl, Nat.le_of_ble_eq_true rfl⟩ dX0_gathersFacts_122 hf (fun r122 s122 H locs hf hw => ?_)
        refine lv_ior C.1 C.2.1 dX0_gathersFacts_125 ?_
        refine lv_istore_n (lv' := [(1, .int (x1 ||| r122)), (0, .ref (ad 0)), (2, .int x2)]) C.1 C.2.1 dX0_gathersFacts_126 rfl hl (Nat.le_of_ble_eq_true rfl) rfl (fun ls hl => ?_)
        refine lv_iinc (v := (x2 + 1)) (lv' := [(2, .int (x2 + 1)), (1, .int (x1 ||| r122)), (0, .ref (ad 0))]) C.1 C.2.1 dX0_gathersFacts_127 hl (k := 2) rfl rfl (Nat.le_of_ble_eq_true rfl) rfl (fun ls hl => ?_)
        refine lv_goto (tgt := 100) C.1 C.2.1 dX0_gathersFacts_130 (by decide) ?_
        exact hK100 _ _ _ _ _ _ hf hw (lv_sub hl [2, 1, 0] rfl)
  have P100 : ∀ (K92 : St → Int32 → Prop) (_ : ∀ (σ : St) (H : Heap) (locs : List Loc) (x1 : Int32) (ls : Array Slot), K92 σ x1 → gH D ct shX ad s σ H locs → lv_has ls 3 [(0, .ref (ad 0)), (1, .int x1)] → W p l e rm_x_gathersFacts s m args below meth c H locs 0 0 QQ (F0 m 92 ls [])) (n : Nat) (σ : St) (x1 : Int32) (x2 : Int32) (ls : Array Slot) (H : Heap) (locs : List Loc), LL3 (x_gathersFacts_p100 Q K92) n σ x1 x2 → gH D ct shX ad s σ H locs → lv_has ls 3 [(0, .ref (ad 0)), (1, .int x1), (2, .int x2)] → W p l e rm_x_gathersFacts s m args below meth c H locs 0 0 QQ (F0 m 100 ls []) := by
    intro K92 hK92 n
    induction n with
    | zero => intro σ x1 x2 ls H locs hf; exact False.elim hf
    | succ n ih => intro σ x1 x2 ls H locs hf hw hl; exact B100 K92 hK92 (LL3 _ n) (fun σ H locs x1 x2 ls hf hw hl => ih σ x1 x2 ls H locs hf hw hl) σ H locs x1 x2 ls hf hw hl
  have B92 : ∀ (K92 : St → Int32 → Prop) (_ : ∀ (σ : St) (H : Heap) (locs : List Loc) (x1 : Int32) (ls : Array Slot), K92 σ x1 → gH D ct shX ad s σ H locs → lv_has ls 3 [(0, .ref (ad 0)), (1, .int x1)] → W p l e rm_x_gathersFacts s m args below meth c H locs 0 0 QQ (F0 m 92 ls [])) (σ : St) (H : Heap) (locs : List Loc) (x1 : Int32) (ls : Array Slot), x_gathersFacts_p92 Q K92 σ x1 → gH D ct shX ad s σ H locs → lv_has ls 3 [(0, .ref (ad 0)), (1, .int x1)] → W p l e rm_x_gathersFacts s m args below meth c H locs 0 0 QQ (F0 m 92 ls []) := by
    intro K92 hK92 σ H locs x1 ls hf hw hl
    unfold x_gathersFacts_p92 at hf
    refine lv_iload_n C.1 C.2.1 dX0_gathersFacts_92 rfl (lv_at hl 1 rfl) ?_
    refine lv_if_eq (tgt := 136) C.1 C.2.1 dX0_gathersFacts_93 (by decide) (fun h93 => ?_) (fun h93 => ?_)
    · replace hf := hf.1 h93
      refine lv_iconst (v := 1) C.1 C.2.1 dX0_gathersFacts_136 rfl ?_
      refine lv_istore_n (lv' := [(1, .int 1), (0, .ref (ad 0))]) C.1 C.2.1 dX0_gathersFacts_137 rfl hl (Nat.le_of_ble_eq_true rfl) rfl (fun ls hl => ?_)
      obtain ⟨n, hf⟩ := hf
      exact P138  n _ _ _ _ _ hf hw (lv_sub hl [1, 0] rfl)
    · replace hf := hf.2 h93
      refine lv_iconst (v := 0) C.1 C.2.1 dX0_gathersFacts_96 rfl ?_
      refine lv_istore_n (lv' := [(1, .int 0), (0, .ref (ad 0))]) C.1 C.2.1 dX0_gathersFacts_97 rfl hl (Nat.le_of_ble_eq_true rfl) rfl (fun ls hl => ?_)
      refine lv_iconst (v := 0) C.1 C.2.1 dX0_gathersFacts_98 rfl ?_
      refine lv_istore_n (lv' := [(2, .int 0), (1, .int 0), (0, .ref (ad 0))]) C.1 C.2.1 dX0_gathersFacts_99 rfl hl (Nat.le_of_ble_eq_true rfl) rfl (fun ls hl => ?_)
      obtain ⟨n, hf⟩ := hf
      exact P100 _ hK92 n _ _ _ _ _ _ hf hw (lv_sub hl [2, 1, 0] rfl)
  have P92 : ∀ (n : Nat) (σ : St) (x1 : Int32) (ls : Array Slot) (H : Heap) (locs : List Loc), LL2 (x_gathersFacts_p92 Q) n σ x1 → gH D ct shX ad s σ H locs → lv_has ls 3 [(0, .ref (ad 0)), (1, .int x1)] → W p l e rm_x_gathersFacts s m args below meth c H locs 0 0 QQ (F0 m 92 ls []) := by
    intro  n
    induction n with
    | zero => intro σ x1 ls H locs hf; exact False.elim hf
    | succ n ih => intro σ x1 ls H locs hf hw hl; exact B92  (LL2 _ n) (fun σ H locs x1 ls hf hw hl => ih σ x1 ls H locs hf hw hl) σ H locs x1 ls hf hw hl
  have B38 : ∀ (K38 : St → Int32 → Prop) (_ : ∀ (σ : St) (H : Heap) (locs : List Loc) (x1 : Int32) (ls : Array Slot), K38 σ x1 → gH D ct shX ad s σ H locs → lv_has ls 3 [(0, .ref (ad 0)), (1, .int x1)] → W p l e rm_x_gathersFacts s m args below meth c H locs 0 0 QQ (F0 m 38 ls [])) (σ : St) (H : Heap) (locs : List Loc) (x1 : Int32) (ls : Array Slot), x_gathersFacts_p38 Q K38 σ x1 → gH D ct shX ad s σ H locs → lv_has ls 3 [(0, .ref (ad 0)), (1, .int x1)] → W p l e rm_x_gathersFacts s m args below meth c H locs 0 0 QQ (F0 m 38 ls []) := by
    intro K38 hK38 σ H locs x1 ls hf hw hl
    unfold x_gathersFacts_p38 at hf
    refine lv_iload_n C.1 C.2.1 dX0_gathersFacts_38 rfl (lv_at hl 1 rfl) ?_
    refine lv_bipush (v := 26) C.1 C.2.1 dX0_gathersFacts_39 rfl ?_
    refine lv_icmp_ge (tgt := 72) C.1 C.2.1 dX0_gathersFacts_41 (by decide) (fun h41 => ?_) (fun h41 => ?_)
    · replace hf := hf.1 h41
      refine lv_aload_n C.1 C.2.1 dX0_gathersFacts_72 rfl (lv_at hl 0 rfl) ?_
      refine xg_followOf C hw dX0_gathersFacts_73 ?_
      refine lv_aload_n C.1 C.2.1 dX0_gathersFacts_76 rfl (lv_at hl 0 rfl) ?_
      refine xg_grammar C hw dX0_gathersFacts_77 ?_
      refine xn_start C hw dX0_gathersFacts_80 ?_
      refine lv_bipush (v := 26) C.1 C.2.1 dX0_gathersFacts_83 rfl ?_
      refine lv_isub C.1 C.2.1 dX0_gathersFacts_85 ?_
      refine lv_ldcw C.1 C.2.1 C.2.2.2.1 (C.2.2.2.2 _ q762) dX0_gathersFacts_86 ?_
      obtain ⟨b89, hf⟩ := hf
      refine g_iast C shX_sep hw 21 rfl b89 dX0_gathersFacts_89 (fun s89 H locs e89 hw => ?_)
      replace hf := hf s89 e89
      refine lv_iconst (v := 1) C.1 C.2.1 dX0_gathersFacts_90 rfl ?_
      refine lv_istore_n (lv' := [(1, .int 1), (0, .ref (ad 0))]) C.1 C.2.1 dX0_gathersFacts_91 rfl hl (Nat.le_of_ble_eq_true rfl) rfl (fun ls hl => ?_)
      obtain ⟨n, hf⟩ := hf
      exact P92  n _ _ _ _ _ hf hw (lv_sub hl [1, 0] rfl)
    · replace hf := hf.2 h41
      refine lv_aload_n C.1 C.2.1 dX0_gathersFacts_44 rfl (lv_at hl 0 rfl) ?_
      refine xg_firstOf C hw dX0_gathersFacts_45 ?_
      refine lv_iload_n C.1 C.2.1 dX0_gathersFacts_48 rfl (lv_at hl 1 rfl) ?_
      refine lv_iconst (v := 0) C.1 C.2.1 dX0_gathersFacts_49 rfl ?_
      obtain ⟨b50, hf⟩ := hf
      refine g_iast C shX_sep hw 20 rfl b50 dX0_gathersFacts_50 (fun s50 H locs e50 hw => ?_)
      replace hf := hf s50 e50
      refine lv_aload_n C.1 C.2.1 dX0_gathersFacts_51 rfl (lv_at hl 0 rfl) ?_
      refine xg_followOf C hw dX0_gathersFacts_52 ?_
      refine lv_iload_n C.1 C.2.1 dX0_gathersFacts_55 rfl (lv_at hl 1 rfl) ?_
      refine lv_iconst (v := 0) C.1 C.2.1 dX0_gathersFacts_56 rfl ?_
      obtain ⟨b57, hf⟩ := hf
      refine g_iast C shX_sep hw 21 rfl b57 dX0_gathersFacts_57 (fun s57 H locs e57 hw => ?_)
      replace hf := hf s57 e57
      refine lv_aload_n C.1 C.2.1 dX0_gathersFacts_58 rfl (lv_at hl 0 rfl) ?_
      refine xg_shortOf C hw dX0_gathersFacts_59 ?_
      refine lv_iload_n C.1 C.2.1 dX0_gathersFacts_62 rfl (lv_at hl 1 rfl) ?_
      refine lv_ldc C.1 C.2.1 C.2.2.2.1 (C.2.2.2.2 _ q355) dX0_gathersFacts_63 ?_
      obtain ⟨b65, hf⟩ := hf
      refine g_iast C shX_sep hw 22 rfl b65 dX0_gathersFacts_65 (fun s65 H locs e65 hw => ?_)
      replace hf := hf s65 e65
      refine lv_iinc (v := (x1 + 1)) (lv' := [(1, .int (x1 + 1)), (0, .ref (ad 0))]) C.1 C.2.1 dX0_gathersFacts_66 hl (k := 1) rfl rfl (Nat.le_of_ble_eq_true rfl) rfl (fun ls hl => ?_)
      refine lv_goto (tgt := 38) C.1 C.2.1 dX0_gathersFacts_69 (by decide) ?_
      exact hK38 _ _ _ _ _ hf hw (lv_sub hl [1, 0] rfl)
  have P38 : ∀ (n : Nat) (σ : St) (x1 : Int32) (ls : Array Slot) (H : Heap) (locs : List Loc), LL2 (x_gathersFacts_p38 Q) n σ x1 → gH D ct shX ad s σ H locs → lv_has ls 3 [(0, .ref (ad 0)), (1, .int x1)] → W p l e rm_x_gathersFacts s m args below meth c H locs 0 0 QQ (F0 m 38 ls []) := by
    intro  n
    induction n with
    | zero => intro σ x1 ls H locs hf; exact False.elim hf
    | succ n ih => intro σ x1 ls H locs hf hw hl; exact B38  (LL2 _ n) (fun σ H locs x1 ls hf hw hl => ih σ x1 ls H locs hf hw hl) σ H locs x1 ls hf hw hl
  unfold x_gathersFacts at hf
  obtain ⟨H, hH⟩ : ∃ q, q = s.heap := ⟨_, rfl⟩
  obtain ⟨locs, hL⟩ : ∃ q : List Loc, q = [] := ⟨_, rfl⟩
  rw [← hH, ← hL] at hw ⊢
  refine lv_aload_n C.1 C.2.1 dX0_gathersFacts_0 rfl (lv_at hl 0 rfl) ?_
  refine lv_iconst (v := 0) C.1 C.2.1 dX0_gathersFacts_1 rfl ?_
  refine xp_empties C hw dX0_gathersFacts_2 (fun s2 H locs e2 hw => ?_)
  replace hf := hf s2 e2
  refine lv_aload_n C.1 C.2.1 dX0_gathersFacts_5 rfl (lv_at hl 0 rfl) ?_
  refine lv_iconst (v := 0) C.1 C.2.1 dX0_gathersFacts_6 rfl ?_
  refine xp_ending C hw dX0_gathersFacts_7 (fun s7 H locs e7 hw => ?_)
  replace hf := hf s7 e7
  refine lv_aload_n C.1 C.2.1 dX0_gathersFacts_10 rfl (lv_at hl 0 rfl) ?_
  refine lv_iconst (v := 1) C.1 C.2.1 dX0_gathersFacts_11 rfl ?_
  refine lv_aload_n C.1 C.2.1 dX0_gathersFacts_12 rfl (lv_at hl 0 rfl) ?_
  refine xg_grammar C hw dX0_gathersFacts_13 ?_
  refine xn_start C hw dX0_gathersFacts_16 ?_
  refine lv_bipush (v := 26) C.1 C.2.1 dX0_gathersFacts_19 rfl ?_
  refine lv_isub C.1 C.2.1 dX0_gathersFacts_21 ?_
  refine lv_ishl C.1 C.2.1 dX0_gathersFacts_22 ?_
  refine xp_reached C hw dX0_gathersFacts_23 (fun s23 H locs e23 hw => ?_)
  replace hf := hf s23 e23
  refine lv_aload_n C.1 C.2.1 dX0_gathersFacts_26 rfl (lv_at hl 0 rfl) ?_
  refine lv_iconst (v := 0) C.1 C.2.1 dX0_gathersFacts_27 rfl ?_
  refine xp_loops C hw dX0_gathersFacts_28 (fun s28 H locs e28 hw => ?_)
  replace hf := hf s28 e28
  refine lv_aload_n C.1 C.2.1 dX0_gathersFacts_31 rfl (lv_at hl 0 rfl) ?_
  refine lv_iconst (v := 0) C.1 C.2.1 dX0_gathersFacts_32 rfl ?_
  refine xp_recurs C hw dX0_gathersFacts_33 (fun s33 H locs e33 hw => ?_)
  replace hf := hf s33 e33
  refine lv_iconst (v := 0) C.1 C.2.1 dX0_gathersFacts_36 rfl ?_
  refine lv_istore_n (lv' := [(1, .int 0), (0, .ref (ad 0))]) C.1 C.2.1 dX0_gathersFacts_37 rfl hl (Nat.le_of_ble_eq_true rfl) rfl (fun ls hl => ?_)
  obtain ⟨n, hf⟩ := hf
  exact P38  n _ _ _ _ _ hf hw (lv_sub hl [1, 0] rfl)
theorem kx_gathersFacts {p : Program} {l : Launch} {e : Env} {R : Room} {s : State} {m : MethodId} {args : Array Value} {below : List Frame} {meth : Method} {c : Code} {H : Heap} {locs : List Loc} {Z : State → Prop} {cc : ByteArray} {nL pc : Nat} {ls : Array Slot} {rest : List Value} {D : va_G} {ct : Ct} {ad : Nat → Nat} {σ : St} {Qp : Unit → St → Prop} (C : CallFix p m c cc nL s args lw_all RX0) (hw : gH D ct shX ad s σ H locs) (hsz : ls.size = nL) (hrm : (rest.map fun v => v.category).sum ≤ 8) (hR : rm_x_gathersFacts.frames + 1 ≤ R.frames ∧ 8 + (3 + 11) + rm_x_gathersFacts.locals ≤ R.locals) (hdg : decode cc pc = .ok (.invokevirtual 265, 3)) (hf : x_gathersFacts σ Qp) (kk : ∀ (r : Unit) (σ1 : St) (H1 : Heap) (locs1 : List Loc), Qp r σ1 → gH D ct shX ad s σ1 H1 locs1 → W p l e R s m args below meth c H1 locs1 0 0 Z (F0 m (pc + 3) ls (rest))) : W p l e R s m args below meth c H locs 0 0 Z (F0 m pc ls (.ref (ad 0) :: rest)) :=
  g_callV (As := []) (rest := rest) C hw rfl rfl (met_x_gathersFacts l D ct ad hw.2.1 σ Qp hf) (cwV 0 C.2.2.2.2 (lw_V q758 q760 qs26 q200 q761) rfl rfl rfl (by decide +kernel) hR) rfl hsz rfl hrm ⟨Nat.zero_le _, Nat.zero_le _⟩ hdg kk
def x_makesStates_p98 (σ : St) (x1 : Int32) (x2 : Int32) (Q : Int32 → St → Prop) (K27 : St → Int32 → Prop) (K48 : St → Int32 → Prop) (v0 : Int32) (v1 : Int32) : Prop :=
  (vp_in v1 4732 ∧ (∀ s98 : St, s98 = s_A σ 24 (Int32.toNatClampNeg v1) v0 → K48 s98 (x2 + 1)))
def x_makesStates_p48 (x1 : Int32) (Q : Int32 → St → Prop) (K27 : St → Int32 → Prop) (K48 : St → Int32 → Prop) (σ : St) (x2 : Int32) : Prop :=
  ((52 ≤ x2 → K27 σ (x1 + 1)) ∧ (¬ 52 ≤ x2 → (vp_in x1 91 ∧ (x_behind σ (gL σ 23 x1) (fx_symbolOf x2) (fun r65 => ((r65 = 0 → (x_makesStates_p98 σ x1 x2 Q K27 K48 (-2) ((52 * x1) + (fx_symbolOf x2)))) ∧ (¬ r65 = 0 → (x_numberOf σ r65 (fun r95 s95 => (x_makesStates_p98 s95 x1 x2 Q K27 K48 r95 ((52 * x1) + (fx_symbolOf x2))))))))))))
def x_makesStates_p27 (Q : Int32 → St → Prop) (K27 : St → Int32 → Prop) (σ : St) (x1 : Int32) : Prop :=
  (((σ.1 25) ≤ x1 → ((90 < (σ.1 25) → Q 0 σ) ∧ (¬ 90 < (σ.1 25) → Q 1 σ))) ∧ (¬ (σ.1 25) ≤ x1 → (((σ.1 25) ≤ 90 → (Lp2 (x_makesStates_p48 x1 Q K27) σ 0)) ∧ (¬ (σ.1 25) ≤ 90 → Q 0 σ))))
def x_makesStates (σ : St) (Q : Int32 → St → Prop) : Prop :=
  (∀ s2 : St, s2 = s_I σ 25 0 → (x_rulesOf s2 (s2.1 82) (fun r15 => (x_closed s2 r15 (fun r18 => (x_numberOf s2 r18 (fun r21 s21 => (Lp2 (x_makesStates_p27 Q) s21 0))))))))
abbrev rm_x_makesStates : Room := { frames := 5, cells := 0, slots := 0, locals := 121 }
set_option maxHeartbeats 4000000 in
theorem met_x_makesStates (l : Launch) (D : va_G) (ct : Ct) (ad : Nat → Nat) (hJ : gJ shX ad ct) (σ : St) (Q : Int32 → St → Prop) (hf : x_makesStates σ Q) : Met l yX0_makesStates (ws_ yX0_makesStates cX0_makesStates 5 (some .boolean)) rm_x_makesStates (va_Pc [.ref (ad 0)] (gP D ct shX ad σ)) (gQ rvI D ct shX ad Q) 0 0 (gA shX ad) := by
  refine g_metZ hJ (by decide) (Nat.le_of_ble_eq_true rfl) ?_
  intro p e s m args below meth c QQ ls C hw hl hret
  replace hl : lv_has ls 5 [(0, .ref (ad 0))] := hl
  have J98 : ∀ (σ : St) (H : Heap) (locs : List Loc) (x1 : Int32) (x2 : Int32) (v0 : Int32) (v1 : Int32) (K27 : St → Int32 → Prop) (_ : ∀ (σ : St) (H : Heap) (locs : List Loc) (x1 : Int32) (ls : Array Slot), K27 σ x1 → gH D ct shX ad s σ H locs → lv_has ls 5 [(0, .ref (ad 0)), (1, .int x1)] → W p l e rm_x_makesStates s m args below meth c H locs 0 0 QQ (F0 m 27 ls [])) (K48 : St → Int32 → Prop) (_ : ∀ (σ : St) (H : Heap) (locs : List Loc) (x2 : Int32) (ls : Array Slot), K48 σ x2 → gH D ct shX ad s σ H locs → lv_has ls 5 [(0, .ref (ad 0)), (1, .int x1), (2, .int x2)] → W p l e rm_x_makesStates s m args below meth c H locs 0 0 QQ (F0 m 48 ls [])) (ls : Array Slot), x_makesStates_p98 σ x1 x2 Q K27 K48 v0 v1 → gH D ct shX ad s σ H locs → lv_has ls 5 [(0, .ref (ad 0)), (1, .int x1), (2, .int x2)] → W p l e rm_x_makesStates s m args below meth c H locs 0 0 QQ (F0 m 98 ls [.int v0, .int v1, .ref (ad 24)]) := by
    intro σ H locs x1 x2 v0 v1 K27 hK27 K48 hK48 ls hf hw hl
    unfold x_makesStates_p98 at hf
    obtain ⟨b98, hf⟩ := hf
    refine g_iast C shX_sep hw 24 rfl b98 dX0_makesStates_98 (fun s98 H locs e98 hw => ?_)
    replace hf := hf s98 e98
    refine lv_iinc (v := (x2 + 1)) (lv' := [(2, .int (x2 + 1)), (0, .ref (ad 0)), (1, .int x1)]) C.1 C.2.1 dX0_makesStates_99 hl (k := 2) rfl rfl (Nat.le_of_ble_eq_true rfl) rfl (fun ls hl => ?_)
    refine lv_goto (tgt := 48) C.1 C.2.1 dX0_makesStates_102 (by decide) ?_
    exact hK48 _ _ _ _ _ hf hw (lv_sub hl [1, 2, 0] rfl)
  have B48 : ∀ (x1 : Int32) (K27 : St → Int32 → Prop) (_ : ∀ (σ : St) (H : Heap) (locs : List Loc) (x1 : Int32) (ls : Array Slot), K27 σ x1 → gH D ct shX ad s σ H locs → lv_has ls 5 [(0, .ref (ad 0)), (1, .int x1)] → W p l e rm_x_makesStates s m args below meth c H locs 0 0 QQ (F0 m 27 ls [])) (K48 : St → Int32 → Prop) (_ : ∀ (σ : St) (H : Heap) (locs : List Loc) (x2 : Int32) (ls : Array Slot), K48 σ x2 → gH D ct shX ad s σ H locs → lv_has ls 5 [(0, .ref (ad 0)), (1, .int x1), (2, .int x2)] → W p l e rm_x_makesStates s m args below meth c H locs 0 0 QQ (F0 m 48 ls [])) (σ : St) (H : Heap) (locs : List Loc) (x2 : Int32) (ls : Array Slot), x_makesStates_p48 x1 Q K27 K48 σ x2 → gH D ct shX ad s σ H locs → lv_has ls 5 [(0, .ref (ad 0)), (1, .int x1), (2, .int x2)] → W p l e rm_x_makesStates s m args below meth c H locs 0 0 QQ (F0 m 48 ls []) := by
    intro x1 K27 hK27 K48 hK48 σ H locs x2 ls hf hw hl
    unfold x_makesStates_p48 at hf
    refine lv_iload_n C.1 C.2.1 dX0_makesStates_48 rfl (lv_at hl 2 rfl) ?_
    refine lv_bipush (v := 52) C.1 C.2.1 dX0_makesStates_49 rfl ?_
    refine lv_icmp_ge (tgt := 105) C.1 C.2.1 dX0_makesStates_51 (by decide) (fun h51 => ?_) (fun h51 => ?_)
    · replace hf := hf.1 h51
      refine lv_iinc (v := (x1 + 1)) (lv' := [(1, .int (x1 + 1)), (0, .ref (ad 0)), (2, .int x2)]) C.1 C.2.1 dX0_makesStates_105 hl (k := 1) rfl rfl (Nat.le_of_ble_eq_true rfl) rfl (fun ls hl => ?_)
      refine lv_goto (tgt := 27) C.1 C.2.1 dX0_makesStates_108 (by decide) ?_
      exact hK27 _ _ _ _ _ hf hw (lv_sub hl [1, 0] rfl)
    · replace hf := hf.2 h51
      refine lv_aload_n C.1 C.2.1 dX0_makesStates_54 rfl (lv_at hl 0 rfl) ?_
      refine lv_aload_n C.1 C.2.1 dX0_makesStates_55 rfl (lv_at hl 0 rfl) ?_
      refine xg_points C hw dX0_makesStates_56 ?_
      refine lv_iload_n C.1 C.2.1 dX0_makesStates_59 rfl (lv_at hl 1 rfl) ?_
      obtain ⟨b60, hf⟩ := hf
      refine g_lald C hw 23 rfl b60 dX0_makesStates_60 ?_
      refine lv_iload_n C.1 C.2.1 dX0_makesStates_61 rfl (lv_at hl 2 rfl) ?_
      refine kx_symbolOf C hl.1 (Nat.le_of_ble_eq_true rfl) ⟨Nat.le_of_ble_eq_true rfl, Nat.le_of_ble_eq_true rfl⟩ dX0_makesStates_62 ?_
      refine kx_behind C hw hl.1 (Nat.le_of_ble_eq_true rfl) ⟨Nat.le_of_ble_eq_true rfl, Nat.le_of_ble_eq_true rfl⟩ dX0_makesStates_65 hf (fun r65 hf => ?_)
      refine lv_lstore_n (lv' := [(3, .long r65), (0, .ref (ad 0)), (1, .int x1), (2, .int x2)]) C.1 C.2.1 dX0_makesStates_68 rfl hl (Nat.le_of_ble_eq_true rfl) rfl (fun ls hl => ?_)
      refine lv_aload_n C.1 C.2.1 dX0_makesStates_69 rfl (lv_at hl 1 rfl) ?_
      refine xg_goesTo C hw dX0_makesStates_70 ?_
      refine lv_bipush (v := 52) C.1 C.2.1 dX0_makesStates_73 rfl ?_
      refine lv_iload_n C.1 C.2.1 dX0_makesStates_75 rfl (lv_at hl 2 rfl) ?_
      refine lv_imul C.1 C.2.1 dX0_makesStates_76 ?_
      refine lv_iload_n C.1 C.2.1 dX0_makesStates_77 rfl (lv_at hl 3 rfl) ?_
      refine kx_symbolOf C hl.1 (Nat.le_of_ble_eq_true rfl) ⟨Nat.le_of_ble_eq_true rfl, Nat.le_of_ble_eq_true rfl⟩ dX0_makesStates_78 ?_
      refine lv_iadd C.1 C.2.1 dX0_makesStates_81 ?_
      refine lv_lload_n C.1 C.2.1 dX0_makesStates_82 rfl (lv_at hl 0 rfl) ?_
      refine lv_lconst (v := 0) C.1 C.2.1 dX0_makesStates_83 rfl ?_
      refine W.lcmp C.1 C.2.1 dX0_makesStates_84 ?_
      refine lv_if_ne (tgt := 93) C.1 C.2.1 dX0_makesStates_85 (by decide) (fun h85 => ?_) (fun h85 => ?_)
      · replace hf := hf.2 (fun q => h85 ((lg_cmp_eq _ _).mpr q))
        refine lv_aload_n C.1 C.2.1 dX0_makesStates_93 rfl (lv_at hl 1 rfl) ?_
        refine lv_lload_n C.1 C.2.1 dX0_makesStates_94 rfl (lv_at hl 0 rfl) ?_
        refine kx_numberOf C hw hl.1 (Nat.le_of_ble_eq_true rfl) ⟨Nat.le_of_ble_eq_true rfl, Nat.le_of_ble_eq_true rfl⟩ dX0_makesStates_95 hf (fun r95 s95 H locs hf hw => ?_)
        exact J98 _ _ _ _ _ _ _ _ hK27 _ hK48 _ hf hw (lv_sub hl [1, 2, 3] rfl)
      · replace hf := hf.1 ((lg_cmp_eq _ _).mp h85)
        refine lv_bipush (v := (-2)) C.1 C.2.1 dX0_makesStates_88 rfl ?_
        refine lv_goto (tgt := 98) C.1 C.2.1 dX0_makesStates_90 (by decide) ?_
        exact J98 _ _ _ _ _ _ _ _ hK27 _ hK48 _ hf hw (lv_sub hl [1, 2, 3] rfl)
  have P48 : ∀ (x1 : Int32) (K27 : St → Int32 → Prop) (_ : ∀ (σ : St) (H : Heap) (locs : List Loc) (x1 : Int32) (ls : Array Slot), K27 σ x1 → gH D ct shX ad s σ H locs → lv_has ls 5 [(0, .ref (ad 0)), (1, .int x1)] → W p l e rm_x_makesStates s m args below meth c H locs 0 0 QQ (F0 m 27 ls [])) (n : Nat) (σ : St) (x2 : Int32) (ls : Array Slot) (H : Heap) (locs : List Loc), LL2 (x_makesStates_p48 x1 Q K27) n σ x2 → gH D ct shX ad s σ H locs → lv_has ls 5 [(0, .ref (ad 0)), (1, .int x1), (2, .int x2)] → W p l e rm_x_makesStates s m args below meth c H locs 0 0 QQ (F0 m 48 ls []) := by
    intro x1 K27 hK27 n
    induction n with
    | zero => intro σ x2 ls H locs hf; exact False.elim hf
    | succ n ih => intro σ x2 ls H locs hf hw hl; exact B48 x1 K27 hK27 (LL2 _ n) (fun σ H locs x2 ls hf hw hl => ih σ x2 ls H locs hf hw hl) σ H locs x2 ls hf hw hl
  have B27 : ∀ (K27 : St → Int32 → Prop) (_ : ∀ (σ : St) (H : Heap) (locs : List Loc) (x1 : Int32) (ls : Array Slot), K27 σ x1 → gH D ct shX ad s σ H locs → lv_has ls 5 [(0, .ref (ad 0)), (1, .int x1)] → W p l e rm_x_makesStates s m args below meth c H locs 0 0 QQ (F0 m 27 ls [])) (σ : St) (H : Heap) (locs : List Loc) (x1 : Int32) (ls : Array Slot), x_makesStates_p27 Q K27 σ x1 → gH D ct shX ad s σ H locs → lv_has ls 5 [(0, .ref (ad 0)), (1, .int x1)] → W p l e rm_x_makesStates s m args below meth c H locs 0 0 QQ (F0 m 27 ls []) := by
    intro K27 hK27 σ H locs x1 ls hf hw hl
    unfold x_makesStates_p27 at hf
    refine lv_iload_n C.1 C.2.1 dX0_makesStates_27 rfl (lv_at hl 1 rfl) ?_
    refine lv_aload_n C.1 C.2.1 dX0_makesStates_28 rfl (lv_at hl 0 rfl) ?_
    refine xg_stateMany C hw dX0_makesStates_29 ?_
    refine lv_icmp_ge (tgt := 111) C.1 C.2.1 dX0_makesStates_32 (by decide) (fun h32 => ?_) (fun h32 => ?_)
    · replace hf := hf.1 h32
      refine lv_aload_n C.1 C.2.1 dX0_makesStates_111 rfl (lv_at hl 0 rfl) ?_
      refine xg_stateMany C hw dX0_makesStates_112 ?_
      refine lv_bipush (v := 90) C.1 C.2.1 dX0_makesStates_115 rfl ?_
      refine lv_icmp_gt (tgt := 124) C.1 C.2.1 dX0_makesStates_117 (by decide) (fun h117 => ?_) (fun h117 => ?_)
      · replace hf := hf.1 h117
        refine lv_iconst (v := 0) C.1 C.2.1 dX0_makesStates_124 rfl ?_
        exact hret _ _ _ _ _ _ hf hw (Or.inl rfl) dX0_makesStates_125
      · replace hf := hf.2 h117
        refine lv_iconst (v := 1) C.1 C.2.1 dX0_makesStates_120 rfl ?_
        refine lv_goto (tgt := 125) C.1 C.2.1 dX0_makesStates_121 (by decide) ?_
        exact hret _ _ _ _ _ _ hf hw (Or.inr rfl) dX0_makesStates_125
    · replace hf := hf.2 h32
      refine lv_aload_n C.1 C.2.1 dX0_makesStates_35 rfl (lv_at hl 0 rfl) ?_
      refine xg_stateMany C hw dX0_makesStates_36 ?_
      refine lv_bipush (v := 90) C.1 C.2.1 dX0_makesStates_39 rfl ?_
      refine lv_icmp_le (tgt := 46) C.1 C.2.1 dX0_makesStates_41 (by decide) (fun h41 => ?_) (fun h41 => ?_)
      · replace hf := hf.1 h41
        refine lv_iconst (v := 0) C.1 C.2.1 dX0_makesStates_46 rfl ?_
        refine lv_istore_n (lv' := [(2, .int 0), (0, .ref (ad 0)), (1, .int x1)]) C.1 C.2.1 dX0_makesStates_47 rfl hl (Nat.le_of_ble_eq_true rfl) rfl (fun ls hl => ?_)
        obtain ⟨n, hf⟩ := hf
        exact P48 _ _ hK27 n _ _ _ _ _ hf hw (lv_sub hl [1, 2, 0] rfl)
      · replace hf := hf.2 h41
        refine lv_iconst (v := 0) C.1 C.2.1 dX0_makesStates_44 rfl ?_
        exact hret _ _ _ _ _ _ hf hw (Or.inl rfl) dX0_makesStates_45
  have P27 : ∀ (n : Nat) (σ : St) (x1 : Int32) (ls : Array Slot) (H : Heap) (locs : List Loc), LL2 (x_makesStates_p27 Q) n σ x1 → gH D ct shX ad s σ H locs → lv_has ls 5 [(0, .ref (ad 0)), (1, .int x1)] → W p l e rm_x_makesStates s m args below meth c H locs 0 0 QQ (F0 m 27 ls []) := by
    intro  n
    induction n with
    | zero => intro σ x1 ls H locs hf; exact False.elim hf
    | succ n ih => intro σ x1 ls H locs hf hw hl; exact B27  (LL2 _ n) (fun σ H locs x1 ls hf hw hl => ih σ x1 ls H locs hf hw hl) σ H locs x1 ls hf hw hl
  unfold x_makesStates at hf
  obtain ⟨H, hH⟩ : ∃ q, q = s.heap := ⟨_, rfl⟩
  obtain ⟨locs, hL⟩ : ∃ q : List Loc, q = [] := ⟨_, rfl⟩
  rw [← hH, ← hL] at hw ⊢
  refine lv_aload_n C.1 C.2.1 dX0_makesStates_0 rfl (lv_at hl 0 rfl) ?_
  refine lv_iconst (v := 0) C.1 C.2.1 dX0_makesStates_1 rfl ?_
  refine xp_stateMany C hw dX0_makesStates_2 (fun s2 H locs e2 hw => ?_)
  replace hf := hf s2 e2
  refine lv_aload_n C.1 C.2.1 dX0_makesStates_5 rfl (lv_at hl 0 rfl) ?_
  refine lv_aload_n C.1 C.2.1 dX0_makesStates_6 rfl (lv_at hl 0 rfl) ?_
  refine lv_aload_n C.1 C.2.1 dX0_makesStates_7 rfl (lv_at hl 0 rfl) ?_
  refine lv_aload_n C.1 C.2.1 dX0_makesStates_8 rfl (lv_at hl 0 rfl) ?_
  refine xg_grammar C hw dX0_makesStates_9 ?_
  refine xn_start C hw dX0_makesStates_12 ?_
  refine kx_rulesOf C hw hl.1 (Nat.le_of_ble_eq_true rfl) ⟨Nat.le_of_ble_eq_true rfl, Nat.le_of_ble_eq_true rfl⟩ dX0_makesStates_15 hf (fun r15 hf => ?_)
  refine kx_closed C hw hl.1 (Nat.le_of_ble_eq_true rfl) ⟨Nat.le_of_ble_eq_true rfl, Nat.le_of_ble_eq_true rfl⟩ dX0_makesStates_18 hf (fun r18 hf => ?_)
  refine kx_numberOf C hw hl.1 (Nat.le_of_ble_eq_true rfl) ⟨Nat.le_of_ble_eq_true rfl, Nat.le_of_ble_eq_true rfl⟩ dX0_makesStates_21 hf (fun r21 s21 H locs hf hw => ?_)
  refine lv_pop C.1 C.2.1 dX0_makesStates_24 rfl ?_
  refine lv_iconst (v := 0) C.1 C.2.1 dX0_makesStates_25 rfl ?_
  refine lv_istore_n (lv' := [(1, .int 0), (0, .ref (ad 0))]) C.1 C.2.1 dX0_makesStates_26 rfl hl (Nat.le_of_ble_eq_true rfl) rfl (fun ls hl => ?_)
  obtain ⟨n, hf⟩ := hf
  exact P27  n _ _ _ _ _ hf hw (lv_sub hl [1, 0] rfl)
theorem kx_makesStates {p : Program} {l : Launch} {e : Env} {R : Room} {s : State} {m : MethodId} {args : Array Value} {below : List Frame} {meth : Method} {c : Code} {H : Heap} {locs : List Loc} {Z : State → Prop} {cc : ByteArray} {nL pc : Nat} {ls : Array Slot} {rest : List Value} {D : va_G} {ct : Ct} {ad : Nat → Nat} {σ : St} {Qp : Int32 → St → Prop} (C : CallFix p m c cc nL s args lw_all RX0) (hw : gH D ct shX ad s σ H locs) (hsz : ls.size = nL) (hrm : (rest.map fun v => v.category).sum ≤ 8) (hR : rm_x_makesStates.frames + 1 ≤ R.frames ∧ 8 + (5 + 11) + rm_x_makesStates.locals ≤ R.locals) (hdg : decode cc pc = .ok (.invokevirtual 268, 3)) (hf : x_makesStates σ Qp) (kk : ∀ (r : Int32) (σ1 : St) (H1 : Heap) (locs1 : List Loc), Qp r σ1 → gH D ct shX ad s σ1 H1 locs1 → W p l e R s m args below meth c H1 locs1 0 0 Z (F0 m (pc + 3) ls (.int r :: rest))) : W p l e R s m args below meth c H locs 0 0 Z (F0 m pc ls (.ref (ad 0) :: rest)) :=
  g_callV (As := []) (rest := rest) C hw rfl rfl (met_x_makesStates l D ct ad hw.2.1 σ Qp hf) (cwV 0 C.2.2.2.2 (lw_V q805 q807 qs37 q200 q808) rfl rfl rfl (by decide +kernel) hR) rfl hsz rfl hrm ⟨Nat.zero_le _, Nat.zero_le _⟩ hdg kk
def x_alive_p48 (σ : St) (x1 : Int32) (Q : Int32 → St → Prop) (K48 : Int32 → Int32 → Prop) (x3 : Int32) (x4 : Int32) : Prop :=
  (((σ.1 25) ≤ x4 → Q x3 σ) ∧ (¬ (σ.1 25) ≤ x4 → (vp_in x4 90 ∧ K48 (x3 + (((gI σ 32 x4) >>> (x1 &&& 31)) &&& 1)) (x4 + 1))))
def x_alive_p23 (σ : St) (x1 : Int32) (x2 : Int32) (Q : Int32 → St → Prop) : Prop :=
  (x_stacks σ (fun _ s24 => ((x2 = (-1) → (Lp2 (x_alive_p48 s24 x1 Q) 0 0)) ∧ (¬ x2 = (-1) → (vp_in x2 90 ∧ Q (((gI s24 32 x2) >>> (x1 &&& 31)) &&& 1) s24)))))
def x_alive (σ : St) (x1 : Int32) (x2 : Int32) (Q : Int32 → St → Prop) : Prop :=
  (((fx_isLevel σ x1) = 0 → Q (-1) σ) ∧ (¬ (fx_isLevel σ x1) = 0 → ((x2 = (-1) → (x_alive_p23 σ x1 x2 Q)) ∧ (¬ x2 = (-1) → (((fx_isState σ x2) = 0 → Q (-1) σ) ∧ (¬ (fx_isState σ x2) = 0 → (x_alive_p23 σ x1 x2 Q)))))))
abbrev rm_x_alive : Room := { frames := 5, cells := 0, slots := 0, locals := 135 }
set_option maxHeartbeats 4000000 in
theorem met_x_alive (l : Launch) (D : va_G) (ct : Ct) (ad : Nat → Nat) (hJ : gJ shX ad ct) (σ : St) (x1 : Int32) (x2 : Int32) (Q : Int32 → St → Prop) (hf : x_alive σ x1 x2 Q) : Met l yX0_alive (ws_ yX0_alive cX0_alive 5 (some .int)) rm_x_alive (va_Pc [.ref (ad 0), .int x1, .int x2] (gP D ct shX ad σ)) (gQ rvI D ct shX ad Q) 0 0 (gA shX ad) := by
  refine g_metI hJ (by decide) (Nat.le_of_ble_eq_true rfl) ?_
  intro p e s m args below meth c QQ ls C hw hl hret
  replace hl : lv_has ls 5 [(0, .ref (ad 0)), (1, .int x1), (2, .int x2)] := hl
  have B48 : ∀ (σ : St) (H : Heap) (locs : List Loc) (x1 : Int32) (K48 : Int32 → Int32 → Prop) (_ : ∀ (x3 : Int32) (x4 : Int32) (ls : Array Slot), K48 x3 x4 → lv_has ls 5 [(0, .ref (ad 0)), (1, .int x1), (3, .int x3), (4, .int x4)] → W p l e rm_x_alive s m args below meth c H locs 0 0 QQ (F0 m 48 ls [])) (x3 : Int32) (x4 : Int32) (ls : Array Slot), x_alive_p48 σ x1 Q K48 x3 x4 → gH D ct shX ad s σ H locs → lv_has ls 5 [(0, .ref (ad 0)), (1, .int x1), (3, .int x3), (4, .int x4)] → W p l e rm_x_alive s m args below meth c H locs 0 0 QQ (F0 m 48 ls []) := by
    intro σ H locs x1 K48 hK48 x3 x4 ls hf hw hl
    unfold x_alive_p48 at hf
    refine lv_iload C.1 C.2.1 dX0_alive_48 (lv_at hl 3 rfl) ?_
    refine lv_aload_n C.1 C.2.1 dX0_alive_50 rfl (lv_at hl 0 rfl) ?_
    refine xg_stateMany C hw dX0_alive_51 ?_
    refine lv_icmp_ge (tgt := 77) C.1 C.2.1 dX0_alive_54 (by decide) (fun h54 => ?_) (fun h54 => ?_)
    · replace hf := hf.1 h54
      refine lv_iload_n C.1 C.2.1 dX0_alive_77 rfl (lv_at hl 2 rfl) ?_
      exact hret _ _ _ _ _ _ hf hw dX0_alive_78
    · replace hf := hf.2 h54
      refine lv_iload_n C.1 C.2.1 dX0_alive_57 rfl (lv_at hl 2 rfl) ?_
      refine lv_aload_n C.1 C.2.1 dX0_alive_58 rfl (lv_at hl 0 rfl) ?_
      refine xg_aliveOf C hw dX0_alive_59 ?_
      refine lv_iload C.1 C.2.1 dX0_alive_62 (lv_at hl 3 rfl) ?_
      obtain ⟨b64, hf⟩ := hf
      refine g_iald C hw 32 rfl b64 dX0_alive_64 ?_
      refine lv_iload_n C.1 C.2.1 dX0_alive_65 rfl (lv_at hl 1 rfl) ?_
      refine lv_ishr C.1 C.2.1 dX0_alive_66 ?_
      refine lv_iconst (v := 1) C.1 C.2.1 dX0_alive_67 rfl ?_
      refine lv_iand C.1 C.2.1 dX0_alive_68 ?_
      refine lv_iadd C.1 C.2.1 dX0_alive_69 ?_
      refine lv_istore_n (lv' := [(3, .int (x3 + (((gI σ 32 x4) >>> (x1 &&& 31)) &&& 1))), (0, .ref (ad 0)), (1, .int x1), (4, .int x4)]) C.1 C.2.1 dX0_alive_70 rfl hl (Nat.le_of_ble_eq_true rfl) rfl (fun ls hl => ?_)
      refine lv_iinc (v := (x4 + 1)) (lv' := [(4, .int (x4 + 1)), (3, .int (x3 + (((gI σ 32 x4) >>> (x1 &&& 31)) &&& 1))), (0, .ref (ad 0)), (1, .int x1)]) C.1 C.2.1 dX0_alive_71 hl (k := 3) rfl rfl (Nat.le_of_ble_eq_true rfl) rfl (fun ls hl => ?_)
      refine lv_goto (tgt := 48) C.1 C.2.1 dX0_alive_74 (by decide) ?_
      exact hK48 _ _ _ hf (lv_sub hl [2, 3, 1, 0] rfl)
  have P48 : ∀ (σ : St) (H : Heap) (locs : List Loc) (x1 : Int32) (n : Nat) (x3 : Int32) (x4 : Int32) (ls : Array Slot), LL2 (x_alive_p48 σ x1 Q) n x3 x4 → gH D ct shX ad s σ H locs → lv_has ls 5 [(0, .ref (ad 0)), (1, .int x1), (3, .int x3), (4, .int x4)] → W p l e rm_x_alive s m args below meth c H locs 0 0 QQ (F0 m 48 ls []) := by
    intro σ H locs x1 n
    induction n with
    | zero => intro x3 x4 ls hf; exact False.elim hf
    | succ n ih => intro x3 x4 ls hf hw hl; exact B48 σ H locs x1 (LL2 _ n) (fun x3 x4 ls hf hl => ih x3 x4 ls hf hw hl) x3 x4 ls hf hw hl
  have J23 : ∀ (σ : St) (H : Heap) (locs : List Loc) (x1 : Int32) (x2 : Int32) (ls : Array Slot), x_alive_p23 σ x1 x2 Q → gH D ct shX ad s σ H locs → lv_has ls 5 [(0, .ref (ad 0)), (1, .int x1), (2, .int x2)] → W p l e rm_x_alive s m args below meth c H locs 0 0 QQ (F0 m 23 ls []) := by
    intro σ H locs x1 x2 ls hf hw hl
    unfold x_alive_p23 at hf
    refine lv_aload_n C.1 C.2.1 dX0_alive_23 rfl (lv_at hl 0 rfl) ?_
    refine kx_stacks C hw hl.1 (Nat.le_of_ble_eq_true rfl) ⟨Nat.le_of_ble_eq_true rfl, Nat.le_of_ble_eq_true rfl⟩ dX0_alive_24 hf (fun _ s24 H locs hf hw => ?_)
    refine lv_iload_n C.1 C.2.1 dX0_alive_27 rfl (lv_at hl 2 rfl) ?_
    refine lv_iconst (v := (-1)) C.1 C.2.1 dX0_alive_28 rfl ?_
    refine lv_icmp_eq (tgt := 43) C.1 C.2.1 dX0_alive_29 (by decide) (fun h29 => ?_) (fun h29 => ?_)
    · replace hf := hf.1 h29
      refine lv_iconst (v := 0) C.1 C.2.1 dX0_alive_43 rfl ?_
      refine lv_istore_n (lv' := [(3, .int 0), (0, .ref (ad 0)), (1, .int x1), (2, .int x2)]) C.1 C.2.1 dX0_alive_44 rfl hl (Nat.le_of_ble_eq_true rfl) rfl (fun ls hl => ?_)
      refine lv_iconst (v := 0) C.1 C.2.1 dX0_alive_45 rfl ?_
      refine lv_istore (lv' := [(4, .int 0), (3, .int 0), (0, .ref (ad 0)), (1, .int x1), (2, .int x2)]) C.1 C.2.1 dX0_alive_46 hl (Nat.le_of_ble_eq_true rfl) rfl (fun ls hl => ?_)
      obtain ⟨n, hf⟩ := hf
      exact P48 _ _ _ _ n _ _ _ hf hw (lv_sub hl [2, 3, 1, 0] rfl)
    · replace hf := hf.2 h29
      refine lv_aload_n C.1 C.2.1 dX0_alive_32 rfl (lv_at hl 0 rfl) ?_
      refine xg_aliveOf C hw dX0_alive_33 ?_
      refine lv_iload_n C.1 C.2.1 dX0_alive_36 rfl (lv_at hl 2 rfl) ?_
      obtain ⟨b37, hf⟩ := hf
      refine g_iald C hw 32 rfl b37 dX0_alive_37 ?_
      refine lv_iload_n C.1 C.2.1 dX0_alive_38 rfl (lv_at hl 1 rfl) ?_
      refine lv_ishr C.1 C.2.1 dX0_alive_39 ?_
      refine lv_iconst (v := 1) C.1 C.2.1 dX0_alive_40 rfl ?_
      refine lv_iand C.1 C.2.1 dX0_alive_41 ?_
      exact hret _ _ _ _ _ _ hf hw dX0_alive_42
  unfold x_alive at hf
  obtain ⟨H, hH⟩ : ∃ q, q = s.heap := ⟨_, rfl⟩
  obtain ⟨locs, hL⟩ : ∃ q : List Loc, q = [] := ⟨_, rfl⟩
  rw [← hH, ← hL] at hw ⊢
  refine lv_aload_n C.1 C.2.1 dX0_alive_0 rfl (lv_at hl 0 rfl) ?_
  refine lv_iload_n C.1 C.2.1 dX0_alive_1 rfl (lv_at hl 1 rfl) ?_
  refine kx_isLevel C hw hl.1 (Nat.le_of_ble_eq_true rfl) ⟨Nat.le_of_ble_eq_true rfl, Nat.le_of_ble_eq_true rfl⟩ dX0_alive_2 ?_
  refine lv_if_eq (tgt := 21) C.1 C.2.1 dX0_alive_5 (by decide) (fun h5 => ?_) (fun h5 => ?_)
  · replace hf := hf.1 h5
    refine lv_iconst (v := (-1)) C.1 C.2.1 dX0_alive_21 rfl ?_
    exact hret _ _ _ _ _ _ hf hw dX0_alive_22
  · replace hf := hf.2 h5
    refine lv_iload_n C.1 C.2.1 dX0_alive_8 rfl (lv_at hl 2 rfl) ?_
    refine lv_iconst (v := (-1)) C.1 C.2.1 dX0_alive_9 rfl ?_
    refine lv_icmp_eq (tgt := 23) C.1 C.2.1 dX0_alive_10 (by decide) (fun h10 => ?_) (fun h10 => ?_)
    · replace hf := hf.1 h10
      exact J23 _ _ _ _ _ _ hf hw (lv_sub hl [0, 1, 2] rfl)
    · replace hf := hf.2 h10
      refine lv_aload_n C.1 C.2.1 dX0_alive_13 rfl (lv_at hl 0 rfl) ?_
      refine lv_iload_n C.1 C.2.1 dX0_alive_14 rfl (lv_at hl 2 rfl) ?_
      refine kx_isState C hw hl.1 (Nat.le_of_ble_eq_true rfl) ⟨Nat.le_of_ble_eq_true rfl, Nat.le_of_ble_eq_true rfl⟩ dX0_alive_15 ?_
      refine lv_if_ne (tgt := 23) C.1 C.2.1 dX0_alive_18 (by decide) (fun h18 => ?_) (fun h18 => ?_)
      · replace hf := hf.2 h18
        exact J23 _ _ _ _ _ _ hf hw (lv_sub hl [0, 1, 2] rfl)
      · replace hf := hf.1 h18
        refine lv_iconst (v := (-1)) C.1 C.2.1 dX0_alive_21 rfl ?_
        exact hret _ _ _ _ _ _ hf hw dX0_alive_22
def x_links_p63 (σ : St) (x1 : Int32) (x2 : Int32) (x4 : Int32) (Q : Int32 → St → Prop) (K32 : Int32 → Int32 → Prop) (K63 : Int32 → Int32 → Prop) (x3 : Int32) (x5 : Int32) : Prop :=
  ((x1 < x5 → K32 x3 (x4 + 1)) ∧ (¬ x1 < x5 → (vp_in ((13 * x4) + x5) 60840 ∧ K63 (x3 + (((gI σ 31 ((13 * x4) + x5)) >>> (x1 &&& 31)) &&& 1)) (x5 + 1))))
def x_links_p32 (σ : St) (x1 : Int32) (x2 : Int32) (Q : Int32 → St → Prop) (K32 : Int32 → Int32 → Prop) (x3 : Int32) (x4 : Int32) : Prop :=
  (((σ.1 35) ≤ x4 → Q x3 σ) ∧ (¬ (σ.1 35) ≤ x4 → ((x2 = (-1) → (Lp2 (x_links_p63 σ x1 x2 x4 Q K32) x3 0)) ∧ (¬ x2 = (-1) → (vp_in x4 4680 ∧ (((gI σ 30 x4) = x2 → (Lp2 (x_links_p63 σ x1 x2 x4 Q K32) x3 0)) ∧ (¬ (gI σ 30 x4) = x2 → K32 x3 (x4 + 1))))))))
def x_links_p23 (σ : St) (x1 : Int32) (x2 : Int32) (Q : Int32 → St → Prop) : Prop :=
  (x_stacks σ (fun _ s24 => (Lp2 (x_links_p32 s24 x1 x2 Q) 0 0)))
def x_links (σ : St) (x1 : Int32) (x2 : Int32) (Q : Int32 → St → Prop) : Prop :=
  (((fx_isLevel σ x1) = 0 → Q (-1) σ) ∧ (¬ (fx_isLevel σ x1) = 0 → ((x2 = (-1) → (x_links_p23 σ x1 x2 Q)) ∧ (¬ x2 = (-1) → (((fx_isState σ x2) = 0 → Q (-1) σ) ∧ (¬ (fx_isState σ x2) = 0 → (x_links_p23 σ x1 x2 Q)))))))
abbrev rm_x_links : Room := { frames := 5, cells := 0, slots := 0, locals := 135 }
set_option maxHeartbeats 4000000 in
theorem met_x_links (l : Launch) (D : va_G) (ct : Ct) (ad : Nat → Nat) (hJ : gJ shX ad ct) (σ : St) (x1 : Int32) (x2 : Int32) (Q : Int32 → St → Prop) (hf : x_links σ x1 x2 Q) : Met l yX0_links (ws_ yX0_links cX0_links 6 (some .int)) rm_x_links (va_Pc [.ref (ad 0), .int x1, .int x2] (gP D ct shX ad σ)) (gQ rvI D ct shX ad Q) 0 0 (gA shX ad) := by
  refine g_metI hJ (by decide) (Nat.le_of_ble_eq_true rfl) ?_
  intro p e s m args below meth c QQ ls C hw hl hret
  replace hl : lv_has ls 6 [(0, .ref (ad 0)), (1, .int x1), (2, .int x2)] := hl
  have B63 : ∀ (σ : St) (H : Heap) (locs : List Loc) (x1 : Int32) (x2 : Int32) (x4 : Int32) (K32 : Int32 → Int32 → Prop) (_ : ∀ (x3 : Int32) (x4 : Int32) (ls : Array Slot), K32 x3 x4 → lv_has ls 6 [(0, .ref (ad 0)), (1, .int x1), (2, .int x2), (3, .int x3), (4, .int x4)] → W p l e rm_x_links s m args below meth c H locs 0 0 QQ (F0 m 32 ls [])) (K63 : Int32 → Int32 → Prop) (_ : ∀ (x3 : Int32) (x5 : Int32) (ls : Array Slot), K63 x3 x5 → lv_has ls 6 [(0, .ref (ad 0)), (1, .int x1), (2, .int x2), (3, .int x3), (4, .int x4), (5, .int x5)] → W p l e rm_x_links s m args below meth c H locs 0 0 QQ (F0 m 63 ls [])) (x3 : Int32) (x5 : Int32) (ls : Array Slot), x_links_p63 σ x1 x2 x4 Q K32 K63 x3 x5 → gH D ct shX ad s σ H locs → lv_has ls 6 [(0, .ref (ad 0)), (1, .int x1), (2, .int x2), (3, .int x3), (4, .int x4), (5, .int x5)] → W p l e rm_x_links s m args below meth c H locs 0 0 QQ (F0 m 63 ls []) := by
    intro σ H locs x1 x2 x4 K32 hK32 K63 hK63 x3 x5 ls hf hw hl
    unfold x_links_p63 at hf
    refine lv_iload C.1 C.2.1 dX0_links_63 (lv_at hl 5 rfl) ?_
    refine lv_iload_n C.1 C.2.1 dX0_links_65 rfl (lv_at hl 1 rfl) ?_
    refine lv_icmp_gt (tgt := 95) C.1 C.2.1 dX0_links_66 (by decide) (fun h66 => ?_) (fun h66 => ?_)
    · replace hf := hf.1 h66
      refine lv_iinc (v := (x4 + 1)) (lv' := [(4, .int (x4 + 1)), (0, .ref (ad 0)), (1, .int x1), (2, .int x2), (3, .int x3), (5, .int x5)]) C.1 C.2.1 dX0_links_95 hl (k := 4) rfl rfl (Nat.le_of_ble_eq_true rfl) rfl (fun ls hl => ?_)
      refine lv_goto (tgt := 32) C.1 C.2.1 dX0_links_98 (by decide) ?_
      exact hK32 _ _ _ hf (lv_sub hl [1, 2, 3, 4, 0] rfl)
    · replace hf := hf.2 h66
      refine lv_iload_n C.1 C.2.1 dX0_links_69 rfl (lv_at hl 3 rfl) ?_
      refine lv_aload_n C.1 C.2.1 dX0_links_70 rfl (lv_at hl 0 rfl) ?_
      refine xg_linkOf C hw dX0_links_71 ?_
      refine lv_bipush (v := 13) C.1 C.2.1 dX0_links_74 rfl ?_
      refine lv_iload C.1 C.2.1 dX0_links_76 (lv_at hl 4 rfl) ?_
      refine lv_imul C.1 C.2.1 dX0_links_78 ?_
      refine lv_iload C.1 C.2.1 dX0_links_79 (lv_at hl 5 rfl) ?_
      refine lv_iadd C.1 C.2.1 dX0_links_81 ?_
      obtain ⟨b82, hf⟩ := hf
      refine g_iald C hw 31 rfl b82 dX0_links_82 ?_
      refine lv_iload_n C.1 C.2.1 dX0_links_83 rfl (lv_at hl 1 rfl) ?_
      refine lv_ishr C.1 C.2.1 dX0_links_84 ?_
      refine lv_iconst (v := 1) C.1 C.2.1 dX0_links_85 rfl ?_
      refine lv_iand C.1 C.2.1 dX0_links_86 ?_
      refine lv_iadd C.1 C.2.1 dX0_links_87 ?_
      refine lv_istore_n (lv' := [(3, .int (x3 + (((gI σ 31 ((13 * x4) + x5)) >>> (x1 &&& 31)) &&& 1))), (0, .ref (ad 0)), (1, .int x1), (2, .int x2), (4, .int x4), (5, .int x5)]) C.1 C.2.1 dX0_links_88 rfl hl (Nat.le_of_ble_eq_true rfl) rfl (fun ls hl => ?_)
      refine lv_iinc (v := (x5 + 1)) (lv' := [(5, .int (x5 + 1)), (3, .int (x3 + (((gI σ 31 ((13 * x4) + x5)) >>> (x1 &&& 31)) &&& 1))), (0, .ref (ad 0)), (1, .int x1), (2, .int x2), (4, .int x4)]) C.1 C.2.1 dX0_links_89 hl (k := 5) rfl rfl (Nat.le_of_ble_eq_true rfl) rfl (fun ls hl => ?_)
      refine lv_goto (tgt := 63) C.1 C.2.1 dX0_links_92 (by decide) ?_
      exact hK63 _ _ _ hf (lv_sub hl [2, 3, 4, 1, 5, 0] rfl)
  have P63 : ∀ (σ : St) (H : Heap) (locs : List Loc) (x1 : Int32) (x2 : Int32) (x4 : Int32) (K32 : Int32 → Int32 → Prop) (_ : ∀ (x3 : Int32) (x4 : Int32) (ls : Array Slot), K32 x3 x4 → lv_has ls 6 [(0, .ref (ad 0)), (1, .int x1), (2, .int x2), (3, .int x3), (4, .int x4)] → W p l e rm_x_links s m args below meth c H locs 0 0 QQ (F0 m 32 ls [])) (n : Nat) (x3 : Int32) (x5 : Int32) (ls : Array Slot), LL2 (x_links_p63 σ x1 x2 x4 Q K32) n x3 x5 → gH D ct shX ad s σ H locs → lv_has ls 6 [(0, .ref (ad 0)), (1, .int x1), (2, .int x2), (3, .int x3), (4, .int x4), (5, .int x5)] → W p l e rm_x_links s m args below meth c H locs 0 0 QQ (F0 m 63 ls []) := by
    intro σ H locs x1 x2 x4 K32 hK32 n
    induction n with
    | zero => intro x3 x5 ls hf; exact False.elim hf
    | succ n ih => intro x3 x5 ls hf hw hl; exact B63 σ H locs x1 x2 x4 K32 hK32 (LL2 _ n) (fun x3 x5 ls hf hl => ih x3 x5 ls hf hw hl) x3 x5 ls hf hw hl
  have B32 : ∀ (σ : St) (H : Heap) (locs : List Loc) (x1 : Int32) (x2 : Int32) (K32 : Int32 → Int32 → Prop) (_ : ∀ (x3 : Int32) (x4 : Int32) (ls : Array Slot), K32 x3 x4 → lv_has ls 6 [(0, .ref (ad 0)), (1, .int x1), (2, .int x2), (3, .int x3), (4, .int x4)] → W p l e rm_x_links s m args below meth c H locs 0 0 QQ (F0 m 32 ls [])) (x3 : Int32) (x4 : Int32) (ls : Array Slot), x_links_p32 σ x1 x2 Q K32 x3 x4 → gH D ct shX ad s σ H locs → lv_has ls 6 [(0, .ref (ad 0)), (1, .int x1), (2, .int x2), (3, .int x3), (4, .int x4)] → W p l e rm_x_links s m args below meth c H locs 0 0 QQ (F0 m 32 ls []) := by
    intro σ H locs x1 x2 K32 hK32 x3 x4 ls hf hw hl
    unfold x_links_p32 at hf
    refine lv_iload C.1 C.2.1 dX0_links_32 (lv_at hl 4 rfl) ?_
    refine lv_aload_n C.1 C.2.1 dX0_links_34 rfl (lv_at hl 0 rfl) ?_
    refine xg_goingMany C hw dX0_links_35 ?_
    refine lv_icmp_ge (tgt := 101) C.1 C.2.1 dX0_links_38 (by decide) (fun h38 => ?_) (fun h38 => ?_)
    · replace hf := hf.1 h38
      refine lv_iload_n C.1 C.2.1 dX0_links_101 rfl (lv_at hl 3 rfl) ?_
      exact hret _ _ _ _ _ _ hf hw dX0_links_102
    · replace hf := hf.2 h38
      refine lv_iload_n C.1 C.2.1 dX0_links_41 rfl (lv_at hl 2 rfl) ?_
      refine lv_iconst (v := (-1)) C.1 C.2.1 dX0_links_42 rfl ?_
      refine lv_icmp_eq (tgt := 60) C.1 C.2.1 dX0_links_43 (by decide) (fun h43 => ?_) (fun h43 => ?_)
      · replace hf := hf.1 h43
        refine lv_iconst (v := 0) C.1 C.2.1 dX0_links_60 rfl ?_
        refine lv_istore (lv' := [(5, .int 0), (0, .ref (ad 0)), (1, .int x1), (2, .int x2), (3, .int x3), (4, .int x4)]) C.1 C.2.1 dX0_links_61 hl (Nat.le_of_ble_eq_true rfl) rfl (fun ls hl => ?_)
        obtain ⟨n, hf⟩ := hf
        exact P63 _ _ _ _ _ _ _ hK32 n _ _ _ hf hw (lv_sub hl [1, 2, 3, 4, 5, 0] rfl)
      · replace hf := hf.2 h43
        refine lv_aload_n C.1 C.2.1 dX0_links_46 rfl (lv_at hl 0 rfl) ?_
        refine xg_toOf C hw dX0_links_47 ?_
        refine lv_iload C.1 C.2.1 dX0_links_50 (lv_at hl 4 rfl) ?_
        obtain ⟨b52, hf⟩ := hf
        refine g_iald C hw 30 rfl b52 dX0_links_52 ?_
        refine lv_iload_n C.1 C.2.1 dX0_links_53 rfl (lv_at hl 2 rfl) ?_
        refine lv_icmp_eq (tgt := 60) C.1 C.2.1 dX0_links_54 (by decide) (fun h54 => ?_) (fun h54 => ?_)
        · replace hf := hf.1 h54
          refine lv_iconst (v := 0) C.1 C.2.1 dX0_links_60 rfl ?_
          refine lv_istore (lv' := [(5, .int 0), (0, .ref (ad 0)), (1, .int x1), (2, .int x2), (3, .int x3), (4, .int x4)]) C.1 C.2.1 dX0_links_61 hl (Nat.le_of_ble_eq_true rfl) rfl (fun ls hl => ?_)
          obtain ⟨n, hf⟩ := hf
          exact P63 _ _ _ _ _ _ _ hK32 n _ _ _ hf hw (lv_sub hl [1, 2, 3, 4, 5, 0] rfl)
        · replace hf := hf.2 h54
          refine lv_goto (tgt := 95) C.1 C.2.1 dX0_links_57 (by decide) ?_
          refine lv_iinc (v := (x4 + 1)) (lv' := [(4, .int (x4 + 1)), (0, .ref (ad 0)), (1, .int x1), (2, .int x2), (3, .int x3)]) C.1 C.2.1 dX0_links_95 hl (k := 4) rfl rfl (Nat.le_of_ble_eq_true rfl) rfl (fun ls hl => ?_)
          refine lv_goto (tgt := 32) C.1 C.2.1 dX0_links_98 (by decide) ?_
          exact hK32 _ _ _ hf (lv_sub hl [1, 2, 3, 4, 0] rfl)
  have P32 : ∀ (σ : St) (H : Heap) (locs : List Loc) (x1 : Int32) (x2 : Int32) (n : Nat) (x3 : Int32) (x4 : Int32) (ls : Array Slot), LL2 (x_links_p32 σ x1 x2 Q) n x3 x4 → gH D ct shX ad s σ H locs → lv_has ls 6 [(0, .ref (ad 0)), (1, .int x1), (2, .int x2), (3, .int x3), (4, .int x4)] → W p l e rm_x_links s m args below meth c H locs 0 0 QQ (F0 m 32 ls []) := by
    intro σ H locs x1 x2 n
    induction n with
    | zero => intro x3 x4 ls hf; exact False.elim hf
    | succ n ih => intro x3 x4 ls hf hw hl; exact B32 σ H locs x1 x2 (LL2 _ n) (fun x3 x4 ls hf hl => ih x3 x4 ls hf hw hl) x3 x4 ls hf hw hl
  have J23 : ∀ (σ : St) (H : Heap) (locs : List Loc) (x1 : Int32) (x2 : Int32) (ls : Array Slot), x_links_p23 σ x1 x2 Q → gH D ct shX ad s σ H locs → lv_has ls 6 [(0, .ref (ad 0)), (1, .int x1), (2, .int x2)] → W p l e rm_x_links s m args below meth c H locs 0 0 QQ (F0 m 23 ls []) := by
    intro σ H locs x1 x2 ls hf hw hl
    unfold x_links_p23 at hf
    refine lv_aload_n C.1 C.2.1 dX0_links_23 rfl (lv_at hl 0 rfl) ?_
    refine kx_stacks C hw hl.1 (Nat.le_of_ble_eq_true rfl) ⟨Nat.le_of_ble_eq_true rfl, Nat.le_of_ble_eq_true rfl⟩ dX0_links_24 hf (fun _ s24 H locs hf hw => ?_)
    refine lv_iconst (v := 0) C.1 C.2.1 dX0_links_27 rfl ?_
    refine lv_istore_n (lv' := [(3, .int 0), (0, .ref (ad 0)), (1, .int x1), (2, .int x2)]) C.1 C.2.1 dX0_links_28 rfl hl (Nat.le_of_ble_eq_true rfl) rfl (fun ls hl => ?_)
    refine lv_iconst (v := 0) C.1 C.2.1 dX0_links_29 rfl ?_
    refine lv_istore (lv' := [(4, .int 0), (3, .int 0), (0, .ref (ad 0)), (1, .int x1), (2, .int x2)]) C.1 C.2.1 dX0_links_30 hl (Nat.le_of_ble_eq_true rfl) rfl (fun ls hl => ?_)
    obtain ⟨n, hf⟩ := hf
    exact P32 _ _ _ _ _ n _ _ _ hf hw (lv_sub hl [2, 3, 4, 1, 0] rfl)
  unfold x_links at hf
  obtain ⟨H, hH⟩ : ∃ q, q = s.heap := ⟨_, rfl⟩
  obtain ⟨locs, hL⟩ : ∃ q : List Loc, q = [] := ⟨_, rfl⟩
  rw [← hH, ← hL] at hw ⊢
  refine lv_aload_n C.1 C.2.1 dX0_links_0 rfl (lv_at hl 0 rfl) ?_
  refine lv_iload_n C.1 C.2.1 dX0_links_1 rfl (lv_at hl 1 rfl) ?_
  refine kx_isLevel C hw hl.1 (Nat.le_of_ble_eq_true rfl) ⟨Nat.le_of_ble_eq_true rfl, Nat.le_of_ble_eq_true rfl⟩ dX0_links_2 ?_
  refine lv_if_eq (tgt := 21) C.1 C.2.1 dX0_links_5 (by decide) (fun h5 => ?_) (fun h5 => ?_)
  · replace hf := hf.1 h5
    refine lv_iconst (v := (-1)) C.1 C.2.1 dX0_links_21 rfl ?_
    exact hret _ _ _ _ _ _ hf hw dX0_links_22
  · replace hf := hf.2 h5
    refine lv_iload_n C.1 C.2.1 dX0_links_8 rfl (lv_at hl 2 rfl) ?_
    refine lv_iconst (v := (-1)) C.1 C.2.1 dX0_links_9 rfl ?_
    refine lv_icmp_eq (tgt := 23) C.1 C.2.1 dX0_links_10 (by decide) (fun h10 => ?_) (fun h10 => ?_)
    · replace hf := hf.1 h10
      exact J23 _ _ _ _ _ _ hf hw (lv_sub hl [0, 1, 2] rfl)
    · replace hf := hf.2 h10
      refine lv_aload_n C.1 C.2.1 dX0_links_13 rfl (lv_at hl 0 rfl) ?_
      refine lv_iload_n C.1 C.2.1 dX0_links_14 rfl (lv_at hl 2 rfl) ?_
      refine kx_isState C hw hl.1 (Nat.le_of_ble_eq_true rfl) ⟨Nat.le_of_ble_eq_true rfl, Nat.le_of_ble_eq_true rfl⟩ dX0_links_15 ?_
      refine lv_if_ne (tgt := 23) C.1 C.2.1 dX0_links_18 (by decide) (fun h18 => ?_) (fun h18 => ?_)
      · replace hf := hf.2 h18
        exact J23 _ _ _ _ _ _ hf hw (lv_sub hl [0, 1, 2] rfl)
      · replace hf := hf.1 h18
        refine lv_iconst (v := (-1)) C.1 C.2.1 dX0_links_21 rfl ?_
        exact hret _ _ _ _ _ _ hf hw dX0_links_22
def x_expects_p18 (σ : St) (x1 : Int32) (Q : Int32 → St → Prop) (K18 : Int32 → Int32 → Prop) (x2 : Int32) (x3 : Int32) : Prop :=
  (((σ.1 35) ≤ x3 → Q x2 σ) ∧ (¬ (σ.1 35) ≤ x3 → (vp_in x3 4680 ∧ (((fx_isSmall (gI σ 29 x3)) = 0 → K18 (x2 ||| 0) (x3 + 1)) ∧ (¬ (fx_isSmall (gI σ 29 x3)) = 0 → (vp_in x3 4680 ∧ (vp_in (gI σ 28 x3) 90 ∧ (((fx_has (gI σ 32 (gI σ 28 x3)) x1) = 0 → K18 (x2 ||| 0) (x3 + 1)) ∧ (¬ (fx_has (gI σ 32 (gI σ 28 x3)) x1) = 0 → K18 (x2 ||| (1 <<< ((gI σ 29 x3) &&& 31))) (x3 + 1))))))))))
def x_expects (σ : St) (x1 : Int32) (Q : Int32 → St → Prop) : Prop :=
  (((fx_isLevel σ x1) = 0 → Q (-1) σ) ∧ (¬ (fx_isLevel σ x1) = 0 → (x_stacks σ (fun _ s11 => (Lp2 (x_expects_p18 s11 x1 Q) 0 0)))))
abbrev rm_x_expects : Room := { frames := 5, cells := 0, slots := 0, locals := 135 }
set_option maxHeartbeats 4000000 in
theorem met_x_expects (l : Launch) (D : va_G) (ct : Ct) (ad : Nat → Nat) (hJ : gJ shX ad ct) (σ : St) (x1 : Int32) (Q : Int32 → St → Prop) (hf : x_expects σ x1 Q) : Met l yX0_expects (ws_ yX0_expects cX0_expects 4 (some .int)) rm_x_expects (va_Pc [.ref (ad 0), .int x1] (gP D ct shX ad σ)) (gQ rvI D ct shX ad Q) 0 0 (gA shX ad) := by
  refine g_metI hJ (by decide) (Nat.le_of_ble_eq_true rfl) ?_
  intro p e s m args below meth c QQ ls C hw hl hret
  replace hl : lv_has ls 4 [(0, .ref (ad 0)), (1, .int x1)] := hl
  have B18 : ∀ (σ : St) (H : Heap) (locs : List Loc) (x1 : Int32) (K18 : Int32 → Int32 → Prop) (_ : ∀ (x2 : Int32) (x3 : Int32) (ls : Array Slot), K18 x2 x3 → lv_has ls 4 [(0, .ref (ad 0)), (1, .int x1), (2, .int x2), (3, .int x3)] → W p l e rm_x_expects s m args below meth c H locs 0 0 QQ (F0 m 18 ls [])) (x2 : Int32) (x3 : Int32) (ls : Array Slot), x_expects_p18 σ x1 Q K18 x2 x3 → gH D ct shX ad s σ H locs → lv_has ls 4 [(0, .ref (ad 0)), (1, .int x1), (2, .int x2), (3, .int x3)] → W p l e rm_x_expects s m args below meth c H locs 0 0 QQ (F0 m 18 ls []) := by
    intro σ H locs x1 K18 hK18 x2 x3 ls hf hw hl
    unfold x_expects_p18 at hf
    refine lv_iload_n C.1 C.2.1 dX0_expects_18 rfl (lv_at hl 3 rfl) ?_
    refine lv_aload_n C.1 C.2.1 dX0_expects_19 rfl (lv_at hl 0 rfl) ?_
    refine xg_goingMany C hw dX0_expects_20 ?_
    refine lv_icmp_ge (tgt := 77) C.1 C.2.1 dX0_expects_23 (by decide) (fun h23 => ?_) (fun h23 => ?_)
    · replace hf := hf.1 h23
      refine lv_iload_n C.1 C.2.1 dX0_expects_77 rfl (lv_at hl 2 rfl) ?_
      exact hret _ _ _ _ _ _ hf hw dX0_expects_78
    · replace hf := hf.2 h23
      refine lv_iload_n C.1 C.2.1 dX0_expects_26 rfl (lv_at hl 2 rfl) ?_
      refine lv_aload_n C.1 C.2.1 dX0_expects_27 rfl (lv_at hl 0 rfl) ?_
      refine xg_byOf C hw dX0_expects_28 ?_
      refine lv_iload_n C.1 C.2.1 dX0_expects_31 rfl (lv_at hl 3 rfl) ?_
      obtain ⟨b32, hf⟩ := hf
      refine g_iald C hw 29 rfl b32 dX0_expects_32 ?_
      refine kx_isSmall C hl.1 (Nat.le_of_ble_eq_true rfl) ⟨Nat.le_of_ble_eq_true rfl, Nat.le_of_ble_eq_true rfl⟩ dX0_expects_33 ?_
      refine lv_if_eq (tgt := 68) C.1 C.2.1 dX0_expects_36 (by decide) (fun h36 => ?_) (fun h36 => ?_)
      · replace hf := hf.1 h36
        refine lv_iconst (v := 0) C.1 C.2.1 dX0_expects_68 rfl ?_
        refine lv_ior C.1 C.2.1 dX0_expects_69 ?_
        refine lv_istore_n (lv' := [(2, .int (x2 ||| 0)), (0, .ref (ad 0)), (1, .int x1), (3, .int x3)]) C.1 C.2.1 dX0_expects_70 rfl hl (Nat.le_of_ble_eq_true rfl) rfl (fun ls hl => ?_)
        refine lv_iinc (v := (x3 + 1)) (lv' := [(3, .int (x3 + 1)), (2, .int (x2 ||| 0)), (0, .ref (ad 0)), (1, .int x1)]) C.1 C.2.1 dX0_expects_71 hl (k := 3) rfl rfl (Nat.le_of_ble_eq_true rfl) rfl (fun ls hl => ?_)
        refine lv_goto (tgt := 18) C.1 C.2.1 dX0_expects_74 (by decide) ?_
        exact hK18 _ _ _ hf (lv_sub hl [2, 3, 1, 0] rfl)
      · replace hf := hf.2 h36
        refine lv_aload_n C.1 C.2.1 dX0_expects_39 rfl (lv_at hl 0 rfl) ?_
        refine xg_aliveOf C hw dX0_expects_40 ?_
        refine lv_aload_n C.1 C.2.1 dX0_expects_43 rfl (lv_at hl 0 rfl) ?_
        refine xg_fromOf C hw dX0_expects_44 ?_
        refine lv_iload_n C.1 C.2.1 dX0_expects_47 rfl (lv_at hl 3 rfl) ?_
        obtain ⟨b48, hf⟩ := hf
        refine g_iald C hw 28 rfl b48 dX0_expects_48 ?_
        obtain ⟨b49, hf⟩ := hf
        refine g_iald C hw 32 rfl b49 dX0_expects_49 ?_
        refine lv_iload_n C.1 C.2.1 dX0_expects_50 rfl (lv_at hl 1 rfl) ?_
        refine kx_has C hl.1 (Nat.le_of_ble_eq_true rfl) ⟨Nat.le_of_ble_eq_true rfl, Nat.le_of_ble_eq_true rfl⟩ dX0_expects_51 ?_
        refine lv_if_eq (tgt := 68) C.1 C.2.1 dX0_expects_54 (by decide) (fun h54 => ?_) (fun h54 => ?_)
        · replace hf := hf.1 h54
          refine lv_iconst (v := 0) C.1 C.2.1 dX0_expects_68 rfl ?_
          refine lv_ior C.1 C.2.1 dX0_expects_69 ?_
          refine lv_istore_n (lv' := [(2, .int (x2 ||| 0)), (0, .ref (ad 0)), (1, .int x1), (3, .int x3)]) C.1 C.2.1 dX0_expects_70 rfl hl (Nat.le_of_ble_eq_true rfl) rfl (fun ls hl => ?_)
          refine lv_iinc (v := (x3 + 1)) (lv' := [(3, .int (x3 + 1)), (2, .int (x2 ||| 0)), (0, .ref (ad 0)), (1, .int x1)]) C.1 C.2.1 dX0_expects_71 hl (k := 3) rfl rfl (Nat.le_of_ble_eq_true rfl) rfl (fun ls hl => ?_)
          refine lv_goto (tgt := 18) C.1 C.2.1 dX0_expects_74 (by decide) ?_
          exact hK18 _ _ _ hf (lv_sub hl [2, 3, 1, 0] rfl)
        · replace hf := hf.2 h54
          refine lv_iconst (v := 1) C.1 C.2.1 dX0_expects_57 rfl ?_
          refine lv_aload_n C.1 C.2.1 dX0_expects_58 rfl (lv_at hl 0 rfl) ?_
          refine xg_byOf C hw dX0_expects_59 ?_
          refine lv_iload_n C.1 C.2.1 dX0_expects_62 rfl (lv_at hl 3 rfl) ?_
          refine g_iald C hw 29 rfl b32 dX0_expects_63 ?_
          refine lv_ishl C.1 C.2.1 dX0_expects_64 ?_
          refine lv_goto (tgt := 69) C.1 C.2.1 dX0_expects_65 (by decide) ?_
          refine lv_ior C.1 C.2.1 dX0_expects_69 ?_
          refine lv_istore_n (lv' := [(2, .int (x2 ||| (1 <<< ((gI σ 29 x3) &&& 31)))), (0, .ref (ad 0)), (1, .int x1), (3, .int x3)]) C.1 C.2.1 dX0_expects_70 rfl hl (Nat.le_of_ble_eq_true rfl) rfl (fun ls hl => ?_)
          refine lv_iinc (v := (x3 + 1)) (lv' := [(3, .int (x3 + 1)), (2, .int (x2 ||| (1 <<< ((gI σ 29 x3) &&& 31)))), (0, .ref (ad 0)), (1, .int x1)]) C.1 C.2.1 dX0_expects_71 hl (k := 3) rfl rfl (Nat.le_of_ble_eq_true rfl) rfl (fun ls hl => ?_)
          refine lv_goto (tgt := 18) C.1 C.2.1 dX0_expects_74 (by decide) ?_
          exact hK18 _ _ _ hf (lv_sub hl [2, 3, 1, 0] rfl)
  have P18 : ∀ (σ : St) (H : Heap) (locs : List Loc) (x1 : Int32) (n : Nat) (x2 : Int32) (x3 : Int32) (ls : Array Slot), LL2 (x_expects_p18 σ x1 Q) n x2 x3 → gH D ct shX ad s σ H locs → lv_has ls 4 [(0, .ref (ad 0)), (1, .int x1), (2, .int x2), (3, .int x3)] → W p l e rm_x_expects s m args below meth c H locs 0 0 QQ (F0 m 18 ls []) := by
    intro σ H locs x1 n
    induction n with
    | zero => intro x2 x3 ls hf; exact False.elim hf
    | succ n ih => intro x2 x3 ls hf hw hl; exact B18 σ H locs x1 (LL2 _ n) (fun x2 x3 ls hf hl => ih x2 x3 ls hf hw hl) x2 x3 ls hf hw hl
  unfold x_expects at hf
  obtain ⟨H, hH⟩ : ∃ q, q = s.heap := ⟨_, rfl⟩
  obtain ⟨locs, hL⟩ : ∃ q : List Loc, q = [] := ⟨_, rfl⟩
  rw [← hH, ← hL] at hw ⊢
  refine lv_aload_n C.1 C.2.1 dX0_expects_0 rfl (lv_at hl 0 rfl) ?_
  refine lv_iload_n C.1 C.2.1 dX0_expects_1 rfl (lv_at hl 1 rfl) ?_
  refine kx_isLevel C hw hl.1 (Nat.le_of_ble_eq_true rfl) ⟨Nat.le_of_ble_eq_true rfl, Nat.le_of_ble_eq_true rfl⟩ dX0_expects_2 ?_
  refine lv_if_ne (tgt := 10) C.1 C.2.1 dX0_expects_5 (by decide) (fun h5 => ?_) (fun h5 => ?_)
  · replace hf := hf.2 h5
    refine lv_aload_n C.1 C.2.1 dX0_expects_10 rfl (lv_at hl 0 rfl) ?_
    refine kx_stacks C hw hl.1 (Nat.le_of_ble_eq_true rfl) ⟨Nat.le_of_ble_eq_true rfl, Nat.le_of_ble_eq_true rfl⟩ dX0_expects_11 hf (fun _ s11 H locs hf hw => ?_)
    refine lv_iconst (v := 0) C.1 C.2.1 dX0_expects_14 rfl ?_
    refine lv_istore_n (lv' := [(2, .int 0), (0, .ref (ad 0)), (1, .int x1)]) C.1 C.2.1 dX0_expects_15 rfl hl (Nat.le_of_ble_eq_true rfl) rfl (fun ls hl => ?_)
    refine lv_iconst (v := 0) C.1 C.2.1 dX0_expects_16 rfl ?_
    refine lv_istore_n (lv' := [(3, .int 0), (2, .int 0), (0, .ref (ad 0)), (1, .int x1)]) C.1 C.2.1 dX0_expects_17 rfl hl (Nat.le_of_ble_eq_true rfl) rfl (fun ls hl => ?_)
    obtain ⟨n, hf⟩ := hf
    exact P18 _ _ _ _ n _ _ _ hf hw (lv_sub hl [2, 3, 1, 0] rfl)
  · replace hf := hf.1 h5
    refine lv_iconst (v := (-1)) C.1 C.2.1 dX0_expects_8 rfl ?_
    exact hret _ _ _ _ _ _ hf hw dX0_expects_9
def x_partOf (σ : St) (x0 : Nat) (x1 x2 x3 x4 : Int32) (Q : Int32 → Prop) : Prop := (38 ≤ x0 ∧ x0 ≤ 42) ∧ (x0 = 38 → x_partDerives σ x1 x2 x3 x4 Q) ∧ (x0 = 39 → x_partLives σ x1 x2 x3 x4 Q) ∧ (x0 = 40 → x_partTrees σ x1 x2 x3 x4 Q) ∧ (x0 = 41 → x_partLeast σ x1 x2 x3 x4 Q) ∧ (x0 = 42 → x_partCost σ x1 x2 x3 x4 Q)
def fx_join (x0 : Nat) (x1 x2 : Int32) : Int32 := if x0 = 43 then fx_or x1 x2 else if x0 = 44 then fx_and x1 x2 else if x0 = 45 then fx_lesser x1 x2 else if x0 = 46 then fx_together x1 x2 else if x0 = 47 then fx_more x1 x2 else if x0 = 48 then fx_times x1 x2 else if x0 = 49 then fx_plain x1 x2 else if x0 = 50 then fx_timesPlain x1 x2 else 0
abbrev rm_x_partOf : Room := { frames := 6, cells := 0, slots := 0, locals := 257 }
abbrev rm_x_join : Room := { frames := 2, cells := 0, slots := 0, locals := 106 }
theorem kx_partOf {p : Program} {l : Launch} {e : Env} {R : Room} {s : State} {m : MethodId} {args : Array Value} {below : List Frame} {meth : Method} {c : Code} {H : Heap} {locs : List Loc} {Z : State → Prop} {cc : ByteArray} {nL pc : Nat} {ls : Array Slot} {rest : List Value} {D : va_G} {ct : Ct} {ad : Nat → Nat} {σ : St} {x0 : Nat} {x1 x2 x3 x4 : Int32} {Qp : Int32 → Prop} (C : CallFix p m c cc nL s args lw_all RX0) (hw : gH D ct shX ad s σ H locs) (hsz : ls.size = nL) (hrm : (rest.map fun v => v.category).sum ≤ 8) (hR : rm_x_partOf.frames ≤ R.frames ∧ rm_x_partOf.locals ≤ R.locals) (hdg : decode cc pc = .ok (.invokeinterface 528 5, 5)) (hf : x_partOf σ x0 x1 x2 x3 x4 Qp) (kk : ∀ r : Int32, Qp r → W p l e R s m args below meth c H locs 0 0 Z (F0 m (pc + 5) ls (.int r :: rest))) : W p l e R s m args below meth c H locs 0 0 Z (F0 m pc ls (.int x4 :: .int x3 :: .int x2 :: .int x1 :: .ref (ad x0) :: rest)) := sorry
theorem kx_join {p : Program} {l : Launch} {e : Env} {R : Room} {s : State} {m : MethodId} {args : Array Value} {below : List Frame} {meth : Method} {c : Code} {H : Heap} {locs : List Loc} {Z : State → Prop} {cc : ByteArray} {nL pc : Nat} {ls : Array Slot} {rest : List Value} {D : va_G} {ct : Ct} {ad : Nat → Nat} {σ : St} {x0 : Nat} {x1 x2 : Int32} (C : CallFix p m c cc nL s args lw_all RX0) (hw : gH D ct shX ad s σ H locs) (hsz : ls.size = nL) (hrm : (rest.map fun v => v.category).sum ≤ 8) (hR : rm_x_join.frames ≤ R.frames ∧ rm_x_join.locals ≤ R.locals) (h0 : 43 ≤ x0 ∧ x0 ≤ 50) (hdg : decode cc pc = .ok (.invokeinterface 533 3, 5)) (kk : W p l e R s m args below meth c H locs 0 0 Z (F0 m (pc + 5) ls (.int (fx_join x0 x1 x2) :: rest))) : W p l e R s m args below meth c H locs 0 0 Z (F0 m pc ls (.int x2 :: .int x1 :: .ref (ad x0) :: rest)) := sorry
def x_folds_p73 (x1 : Int32) (x2 : Int32) (x3 : Int32) (x4 : Nat) (x5 : Nat) (x6 : Nat) (x7 : Int32) (x9 : Int32) (x10 : Int32) (Q : Int32 → St → Prop) (K38 : St → Int32 → Prop) (K55 : St → Int32 → Prop) (K73 : St → Int32 → Prop) (σ : St) (x11 : Int32) : Prop :=
  ((x10 < x11 → K55 σ (x10 + 1)) ∧ (¬ x10 < x11 → (shX.2 (Int32.toNatClampNeg (σ.1 36)) = (2, 13) ∧ (vp_in x11 13 ∧ (((gI σ (Int32.toNatClampNeg (σ.1 36)) x11) = x7 → K73 σ (x11 + 1)) ∧ (¬ (gI σ (Int32.toNatClampNeg (σ.1 36)) x11) = x7 → (shX.2 (Int32.toNatClampNeg (σ.1 37)) = (2, 13) ∧ (vp_in x10 13 ∧ (x_partOf σ x4 x1 x9 x11 x10 (fun r125 => ((43 ≤ x6 ∧ x6 ≤ 50) ∧ ((43 ≤ x5 ∧ x5 ≤ 50) ∧ (∀ s140 : St, s140 = s_A σ (Int32.toNatClampNeg (σ.1 37)) (Int32.toNatClampNeg x10) (fx_join x5 (gI σ (Int32.toNatClampNeg (σ.1 37)) x10) (fx_join x6 (gI σ (Int32.toNatClampNeg (σ.1 36)) x11) r125)) → K73 s140 (x11 + 1))))))))))))))
def x_folds_p55 (x1 : Int32) (x2 : Int32) (x3 : Int32) (x4 : Nat) (x5 : Nat) (x6 : Nat) (x7 : Int32) (x9 : Int32) (Q : Int32 → St → Prop) (K38 : St → Int32 → Prop) (K55 : St → Int32 → Prop) (σ : St) (x10 : Int32) : Prop :=
  ((x3 < x10 → (∀ s164 : St, s164 = s_I σ 36 (σ.1 37) → (∀ s170 : St, s170 = s_I s164 37 (σ.1 36) → K38 s170 (x9 + 1)))) ∧ (¬ x3 < x10 → (shX.2 (Int32.toNatClampNeg (σ.1 37)) = (2, 13) ∧ (vp_in x10 13 ∧ (∀ s69 : St, s69 = s_A σ (Int32.toNatClampNeg (σ.1 37)) (Int32.toNatClampNeg x10) x7 → (Lp2 (x_folds_p73 x1 x2 x3 x4 x5 x6 x7 x9 x10 Q K38 K55) s69 x2))))))
def x_folds_p38 (x1 : Int32) (x2 : Int32) (x3 : Int32) (x4 : Nat) (x5 : Nat) (x6 : Nat) (x7 : Int32) (Q : Int32 → St → Prop) (K38 : St → Int32 → Prop) (σ : St) (x9 : Int32) : Prop :=
  (vp_in x1 12 ∧ (((gI σ 84 x1) ≤ x9 → (shX.2 (Int32.toNatClampNeg (σ.1 36)) = (2, 13) ∧ (vp_in x3 13 ∧ Q (gI σ (Int32.toNatClampNeg (σ.1 36)) x3) σ))) ∧ (¬ (gI σ 84 x1) ≤ x9 → (Lp2 (x_folds_p55 x1 x2 x3 x4 x5 x6 x7 x9 Q K38) σ x2))))
def x_folds_p28 (σ : St) (x1 : Int32) (x2 : Int32) (x3 : Int32) (x4 : Nat) (x5 : Nat) (x6 : Nat) (x7 : Int32) (x8 : Int32) (x9 : Int32) (Q : Int32 → St → Prop) (K3 : St → Int32 → Prop) (v0 : Int32) (v1 : Int32) : Prop :=
  (shX.2 (Int32.toNatClampNeg (σ.1 36)) = (2, 13) ∧ (vp_in v1 13 ∧ (∀ s28 : St, s28 = s_A σ (Int32.toNatClampNeg (σ.1 36)) (Int32.toNatClampNeg v1) v0 → K3 s28 (x9 + 1))))
def x_folds_p3 (x1 : Int32) (x2 : Int32) (x3 : Int32) (x4 : Nat) (x5 : Nat) (x6 : Nat) (x7 : Int32) (x8 : Int32) (Q : Int32 → St → Prop) (K3 : St → Int32 → Prop) (σ : St) (x9 : Int32) : Prop :=
  ((x3 < x9 → (Lp2 (x_folds_p38 x1 x2 x3 x4 x5 x6 x7 Q) σ 0)) ∧ (¬ x3 < x9 → ((x9 = x2 → (x_folds_p28 σ x1 x2 x3 x4 x5 x6 x7 x8 x9 Q K3 x8 x9)) ∧ (¬ x9 = x2 → (x_folds_p28 σ x1 x2 x3 x4 x5 x6 x7 x8 x9 Q K3 x7 x9)))))
def x_folds (σ : St) (x1 : Int32) (x2 : Int32) (x3 : Int32) (x4 : Nat ) (x5 : Nat ) (x6 : Nat ) (x7 : Int32) (x8 : Int32) (Q : Int32 → St → Prop) : Prop :=
  (Lp2 (x_folds_p3 x1 x2 x3 x4 x5 x6 x7 x8 Q) σ x2)
abbrev rm_x_folds : Room := { frames := 7, cells := 0, slots := 0, locals := 265 }
set_option maxHeartbeats 4000000 in
theorem met_x_folds (l : Launch) (D : va_G) (ct : Ct) (ad : Nat → Nat) (hJ : gJ shX ad ct) (σ : St) (x1 : Int32) (x2 : Int32) (x3 : Int32) (x4 : Nat ) (x5 : Nat ) (x6 : Nat ) (x7 : Int32) (x8 : Int32) (Q : Int32 → St → Prop) (hf : x_folds σ x1 x2 x3 x4 x5 x6 x7 x8 Q) : Met l yX0_folds (ws_ yX0_folds cX0_folds 12 (some .int)) rm_x_folds (va_Pc [.ref (ad 0), .int x1, .int x2, .int x3, .ref (ad x4), .ref (ad x5), .ref (ad x6), .int x7, .int x8] (gP D ct shX ad σ)) (gQ rvI D ct shX ad Q) 0 0 (gA shX ad) := by
  refine g_metI hJ (by decide) (Nat.le_of_ble_eq_true rfl) ?_
  intro p e s m args below meth c QQ ls C hw hl hret
  replace hl : lv_has ls 12 [(0, .ref (ad 0)), (1, .int x1), (2, .int x2), (3, .int x3), (4, .ref (ad x4)), (5, .ref (ad x5)), (6, .ref (ad x6)), (7, .int x7), (8, .int x8)] := hl
  have B73 : ∀ (x1 : Int32) (x2 : Int32) (x3 : Int32) (x4 : Nat) (x5 : Nat) (x6 : Nat) (x7 : Int32) (x9 : Int32) (x10 : Int32) (K38 : St → Int32 → Prop) (_ : ∀ (σ : St) (H : Heap) (locs : List Loc) (x9 : Int32) (ls : Array Slot), K38 σ x9 → gH D ct shX ad s σ H locs → lv_has ls 12 [(0, .ref (ad 0)), (1, .int x1), (2, .int x2), (3, .int x3), (4, .ref (ad x4)), (5, .ref (ad x5)), (6, .ref (ad x6)), (7, .int x7), (9, .int x9)] → W p l e rm_x_folds s m args below meth c H locs 0 0 QQ (F0 m 38 ls [])) (K55 : St → Int32 → Prop) (_ : ∀ (σ : St) (H : Heap) (locs : List Loc) (x10 : Int32) (ls : Array Slot), K55 σ x10 → gH D ct shX ad s σ H locs → lv_has ls 12 [(0, .ref (ad 0)), (1, .int x1), (2, .int x2), (3, .int x3), (4, .ref (ad x4)), (5, .ref (ad x5)), (6, .ref (ad x6)), (7, .int x7), (9, .int x9), (10, .int x10)] → W p l e rm_x_folds s m args below meth c H locs 0 0 QQ (F0 m 55 ls [])) (K73 : St → Int32 → Prop) (_ : ∀ (σ : St) (H : Heap) (locs : List Loc) (x11 : Int32) (ls : Array Slot), K73 σ x11 → gH D ct shX ad s σ H locs → lv_has ls 12 [(0, .ref (ad 0)), (1, .int x1), (2, .int x2), (3, .int x3), (4, .ref (ad x4)), (5, .ref (ad x5)), (6, .ref (ad x6)), (7, .int x7), (9, .int x9), (10, .int x10), (11, .int x11)] → W p l e rm_x_folds s m args below meth c H locs 0 0 QQ (F0 m 73 ls [])) (σ : St) (H : Heap) (locs : List Loc) (x11 : Int32) (ls : Array Slot), x_folds_p73 x1 x2 x3 x4 x5 x6 x7 x9 x10 Q K38 K55 K73 σ x11 → gH D ct shX ad s σ H locs → lv_has ls 12 [(0, .ref (ad 0)), (1, .int x1), (2, .int x2), (3, .int x3), (4, .ref (ad x4)), (5, .ref (ad x5)), (6, .ref (ad x6)), (7, .int x7), (9, .int x9), (10, .int x10), (11, .int x11)] → W p l e rm_x_folds s m args below meth c H locs 0 0 QQ (F0 m 73 ls []) := by
    intro x1 x2 x3 x4 x5 x6 x7 x9 x10 K38 hK38 K55 hK55 K73 hK73 σ H locs x11 ls hf hw hl
    unfold x_folds_p73 at hf
    refine lv_iload C.1 C.2.1 dX0_folds_73 (lv_at hl 10 rfl) ?_
    refine lv_iload C.1 C.2.1 dX0_folds_75 (lv_at hl 9 rfl) ?_
    refine lv_icmp_gt (tgt := 147) C.1 C.2.1 dX0_folds_77 (by decide) (fun h77 => ?_) (fun h77 => ?_)
    · replace hf := hf.1 h77
      refine lv_iinc (v := (x10 + 1)) (lv' := [(10, .int (x10 + 1)), (0, .ref (ad 0)), (1, .int x1), (2, .int x2), (3, .int x3), (4, .ref (ad x4)), (5, .ref (ad x5)), (6, .ref (ad x6)), (7, .int x7), (9, .int x9), (11, .int x11)]) C.1 C.2.1 dX0_folds_147 hl (k := 9) rfl rfl (Nat.le_of_ble_eq_true rfl) rfl (fun ls hl => ?_)
      refine lv_goto (tgt := 55) C.1 C.2.1 dX0_folds_150 (by decide) ?_
      exact hK55 _ _ _ _ _ hf hw (lv_sub hl [1, 2, 3, 4, 5, 6, 7, 8, 9, 0] rfl)
    · replace hf := hf.2 h77
      refine lv_aload_n C.1 C.2.1 dX0_folds_80 rfl (lv_at hl 0 rfl) ?_
      refine xg_row C hw dX0_folds_81 ?_
      refine lv_iload C.1 C.2.1 dX0_folds_84 (lv_at hl 10 rfl) ?_
      obtain ⟨k86, hf⟩ := hf
      obtain ⟨b86, hf⟩ := hf
      refine g_iald C hw (Int32.toNatClampNeg (σ.1 36)) k86 b86 dX0_folds_86 ?_
      refine lv_iload C.1 C.2.1 dX0_folds_87 (lv_at hl 7 rfl) ?_
      refine lv_icmp_eq (tgt := 141) C.1 C.2.1 dX0_folds_89 (by decide) (fun h89 => ?_) (fun h89 => ?_)
      · replace hf := hf.1 h89
        refine lv_iinc (v := (x11 + 1)) (lv' := [(11, .int (x11 + 1)), (0, .ref (ad 0)), (1, .int x1), (2, .int x2), (3, .int x3), (4, .ref (ad x4)), (5, .ref (ad x5)), (6, .ref (ad x6)), (7, .int x7), (9, .int x9), (10, .int x10)]) C.1 C.2.1 dX0_folds_141 hl (k := 10) rfl rfl (Nat.le_of_ble_eq_true rfl) rfl (fun ls hl => ?_)
        refine lv_goto (tgt := 73) C.1 C.2.1 dX0_folds_144 (by decide) ?_
        exact hK73 _ _ _ _ _ hf hw (lv_sub hl [1, 2, 3, 4, 5, 6, 7, 8, 9, 10, 0] rfl)
      · replace hf := hf.2 h89
        refine lv_aload_n C.1 C.2.1 dX0_folds_92 rfl (lv_at hl 0 rfl) ?_
        refine xg_rowThen C hw dX0_folds_93 ?_
        refine lv_iload C.1 C.2.1 dX0_folds_96 (lv_at hl 9 rfl) ?_
        refine lv_aload C.1 C.2.1 dX0_folds_98 (lv_at hl 5 rfl) ?_
        refine lv_aload_n C.1 C.2.1 dX0_folds_100 rfl (lv_at hl 0 rfl) ?_
        refine xg_rowThen C hw dX0_folds_101 ?_
        refine lv_iload C.1 C.2.1 dX0_folds_104 (lv_at hl 9 rfl) ?_
        obtain ⟨k106, hf⟩ := hf
        obtain ⟨b106, hf⟩ := hf
        refine g_iald C hw (Int32.toNatClampNeg (σ.1 37)) k106 b106 dX0_folds_106 ?_
        refine lv_aload C.1 C.2.1 dX0_folds_107 (lv_at hl 6 rfl) ?_
        refine lv_aload_n C.1 C.2.1 dX0_folds_109 rfl (lv_at hl 0 rfl) ?_
        refine xg_row C hw dX0_folds_110 ?_
        refine lv_iload C.1 C.2.1 dX0_folds_113 (lv_at hl 10 rfl) ?_
        refine g_iald C hw (Int32.toNatClampNeg (σ.1 36)) k86 b86 dX0_folds_115 ?_
        refine lv_aload C.1 C.2.1 dX0_folds_116 (lv_at hl 4 rfl) ?_
        refine lv_iload_n C.1 C.2.1 dX0_folds_118 rfl (lv_at hl 1 rfl) ?_
        refine lv_iload C.1 C.2.1 dX0_folds_119 (lv_at hl 8 rfl) ?_
        refine lv_iload C.1 C.2.1 dX0_folds_121 (lv_at hl 10 rfl) ?_
        refine lv_iload C.1 C.2.1 dX0_folds_123 (lv_at hl 9 rfl) ?_
        refine kx_partOf C hw hl.1 (Nat.le_of_ble_eq_true rfl) ⟨Nat.le_of_ble_eq_true rfl, Nat.le_of_ble_eq_true rfl⟩ dX0_folds_125 hf (fun r125 hf => ?_)
        obtain ⟨j130, hf⟩ := hf
        refine kx_join C hw hl.1 (Nat.le_of_ble_eq_true rfl) ⟨Nat.le_of_ble_eq_true rfl, Nat.le_of_ble_eq_true rfl⟩ j130 dX0_folds_130 ?_
        obtain ⟨j135, hf⟩ := hf
        refine kx_join C hw hl.1 (Nat.le_of_ble_eq_true rfl) ⟨Nat.le_of_ble_eq_true rfl, Nat.le_of_ble_eq_true rfl⟩ j135 dX0_folds_135 ?_
        refine g_iast C shX_sep hw (Int32.toNatClampNeg (σ.1 37)) k106 b106 dX0_folds_140 (fun s140 H locs e140 hw => ?_)
        replace hf := hf s140 e140
        refine lv_iinc (v := (x11 + 1)) (lv' := [(11, .int (x11 + 1)), (0, .ref (ad 0)), (1, .int x1), (2, .int x2), (3, .int x3), (4, .ref (ad x4)), (5, .ref (ad x5)), (6, .ref (ad x6)), (7, .int x7), (9, .int x9), (10, .int x10)]) C.1 C.2.1 dX0_folds_141 hl (k := 10) rfl rfl (Nat.le_of_ble_eq_true rfl) rfl (fun ls hl => ?_)
        refine lv_goto (tgt := 73) C.1 C.2.1 dX0_folds_144 (by decide) ?_
        exact hK73 _ _ _ _ _ hf hw (lv_sub hl [1, 2, 3, 4, 5, 6, 7, 8, 9, 10, 0] rfl)
  have P73 : ∀ (x1 : Int32) (x2 : Int32) (x3 : Int32) (x4 : Nat) (x5 : Nat) (x6 : Nat) (x7 : Int32) (x9 : Int32) (x10 : Int32) (K38 : St → Int32 → Prop) (_ : ∀ (σ : St) (H : Heap) (locs : List Loc) (x9 : Int32) (ls : Array Slot), K38 σ x9 → gH D ct shX ad s σ H locs → lv_has ls 12 [(0, .ref (ad 0)), (1, .int x1), (2, .int x2), (3, .int x3), (4, .ref (ad x4)), (5, .ref (ad x5)), (6, .ref (ad x6)), (7, .int x7), (9, .int x9)] → W p l e rm_x_folds s m args below meth c H locs 0 0 QQ (F0 m 38 ls [])) (K55 : St → Int32 → Prop) (_ : ∀ (σ : St) (H : Heap) (locs : List Loc) (x10 : Int32) (ls : Array Slot), K55 σ x10 → gH D ct shX ad s σ H locs → lv_has ls 12 [(0, .ref (ad 0)), (1, .int x1), (2, .int x2), (3, .int x3), (4, .ref (ad x4)), (5, .ref (ad x5)), (6, .ref (ad x6)), (7, .int x7), (9, .int x9), (10, .int x10)] → W p l e rm_x_folds s m args below meth c H locs 0 0 QQ (F0 m 55 ls [])) (n : Nat) (σ : St) (x11 : Int32) (ls : Array Slot) (H : Heap) (locs : List Loc), LL2 (x_folds_p73 x1 x2 x3 x4 x5 x6 x7 x9 x10 Q K38 K55) n σ x11 → gH D ct shX ad s σ H locs → lv_has ls 12 [(0, .ref (ad 0)), (1, .int x1), (2, .int x2), (3, .int x3), (4, .ref (ad x4)), (5, .ref (ad x5)), (6, .ref (ad x6)), (7, .int x7), (9, .int x9), (10, .int x10), (11, .int x11)] → W p l e rm_x_folds s m args below meth c H locs 0 0 QQ (F0 m 73 ls []) := by
    intro x1 x2 x3 x4 x5 x6 x7 x9 x10 K38 hK38 K55 hK55 n
    induction n with
    | zero => intro σ x11 ls H locs hf; exact False.elim hf
    | succ n ih => intro σ x11 ls H locs hf hw hl; exact B73 x1 x2 x3 x4 x5 x6 x7 x9 x10 K38 hK38 K55 hK55 (LL2 _ n) (fun σ H locs x11 ls hf hw hl => ih σ x11 ls H locs hf hw hl) σ H locs x11 ls hf hw hl
  have B55 : ∀ (x1 : Int32) (x2 : Int32) (x3 : Int32) (x4 : Nat) (x5 : Nat) (x6 : Nat) (x7 : Int32) (x9 : Int32) (K38 : St → Int32 → Prop) (_ : ∀ (σ : St) (H : Heap) (locs : List Loc) (x9 : Int32) (ls : Array Slot), K38 σ x9 → gH D ct shX ad s σ H locs → lv_has ls 12 [(0, .ref (ad 0)), (1, .int x1), (2, .int x2), (3, .int x3), (4, .ref (ad x4)), (5, .ref (ad x5)), (6, .ref (ad x6)), (7, .int x7), (9, .int x9)] → W p l e rm_x_folds s m args below meth c H locs 0 0 QQ (F0 m 38 ls [])) (K55 : St → Int32 → Prop) (_ : ∀ (σ : St) (H : Heap) (locs : List Loc) (x10 : Int32) (ls : Array Slot), K55 σ x10 → gH D ct shX ad s σ H locs → lv_has ls 12 [(0, .ref (ad 0)), (1, .int x1), (2, .int x2), (3, .int x3), (4, .ref (ad x4)), (5, .ref (ad x5)), (6, .ref (ad x6)), (7, .int x7), (9, .int x9), (10, .int x10)] → W p l e rm_x_folds s m args below meth c H locs 0 0 QQ (F0 m 55 ls [])) (σ : St) (H : Heap) (locs : List Loc) (x10 : Int32) (ls : Array Slot), x_folds_p55 x1 x2 x3 x4 x5 x6 x7 x9 Q K38 K55 σ x10 → gH D ct shX ad s σ H locs → lv_has ls 12 [(0, .ref (ad 0)), (1, .int x1), (2, .int x2), (3, .int x3), (4, .ref (ad x4)), (5, .ref (ad x5)), (6, .ref (ad x6)), (7, .int x7), (9, .int x9), (10, .int x10)] → W p l e rm_x_folds s m args below meth c H locs 0 0 QQ (F0 m 55 ls []) := by
    intro x1 x2 x3 x4 x5 x6 x7 x9 K38 hK38 K55 hK55 σ H locs x10 ls hf hw hl
    unfold x_folds_p55 at hf
    refine lv_iload C.1 C.2.1 dX0_folds_55 (lv_at hl 9 rfl) ?_
    refine lv_iload_n C.1 C.2.1 dX0_folds_57 rfl (lv_at hl 3 rfl) ?_
    refine lv_icmp_gt (tgt := 153) C.1 C.2.1 dX0_folds_58 (by decide) (fun h58 => ?_) (fun h58 => ?_)
    · replace hf := hf.1 h58
      refine lv_aload_n C.1 C.2.1 dX0_folds_153 rfl (lv_at hl 0 rfl) ?_
      refine xg_row C hw dX0_folds_154 ?_
      refine lv_astore (lv' := [(10, .ref (ad (Int32.toNatClampNeg (σ.1 36)))), (0, .ref (ad 0)), (1, .int x1), (2, .int x2), (3, .int x3), (4, .ref (ad x4)), (5, .ref (ad x5)), (6, .ref (ad x6)), (7, .int x7), (9, .int x9)]) C.1 C.2.1 dX0_folds_157 hl (Nat.le_of_ble_eq_true rfl) rfl (fun ls hl => ?_)
      refine lv_aload_n C.1 C.2.1 dX0_folds_159 rfl (lv_at hl 1 rfl) ?_
      refine lv_aload_n C.1 C.2.1 dX0_folds_160 rfl (lv_at hl 1 rfl) ?_
      refine xg_rowThen C hw dX0_folds_161 ?_
      refine xp_row C hw dX0_folds_164 (fun s164 H locs e164 hw => ?_)
      replace hf := hf s164 e164
      refine lv_aload_n C.1 C.2.1 dX0_folds_167 rfl (lv_at hl 1 rfl) ?_
      refine lv_aload C.1 C.2.1 dX0_folds_168 (lv_at hl 0 rfl) ?_
      refine xp_rowThen C hw dX0_folds_170 (fun s170 H locs e170 hw => ?_)
      replace hf := hf s170 e170
      refine lv_iinc (v := (x9 + 1)) (lv' := [(9, .int (x9 + 1)), (10, .ref (ad (Int32.toNatClampNeg (σ.1 36)))), (0, .ref (ad 0)), (1, .int x1), (2, .int x2), (3, .int x3), (4, .ref (ad x4)), (5, .ref (ad x5)), (6, .ref (ad x6)), (7, .int x7)]) C.1 C.2.1 dX0_folds_173 hl (k := 9) rfl rfl (Nat.le_of_ble_eq_true rfl) rfl (fun ls hl => ?_)
      refine lv_goto (tgt := 38) C.1 C.2.1 dX0_folds_176 (by decide) ?_
      exact hK38 _ _ _ _ _ hf hw (lv_sub hl [2, 3, 4, 5, 6, 7, 8, 9, 0] rfl)
    · replace hf := hf.2 h58
      refine lv_aload_n C.1 C.2.1 dX0_folds_61 rfl (lv_at hl 0 rfl) ?_
      refine xg_rowThen C hw dX0_folds_62 ?_
      refine lv_iload C.1 C.2.1 dX0_folds_65 (lv_at hl 9 rfl) ?_
      refine lv_iload C.1 C.2.1 dX0_folds_67 (lv_at hl 7 rfl) ?_
      obtain ⟨k69, hf⟩ := hf
      obtain ⟨b69, hf⟩ := hf
      refine g_iast C shX_sep hw (Int32.toNatClampNeg (σ.1 37)) k69 b69 dX0_folds_69 (fun s69 H locs e69 hw => ?_)
      replace hf := hf s69 e69
      refine lv_iload_n C.1 C.2.1 dX0_folds_70 rfl (lv_at hl 2 rfl) ?_
      refine lv_istore (lv' := [(11, .int x2), (0, .ref (ad 0)), (1, .int x1), (2, .int x2), (3, .int x3), (4, .ref (ad x4)), (5, .ref (ad x5)), (6, .ref (ad x6)), (7, .int x7), (9, .int x9), (10, .int x10)]) C.1 C.2.1 dX0_folds_71 hl (Nat.le_of_ble_eq_true rfl) rfl (fun ls hl => ?_)
      obtain ⟨n, hf⟩ := hf
      exact P73 _ _ _ _ _ _ _ _ _ _ hK38 _ hK55 n _ _ _ _ _ hf hw (lv_sub hl [1, 2, 3, 4, 5, 6, 7, 8, 9, 10, 0] rfl)
  have P55 : ∀ (x1 : Int32) (x2 : Int32) (x3 : Int32) (x4 : Nat) (x5 : Nat) (x6 : Nat) (x7 : Int32) (x9 : Int32) (K38 : St → Int32 → Prop) (_ : ∀ (σ : St) (H : Heap) (locs : List Loc) (x9 : Int32) (ls : Array Slot), K38 σ x9 → gH D ct shX ad s σ H locs → lv_has ls 12 [(0, .ref (ad 0)), (1, .int x1), (2, .int x2), (3, .int x3), (4, .ref (ad x4)), (5, .ref (ad x5)), (6, .ref (ad x6)), (7, .int x7), (9, .int x9)] → W p l e rm_x_folds s m args below meth c H locs 0 0 QQ (F0 m 38 ls [])) (n : Nat) (σ : St) (x10 : Int32) (ls : Array Slot) (H : Heap) (locs : List Loc), LL2 (x_folds_p55 x1 x2 x3 x4 x5 x6 x7 x9 Q K38) n σ x10 → gH D ct shX ad s σ H locs → lv_has ls 12 [(0, .ref (ad 0)), (1, .int x1), (2, .int x2), (3, .int x3), (4, .ref (ad x4)), (5, .ref (ad x5)), (6, .ref (ad x6)), (7, .int x7), (9, .int x9), (10, .int x10)] → W p l e rm_x_folds s m args below meth c H locs 0 0 QQ (F0 m 55 ls []) := by
    intro x1 x2 x3 x4 x5 x6 x7 x9 K38 hK38 n
    induction n with
    | zero => intro σ x10 ls H locs hf; exact False.elim hf
    | succ n ih => intro σ x10 ls H locs hf hw hl; exact B55 x1 x2 x3 x4 x5 x6 x7 x9 K38 hK38 (LL2 _ n) (fun σ H locs x10 ls hf hw hl => ih σ x10 ls H locs hf hw hl) σ H locs x10 ls hf hw hl
  have B38 : ∀ (x1 : Int32) (x2 : Int32) (x3 : Int32) (x4 : Nat) (x5 : Nat) (x6 : Nat) (x7 : Int32) (K38 : St → Int32 → Prop) (_ : ∀ (σ : St) (H : Heap) (locs : List Loc) (x9 : Int32) (ls : Array Slot), K38 σ x9 → gH D ct shX ad s σ H locs → lv_has ls 12 [(0, .ref (ad 0)), (1, .int x1), (2, .int x2), (3, .int x3), (4, .ref (ad x4)), (5, .ref (ad x5)), (6, .ref (ad x6)), (7, .int x7), (9, .int x9)] → W p l e rm_x_folds s m args below meth c H locs 0 0 QQ (F0 m 38 ls [])) (σ : St) (H : Heap) (locs : List Loc) (x9 : Int32) (ls : Array Slot), x_folds_p38 x1 x2 x3 x4 x5 x6 x7 Q K38 σ x9 → gH D ct shX ad s σ H locs → lv_has ls 12 [(0, .ref (ad 0)), (1, .int x1), (2, .int x2), (3, .int x3), (4, .ref (ad x4)), (5, .ref (ad x5)), (6, .ref (ad x6)), (7, .int x7), (9, .int x9)] → W p l e rm_x_folds s m args below meth c H locs 0 0 QQ (F0 m 38 ls []) := by
    intro x1 x2 x3 x4 x5 x6 x7 K38 hK38 σ H locs x9 ls hf hw hl
    unfold x_folds_p38 at hf
    refine lv_iload C.1 C.2.1 dX0_folds_38 (lv_at hl 8 rfl) ?_
    refine lv_aload_n C.1 C.2.1 dX0_folds_40 rfl (lv_at hl 0 rfl) ?_
    refine xg_grammar C hw dX0_folds_41 ?_
    refine xn_size C hw dX0_folds_44 ?_
    refine lv_iload_n C.1 C.2.1 dX0_folds_47 rfl (lv_at hl 1 rfl) ?_
    obtain ⟨b48, hf⟩ := hf
    refine g_iald C hw 84 rfl b48 dX0_folds_48 ?_
    refine lv_icmp_ge (tgt := 179) C.1 C.2.1 dX0_folds_49 (by decide) (fun h49 => ?_) (fun h49 => ?_)
    · replace hf := hf.1 h49
      refine lv_aload_n C.1 C.2.1 dX0_folds_179 rfl (lv_at hl 0 rfl) ?_
      refine xg_row C hw dX0_folds_180 ?_
      refine lv_iload_n C.1 C.2.1 dX0_folds_183 rfl (lv_at hl 3 rfl) ?_
      obtain ⟨k184, hf⟩ := hf
      obtain ⟨b184, hf⟩ := hf
      refine g_iald C hw (Int32.toNatClampNeg (σ.1 36)) k184 b184 dX0_folds_184 ?_
      exact hret _ _ _ _ _ _ hf hw dX0_folds_185
    · replace hf := hf.2 h49
      refine lv_iload_n C.1 C.2.1 dX0_folds_52 rfl (lv_at hl 2 rfl) ?_
      refine lv_istore (lv' := [(10, .int x2), (0, .ref (ad 0)), (1, .int x1), (2, .int x2), (3, .int x3), (4, .ref (ad x4)), (5, .ref (ad x5)), (6, .ref (ad x6)), (7, .int x7), (9, .int x9)]) C.1 C.2.1 dX0_folds_53 hl (Nat.le_of_ble_eq_true rfl) rfl (fun ls hl => ?_)
      obtain ⟨n, hf⟩ := hf
      exact P55 _ _ _ _ _ _ _ _ _ hK38 n _ _ _ _ _ hf hw (lv_sub hl [1, 2, 3, 4, 5, 6, 7, 8, 9, 0] rfl)
  have P38 : ∀ (x1 : Int32) (x2 : Int32) (x3 : Int32) (x4 : Nat) (x5 : Nat) (x6 : Nat) (x7 : Int32) (n : Nat) (σ : St) (x9 : Int32) (ls : Array Slot) (H : Heap) (locs : List Loc), LL2 (x_folds_p38 x1 x2 x3 x4 x5 x6 x7 Q) n σ x9 → gH D ct shX ad s σ H locs → lv_has ls 12 [(0, .ref (ad 0)), (1, .int x1), (2, .int x2), (3, .int x3), (4, .ref (ad x4)), (5, .ref (ad x5)), (6, .ref (ad x6)), (7, .int x7), (9, .int x9)] → W p l e rm_x_folds s m args below meth c H locs 0 0 QQ (F0 m 38 ls []) := by
    intro x1 x2 x3 x4 x5 x6 x7 n
    induction n with
    | zero => intro σ x9 ls H locs hf; exact False.elim hf
    | succ n ih => intro σ x9 ls H locs hf hw hl; exact B38 x1 x2 x3 x4 x5 x6 x7 (LL2 _ n) (fun σ H locs x9 ls hf hw hl => ih σ x9 ls H locs hf hw hl) σ H locs x9 ls hf hw hl
  have J28 : ∀ (σ : St) (H : Heap) (locs : List Loc) (x1 : Int32) (x2 : Int32) (x3 : Int32) (x4 : Nat) (x5 : Nat) (x6 : Nat) (x7 : Int32) (x8 : Int32) (x9 : Int32) (v0 : Int32) (v1 : Int32) (K3 : St → Int32 → Prop) (_ : ∀ (σ : St) (H : Heap) (locs : List Loc) (x9 : Int32) (ls : Array Slot), K3 σ x9 → gH D ct shX ad s σ H locs → lv_has ls 12 [(0, .ref (ad 0)), (1, .int x1), (2, .int x2), (3, .int x3), (4, .ref (ad x4)), (5, .ref (ad x5)), (6, .ref (ad x6)), (7, .int x7), (8, .int x8), (9, .int x9)] → W p l e rm_x_folds s m args below meth c H locs 0 0 QQ (F0 m 3 ls [])) (ls : Array Slot), x_folds_p28 σ x1 x2 x3 x4 x5 x6 x7 x8 x9 Q K3 v0 v1 → gH D ct shX ad s σ H locs → lv_has ls 12 [(0, .ref (ad 0)), (1, .int x1), (2, .int x2), (3, .int x3), (4, .ref (ad x4)), (5, .ref (ad x5)), (6, .ref (ad x6)), (7, .int x7), (8, .int x8), (9, .int x9)] → W p l e rm_x_folds s m args below meth c H locs 0 0 QQ (F0 m 28 ls [.int v0, .int v1, .ref (ad (Int32.toNatClampNeg (σ.1 36)))]) := by
    intro σ H locs x1 x2 x3 x4 x5 x6 x7 x8 x9 v0 v1 K3 hK3 ls hf hw hl
    unfold x_folds_p28 at hf
    obtain ⟨k28, hf⟩ := hf
    obtain ⟨b28, hf⟩ := hf
    refine g_iast C shX_sep hw (Int32.toNatClampNeg (σ.1 36)) k28 b28 dX0_folds_28 (fun s28 H locs e28 hw => ?_)
    replace hf := hf s28 e28
    refine lv_iinc (v := (x9 + 1)) (lv' := [(9, .int (x9 + 1)), (0, .ref (ad 0)), (1, .int x1), (2, .int x2), (3, .int x3), (4, .ref (ad x4)), (5, .ref (ad x5)), (6, .ref (ad x6)), (7, .int x7), (8, .int x8)]) C.1 C.2.1 dX0_folds_29 hl (k := 9) rfl rfl (Nat.le_of_ble_eq_true rfl) rfl (fun ls hl => ?_)
    refine lv_goto (tgt := 3) C.1 C.2.1 dX0_folds_32 (by decide) ?_
    exact hK3 _ _ _ _ _ hf hw (lv_sub hl [1, 2, 3, 4, 5, 6, 7, 8, 9, 0] rfl)
  have B3 : ∀ (x1 : Int32) (x2 : Int32) (x3 : Int32) (x4 : Nat) (x5 : Nat) (x6 : Nat) (x7 : Int32) (x8 : Int32) (K3 : St → Int32 → Prop) (_ : ∀ (σ : St) (H : Heap) (locs : List Loc) (x9 : Int32) (ls : Array Slot), K3 σ x9 → gH D ct shX ad s σ H locs → lv_has ls 12 [(0, .ref (ad 0)), (1, .int x1), (2, .int x2), (3, .int x3), (4, .ref (ad x4)), (5, .ref (ad x5)), (6, .ref (ad x6)), (7, .int x7), (8, .int x8), (9, .int x9)] → W p l e rm_x_folds s m args below meth c H locs 0 0 QQ (F0 m 3 ls [])) (σ : St) (H : Heap) (locs : List Loc) (x9 : Int32) (ls : Array Slot), x_folds_p3 x1 x2 x3 x4 x5 x6 x7 x8 Q K3 σ x9 → gH D ct shX ad s σ H locs → lv_has ls 12 [(0, .ref (ad 0)), (1, .int x1), (2, .int x2), (3, .int x3), (4, .ref (ad x4)), (5, .ref (ad x5)), (6, .ref (ad x6)), (7, .int x7), (8, .int x8), (9, .int x9)] → W p l e rm_x_folds s m args below meth c H locs 0 0 QQ (F0 m 3 ls []) := by
    intro x1 x2 x3 x4 x5 x6 x7 x8 K3 hK3 σ H locs x9 ls hf hw hl
    unfold x_folds_p3 at hf
    refine lv_iload C.1 C.2.1 dX0_folds_3 (lv_at hl 9 rfl) ?_
    refine lv_iload_n C.1 C.2.1 dX0_folds_5 rfl (lv_at hl 3 rfl) ?_
    refine lv_icmp_gt (tgt := 35) C.1 C.2.1 dX0_folds_6 (by decide) (fun h6 => ?_) (fun h6 => ?_)
    · replace hf := hf.1 h6
      refine lv_iconst (v := 0) C.1 C.2.1 dX0_folds_35 rfl ?_
      refine lv_istore (lv' := [(9, .int 0), (0, .ref (ad 0)), (1, .int x1), (2, .int x2), (3, .int x3), (4, .ref (ad x4)), (5, .ref (ad x5)), (6, .ref (ad x6)), (7, .int x7), (8, .int x8)]) C.1 C.2.1 dX0_folds_36 hl (Nat.le_of_ble_eq_true rfl) rfl (fun ls hl => ?_)
      obtain ⟨n, hf⟩ := hf
      exact P38 _ _ _ _ _ _ _ n _ _ _ _ _ hf hw (lv_sub hl [1, 2, 3, 4, 5, 6, 7, 8, 0] rfl)
    · replace hf := hf.2 h6
      refine lv_aload_n C.1 C.2.1 dX0_folds_9 rfl (lv_at hl 0 rfl) ?_
      refine xg_row C hw dX0_folds_10 ?_
      refine lv_iload C.1 C.2.1 dX0_folds_13 (lv_at hl 9 rfl) ?_
      refine lv_iload C.1 C.2.1 dX0_folds_15 (lv_at hl 9 rfl) ?_
      refine lv_iload_n C.1 C.2.1 dX0_folds_17 rfl (lv_at hl 2 rfl) ?_
      refine lv_icmp_ne (tgt := 26) C.1 C.2.1 dX0_folds_18 (by decide) (fun h18 => ?_) (fun h18 => ?_)
      · replace hf := hf.2 h18
        refine lv_iload C.1 C.2.1 dX0_folds_26 (lv_at hl 7 rfl) ?_
        exact J28 _ _ _ _ _ _ _ _ _ _ _ _ _ _ _ hK3 _ hf hw (lv_sub hl [0, 1, 2, 3, 4, 5, 6, 7, 8, 9] rfl)
      · replace hf := hf.1 h18
        refine lv_iload C.1 C.2.1 dX0_folds_21 (lv_at hl 8 rfl) ?_
        refine lv_goto (tgt := 28) C.1 C.2.1 dX0_folds_23 (by decide) ?_
        exact J28 _ _ _ _ _ _ _ _ _ _ _ _ _ _ _ hK3 _ hf hw (lv_sub hl [0, 1, 2, 3, 4, 5, 6, 7, 8, 9] rfl)
  have P3 : ∀ (x1 : Int32) (x2 : Int32) (x3 : Int32) (x4 : Nat) (x5 : Nat) (x6 : Nat) (x7 : Int32) (x8 : Int32) (n : Nat) (σ : St) (x9 : Int32) (ls : Array Slot) (H : Heap) (locs : List Loc), LL2 (x_folds_p3 x1 x2 x3 x4 x5 x6 x7 x8 Q) n σ x9 → gH D ct shX ad s σ H locs → lv_has ls 12 [(0, .ref (ad 0)), (1, .int x1), (2, .int x2), (3, .int x3), (4, .ref (ad x4)), (5, .ref (ad x5)), (6, .ref (ad x6)), (7, .int x7), (8, .int x8), (9, .int x9)] → W p l e rm_x_folds s m args below meth c H locs 0 0 QQ (F0 m 3 ls []) := by
    intro x1 x2 x3 x4 x5 x6 x7 x8 n
    induction n with
    | zero => intro σ x9 ls H locs hf; exact False.elim hf
    | succ n ih => intro σ x9 ls H locs hf hw hl; exact B3 x1 x2 x3 x4 x5 x6 x7 x8 (LL2 _ n) (fun σ H locs x9 ls hf hw hl => ih σ x9 ls H locs hf hw hl) σ H locs x9 ls hf hw hl
  unfold x_folds at hf
  obtain ⟨H, hH⟩ : ∃ q, q = s.heap := ⟨_, rfl⟩
  obtain ⟨locs, hL⟩ : ∃ q : List Loc, q = [] := ⟨_, rfl⟩
  rw [← hH, ← hL] at hw ⊢
  refine lv_iload_n C.1 C.2.1 dX0_folds_0 rfl (lv_at hl 2 rfl) ?_
  refine lv_istore (lv' := [(9, .int x2), (0, .ref (ad 0)), (1, .int x1), (2, .int x2), (3, .int x3), (4, .ref (ad x4)), (5, .ref (ad x5)), (6, .ref (ad x6)), (7, .int x7), (8, .int x8)]) C.1 C.2.1 dX0_folds_1 hl (Nat.le_of_ble_eq_true rfl) rfl (fun ls hl => ?_)
  obtain ⟨n, hf⟩ := hf
  exact P3 _ _ _ _ _ _ _ _ n _ _ _ _ _ hf hw (lv_sub hl [1, 2, 3, 4, 5, 6, 7, 8, 9, 0] rfl)
theorem kx_folds {p : Program} {l : Launch} {e : Env} {R : Room} {s : State} {m : MethodId} {args : Array Value} {below : List Frame} {meth : Method} {c : Code} {H : Heap} {locs : List Loc} {Z : State → Prop} {cc : ByteArray} {nL pc : Nat} {ls : Array Slot} {rest : List Value} {D : va_G} {ct : Ct} {ad : Nat → Nat} {σ : St} {x1 : Int32} {x2 : Int32} {x3 : Int32} {x4 : Nat } {x5 : Nat } {x6 : Nat } {x7 : Int32} {x8 : Int32} {Qp : Int32 → St → Prop} (C : CallFix p m c cc nL s args lw_all RX0) (hw : gH D ct shX ad s σ H locs) (hsz : ls.size = nL) (hrm : (rest.map fun v => v.category).sum ≤ 8) (hR : rm_x_folds.frames + 1 ≤ R.frames ∧ 8 + (12 + 11) + rm_x_folds.locals ≤ R.locals) (hdg : decode cc pc = .ok (.invokevirtual 558, 3)) (hf : x_folds σ x1 x2 x3 x4 x5 x6 x7 x8 Qp) (kk : ∀ (r : Int32) (σ1 : St) (H1 : Heap) (locs1 : List Loc), Qp r σ1 → gH D ct shX ad s σ1 H1 locs1 → W p l e R s m args below meth c H1 locs1 0 0 Z (F0 m (pc + 3) ls (.int r :: rest))) : W p l e R s m args below meth c H locs 0 0 Z (F0 m pc ls (.int x8 :: .int x7 :: .ref (ad x6) :: .ref (ad x5) :: .ref (ad x4) :: .int x3 :: .int x2 :: .int x1 :: .ref (ad 0) :: rest)) :=
  g_callV (As := [.int x1, .int x2, .int x3, .ref (ad x4), .ref (ad x5), .ref (ad x6), .int x7, .int x8]) (rest := rest) C hw rfl rfl (met_x_folds l D ct ad hw.2.1 σ x1 x2 x3 x4 x5 x6 x7 x8 Qp hf) (cwV 8 C.2.2.2.2 (lw_V q1081 q1083 qs74 q200 q1084) rfl rfl rfl (by decide +kernel) hR) rfl hsz rfl hrm ⟨Nat.zero_le _, Nat.zero_le _⟩ hdg kk
def x_areBare_p3 (σ : St) (x1 : Int32) (x3 : Int32) (x4 : Int32) (Q : Int32 → Prop) (K3 : Int32 → Prop) (x5 : Int32) : Prop :=
  ((x3 ≤ x5 → Q 1) ∧ (¬ x3 ≤ x5 → (x_partLives σ x1 x5 x4 x4 (fun r17 => ((r17 = 0 → Q 0) ∧ (¬ r17 = 0 → K3 (x5 + 1)))))))
def x_areBare (σ : St) (x1 : Int32) (x2 : Int32) (x3 : Int32) (x4 : Int32) (Q : Int32 → Prop) : Prop :=
  (Lp1 (x_areBare_p3 σ x1 x3 x4 Q) x2)
abbrev rm_x_areBare : Room := { frames := 6, cells := 0, slots := 0, locals := 192 }
set_option maxHeartbeats 4000000 in
theorem met_x_areBare (l : Launch) (D : va_G) (ct : Ct) (ad : Nat → Nat) (hJ : gJ shX ad ct) (σ : St) (x1 : Int32) (x2 : Int32) (x3 : Int32) (x4 : Int32) (Q : Int32 → Prop) (hf : x_areBare σ x1 x2 x3 x4 Q) : Met l yX0_areBare (ws_ yX0_areBare cX0_areBare 6 (some .boolean)) rm_x_areBare (va_Pc [.ref (ad 0), .int x1, .int x2, .int x3, .int x4] (gP D ct shX ad σ)) (gR rvI Q) 0 0 (fun _ => False) := by
  refine g_metRZ hJ (by decide) (Nat.le_of_ble_eq_true rfl) ?_
  intro p e s m args below meth c QQ ls H C hw hl hret
  replace hl : lv_has ls 6 [(0, .ref (ad 0)), (1, .int x1), (2, .int x2), (3, .int x3), (4, .int x4)] := hl
  have B3 : ∀ (x1 : Int32) (x3 : Int32) (x4 : Int32) (K3 : Int32 → Prop) (_ : ∀ (x5 : Int32) (ls : Array Slot), K3 x5 → lv_has ls 6 [(0, .ref (ad 0)), (1, .int x1), (3, .int x3), (4, .int x4), (5, .int x5)] → W p l e rm_x_areBare s m args below meth c H [] 0 0 QQ (F0 m 3 ls [])) (x5 : Int32) (ls : Array Slot), x_areBare_p3 σ x1 x3 x4 Q K3 x5 → lv_has ls 6 [(0, .ref (ad 0)), (1, .int x1), (3, .int x3), (4, .int x4), (5, .int x5)] → W p l e rm_x_areBare s m args below meth c H [] 0 0 QQ (F0 m 3 ls []) := by
    intro x1 x3 x4 K3 hK3 x5 ls hf hl
    unfold x_areBare_p3 at hf
    refine lv_iload C.1 C.2.1 dX0_areBare_3 (lv_at hl 4 rfl) ?_
    refine lv_iload_n C.1 C.2.1 dX0_areBare_5 rfl (lv_at hl 2 rfl) ?_
    refine lv_icmp_ge (tgt := 31) C.1 C.2.1 dX0_areBare_6 (by decide) (fun h6 => ?_) (fun h6 => ?_)
    · replace hf := hf.1 h6
      refine lv_iconst (v := 1) C.1 C.2.1 dX0_areBare_31 rfl ?_
      exact hret _ _ _ hf (Or.inr rfl) dX0_areBare_32
    · replace hf := hf.2 h6
      refine lv_aload_n C.1 C.2.1 dX0_areBare_9 rfl (lv_at hl 0 rfl) ?_
      refine lv_iload_n C.1 C.2.1 dX0_areBare_10 rfl (lv_at hl 1 rfl) ?_
      refine lv_iload C.1 C.2.1 dX0_areBare_11 (lv_at hl 4 rfl) ?_
      refine lv_iload C.1 C.2.1 dX0_areBare_13 (lv_at hl 3 rfl) ?_
      refine lv_iload C.1 C.2.1 dX0_areBare_15 (lv_at hl 3 rfl) ?_
      refine kx_partLives C hw hl.1 (Nat.le_of_ble_eq_true rfl) ⟨Nat.le_of_ble_eq_true rfl, Nat.le_of_ble_eq_true rfl⟩ dX0_areBare_17 hf (fun r17 hf => ?_)
      refine lv_if_ne (tgt := 25) C.1 C.2.1 dX0_areBare_20 (by decide) (fun h20 => ?_) (fun h20 => ?_)
      · replace hf := hf.2 h20
        refine lv_iinc (v := (x5 + 1)) (lv' := [(5, .int (x5 + 1)), (0, .ref (ad 0)), (1, .int x1), (3, .int x3), (4, .int x4)]) C.1 C.2.1 dX0_areBare_25 hl (k := 4) rfl rfl (Nat.le_of_ble_eq_true rfl) rfl (fun ls hl => ?_)
        refine lv_goto (tgt := 3) C.1 C.2.1 dX0_areBare_28 (by decide) ?_
        exact hK3 _ _ hf (lv_sub hl [1, 2, 3, 4, 0] rfl)
      · replace hf := hf.1 h20
        refine lv_iconst (v := 0) C.1 C.2.1 dX0_areBare_23 rfl ?_
        exact hret _ _ _ hf (Or.inl rfl) dX0_areBare_24
  have P3 : ∀ (x1 : Int32) (x3 : Int32) (x4 : Int32) (n : Nat) (x5 : Int32) (ls : Array Slot), LL1 (x_areBare_p3 σ x1 x3 x4 Q) n x5 → lv_has ls 6 [(0, .ref (ad 0)), (1, .int x1), (3, .int x3), (4, .int x4), (5, .int x5)] → W p l e rm_x_areBare s m args below meth c H [] 0 0 QQ (F0 m 3 ls []) := by
    intro x1 x3 x4 n
    induction n with
    | zero => intro x5 ls hf; exact False.elim hf
    | succ n ih => intro x5 ls hf hl; exact B3 x1 x3 x4 (LL1 _ n) ih x5 ls hf hl
  unfold x_areBare at hf
  refine lv_iload_n C.1 C.2.1 dX0_areBare_0 rfl (lv_at hl 2 rfl) ?_
  refine lv_istore (lv' := [(5, .int x2), (0, .ref (ad 0)), (1, .int x1), (2, .int x2), (3, .int x3), (4, .int x4)]) C.1 C.2.1 dX0_areBare_1 hl (Nat.le_of_ble_eq_true rfl) rfl (fun ls hl => ?_)
  obtain ⟨n, hf⟩ := hf
  exact P3 _ _ _ n _ _ hf (lv_sub hl [1, 2, 4, 5, 0] rfl)
theorem kx_areBare {p : Program} {l : Launch} {e : Env} {R : Room} {s : State} {m : MethodId} {args : Array Value} {below : List Frame} {meth : Method} {c : Code} {H : Heap} {locs : List Loc} {Z : State → Prop} {cc : ByteArray} {nL pc : Nat} {ls : Array Slot} {rest : List Value} {D : va_G} {ct : Ct} {ad : Nat → Nat} {σ : St} {x1 : Int32} {x2 : Int32} {x3 : Int32} {x4 : Int32} {Qp : Int32 → Prop} (C : CallFix p m c cc nL s args lw_all RX0) (hw : gH D ct shX ad s σ H locs) (hsz : ls.size = nL) (hrm : (rest.map fun v => v.category).sum ≤ 8) (hR : rm_x_areBare.frames + 1 ≤ R.frames ∧ 8 + (6 + 11) + rm_x_areBare.locals ≤ R.locals) (hdg : decode cc pc = .ok (.invokevirtual 565, 3)) (hf : x_areBare σ x1 x2 x3 x4 Qp) (kk : ∀ (r : Int32), Qp r → W p l e R s m args below meth c H locs 0 0 Z (F0 m (pc + 3) ls (.int r :: rest))) : W p l e R s m args below meth c H locs 0 0 Z (F0 m pc ls (.int x4 :: .int x3 :: .int x2 :: .int x1 :: .ref (ad 0) :: rest)) :=
  g_callVR (As := [.int x1, .int x2, .int x3, .int x4]) (rest := rest) C hw rfl rfl (met_x_areBare l D ct ad hw.2.1 σ x1 x2 x3 x4 Qp hf) (cwV 4 C.2.2.2.2 (lw_V q1105 q1107 qs78 q200 q1108) rfl rfl rfl (by decide +kernel) hR) rfl hsz rfl hrm ⟨Nat.zero_le _, Nat.zero_le _⟩ hdg kk
def x_canGoOn_p28 (F : St → Int32 → Int32 → Int32 → Int32 → (Int32 → Prop) → Prop) (σ : St) (x1 : Int32) (x2 : Int32) (x3 : Int32) (x4 : Int32) (Q : Int32 → Prop) (K28 : Int32 → Prop) (x5 : Int32) : Prop :=
  ((x4 < x5 → Q 0) ∧ (¬ x4 < x5 → (x_partLives σ x1 x2 x3 x5 (fun r41 => ((r41 = 1 → (F σ x1 (x2 + 1) x5 x4 (fun r57 => ((r57 = 0 → K28 (x5 + 1)) ∧ (¬ r57 = 0 → Q 1))))) ∧ (¬ r41 = 1 → K28 (x5 + 1)))))))
def x_canGoOn_b (F : St → Int32 → Int32 → Int32 → Int32 → (Int32 → Prop) → Prop) (σ : St) (x1 : Int32) (x2 : Int32) (x3 : Int32) (x4 : Int32) (Q : Int32 → Prop) : Prop :=
  (vp_in x1 12 ∧ ((x2 = (gI σ 84 x1) → ((x3 = x4 → Q 1) ∧ (¬ x3 = x4 → Q 0))) ∧ (¬ x2 = (gI σ 84 x1) → (Lp1 (x_canGoOn_p28 F σ x1 x2 x3 x4 Q) x3))))
def x_canGoOn : Nat → St → Int32 → Int32 → Int32 → Int32 → (Int32 → Prop) → Prop
  | 0 => fun _ _ _ _ _ _ => False
  | d + 1 => x_canGoOn_b (x_canGoOn d)
abbrev rm_x_canGoOn (d : Nat) : Room := { frames := 6 + d, cells := 0, slots := 0, locals := 192 + d * 25 }
theorem kq_x_canGoOn {p : Program} {l : Launch} {e : Env} {R : Room} {s : State} {m : MethodId} {args : Array Value} {below : List Frame} {meth : Method} {c : Code} {H : Heap} {locs : List Loc} {Z : State → Prop} {cc : ByteArray} {nL pc : Nat} {ls : Array Slot} {rest : List Value} {D : va_G} {ct : Ct} {ad : Nat → Nat} {σ : St} {x1 : Int32} {x2 : Int32} {x3 : Int32} {x4 : Int32} {fF lF : Nat} {Qp : Int32 → Prop} (C : CallFix p m c cc nL s args lw_all RX0) (hw : gH D ct shX ad s σ H locs) (hsz : ls.size = nL) (hrm : (rest.map fun v => v.category).sum ≤ 8) (hR : fF + 1 ≤ R.frames ∧ 8 + (6 + 11) + lF ≤ R.locals) (hdg : decode cc pc = .ok (.invokevirtual 596, 3)) (hM : Met l yX0_canGoOn (ws_ yX0_canGoOn cX0_canGoOn 6 (some .boolean)) { frames := fF, cells := 0, slots := 0, locals := lF } (va_Pc [.ref (ad 0), .int x1, .int x2, .int x3, .int x4] (gP D ct shX ad σ)) (gR rvI Qp) 0 0 (fun _ => False)) (kk : ∀ (r : Int32), Qp r → W p l e R s m args below meth c H locs 0 0 Z (F0 m (pc + 3) ls (.int r :: rest))) : W p l e R s m args below meth c H locs 0 0 Z (F0 m pc ls (.int x4 :: .int x3 :: .int x2 :: .int x1 :: .ref (ad 0) :: rest)) :=
  g_callVR (As := [.int x1, .int x2, .int x3, .int x4]) (rest := rest) C hw rfl rfl hM (cwV 4 C.2.2.2.2 (lw_V q1130 q1132 qs84 q200 q1133) rfl rfl rfl (by decide +kernel) hR) rfl hsz rfl hrm ⟨Nat.zero_le _, Nat.zero_le _⟩ hdg kk
set_option maxHeartbeats 4000000 in
theorem met_x_canGoOn (l : Launch) (D : va_G) (ct : Ct) (ad : Nat → Nat) (hJ : gJ shX ad ct) : ∀ (d : Nat) (σ : St) (x1 : Int32) (x2 : Int32) (x3 : Int32) (x4 : Int32) (Q : Int32 → Prop) (_ : x_canGoOn d σ x1 x2 x3 x4 Q), Met l yX0_canGoOn (ws_ yX0_canGoOn cX0_canGoOn 6 (some .boolean)) (rm_x_canGoOn d) (va_Pc [.ref (ad 0), .int x1, .int x2, .int x3, .int x4] (gP D ct shX ad σ)) (gR rvI Q) 0 0 (fun _ => False) := by
  intro d
  induction d with
  | zero => intro σ x1 x2 x3 x4 Q hf; exact False.elim hf
  | succ d hF =>
  intro σ x1 x2 x3 x4 Q hf
  replace hf : x_canGoOn_b (x_canGoOn d) σ x1 x2 x3 x4 Q := hf
  generalize hFd : x_canGoOn d = F at hf hF
  refine g_metRZ hJ (by decide) (Nat.le_of_ble_eq_true rfl) ?_
  intro p e s m args below meth c QQ ls H C hw hl hret
  replace hl : lv_has ls 6 [(0, .ref (ad 0)), (1, .int x1), (2, .int x2), (3, .int x3), (4, .int x4)] := hl
  have B28 : ∀ (x1 : Int32) (x2 : Int32) (x3 : Int32) (x4 : Int32) (K28 : Int32 → Prop) (_ : ∀ (x5 : Int32) (ls : Array Slot), K28 x5 → lv_has ls 6 [(0, .ref (ad 0)), (1, .int x1), (2, .int x2), (3, .int x3), (4, .int x4), (5, .int x5)] → W p l e (rm_x_canGoOn (d + 1)) s m args below meth c H [] 0 0 QQ (F0 m 28 ls [])) (x5 : Int32) (ls : Array Slot), x_canGoOn_p28 F σ x1 x2 x3 x4 Q K28 x5 → lv_has ls 6 [(0, .ref (ad 0)), (1, .int x1), (2, .int x2), (3, .int x3), (4, .int x4), (5, .int x5)] → W p l e (rm_x_canGoOn (d + 1)) s m args below meth c H [] 0 0 QQ (F0 m 28 ls []) := by
    intro x1 x2 x3 x4 K28 hK28 x5 ls hf hl
    unfold x_canGoOn_p28 at hf
    refine lv_iload C.1 C.2.1 dX0_canGoOn_28 (lv_at hl 5 rfl) ?_
    refine lv_iload C.1 C.2.1 dX0_canGoOn_30 (lv_at hl 4 rfl) ?_
    refine lv_icmp_gt (tgt := 71) C.1 C.2.1 dX0_canGoOn_32 (by decide) (fun h32 => ?_) (fun h32 => ?_)
    · replace hf := hf.1 h32
      refine lv_iconst (v := 0) C.1 C.2.1 dX0_canGoOn_71 rfl ?_
      exact hret _ _ _ hf (Or.inl rfl) dX0_canGoOn_72
    · replace hf := hf.2 h32
      refine lv_aload_n C.1 C.2.1 dX0_canGoOn_35 rfl (lv_at hl 0 rfl) ?_
      refine lv_iload_n C.1 C.2.1 dX0_canGoOn_36 rfl (lv_at hl 1 rfl) ?_
      refine lv_iload_n C.1 C.2.1 dX0_canGoOn_37 rfl (lv_at hl 2 rfl) ?_
      refine lv_iload_n C.1 C.2.1 dX0_canGoOn_38 rfl (lv_at hl 3 rfl) ?_
      refine lv_iload C.1 C.2.1 dX0_canGoOn_39 (lv_at hl 5 rfl) ?_
      refine kx_partLives C hw hl.1 (Nat.le_of_ble_eq_true rfl) ⟨Nat.le_trans (Nat.le_of_ble_eq_true rfl) (Nat.le_add_right 6 _), Nat.le_trans (Nat.le_of_ble_eq_true rfl) (Nat.le_add_right 192 _)⟩ dX0_canGoOn_41 hf (fun r41 hf => ?_)
      refine lv_iconst (v := 1) C.1 C.2.1 dX0_canGoOn_44 rfl ?_
      refine lv_icmp_ne (tgt := 65) C.1 C.2.1 dX0_canGoOn_45 (by decide) (fun h45 => ?_) (fun h45 => ?_)
      · replace hf := hf.2 h45
        refine lv_iinc (v := (x5 + 1)) (lv' := [(5, .int (x5 + 1)), (0, .ref (ad 0)), (1, .int x1), (2, .int x2), (3, .int x3), (4, .int x4)]) C.1 C.2.1 dX0_canGoOn_65 hl (k := 5) rfl rfl (Nat.le_of_ble_eq_true rfl) rfl (fun ls hl => ?_)
        refine lv_goto (tgt := 28) C.1 C.2.1 dX0_canGoOn_68 (by decide) ?_
        exact hK28 _ _ hf (lv_sub hl [1, 2, 3, 4, 5, 0] rfl)
      · replace hf := hf.1 h45
        refine lv_aload_n C.1 C.2.1 dX0_canGoOn_48 rfl (lv_at hl 0 rfl) ?_
        refine lv_iload_n C.1 C.2.1 dX0_canGoOn_49 rfl (lv_at hl 1 rfl) ?_
        refine lv_iload_n C.1 C.2.1 dX0_canGoOn_50 rfl (lv_at hl 2 rfl) ?_
        refine lv_iconst (v := 1) C.1 C.2.1 dX0_canGoOn_51 rfl ?_
        refine lv_iadd C.1 C.2.1 dX0_canGoOn_52 ?_
        refine lv_iload C.1 C.2.1 dX0_canGoOn_53 (lv_at hl 5 rfl) ?_
        refine lv_iload C.1 C.2.1 dX0_canGoOn_55 (lv_at hl 4 rfl) ?_
        refine kq_x_canGoOn C hw hl.1 (Nat.le_of_ble_eq_true rfl) ⟨Nat.le_of_eq (by show 6 + d + 1 = 6 + (d + 1); omega), Nat.le_of_eq (by show 8 + (6 + 11) + (192 + d * 25) = 192 + (d + 1) * 25; omega)⟩ dX0_canGoOn_57 (hF _ _ _ _ _ _ hf) (fun r57 hf => ?_)
        refine lv_if_eq (tgt := 65) C.1 C.2.1 dX0_canGoOn_60 (by decide) (fun h60 => ?_) (fun h60 => ?_)
        · replace hf := hf.1 h60
          refine lv_iinc (v := (x5 + 1)) (lv' := [(5, .int (x5 + 1)), (0, .ref (ad 0)), (1, .int x1), (2, .int x2), (3, .int x3), (4, .int x4)]) C.1 C.2.1 dX0_canGoOn_65 hl (k := 5) rfl rfl (Nat.le_of_ble_eq_true rfl) rfl (fun ls hl => ?_)
          refine lv_goto (tgt := 28) C.1 C.2.1 dX0_canGoOn_68 (by decide) ?_
          exact hK28 _ _ hf (lv_sub hl [1, 2, 3, 4, 5, 0] rfl)
        · replace hf := hf.2 h60
          refine lv_iconst (v := 1) C.1 C.2.1 dX0_canGoOn_63 rfl ?_
          exact hret _ _ _ hf (Or.inr rfl) dX0_canGoOn_64
  have P28 : ∀ (x1 : Int32) (x2 : Int32) (x3 : Int32) (x4 : Int32) (n : Nat) (x5 : Int32) (ls : Array Slot), LL1 (x_canGoOn_p28 F σ x1 x2 x3 x4 Q) n x5 → lv_has ls 6 [(0, .ref (ad 0)), (1, .int x1), (2, .int x2), (3, .int x3), (4, .int x4), (5, .int x5)] → W p l e (rm_x_canGoOn (d + 1)) s m args below meth c H [] 0 0 QQ (F0 m 28 ls []) := by
    intro x1 x2 x3 x4 n
    induction n with
    | zero => intro x5 ls hf; exact False.elim hf
    | succ n ih => intro x5 ls hf hl; exact B28 x1 x2 x3 x4 (LL1 _ n) ih x5 ls hf hl
  unfold x_canGoOn_b at hf
  refine lv_iload_n C.1 C.2.1 dX0_canGoOn_0 rfl (lv_at hl 2 rfl) ?_
  refine lv_aload_n C.1 C.2.1 dX0_canGoOn_1 rfl (lv_at hl 0 rfl) ?_
  refine xg_grammar C hw dX0_canGoOn_2 ?_
  refine xn_size C hw dX0_canGoOn_5 ?_
  refine lv_iload_n C.1 C.2.1 dX0_canGoOn_8 rfl (lv_at hl 1 rfl) ?_
  obtain ⟨b9, hf⟩ := hf
  refine g_iald C hw 84 rfl b9 dX0_canGoOn_9 ?_
  refine lv_icmp_ne (tgt := 25) C.1 C.2.1 dX0_canGoOn_10 (by decide) (fun h10 => ?_) (fun h10 => ?_)
  · replace hf := hf.2 h10
    refine lv_iload_n C.1 C.2.1 dX0_canGoOn_25 rfl (lv_at hl 3 rfl) ?_
    refine lv_istore (lv' := [(5, .int x3), (0, .ref (ad 0)), (1, .int x1), (2, .int x2), (3, .int x3), (4, .int x4)]) C.1 C.2.1 dX0_canGoOn_26 hl (Nat.le_of_ble_eq_true rfl) rfl (fun ls hl => ?_)
    obtain ⟨n, hf⟩ := hf
    exact P28 _ _ _ _ n _ _ hf (lv_sub hl [1, 2, 3, 4, 5, 0] rfl)
  · replace hf := hf.1 h10
    refine lv_iload_n C.1 C.2.1 dX0_canGoOn_13 rfl (lv_at hl 3 rfl) ?_
    refine lv_iload C.1 C.2.1 dX0_canGoOn_14 (lv_at hl 4 rfl) ?_
    refine lv_icmp_ne (tgt := 23) C.1 C.2.1 dX0_canGoOn_16 (by decide) (fun h16 => ?_) (fun h16 => ?_)
    · replace hf := hf.2 h16
      refine lv_iconst (v := 0) C.1 C.2.1 dX0_canGoOn_23 rfl ?_
      exact hret _ _ _ hf (Or.inl rfl) dX0_canGoOn_24
    · replace hf := hf.1 h16
      refine lv_iconst (v := 1) C.1 C.2.1 dX0_canGoOn_19 rfl ?_
      refine lv_goto (tgt := 24) C.1 C.2.1 dX0_canGoOn_20 (by decide) ?_
      exact hret _ _ _ hf (Or.inr rfl) dX0_canGoOn_24
theorem kx_canGoOn {p : Program} {l : Launch} {e : Env} {R : Room} {s : State} {m : MethodId} {args : Array Value} {below : List Frame} {meth : Method} {c : Code} {H : Heap} {locs : List Loc} {Z : State → Prop} {cc : ByteArray} {nL pc : Nat} {ls : Array Slot} {rest : List Value} {D : va_G} {ct : Ct} {ad : Nat → Nat} {σ : St} {x1 : Int32} {x2 : Int32} {x3 : Int32} {x4 : Int32} {Qp : Int32 → Prop} (C : CallFix p m c cc nL s args lw_all RX0) (hw : gH D ct shX ad s σ H locs) (hsz : ls.size = nL) (hrm : (rest.map fun v => v.category).sum ≤ 8) (hR : (rm_x_canGoOn 6).frames + 1 ≤ R.frames ∧ 8 + (6 + 11) + (rm_x_canGoOn 6).locals ≤ R.locals) (hdg : decode cc pc = .ok (.invokevirtual 596, 3)) (hf : x_canGoOn 6 σ x1 x2 x3 x4 Qp) (kk : ∀ (r : Int32), Qp r → W p l e R s m args below meth c H locs 0 0 Z (F0 m (pc + 3) ls (.int r :: rest))) : W p l e R s m args below meth c H locs 0 0 Z (F0 m pc ls (.int x4 :: .int x3 :: .int x2 :: .int x1 :: .ref (ad 0) :: rest)) :=
  kq_x_canGoOn C hw hsz hrm hR hdg (met_x_canGoOn l D ct ad hw.2.1 6 σ x1 x2 x3 x4 Qp hf) kk
def x_leastFrom_p33 (F : St → Int32 → Int32 → Int32 → Int32 → (Int32 → Prop) → Prop) (σ : St) (x1 : Int32) (x2 : Int32) (x3 : Int32) (x4 : Int32) (Q : Int32 → Prop) (K33 : Int32 → Int32 → Prop) (x5 : Int32) (x6 : Int32) : Prop :=
  ((x4 < x6 → Q x5) ∧ (¬ x4 < x6 → (x_partLeast σ x1 x2 x3 x6 (fun r48 => (F σ x1 (x2 + 1) x6 x4 (fun r60 => K33 (fx_lesser x5 (fx_together r48 r60)) (x6 + 1)))))))
def x_leastFrom_b (F : St → Int32 → Int32 → Int32 → Int32 → (Int32 → Prop) → Prop) (σ : St) (x1 : Int32) (x2 : Int32) (x3 : Int32) (x4 : Int32) (Q : Int32 → Prop) : Prop :=
  (vp_in x1 12 ∧ ((x2 = (gI σ 84 x1) → ((x3 = x4 → Q 0) ∧ (¬ x3 = x4 → Q 2000000000))) ∧ (¬ x2 = (gI σ 84 x1) → (Lp2 (x_leastFrom_p33 F σ x1 x2 x3 x4 Q) 2000000000 x3))))
def x_leastFrom : Nat → St → Int32 → Int32 → Int32 → Int32 → (Int32 → Prop) → Prop
  | 0 => fun _ _ _ _ _ _ => False
  | d + 1 => x_leastFrom_b (x_leastFrom d)
abbrev rm_x_leastFrom (d : Nat) : Room := { frames := 6 + d, cells := 0, slots := 0, locals := 193 + d * 26 }
theorem kq_x_leastFrom {p : Program} {l : Launch} {e : Env} {R : Room} {s : State} {m : MethodId} {args : Array Value} {below : List Frame} {meth : Method} {c : Code} {H : Heap} {locs : List Loc} {Z : State → Prop} {cc : ByteArray} {nL pc : Nat} {ls : Array Slot} {rest : List Value} {D : va_G} {ct : Ct} {ad : Nat → Nat} {σ : St} {x1 : Int32} {x2 : Int32} {x3 : Int32} {x4 : Int32} {fF lF : Nat} {Qp : Int32 → Prop} (C : CallFix p m c cc nL s args lw_all RX0) (hw : gH D ct shX ad s σ H locs) (hsz : ls.size = nL) (hrm : (rest.map fun v => v.category).sum ≤ 8) (hR : fF + 1 ≤ R.frames ∧ 8 + (7 + 11) + lF ≤ R.locals) (hdg : decode cc pc = .ok (.invokevirtual 639, 3)) (hM : Met l yX0_leastFrom (ws_ yX0_leastFrom cX0_leastFrom 7 (some .int)) { frames := fF, cells := 0, slots := 0, locals := lF } (va_Pc [.ref (ad 0), .int x1, .int x2, .int x3, .int x4] (gP D ct shX ad σ)) (gR rvI Qp) 0 0 (fun _ => False)) (kk : ∀ (r : Int32), Qp r → W p l e R s m args below meth c H locs 0 0 Z (F0 m (pc + 3) ls (.int r :: rest))) : W p l e R s m args below meth c H locs 0 0 Z (F0 m pc ls (.int x4 :: .int x3 :: .int x2 :: .int x1 :: .ref (ad 0) :: rest)) :=
  g_callVR (As := [.int x1, .int x2, .int x3, .int x4]) (rest := rest) C hw rfl rfl hM (cwV 4 C.2.2.2.2 (lw_V q1214 q1211 qs91 q200 q1212) rfl rfl rfl (by decide +kernel) hR) rfl hsz rfl hrm ⟨Nat.zero_le _, Nat.zero_le _⟩ hdg kk
set_option maxHeartbeats 4000000 in
theorem met_x_leastFrom (l : Launch) (D : va_G) (ct : Ct) (ad : Nat → Nat) (hJ : gJ shX ad ct) : ∀ (d : Nat) (σ : St) (x1 : Int32) (x2 : Int32) (x3 : Int32) (x4 : Int32) (Q : Int32 → Prop) (_ : x_leastFrom d σ x1 x2 x3 x4 Q), Met l yX0_leastFrom (ws_ yX0_leastFrom cX0_leastFrom 7 (some .int)) (rm_x_leastFrom d) (va_Pc [.ref (ad 0), .int x1, .int x2, .int x3, .int x4] (gP D ct shX ad σ)) (gR rvI Q) 0 0 (fun _ => False) := by
  intro d
  induction d with
  | zero => intro σ x1 x2 x3 x4 Q hf; exact False.elim hf
  | succ d hF =>
  intro σ x1 x2 x3 x4 Q hf
  replace hf : x_leastFrom_b (x_leastFrom d) σ x1 x2 x3 x4 Q := hf
  generalize hFd : x_leastFrom d = F at hf hF
  refine g_metRI hJ (by decide) (Nat.le_of_ble_eq_true rfl) ?_
  intro p e s m args below meth c QQ ls H C hw hl hret
  replace hl : lv_has ls 7 [(0, .ref (ad 0)), (1, .int x1), (2, .int x2), (3, .int x3), (4, .int x4)] := hl
  have B33 : ∀ (x1 : Int32) (x2 : Int32) (x3 : Int32) (x4 : Int32) (K33 : Int32 → Int32 → Prop) (_ : ∀ (x5 : Int32) (x6 : Int32) (ls : Array Slot), K33 x5 x6 → lv_has ls 7 [(0, .ref (ad 0)), (1, .int x1), (2, .int x2), (3, .int x3), (4, .int x4), (5, .int x5), (6, .int x6)] → W p l e (rm_x_leastFrom (d + 1)) s m args below meth c H [] 0 0 QQ (F0 m 33 ls [])) (x5 : Int32) (x6 : Int32) (ls : Array Slot), x_leastFrom_p33 F σ x1 x2 x3 x4 Q K33 x5 x6 → lv_has ls 7 [(0, .ref (ad 0)), (1, .int x1), (2, .int x2), (3, .int x3), (4, .int x4), (5, .int x5), (6, .int x6)] → W p l e (rm_x_leastFrom (d + 1)) s m args below meth c H [] 0 0 QQ (F0 m 33 ls []) := by
    intro x1 x2 x3 x4 K33 hK33 x5 x6 ls hf hl
    unfold x_leastFrom_p33 at hf
    refine lv_iload C.1 C.2.1 dX0_leastFrom_33 (lv_at hl 6 rfl) ?_
    refine lv_iload C.1 C.2.1 dX0_leastFrom_35 (lv_at hl 4 rfl) ?_
    refine lv_icmp_gt (tgt := 77) C.1 C.2.1 dX0_leastFrom_37 (by decide) (fun h37 => ?_) (fun h37 => ?_)
    · replace hf := hf.1 h37
      refine lv_iload C.1 C.2.1 dX0_leastFrom_77 (lv_at hl 5 rfl) ?_
      exact hret _ _ _ hf dX0_leastFrom_79
    · replace hf := hf.2 h37
      refine lv_iload C.1 C.2.1 dX0_leastFrom_40 (lv_at hl 5 rfl) ?_
      refine lv_aload_n C.1 C.2.1 dX0_leastFrom_42 rfl (lv_at hl 0 rfl) ?_
      refine lv_iload_n C.1 C.2.1 dX0_leastFrom_43 rfl (lv_at hl 1 rfl) ?_
      refine lv_iload_n C.1 C.2.1 dX0_leastFrom_44 rfl (lv_at hl 2 rfl) ?_
      refine lv_iload_n C.1 C.2.1 dX0_leastFrom_45 rfl (lv_at hl 3 rfl) ?_
      refine lv_iload C.1 C.2.1 dX0_leastFrom_46 (lv_at hl 6 rfl) ?_
      refine kx_partLeast C hw hl.1 (Nat.le_of_ble_eq_true rfl) ⟨Nat.le_trans (Nat.le_of_ble_eq_true rfl) (Nat.le_add_right 6 _), Nat.le_trans (Nat.le_of_ble_eq_true rfl) (Nat.le_add_right 193 _)⟩ dX0_leastFrom_48 hf (fun r48 hf => ?_)
      refine lv_aload_n C.1 C.2.1 dX0_leastFrom_51 rfl (lv_at hl 0 rfl) ?_
      refine lv_iload_n C.1 C.2.1 dX0_leastFrom_52 rfl (lv_at hl 1 rfl) ?_
      refine lv_iload_n C.1 C.2.1 dX0_leastFrom_53 rfl (lv_at hl 2 rfl) ?_
      refine lv_iconst (v := 1) C.1 C.2.1 dX0_leastFrom_54 rfl ?_
      refine lv_iadd C.1 C.2.1 dX0_leastFrom_55 ?_
      refine lv_iload C.1 C.2.1 dX0_leastFrom_56 (lv_at hl 6 rfl) ?_
      refine lv_iload C.1 C.2.1 dX0_leastFrom_58 (lv_at hl 4 rfl) ?_
      refine kq_x_leastFrom C hw hl.1 (Nat.le_of_ble_eq_true rfl) ⟨Nat.le_of_eq (by show 6 + d + 1 = 6 + (d + 1); omega), Nat.le_of_eq (by show 8 + (7 + 11) + (193 + d * 26) = 193 + (d + 1) * 26; omega)⟩ dX0_leastFrom_60 (hF _ _ _ _ _ _ hf) (fun r60 hf => ?_)
      refine kx_together C hl.1 (Nat.le_of_ble_eq_true rfl) ⟨Nat.le_trans (Nat.le_of_ble_eq_true rfl) (Nat.le_add_right 6 _), Nat.le_trans (Nat.le_of_ble_eq_true rfl) (Nat.le_add_right 193 _)⟩ dX0_leastFrom_63 ?_
      refine kx_lesser C hl.1 (Nat.le_of_ble_eq_true rfl) ⟨Nat.le_trans (Nat.le_of_ble_eq_true rfl) (Nat.le_add_right 6 _), Nat.le_trans (Nat.le_of_ble_eq_true rfl) (Nat.le_add_right 193 _)⟩ dX0_leastFrom_66 ?_
      refine lv_istore (lv' := [(5, .int (fx_lesser x5 (fx_together r48 r60))), (0, .ref (ad 0)), (1, .int x1), (2, .int x2), (3, .int x3), (4, .int x4), (6, .int x6)]) C.1 C.2.1 dX0_leastFrom_69 hl (Nat.le_of_ble_eq_true rfl) rfl (fun ls hl => ?_)
      refine lv_iinc (v := (x6 + 1)) (lv' := [(6, .int (x6 + 1)), (5, .int (fx_lesser x5 (fx_together r48 r60))), (0, .ref (ad 0)), (1, .int x1), (2, .int x2), (3, .int x3), (4, .int x4)]) C.1 C.2.1 dX0_leastFrom_71 hl (k := 6) rfl rfl (Nat.le_of_ble_eq_true rfl) rfl (fun ls hl => ?_)
      refine lv_goto (tgt := 33) C.1 C.2.1 dX0_leastFrom_74 (by decide) ?_
      exact hK33 _ _ _ hf (lv_sub hl [2, 3, 4, 5, 6, 1, 0] rfl)
  have P33 : ∀ (x1 : Int32) (x2 : Int32) (x3 : Int32) (x4 : Int32) (n : Nat) (x5 : Int32) (x6 : Int32) (ls : Array Slot), LL2 (x_leastFrom_p33 F σ x1 x2 x3 x4 Q) n x5 x6 → lv_has ls 7 [(0, .ref (ad 0)), (1, .int x1), (2, .int x2), (3, .int x3), (4, .int x4), (5, .int x5), (6, .int x6)] → W p l e (rm_x_leastFrom (d + 1)) s m args below meth c H [] 0 0 QQ (F0 m 33 ls []) := by
    intro x1 x2 x3 x4 n
    induction n with
    | zero => intro x5 x6 ls hf; exact False.elim hf
    | succ n ih => intro x5 x6 ls hf hl; exact B33 x1 x2 x3 x4 (LL2 _ n) ih x5 x6 ls hf hl
  unfold x_leastFrom_b at hf
  refine lv_iload_n C.1 C.2.1 dX0_leastFrom_0 rfl (lv_at hl 2 rfl) ?_
  refine lv_aload_n C.1 C.2.1 dX0_leastFrom_1 rfl (lv_at hl 0 rfl) ?_
  refine xg_grammar C hw dX0_leastFrom_2 ?_
  refine xn_size C hw dX0_leastFrom_5 ?_
  refine lv_iload_n C.1 C.2.1 dX0_leastFrom_8 rfl (lv_at hl 1 rfl) ?_
  obtain ⟨b9, hf⟩ := hf
  refine g_iald C hw 84 rfl b9 dX0_leastFrom_9 ?_
  refine lv_icmp_ne (tgt := 26) C.1 C.2.1 dX0_leastFrom_10 (by decide) (fun h10 => ?_) (fun h10 => ?_)
  · replace hf := hf.2 h10
    refine lv_ldc C.1 C.2.1 C.2.2.2.1 (C.2.2.2.2 _ q355) dX0_leastFrom_26 ?_
    refine lv_istore (lv' := [(5, .int 2000000000), (0, .ref (ad 0)), (1, .int x1), (2, .int x2), (3, .int x3), (4, .int x4)]) C.1 C.2.1 dX0_leastFrom_28 hl (Nat.le_of_ble_eq_true rfl) rfl (fun ls hl => ?_)
    refine lv_iload_n C.1 C.2.1 dX0_leastFrom_30 rfl (lv_at hl 4 rfl) ?_
    refine lv_istore (lv' := [(6, .int x3), (5, .int 2000000000), (0, .ref (ad 0)), (1, .int x1), (2, .int x2), (3, .int x3), (4, .int x4)]) C.1 C.2.1 dX0_leastFrom_31 hl (Nat.le_of_ble_eq_true rfl) rfl (fun ls hl => ?_)
    obtain ⟨n, hf⟩ := hf
    exact P33 _ _ _ _ n _ _ _ hf (lv_sub hl [2, 3, 4, 5, 6, 1, 0] rfl)
  · replace hf := hf.1 h10
    refine lv_iload_n C.1 C.2.1 dX0_leastFrom_13 rfl (lv_at hl 3 rfl) ?_
    refine lv_iload C.1 C.2.1 dX0_leastFrom_14 (lv_at hl 4 rfl) ?_
    refine lv_icmp_ne (tgt := 23) C.1 C.2.1 dX0_leastFrom_16 (by decide) (fun h16 => ?_) (fun h16 => ?_)
    · replace hf := hf.2 h16
      refine lv_ldc C.1 C.2.1 C.2.2.2.1 (C.2.2.2.2 _ q355) dX0_leastFrom_23 ?_
      exact hret _ _ _ hf dX0_leastFrom_25
    · replace hf := hf.1 h16
      refine lv_iconst (v := 0) C.1 C.2.1 dX0_leastFrom_19 rfl ?_
      refine lv_goto (tgt := 25) C.1 C.2.1 dX0_leastFrom_20 (by decide) ?_
      exact hret _ _ _ hf dX0_leastFrom_25
theorem kx_leastFrom {p : Program} {l : Launch} {e : Env} {R : Room} {s : State} {m : MethodId} {args : Array Value} {below : List Frame} {meth : Method} {c : Code} {H : Heap} {locs : List Loc} {Z : State → Prop} {cc : ByteArray} {nL pc : Nat} {ls : Array Slot} {rest : List Value} {D : va_G} {ct : Ct} {ad : Nat → Nat} {σ : St} {x1 : Int32} {x2 : Int32} {x3 : Int32} {x4 : Int32} {Qp : Int32 → Prop} (C : CallFix p m c cc nL s args lw_all RX0) (hw : gH D ct shX ad s σ H locs) (hsz : ls.size = nL) (hrm : (rest.map fun v => v.category).sum ≤ 8) (hR : (rm_x_leastFrom 6).frames + 1 ≤ R.frames ∧ 8 + (7 + 11) + (rm_x_leastFrom 6).locals ≤ R.locals) (hdg : decode cc pc = .ok (.invokevirtual 639, 3)) (hf : x_leastFrom 6 σ x1 x2 x3 x4 Qp) (kk : ∀ (r : Int32), Qp r → W p l e R s m args below meth c H locs 0 0 Z (F0 m (pc + 3) ls (.int r :: rest))) : W p l e R s m args below meth c H locs 0 0 Z (F0 m pc ls (.int x4 :: .int x3 :: .int x2 :: .int x1 :: .ref (ad 0) :: rest)) :=
  kq_x_leastFrom C hw hsz hrm hR hdg (met_x_leastFrom l D ct ad hw.2.1 6 σ x1 x2 x3 x4 Qp hf) kk
def x_derivesMore_p5 (x1 : Int32) (x2 : Int32) (Q : Int32 → St → Prop) (K5 : St → Int32 → Int32 → Prop) (σ : St) (x3 : Int32) (x4 : Int32) : Prop :=
  (((σ.1 80) ≤ x4 → (zB x3 ∧ Q x3 σ)) ∧ (¬ (σ.1 80) ≤ x4 → (vp_in x4 12 ∧ (((fx_isOn σ x4) = 0 → K5 σ x3 (x4 + 1)) ∧ (¬ (fx_isOn σ x4) = 0 → (vp_in (fx_spanOf x1 x2) 169 ∧ (((fx_has (gI σ 55 (fx_spanOf x1 x2)) ((gI σ 83 x4) - 26)) = 0 → (x_folds σ x4 x1 x2 38 43 44 0 1 (fun r78 s78 => ((r78 = 0 → K5 s78 x3 (x4 + 1)) ∧ (¬ r78 = 0 → (∀ s103 : St, s103 = s_A s78 55 (Int32.toNatClampNeg (fx_spanOf x1 x2)) ((gI s78 55 (fx_spanOf x1 x2)) ||| (1 <<< (((gI σ 83 x4) - 26) &&& 31))) → K5 s103 1 (x4 + 1))))))) ∧ (¬ (fx_has (gI σ 55 (fx_spanOf x1 x2)) ((gI σ 83 x4) - 26)) = 0 → K5 σ x3 (x4 + 1)))))))))
def x_derivesMore (σ : St) (x1 : Int32) (x2 : Int32) (Q : Int32 → St → Prop) : Prop :=
  (Lp3 (x_derivesMore_p5 x1 x2 Q) σ 0 0)
abbrev rm_x_derivesMore : Room := { frames := 8, cells := 0, slots := 0, locals := 296 }
set_option maxHeartbeats 4000000 in
theorem met_x_derivesMore (l : Launch) (D : va_G) (ct : Ct) (ad : Nat → Nat) (hJ : gJ shX ad ct) (σ : St) (x1 : Int32) (x2 : Int32) (Q : Int32 → St → Prop) (hf : x_derivesMore σ x1 x2 Q) : Met l yX0_derivesMore (ws_ yX0_derivesMore cX0_derivesMore 6 (some .boolean)) rm_x_derivesMore (va_Pc [.ref (ad 0), .int x1, .int x2] (gP D ct shX ad σ)) (gQ rvI D ct shX ad Q) 0 0 (gA shX ad) := by
  refine g_metZ hJ (by decide) (Nat.le_of_ble_eq_true rfl) ?_
  intro p e s m args below meth c QQ ls C hw hl hret
  replace hl : lv_has ls 6 [(0, .ref (ad 0)), (1, .int x1), (2, .int x2)] := hl
  have B5 : ∀ (x1 : Int32) (x2 : Int32) (K5 : St → Int32 → Int32 → Prop) (_ : ∀ (σ : St) (H : Heap) (locs : List Loc) (x3 : Int32) (x4 : Int32) (ls : Array Slot), K5 σ x3 x4 → gH D ct shX ad s σ H locs → lv_has ls 6 [(0, .ref (ad 0)), (1, .int x1), (2, .int x2), (3, .int x3), (4, .int x4)] → W p l e rm_x_derivesMore s m args below meth c H locs 0 0 QQ (F0 m 5 ls [])) (σ : St) (H : Heap) (locs : List Loc) (x3 : Int32) (x4 : Int32) (ls : Array Slot), x_derivesMore_p5 x1 x2 Q K5 σ x3 x4 → gH D ct shX ad s σ H locs → lv_has ls 6 [(0, .ref (ad 0)), (1, .int x1), (2, .int x2), (3, .int x3), (4, .int x4)] → W p l e rm_x_derivesMore s m args below meth c H locs 0 0 QQ (F0 m 5 ls []) := by
    intro x1 x2 K5 hK5 σ H locs x3 x4 ls hf hw hl
    unfold x_derivesMore_p5 at hf
    refine lv_iload C.1 C.2.1 dX0_derivesMore_5 (lv_at hl 4 rfl) ?_
    refine lv_aload_n C.1 C.2.1 dX0_derivesMore_7 rfl (lv_at hl 0 rfl) ?_
    refine xg_grammar C hw dX0_derivesMore_8 ?_
    refine xn_many C hw dX0_derivesMore_11 ?_
    refine lv_icmp_ge (tgt := 112) C.1 C.2.1 dX0_derivesMore_14 (by decide) (fun h14 => ?_) (fun h14 => ?_)
    · replace hf := hf.1 h14
      refine lv_iload_n C.1 C.2.1 dX0_derivesMore_112 rfl (lv_at hl 3 rfl) ?_
      obtain ⟨hz, hf⟩ := hf
      exact hret _ _ _ _ _ _ hf hw hz dX0_derivesMore_113
    · replace hf := hf.2 h14
      refine lv_aload_n C.1 C.2.1 dX0_derivesMore_17 rfl (lv_at hl 0 rfl) ?_
      refine xg_grammar C hw dX0_derivesMore_18 ?_
      refine xn_left C hw dX0_derivesMore_21 ?_
      refine lv_iload C.1 C.2.1 dX0_derivesMore_24 (lv_at hl 4 rfl) ?_
      obtain ⟨b26, hf⟩ := hf
      refine g_iald C hw 83 rfl b26 dX0_derivesMore_26 ?_
      refine lv_bipush (v := 26) C.1 C.2.1 dX0_derivesMore_27 rfl ?_
      refine lv_isub C.1 C.2.1 dX0_derivesMore_29 ?_
      refine lv_istore (lv' := [(5, .int ((gI σ 83 x4) - 26)), (0, .ref (ad 0)), (1, .int x1), (2, .int x2), (3, .int x3), (4, .int x4)]) C.1 C.2.1 dX0_derivesMore_30 hl (Nat.le_of_ble_eq_true rfl) rfl (fun ls hl => ?_)
      refine lv_aload_n C.1 C.2.1 dX0_derivesMore_32 rfl (lv_at hl 1 rfl) ?_
      refine lv_iload C.1 C.2.1 dX0_derivesMore_33 (lv_at hl 5 rfl) ?_
      refine kx_isOn C hw hl.1 (Nat.le_of_ble_eq_true rfl) ⟨Nat.le_of_ble_eq_true rfl, Nat.le_of_ble_eq_true rfl⟩ dX0_derivesMore_35 ?_
      refine lv_if_eq (tgt := 106) C.1 C.2.1 dX0_derivesMore_38 (by decide) (fun h38 => ?_) (fun h38 => ?_)
      · replace hf := hf.1 h38
        refine lv_iinc (v := (x4 + 1)) (lv' := [(4, .int (x4 + 1)), (5, .int ((gI σ 83 x4) - 26)), (0, .ref (ad 0)), (1, .int x1), (2, .int x2), (3, .int x3)]) C.1 C.2.1 dX0_derivesMore_106 hl (k := 5) rfl rfl (Nat.le_of_ble_eq_true rfl) rfl (fun ls hl => ?_)
        refine lv_goto (tgt := 5) C.1 C.2.1 dX0_derivesMore_109 (by decide) ?_
        exact hK5 _ _ _ _ _ _ hf hw (lv_sub hl [2, 3, 4, 5, 0] rfl)
      · replace hf := hf.2 h38
        refine lv_aload_n C.1 C.2.1 dX0_derivesMore_41 rfl (lv_at hl 1 rfl) ?_
        refine xg_derivesOf C hw dX0_derivesMore_42 ?_
        refine lv_iload_n C.1 C.2.1 dX0_derivesMore_45 rfl (lv_at hl 2 rfl) ?_
        refine lv_iload_n C.1 C.2.1 dX0_derivesMore_46 rfl (lv_at hl 3 rfl) ?_
        refine kx_spanOf C hl.1 (Nat.le_of_ble_eq_true rfl) ⟨Nat.le_of_ble_eq_true rfl, Nat.le_of_ble_eq_true rfl⟩ dX0_derivesMore_47 ?_
        obtain ⟨b50, hf⟩ := hf
        refine g_iald C hw 55 rfl b50 dX0_derivesMore_50 ?_
        refine lv_iload C.1 C.2.1 dX0_derivesMore_51 (lv_at hl 0 rfl) ?_
        refine kx_has C hl.1 (Nat.le_of_ble_eq_true rfl) ⟨Nat.le_of_ble_eq_true rfl, Nat.le_of_ble_eq_true rfl⟩ dX0_derivesMore_53 ?_
        refine lv_if_ne (tgt := 106) C.1 C.2.1 dX0_derivesMore_56 (by decide) (fun h56 => ?_) (fun h56 => ?_)
        · replace hf := hf.2 h56
          refine lv_iinc (v := (x4 + 1)) (lv' := [(4, .int (x4 + 1)), (5, .int ((gI σ 83 x4) - 26)), (0, .ref (ad 0)), (1, .int x1), (2, .int x2), (3, .int x3)]) C.1 C.2.1 dX0_derivesMore_106 hl (k := 5) rfl rfl (Nat.le_of_ble_eq_true rfl) rfl (fun ls hl => ?_)
          refine lv_goto (tgt := 5) C.1 C.2.1 dX0_derivesMore_109 (by decide) ?_
          exact hK5 _ _ _ _ _ _ hf hw (lv_sub hl [2, 3, 4, 5, 0] rfl)
        · replace hf := hf.1 h56
          refine lv_aload_n C.1 C.2.1 dX0_derivesMore_59 rfl (lv_at hl 1 rfl) ?_
          refine lv_iload C.1 C.2.1 dX0_derivesMore_60 (lv_at hl 5 rfl) ?_
          refine lv_iload_n C.1 C.2.1 dX0_derivesMore_62 rfl (lv_at hl 2 rfl) ?_
          refine lv_iload_n C.1 C.2.1 dX0_derivesMore_63 rfl (lv_at hl 3 rfl) ?_
          refine lv_aload_n C.1 C.2.1 dX0_derivesMore_64 rfl (lv_at hl 1 rfl) ?_
          refine xg_derivesPart C hw dX0_derivesMore_65 ?_
          refine lv_aload_n C.1 C.2.1 dX0_derivesMore_68 rfl (lv_at hl 1 rfl) ?_
          refine xg_orFold C hw dX0_derivesMore_69 ?_
          refine lv_aload_n C.1 C.2.1 dX0_derivesMore_72 rfl (lv_at hl 1 rfl) ?_
          refine xg_andFold C hw dX0_derivesMore_73 ?_
          refine lv_iconst (v := 0) C.1 C.2.1 dX0_derivesMore_76 rfl ?_
          refine lv_iconst (v := 1) C.1 C.2.1 dX0_derivesMore_77 rfl ?_
          refine kx_folds C hw hl.1 (Nat.le_of_ble_eq_true rfl) ⟨Nat.le_of_ble_eq_true rfl, Nat.le_of_ble_eq_true rfl⟩ dX0_derivesMore_78 hf (fun r78 s78 H locs hf hw => ?_)
          refine lv_if_ne (tgt := 87) C.1 C.2.1 dX0_derivesMore_81 (by decide) (fun h81 => ?_) (fun h81 => ?_)
          · replace hf := hf.2 h81
            refine lv_aload_n C.1 C.2.1 dX0_derivesMore_87 rfl (lv_at hl 1 rfl) ?_
            refine xg_derivesOf C hw dX0_derivesMore_88 ?_
            refine lv_iload_n C.1 C.2.1 dX0_derivesMore_91 rfl (lv_at hl 2 rfl) ?_
            refine lv_iload_n C.1 C.2.1 dX0_derivesMore_92 rfl (lv_at hl 3 rfl) ?_
            refine kx_spanOf C hl.1 (Nat.le_of_ble_eq_true rfl) ⟨Nat.le_of_ble_eq_true rfl, Nat.le_of_ble_eq_true rfl⟩ dX0_derivesMore_93 ?_
            refine lv_dup2_11 C.1 C.2.1 dX0_derivesMore_96 rfl rfl ?_
            refine g_iald C hw 55 rfl b50 dX0_derivesMore_97 ?_
            refine lv_iconst (v := 1) C.1 C.2.1 dX0_derivesMore_98 rfl ?_
            refine lv_iload C.1 C.2.1 dX0_derivesMore_99 (lv_at hl 0 rfl) ?_
            refine lv_ishl C.1 C.2.1 dX0_derivesMore_101 ?_
            refine lv_ior C.1 C.2.1 dX0_derivesMore_102 ?_
            refine g_iast C shX_sep hw 55 rfl b50 dX0_derivesMore_103 (fun s103 H locs e103 hw => ?_)
            replace hf := hf s103 e103
            refine lv_iconst (v := 1) C.1 C.2.1 dX0_derivesMore_104 rfl ?_
            refine lv_istore_n (lv' := [(3, .int 1), (5, .int ((gI σ 83 x4) - 26)), (0, .ref (ad 0)), (1, .int x1), (2, .int x2), (4, .int x4)]) C.1 C.2.1 dX0_derivesMore_105 rfl hl (Nat.le_of_ble_eq_true rfl) rfl (fun ls hl => ?_)
            refine lv_iinc (v := (x4 + 1)) (lv' := [(4, .int (x4 + 1)), (3, .int 1), (5, .int ((gI σ 83 x4) - 26)), (0, .ref (ad 0)), (1, .int x1), (2, .int x2)]) C.1 C.2.1 dX0_derivesMore_106 hl (k := 5) rfl rfl (Nat.le_of_ble_eq_true rfl) rfl (fun ls hl => ?_)
            refine lv_goto (tgt := 5) C.1 C.2.1 dX0_derivesMore_109 (by decide) ?_
            exact hK5 _ _ _ _ _ _ hf hw (lv_sub hl [3, 4, 5, 1, 0] rfl)
          · replace hf := hf.1 h81
            refine lv_goto (tgt := 106) C.1 C.2.1 dX0_derivesMore_84 (by decide) ?_
            refine lv_iinc (v := (x4 + 1)) (lv' := [(4, .int (x4 + 1)), (5, .int ((gI σ 83 x4) - 26)), (0, .ref (ad 0)), (1, .int x1), (2, .int x2), (3, .int x3)]) C.1 C.2.1 dX0_derivesMore_106 hl (k := 5) rfl rfl (Nat.le_of_ble_eq_true rfl) rfl (fun ls hl => ?_)
            refine lv_goto (tgt := 5) C.1 C.2.1 dX0_derivesMore_109 (by decide) ?_
            exact hK5 _ _ _ _ _ _ hf hw (lv_sub hl [2, 3, 4, 5, 0] rfl)
  have P5 : ∀ (x1 : Int32) (x2 : Int32) (n : Nat) (σ : St) (x3 : Int32) (x4 : Int32) (ls : Array Slot) (H : Heap) (locs : List Loc), LL3 (x_derivesMore_p5 x1 x2 Q) n σ x3 x4 → gH D ct shX ad s σ H locs → lv_has ls 6 [(0, .ref (ad 0)), (1, .int x1), (2, .int x2), (3, .int x3), (4, .int x4)] → W p l e rm_x_derivesMore s m args below meth c H locs 0 0 QQ (F0 m 5 ls []) := by
    intro x1 x2 n
    induction n with
    | zero => intro σ x3 x4 ls H locs hf; exact False.elim hf
    | succ n ih => intro σ x3 x4 ls H locs hf hw hl; exact B5 x1 x2 (LL3 _ n) (fun σ H locs x3 x4 ls hf hw hl => ih σ x3 x4 ls H locs hf hw hl) σ H locs x3 x4 ls hf hw hl
  unfold x_derivesMore at hf
  obtain ⟨H, hH⟩ : ∃ q, q = s.heap := ⟨_, rfl⟩
  obtain ⟨locs, hL⟩ : ∃ q : List Loc, q = [] := ⟨_, rfl⟩
  rw [← hH, ← hL] at hw ⊢
  refine lv_iconst (v := 0) C.1 C.2.1 dX0_derivesMore_0 rfl ?_
  refine lv_istore_n (lv' := [(3, .int 0), (0, .ref (ad 0)), (1, .int x1), (2, .int x2)]) C.1 C.2.1 dX0_derivesMore_1 rfl hl (Nat.le_of_ble_eq_true rfl) rfl (fun ls hl => ?_)
  refine lv_iconst (v := 0) C.1 C.2.1 dX0_derivesMore_2 rfl ?_
  refine lv_istore (lv' := [(4, .int 0), (3, .int 0), (0, .ref (ad 0)), (1, .int x1), (2, .int x2)]) C.1 C.2.1 dX0_derivesMore_3 hl (Nat.le_of_ble_eq_true rfl) rfl (fun ls hl => ?_)
  obtain ⟨n, hf⟩ := hf
  exact P5 _ _ n _ _ _ _ _ _ hf hw (lv_sub hl [2, 3, 4, 1, 0] rfl)
theorem kx_derivesMore {p : Program} {l : Launch} {e : Env} {R : Room} {s : State} {m : MethodId} {args : Array Value} {below : List Frame} {meth : Method} {c : Code} {H : Heap} {locs : List Loc} {Z : State → Prop} {cc : ByteArray} {nL pc : Nat} {ls : Array Slot} {rest : List Value} {D : va_G} {ct : Ct} {ad : Nat → Nat} {σ : St} {x1 : Int32} {x2 : Int32} {Qp : Int32 → St → Prop} (C : CallFix p m c cc nL s args lw_all RX0) (hw : gH D ct shX ad s σ H locs) (hsz : ls.size = nL) (hrm : (rest.map fun v => v.category).sum ≤ 8) (hR : rm_x_derivesMore.frames + 1 ≤ R.frames ∧ 8 + (6 + 11) + rm_x_derivesMore.locals ≤ R.locals) (hdg : decode cc pc = .ok (.invokevirtual 572, 3)) (hf : x_derivesMore σ x1 x2 Qp) (kk : ∀ (r : Int32) (σ1 : St) (H1 : Heap) (locs1 : List Loc), Qp r σ1 → gH D ct shX ad s σ1 H1 locs1 → W p l e R s m args below meth c H1 locs1 0 0 Z (F0 m (pc + 3) ls (.int r :: rest))) : W p l e R s m args below meth c H locs 0 0 Z (F0 m pc ls (.int x2 :: .int x1 :: .ref (ad 0) :: rest)) :=
  g_callV (As := [.int x1, .int x2]) (rest := rest) C hw rfl rfl (met_x_derivesMore l D ct ad hw.2.1 σ x1 x2 Qp hf) (cwV 2 C.2.2.2.2 (lw_V q1077 q1079 qs73 q200 q1080) rfl rfl rfl (by decide +kernel) hR) rfl hsz rfl hrm ⟨Nat.zero_le _, Nat.zero_le _⟩ hdg kk
def x_livesMore_p5 (x1 : Int32) (x2 : Int32) (Q : Int32 → St → Prop) (K5 : St → Int32 → Int32 → Prop) (σ : St) (x3 : Int32) (x4 : Int32) : Prop :=
  (((σ.1 80) ≤ x4 → (zB x3 ∧ Q x3 σ)) ∧ (¬ (σ.1 80) ≤ x4 → (((fx_isOn σ x4) = 0 → K5 σ x3 (x4 + 1)) ∧ (¬ (fx_isOn σ x4) = 0 → (vp_in (fx_pieceOf x4 x1 x2) 2028 ∧ (((gI σ 51 (fx_pieceOf x4 x1 x2)) = 0 → (x_folds σ x4 x1 x2 39 43 44 0 1 (fun r60 s60 => ((r60 = 0 → K5 s60 x3 (x4 + 1)) ∧ (¬ r60 = 0 → (∀ s81 : St, s81 = s_A s60 51 (Int32.toNatClampNeg (fx_pieceOf x4 x1 x2)) 1 → K5 s81 1 (x4 + 1))))))) ∧ (¬ (gI σ 51 (fx_pieceOf x4 x1 x2)) = 0 → K5 σ x3 (x4 + 1))))))))
def x_livesMore (σ : St) (x1 : Int32) (x2 : Int32) (Q : Int32 → St → Prop) : Prop :=
  (Lp3 (x_livesMore_p5 x1 x2 Q) σ 0 0)
abbrev rm_x_livesMore : Room := { frames := 8, cells := 0, slots := 0, locals := 296 }
set_option maxHeartbeats 4000000 in
theorem met_x_livesMore (l : Launch) (D : va_G) (ct : Ct) (ad : Nat → Nat) (hJ : gJ shX ad ct) (σ : St) (x1 : Int32) (x2 : Int32) (Q : Int32 → St → Prop) (hf : x_livesMore σ x1 x2 Q) : Met l yX0_livesMore (ws_ yX0_livesMore cX0_livesMore 5 (some .boolean)) rm_x_livesMore (va_Pc [.ref (ad 0), .int x1, .int x2] (gP D ct shX ad σ)) (gQ rvI D ct shX ad Q) 0 0 (gA shX ad) := by
  refine g_metZ hJ (by decide) (Nat.le_of_ble_eq_true rfl) ?_
  intro p e s m args below meth c QQ ls C hw hl hret
  replace hl : lv_has ls 5 [(0, .ref (ad 0)), (1, .int x1), (2, .int x2)] := hl
  have B5 : ∀ (x1 : Int32) (x2 : Int32) (K5 : St → Int32 → Int32 → Prop) (_ : ∀ (σ : St) (H : Heap) (locs : List Loc) (x3 : Int32) (x4 : Int32) (ls : Array Slot), K5 σ x3 x4 → gH D ct shX ad s σ H locs → lv_has ls 5 [(0, .ref (ad 0)), (1, .int x1), (2, .int x2), (3, .int x3), (4, .int x4)] → W p l e rm_x_livesMore s m args below meth c H locs 0 0 QQ (F0 m 5 ls [])) (σ : St) (H : Heap) (locs : List Loc) (x3 : Int32) (x4 : Int32) (ls : Array Slot), x_livesMore_p5 x1 x2 Q K5 σ x3 x4 → gH D ct shX ad s σ H locs → lv_has ls 5 [(0, .ref (ad 0)), (1, .int x1), (2, .int x2), (3, .int x3), (4, .int x4)] → W p l e rm_x_livesMore s m args below meth c H locs 0 0 QQ (F0 m 5 ls []) := by
    intro x1 x2 K5 hK5 σ H locs x3 x4 ls hf hw hl
    unfold x_livesMore_p5 at hf
    refine lv_iload C.1 C.2.1 dX0_livesMore_5 (lv_at hl 4 rfl) ?_
    refine lv_aload_n C.1 C.2.1 dX0_livesMore_7 rfl (lv_at hl 0 rfl) ?_
    refine xg_grammar C hw dX0_livesMore_8 ?_
    refine xn_many C hw dX0_livesMore_11 ?_
    refine lv_icmp_ge (tgt := 90) C.1 C.2.1 dX0_livesMore_14 (by decide) (fun h14 => ?_) (fun h14 => ?_)
    · replace hf := hf.1 h14
      refine lv_iload_n C.1 C.2.1 dX0_livesMore_90 rfl (lv_at hl 3 rfl) ?_
      obtain ⟨hz, hf⟩ := hf
      exact hret _ _ _ _ _ _ hf hw hz dX0_livesMore_91
    · replace hf := hf.2 h14
      refine lv_aload_n C.1 C.2.1 dX0_livesMore_17 rfl (lv_at hl 0 rfl) ?_
      refine lv_iload C.1 C.2.1 dX0_livesMore_18 (lv_at hl 4 rfl) ?_
      refine kx_isOn C hw hl.1 (Nat.le_of_ble_eq_true rfl) ⟨Nat.le_of_ble_eq_true rfl, Nat.le_of_ble_eq_true rfl⟩ dX0_livesMore_20 ?_
      refine lv_if_eq (tgt := 84) C.1 C.2.1 dX0_livesMore_23 (by decide) (fun h23 => ?_) (fun h23 => ?_)
      · replace hf := hf.1 h23
        refine lv_iinc (v := (x4 + 1)) (lv' := [(4, .int (x4 + 1)), (0, .ref (ad 0)), (1, .int x1), (2, .int x2), (3, .int x3)]) C.1 C.2.1 dX0_livesMore_84 hl (k := 4) rfl rfl (Nat.le_of_ble_eq_true rfl) rfl (fun ls hl => ?_)
        refine lv_goto (tgt := 5) C.1 C.2.1 dX0_livesMore_87 (by decide) ?_
        exact hK5 _ _ _ _ _ _ hf hw (lv_sub hl [1, 2, 3, 4, 0] rfl)
      · replace hf := hf.2 h23
        refine lv_aload_n C.1 C.2.1 dX0_livesMore_26 rfl (lv_at hl 0 rfl) ?_
        refine xg_livesOf C hw dX0_livesMore_27 ?_
        refine lv_iload C.1 C.2.1 dX0_livesMore_30 (lv_at hl 4 rfl) ?_
        refine lv_iload_n C.1 C.2.1 dX0_livesMore_32 rfl (lv_at hl 1 rfl) ?_
        refine lv_iload_n C.1 C.2.1 dX0_livesMore_33 rfl (lv_at hl 2 rfl) ?_
        refine kx_pieceOf C hl.1 (Nat.le_of_ble_eq_true rfl) ⟨Nat.le_of_ble_eq_true rfl, Nat.le_of_ble_eq_true rfl⟩ dX0_livesMore_34 ?_
        obtain ⟨b37, hf⟩ := hf
        refine g_zald C hw 51 rfl b37 dX0_livesMore_37 ?_
        refine lv_if_ne (tgt := 84) C.1 C.2.1 dX0_livesMore_38 (by decide) (fun h38 => ?_) (fun h38 => ?_)
        · replace hf := hf.2 h38
          refine lv_iinc (v := (x4 + 1)) (lv' := [(4, .int (x4 + 1)), (0, .ref (ad 0)), (1, .int x1), (2, .int x2), (3, .int x3)]) C.1 C.2.1 dX0_livesMore_84 hl (k := 4) rfl rfl (Nat.le_of_ble_eq_true rfl) rfl (fun ls hl => ?_)
          refine lv_goto (tgt := 5) C.1 C.2.1 dX0_livesMore_87 (by decide) ?_
          exact hK5 _ _ _ _ _ _ hf hw (lv_sub hl [1, 2, 3, 4, 0] rfl)
        · replace hf := hf.1 h38
          refine lv_aload_n C.1 C.2.1 dX0_livesMore_41 rfl (lv_at hl 0 rfl) ?_
          refine lv_iload C.1 C.2.1 dX0_livesMore_42 (lv_at hl 4 rfl) ?_
          refine lv_iload_n C.1 C.2.1 dX0_livesMore_44 rfl (lv_at hl 1 rfl) ?_
          refine lv_iload_n C.1 C.2.1 dX0_livesMore_45 rfl (lv_at hl 2 rfl) ?_
          refine lv_aload_n C.1 C.2.1 dX0_livesMore_46 rfl (lv_at hl 0 rfl) ?_
          refine xg_livesPart C hw dX0_livesMore_47 ?_
          refine lv_aload_n C.1 C.2.1 dX0_livesMore_50 rfl (lv_at hl 0 rfl) ?_
          refine xg_orFold C hw dX0_livesMore_51 ?_
          refine lv_aload_n C.1 C.2.1 dX0_livesMore_54 rfl (lv_at hl 0 rfl) ?_
          refine xg_andFold C hw dX0_livesMore_55 ?_
          refine lv_iconst (v := 0) C.1 C.2.1 dX0_livesMore_58 rfl ?_
          refine lv_iconst (v := 1) C.1 C.2.1 dX0_livesMore_59 rfl ?_
          refine kx_folds C hw hl.1 (Nat.le_of_ble_eq_true rfl) ⟨Nat.le_of_ble_eq_true rfl, Nat.le_of_ble_eq_true rfl⟩ dX0_livesMore_60 hf (fun r60 s60 H locs hf hw => ?_)
          refine lv_if_ne (tgt := 69) C.1 C.2.1 dX0_livesMore_63 (by decide) (fun h63 => ?_) (fun h63 => ?_)
          · replace hf := hf.2 h63
            refine lv_aload_n C.1 C.2.1 dX0_livesMore_69 rfl (lv_at hl 0 rfl) ?_
            refine xg_livesOf C hw dX0_livesMore_70 ?_
            refine lv_iload C.1 C.2.1 dX0_livesMore_73 (lv_at hl 4 rfl) ?_
            refine lv_iload_n C.1 C.2.1 dX0_livesMore_75 rfl (lv_at hl 1 rfl) ?_
            refine lv_iload_n C.1 C.2.1 dX0_livesMore_76 rfl (lv_at hl 2 rfl) ?_
            refine kx_pieceOf C hl.1 (Nat.le_of_ble_eq_true rfl) ⟨Nat.le_of_ble_eq_true rfl, Nat.le_of_ble_eq_true rfl⟩ dX0_livesMore_77 ?_
            refine lv_iconst (v := 1) C.1 C.2.1 dX0_livesMore_80 rfl ?_
            refine g_zast C shX_sep hw 51 rfl (Or.inr rfl) b37 dX0_livesMore_81 (fun s81 H locs e81 hw => ?_)
            replace hf := hf s81 e81
            refine lv_iconst (v := 1) C.1 C.2.1 dX0_livesMore_82 rfl ?_
            refine lv_istore_n (lv' := [(3, .int 1), (0, .ref (ad 0)), (1, .int x1), (2, .int x2), (4, .int x4)]) C.1 C.2.1 dX0_livesMore_83 rfl hl (Nat.le_of_ble_eq_true rfl) rfl (fun ls hl => ?_)
            refine lv_iinc (v := (x4 + 1)) (lv' := [(4, .int (x4 + 1)), (3, .int 1), (0, .ref (ad 0)), (1, .int x1), (2, .int x2)]) C.1 C.2.1 dX0_livesMore_84 hl (k := 4) rfl rfl (Nat.le_of_ble_eq_true rfl) rfl (fun ls hl => ?_)
            refine lv_goto (tgt := 5) C.1 C.2.1 dX0_livesMore_87 (by decide) ?_
            exact hK5 _ _ _ _ _ _ hf hw (lv_sub hl [2, 3, 4, 1, 0] rfl)
          · replace hf := hf.1 h63
            refine lv_goto (tgt := 84) C.1 C.2.1 dX0_livesMore_66 (by decide) ?_
            refine lv_iinc (v := (x4 + 1)) (lv' := [(4, .int (x4 + 1)), (0, .ref (ad 0)), (1, .int x1), (2, .int x2), (3, .int x3)]) C.1 C.2.1 dX0_livesMore_84 hl (k := 4) rfl rfl (Nat.le_of_ble_eq_true rfl) rfl (fun ls hl => ?_)
            refine lv_goto (tgt := 5) C.1 C.2.1 dX0_livesMore_87 (by decide) ?_
            exact hK5 _ _ _ _ _ _ hf hw (lv_sub hl [1, 2, 3, 4, 0] rfl)
  have P5 : ∀ (x1 : Int32) (x2 : Int32) (n : Nat) (σ : St) (x3 : Int32) (x4 : Int32) (ls : Array Slot) (H : Heap) (locs : List Loc), LL3 (x_livesMore_p5 x1 x2 Q) n σ x3 x4 → gH D ct shX ad s σ H locs → lv_has ls 5 [(0, .ref (ad 0)), (1, .int x1), (2, .int x2), (3, .int x3), (4, .int x4)] → W p l e rm_x_livesMore s m args below meth c H locs 0 0 QQ (F0 m 5 ls []) := by
    intro x1 x2 n
    induction n with
    | zero => intro σ x3 x4 ls H locs hf; exact False.elim hf
    | succ n ih => intro σ x3 x4 ls H locs hf hw hl; exact B5 x1 x2 (LL3 _ n) (fun σ H locs x3 x4 ls hf hw hl => ih σ x3 x4 ls H locs hf hw hl) σ H locs x3 x4 ls hf hw hl
  unfold x_livesMore at hf
  obtain ⟨H, hH⟩ : ∃ q, q = s.heap := ⟨_, rfl⟩
  obtain ⟨locs, hL⟩ : ∃ q : List Loc, q = [] := ⟨_, rfl⟩
  rw [← hH, ← hL] at hw ⊢
  refine lv_iconst (v := 0) C.1 C.2.1 dX0_livesMore_0 rfl ?_
  refine lv_istore_n (lv' := [(3, .int 0), (0, .ref (ad 0)), (1, .int x1), (2, .int x2)]) C.1 C.2.1 dX0_livesMore_1 rfl hl (Nat.le_of_ble_eq_true rfl) rfl (fun ls hl => ?_)
  refine lv_iconst (v := 0) C.1 C.2.1 dX0_livesMore_2 rfl ?_
  refine lv_istore (lv' := [(4, .int 0), (3, .int 0), (0, .ref (ad 0)), (1, .int x1), (2, .int x2)]) C.1 C.2.1 dX0_livesMore_3 hl (Nat.le_of_ble_eq_true rfl) rfl (fun ls hl => ?_)
  obtain ⟨n, hf⟩ := hf
  exact P5 _ _ n _ _ _ _ _ _ hf hw (lv_sub hl [2, 3, 4, 1, 0] rfl)
theorem kx_livesMore {p : Program} {l : Launch} {e : Env} {R : Room} {s : State} {m : MethodId} {args : Array Value} {below : List Frame} {meth : Method} {c : Code} {H : Heap} {locs : List Loc} {Z : State → Prop} {cc : ByteArray} {nL pc : Nat} {ls : Array Slot} {rest : List Value} {D : va_G} {ct : Ct} {ad : Nat → Nat} {σ : St} {x1 : Int32} {x2 : Int32} {Qp : Int32 → St → Prop} (C : CallFix p m c cc nL s args lw_all RX0) (hw : gH D ct shX ad s σ H locs) (hsz : ls.size = nL) (hrm : (rest.map fun v => v.category).sum ≤ 8) (hR : rm_x_livesMore.frames + 1 ≤ R.frames ∧ 8 + (5 + 11) + rm_x_livesMore.locals ≤ R.locals) (hdg : decode cc pc = .ok (.invokevirtual 575, 3)) (hf : x_livesMore σ x1 x2 Qp) (kk : ∀ (r : Int32) (σ1 : St) (H1 : Heap) (locs1 : List Loc), Qp r σ1 → gH D ct shX ad s σ1 H1 locs1 → W p l e R s m args below meth c H1 locs1 0 0 Z (F0 m (pc + 3) ls (.int r :: rest))) : W p l e R s m args below meth c H locs 0 0 Z (F0 m pc ls (.int x2 :: .int x1 :: .ref (ad 0) :: rest)) :=
  g_callV (As := [.int x1, .int x2]) (rest := rest) C hw rfl rfl (met_x_livesMore l D ct ad hw.2.1 σ x1 x2 Qp hf) (cwV 2 C.2.2.2.2 (lw_V q1093 q1095 qs75 q200 q1096) rfl rfl rfl (by decide +kernel) hR) rfl hsz rfl hrm ⟨Nat.zero_le _, Nat.zero_le _⟩ hdg kk
def x_sameSpan_p60 (σ : St) (x1 : Int32) (x2 : Int32) (x3 : Int32) (x5 : Int32) (Q : Int32 → Prop) (K6 : Int32 → Int32 → Prop) (K60 : Int32 → Int32 → Prop) (x4 : Int32) (x6 : Int32) : Prop :=
  (((σ.1 80) ≤ x6 → K6 x4 (x5 + 1)) ∧ (¬ (σ.1 80) ≤ x6 → (vp_in (fx_pieceOf x6 x2 x3) 2028 ∧ (((gI σ 51 (fx_pieceOf x6 x2 x3)) = 0 → K60 (x4 ||| 0) (x6 + 1)) ∧ (¬ (gI σ 51 (fx_pieceOf x6 x2 x3)) = 0 → (x_canBeBelow σ x1 x5 x6 (fun r95 => ((r95 = 0 → K60 (x4 ||| 0) (x6 + 1)) ∧ (¬ r95 = 0 → K60 (x4 ||| (1 <<< (x6 &&& 31))) (x6 + 1))))))))))
def x_sameSpan_p6 (σ : St) (x1 : Int32) (x2 : Int32) (x3 : Int32) (Q : Int32 → Prop) (K6 : Int32 → Int32 → Prop) (x4 : Int32) (x5 : Int32) : Prop :=
  (vp_in x1 12 ∧ (((gI σ 84 x1) ≤ x5 → Q x4) ∧ (¬ (gI σ 84 x1) ≤ x5 → (x_areBare σ x1 0 x5 x2 (fun r26 => ((r26 = 0 → K6 x4 (x5 + 1)) ∧ (¬ r26 = 0 → (x_areBare σ x1 (x5 + 1) (gI σ 84 x1) x3 (fun r48 => ((r48 = 0 → K6 x4 (x5 + 1)) ∧ (¬ r48 = 0 → (Lp2 (x_sameSpan_p60 σ x1 x2 x3 x5 Q K6) x4 0))))))))))))
def x_sameSpan (σ : St) (x1 : Int32) (x2 : Int32) (x3 : Int32) (Q : Int32 → Prop) : Prop :=
  (Lp2 (x_sameSpan_p6 σ x1 x2 x3 Q) 0 0)
abbrev rm_x_sameSpan : Room := { frames := 7, cells := 0, slots := 0, locals := 217 }
set_option maxHeartbeats 4000000 in
theorem met_x_sameSpan (l : Launch) (D : va_G) (ct : Ct) (ad : Nat → Nat) (hJ : gJ shX ad ct) (σ : St) (x1 : Int32) (x2 : Int32) (x3 : Int32) (Q : Int32 → Prop) (hf : x_sameSpan σ x1 x2 x3 Q) : Met l yX0_sameSpan (ws_ yX0_sameSpan cX0_sameSpan 7 (some .int)) rm_x_sameSpan (va_Pc [.ref (ad 0), .int x1, .int x2, .int x3] (gP D ct shX ad σ)) (gR rvI Q) 0 0 (fun _ => False) := by
  refine g_metRI hJ (by decide) (Nat.le_of_ble_eq_true rfl) ?_
  intro p e s m args below meth c QQ ls H C hw hl hret
  replace hl : lv_has ls 7 [(0, .ref (ad 0)), (1, .int x1), (2, .int x2), (3, .int x3)] := hl
  have B60 : ∀ (x1 : Int32) (x2 : Int32) (x3 : Int32) (x5 : Int32) (K6 : Int32 → Int32 → Prop) (_ : ∀ (x4 : Int32) (x5 : Int32) (ls : Array Slot), K6 x4 x5 → lv_has ls 7 [(0, .ref (ad 0)), (1, .int x1), (2, .int x2), (3, .int x3), (4, .int x4), (5, .int x5)] → W p l e rm_x_sameSpan s m args below meth c H [] 0 0 QQ (F0 m 6 ls [])) (K60 : Int32 → Int32 → Prop) (_ : ∀ (x4 : Int32) (x6 : Int32) (ls : Array Slot), K60 x4 x6 → lv_has ls 7 [(0, .ref (ad 0)), (1, .int x1), (2, .int x2), (3, .int x3), (4, .int x4), (5, .int x5), (6, .int x6)] → W p l e rm_x_sameSpan s m args below meth c H [] 0 0 QQ (F0 m 60 ls [])) (x4 : Int32) (x6 : Int32) (ls : Array Slot), x_sameSpan_p60 σ x1 x2 x3 x5 Q K6 K60 x4 x6 → lv_has ls 7 [(0, .ref (ad 0)), (1, .int x1), (2, .int x2), (3, .int x3), (4, .int x4), (5, .int x5), (6, .int x6)] → W p l e rm_x_sameSpan s m args below meth c H [] 0 0 QQ (F0 m 60 ls []) := by
    intro x1 x2 x3 x5 K6 hK6 K60 hK60 x4 x6 ls hf hl
    unfold x_sameSpan_p60 at hf
    refine lv_iload C.1 C.2.1 dX0_sameSpan_60 (lv_at hl 6 rfl) ?_
    refine lv_aload_n C.1 C.2.1 dX0_sameSpan_62 rfl (lv_at hl 0 rfl) ?_
    refine xg_grammar C hw dX0_sameSpan_63 ?_
    refine xn_many C hw dX0_sameSpan_66 ?_
    refine lv_icmp_ge (tgt := 118) C.1 C.2.1 dX0_sameSpan_69 (by decide) (fun h69 => ?_) (fun h69 => ?_)
    · replace hf := hf.1 h69
      refine lv_iinc (v := (x5 + 1)) (lv' := [(5, .int (x5 + 1)), (0, .ref (ad 0)), (1, .int x1), (2, .int x2), (3, .int x3), (4, .int x4), (6, .int x6)]) C.1 C.2.1 dX0_sameSpan_118 hl (k := 5) rfl rfl (Nat.le_of_ble_eq_true rfl) rfl (fun ls hl => ?_)
      refine lv_goto (tgt := 6) C.1 C.2.1 dX0_sameSpan_121 (by decide) ?_
      exact hK6 _ _ _ hf (lv_sub hl [1, 2, 3, 4, 5, 0] rfl)
    · replace hf := hf.2 h69
      refine lv_iload C.1 C.2.1 dX0_sameSpan_72 (lv_at hl 4 rfl) ?_
      refine lv_aload_n C.1 C.2.1 dX0_sameSpan_74 rfl (lv_at hl 0 rfl) ?_
      refine xg_livesOf C hw dX0_sameSpan_75 ?_
      refine lv_iload C.1 C.2.1 dX0_sameSpan_78 (lv_at hl 6 rfl) ?_
      refine lv_iload_n C.1 C.2.1 dX0_sameSpan_80 rfl (lv_at hl 2 rfl) ?_
      refine lv_iload_n C.1 C.2.1 dX0_sameSpan_81 rfl (lv_at hl 3 rfl) ?_
      refine kx_pieceOf C hl.1 (Nat.le_of_ble_eq_true rfl) ⟨Nat.le_of_ble_eq_true rfl, Nat.le_of_ble_eq_true rfl⟩ dX0_sameSpan_82 ?_
      obtain ⟨b85, hf⟩ := hf
      refine g_zald C hw 51 rfl b85 dX0_sameSpan_85 ?_
      refine lv_if_eq (tgt := 108) C.1 C.2.1 dX0_sameSpan_86 (by decide) (fun h86 => ?_) (fun h86 => ?_)
      · replace hf := hf.1 h86
        refine lv_iconst (v := 0) C.1 C.2.1 dX0_sameSpan_108 rfl ?_
        refine lv_ior C.1 C.2.1 dX0_sameSpan_109 ?_
        refine lv_istore (lv' := [(4, .int (x4 ||| 0)), (0, .ref (ad 0)), (1, .int x1), (2, .int x2), (3, .int x3), (5, .int x5), (6, .int x6)]) C.1 C.2.1 dX0_sameSpan_110 hl (Nat.le_of_ble_eq_true rfl) rfl (fun ls hl => ?_)
        refine lv_iinc (v := (x6 + 1)) (lv' := [(6, .int (x6 + 1)), (4, .int (x4 ||| 0)), (0, .ref (ad 0)), (1, .int x1), (2, .int x2), (3, .int x3), (5, .int x5)]) C.1 C.2.1 dX0_sameSpan_112 hl (k := 6) rfl rfl (Nat.le_of_ble_eq_true rfl) rfl (fun ls hl => ?_)
        refine lv_goto (tgt := 60) C.1 C.2.1 dX0_sameSpan_115 (by decide) ?_
        exact hK60 _ _ _ hf (lv_sub hl [2, 3, 4, 5, 1, 6, 0] rfl)
      · replace hf := hf.2 h86
        refine lv_aload_n C.1 C.2.1 dX0_sameSpan_89 rfl (lv_at hl 0 rfl) ?_
        refine lv_iload_n C.1 C.2.1 dX0_sameSpan_90 rfl (lv_at hl 1 rfl) ?_
        refine lv_iload C.1 C.2.1 dX0_sameSpan_91 (lv_at hl 5 rfl) ?_
        refine lv_iload C.1 C.2.1 dX0_sameSpan_93 (lv_at hl 6 rfl) ?_
        refine kx_canBeBelow C hw hl.1 (Nat.le_of_ble_eq_true rfl) ⟨Nat.le_of_ble_eq_true rfl, Nat.le_of_ble_eq_true rfl⟩ dX0_sameSpan_95 hf (fun r95 hf => ?_)
        refine lv_if_eq (tgt := 108) C.1 C.2.1 dX0_sameSpan_98 (by decide) (fun h98 => ?_) (fun h98 => ?_)
        · replace hf := hf.1 h98
          refine lv_iconst (v := 0) C.1 C.2.1 dX0_sameSpan_108 rfl ?_
          refine lv_ior C.1 C.2.1 dX0_sameSpan_109 ?_
          refine lv_istore (lv' := [(4, .int (x4 ||| 0)), (0, .ref (ad 0)), (1, .int x1), (2, .int x2), (3, .int x3), (5, .int x5), (6, .int x6)]) C.1 C.2.1 dX0_sameSpan_110 hl (Nat.le_of_ble_eq_true rfl) rfl (fun ls hl => ?_)
          refine lv_iinc (v := (x6 + 1)) (lv' := [(6, .int (x6 + 1)), (4, .int (x4 ||| 0)), (0, .ref (ad 0)), (1, .int x1), (2, .int x2), (3, .int x3), (5, .int x5)]) C.1 C.2.1 dX0_sameSpan_112 hl (k := 6) rfl rfl (Nat.le_of_ble_eq_true rfl) rfl (fun ls hl => ?_)
          refine lv_goto (tgt := 60) C.1 C.2.1 dX0_sameSpan_115 (by decide) ?_
          exact hK60 _ _ _ hf (lv_sub hl [2, 3, 4, 5, 1, 6, 0] rfl)
        · replace hf := hf.2 h98
          refine lv_iconst (v := 1) C.1 C.2.1 dX0_sameSpan_101 rfl ?_
          refine lv_iload C.1 C.2.1 dX0_sameSpan_102 (lv_at hl 6 rfl) ?_
          refine lv_ishl C.1 C.2.1 dX0_sameSpan_104 ?_
          refine lv_goto (tgt := 109) C.1 C.2.1 dX0_sameSpan_105 (by decide) ?_
          refine lv_ior C.1 C.2.1 dX0_sameSpan_109 ?_
          refine lv_istore (lv' := [(4, .int (x4 ||| (1 <<< (x6 &&& 31)))), (0, .ref (ad 0)), (1, .int x1), (2, .int x2), (3, .int x3), (5, .int x5), (6, .int x6)]) C.1 C.2.1 dX0_sameSpan_110 hl (Nat.le_of_ble_eq_true rfl) rfl (fun ls hl => ?_)
          refine lv_iinc (v := (x6 + 1)) (lv' := [(6, .int (x6 + 1)), (4, .int (x4 ||| (1 <<< (x6 &&& 31)))), (0, .ref (ad 0)), (1, .int x1), (2, .int x2), (3, .int x3), (5, .int x5)]) C.1 C.2.1 dX0_sameSpan_112 hl (k := 6) rfl rfl (Nat.le_of_ble_eq_true rfl) rfl (fun ls hl => ?_)
          refine lv_goto (tgt := 60) C.1 C.2.1 dX0_sameSpan_115 (by decide) ?_
          exact hK60 _ _ _ hf (lv_sub hl [2, 3, 4, 5, 1, 6, 0] rfl)
  have P60 : ∀ (x1 : Int32) (x2 : Int32) (x3 : Int32) (x5 : Int32) (K6 : Int32 → Int32 → Prop) (_ : ∀ (x4 : Int32) (x5 : Int32) (ls : Array Slot), K6 x4 x5 → lv_has ls 7 [(0, .ref (ad 0)), (1, .int x1), (2, .int x2), (3, .int x3), (4, .int x4), (5, .int x5)] → W p l e rm_x_sameSpan s m args below meth c H [] 0 0 QQ (F0 m 6 ls [])) (n : Nat) (x4 : Int32) (x6 : Int32) (ls : Array Slot), LL2 (x_sameSpan_p60 σ x1 x2 x3 x5 Q K6) n x4 x6 → lv_has ls 7 [(0, .ref (ad 0)), (1, .int x1), (2, .int x2), (3, .int x3), (4, .int x4), (5, .int x5), (6, .int x6)] → W p l e rm_x_sameSpan s m args below meth c H [] 0 0 QQ (F0 m 60 ls []) := by
    intro x1 x2 x3 x5 K6 hK6 n
    induction n with
    | zero => intro x4 x6 ls hf; exact False.elim hf
    | succ n ih => intro x4 x6 ls hf hl; exact B60 x1 x2 x3 x5 K6 hK6 (LL2 _ n) ih x4 x6 ls hf hl
  have B6 : ∀ (x1 : Int32) (x2 : Int32) (x3 : Int32) (K6 : Int32 → Int32 → Prop) (_ : ∀ (x4 : Int32) (x5 : Int32) (ls : Array Slot), K6 x4 x5 → lv_has ls 7 [(0, .ref (ad 0)), (1, .int x1), (2, .int x2), (3, .int x3), (4, .int x4), (5, .int x5)] → W p l e rm_x_sameSpan s m args below meth c H [] 0 0 QQ (F0 m 6 ls [])) (x4 : Int32) (x5 : Int32) (ls : Array Slot), x_sameSpan_p6 σ x1 x2 x3 Q K6 x4 x5 → lv_has ls 7 [(0, .ref (ad 0)), (1, .int x1), (2, .int x2), (3, .int x3), (4, .int x4), (5, .int x5)] → W p l e rm_x_sameSpan s m args below meth c H [] 0 0 QQ (F0 m 6 ls []) := by
    intro x1 x2 x3 K6 hK6 x4 x5 ls hf hl
    unfold x_sameSpan_p6 at hf
    refine lv_iload C.1 C.2.1 dX0_sameSpan_6 (lv_at hl 5 rfl) ?_
    refine lv_aload_n C.1 C.2.1 dX0_sameSpan_8 rfl (lv_at hl 0 rfl) ?_
    refine xg_grammar C hw dX0_sameSpan_9 ?_
    refine xn_size C hw dX0_sameSpan_12 ?_
    refine lv_iload_n C.1 C.2.1 dX0_sameSpan_15 rfl (lv_at hl 1 rfl) ?_
    obtain ⟨b16, hf⟩ := hf
    refine g_iald C hw 84 rfl b16 dX0_sameSpan_16 ?_
    refine lv_icmp_ge (tgt := 124) C.1 C.2.1 dX0_sameSpan_17 (by decide) (fun h17 => ?_) (fun h17 => ?_)
    · replace hf := hf.1 h17
      refine lv_iload C.1 C.2.1 dX0_sameSpan_124 (lv_at hl 4 rfl) ?_
      exact hret _ _ _ hf dX0_sameSpan_126
    · replace hf := hf.2 h17
      refine lv_aload_n C.1 C.2.1 dX0_sameSpan_20 rfl (lv_at hl 0 rfl) ?_
      refine lv_iload_n C.1 C.2.1 dX0_sameSpan_21 rfl (lv_at hl 1 rfl) ?_
      refine lv_iconst (v := 0) C.1 C.2.1 dX0_sameSpan_22 rfl ?_
      refine lv_iload C.1 C.2.1 dX0_sameSpan_23 (lv_at hl 5 rfl) ?_
      refine lv_iload_n C.1 C.2.1 dX0_sameSpan_25 rfl (lv_at hl 2 rfl) ?_
      refine kx_areBare C hw hl.1 (Nat.le_of_ble_eq_true rfl) ⟨Nat.le_of_ble_eq_true rfl, Nat.le_of_ble_eq_true rfl⟩ dX0_sameSpan_26 hf (fun r26 hf => ?_)
      refine lv_if_eq (tgt := 118) C.1 C.2.1 dX0_sameSpan_29 (by decide) (fun h29 => ?_) (fun h29 => ?_)
      · replace hf := hf.1 h29
        refine lv_iinc (v := (x5 + 1)) (lv' := [(5, .int (x5 + 1)), (0, .ref (ad 0)), (1, .int x1), (2, .int x2), (3, .int x3), (4, .int x4)]) C.1 C.2.1 dX0_sameSpan_118 hl (k := 5) rfl rfl (Nat.le_of_ble_eq_true rfl) rfl (fun ls hl => ?_)
        refine lv_goto (tgt := 6) C.1 C.2.1 dX0_sameSpan_121 (by decide) ?_
        exact hK6 _ _ _ hf (lv_sub hl [1, 2, 3, 4, 5, 0] rfl)
      · replace hf := hf.2 h29
        refine lv_aload_n C.1 C.2.1 dX0_sameSpan_32 rfl (lv_at hl 0 rfl) ?_
        refine lv_iload_n C.1 C.2.1 dX0_sameSpan_33 rfl (lv_at hl 1 rfl) ?_
        refine lv_iload C.1 C.2.1 dX0_sameSpan_34 (lv_at hl 5 rfl) ?_
        refine lv_iconst (v := 1) C.1 C.2.1 dX0_sameSpan_36 rfl ?_
        refine lv_iadd C.1 C.2.1 dX0_sameSpan_37 ?_
        refine lv_aload_n C.1 C.2.1 dX0_sameSpan_38 rfl (lv_at hl 0 rfl) ?_
        refine xg_grammar C hw dX0_sameSpan_39 ?_
        refine xn_size C hw dX0_sameSpan_42 ?_
        refine lv_iload_n C.1 C.2.1 dX0_sameSpan_45 rfl (lv_at hl 1 rfl) ?_
        refine g_iald C hw 84 rfl b16 dX0_sameSpan_46 ?_
        refine lv_iload_n C.1 C.2.1 dX0_sameSpan_47 rfl (lv_at hl 3 rfl) ?_
        refine kx_areBare C hw hl.1 (Nat.le_of_ble_eq_true rfl) ⟨Nat.le_of_ble_eq_true rfl, Nat.le_of_ble_eq_true rfl⟩ dX0_sameSpan_48 hf (fun r48 hf => ?_)
        refine lv_if_ne (tgt := 57) C.1 C.2.1 dX0_sameSpan_51 (by decide) (fun h51 => ?_) (fun h51 => ?_)
        · replace hf := hf.2 h51
          refine lv_iconst (v := 0) C.1 C.2.1 dX0_sameSpan_57 rfl ?_
          refine lv_istore (lv' := [(6, .int 0), (0, .ref (ad 0)), (1, .int x1), (2, .int x2), (3, .int x3), (4, .int x4), (5, .int x5)]) C.1 C.2.1 dX0_sameSpan_58 hl (Nat.le_of_ble_eq_true rfl) rfl (fun ls hl => ?_)
          obtain ⟨n, hf⟩ := hf
          exact P60 _ _ _ _ _ hK6 n _ _ _ hf (lv_sub hl [1, 2, 3, 4, 5, 6, 0] rfl)
        · replace hf := hf.1 h51
          refine lv_goto (tgt := 118) C.1 C.2.1 dX0_sameSpan_54 (by decide) ?_
          refine lv_iinc (v := (x5 + 1)) (lv' := [(5, .int (x5 + 1)), (0, .ref (ad 0)), (1, .int x1), (2, .int x2), (3, .int x3), (4, .int x4)]) C.1 C.2.1 dX0_sameSpan_118 hl (k := 5) rfl rfl (Nat.le_of_ble_eq_true rfl) rfl (fun ls hl => ?_)
          refine lv_goto (tgt := 6) C.1 C.2.1 dX0_sameSpan_121 (by decide) ?_
          exact hK6 _ _ _ hf (lv_sub hl [1, 2, 3, 4, 5, 0] rfl)
  have P6 : ∀ (x1 : Int32) (x2 : Int32) (x3 : Int32) (n : Nat) (x4 : Int32) (x5 : Int32) (ls : Array Slot), LL2 (x_sameSpan_p6 σ x1 x2 x3 Q) n x4 x5 → lv_has ls 7 [(0, .ref (ad 0)), (1, .int x1), (2, .int x2), (3, .int x3), (4, .int x4), (5, .int x5)] → W p l e rm_x_sameSpan s m args below meth c H [] 0 0 QQ (F0 m 6 ls []) := by
    intro x1 x2 x3 n
    induction n with
    | zero => intro x4 x5 ls hf; exact False.elim hf
    | succ n ih => intro x4 x5 ls hf hl; exact B6 x1 x2 x3 (LL2 _ n) ih x4 x5 ls hf hl
  unfold x_sameSpan at hf
  refine lv_iconst (v := 0) C.1 C.2.1 dX0_sameSpan_0 rfl ?_
  refine lv_istore (lv' := [(4, .int 0), (0, .ref (ad 0)), (1, .int x1), (2, .int x2), (3, .int x3)]) C.1 C.2.1 dX0_sameSpan_1 hl (Nat.le_of_ble_eq_true rfl) rfl (fun ls hl => ?_)
  refine lv_iconst (v := 0) C.1 C.2.1 dX0_sameSpan_3 rfl ?_
  refine lv_istore (lv' := [(5, .int 0), (4, .int 0), (0, .ref (ad 0)), (1, .int x1), (2, .int x2), (3, .int x3)]) C.1 C.2.1 dX0_sameSpan_4 hl (Nat.le_of_ble_eq_true rfl) rfl (fun ls hl => ?_)
  obtain ⟨n, hf⟩ := hf
  exact P6 _ _ _ n _ _ _ hf (lv_sub hl [2, 3, 4, 5, 1, 0] rfl)
theorem kx_sameSpan {p : Program} {l : Launch} {e : Env} {R : Room} {s : State} {m : MethodId} {args : Array Value} {below : List Frame} {meth : Method} {c : Code} {H : Heap} {locs : List Loc} {Z : State → Prop} {cc : ByteArray} {nL pc : Nat} {ls : Array Slot} {rest : List Value} {D : va_G} {ct : Ct} {ad : Nat → Nat} {σ : St} {x1 : Int32} {x2 : Int32} {x3 : Int32} {Qp : Int32 → Prop} (C : CallFix p m c cc nL s args lw_all RX0) (hw : gH D ct shX ad s σ H locs) (hsz : ls.size = nL) (hrm : (rest.map fun v => v.category).sum ≤ 8) (hR : rm_x_sameSpan.frames + 1 ≤ R.frames ∧ 8 + (7 + 11) + rm_x_sameSpan.locals ≤ R.locals) (hdg : decode cc pc = .ok (.invokevirtual 581, 3)) (hf : x_sameSpan σ x1 x2 x3 Qp) (kk : ∀ (r : Int32), Qp r → W p l e R s m args below meth c H locs 0 0 Z (F0 m (pc + 3) ls (.int r :: rest))) : W p l e R s m args below meth c H locs 0 0 Z (F0 m pc ls (.int x3 :: .int x2 :: .int x1 :: .ref (ad 0) :: rest)) :=
  g_callVR (As := [.int x1, .int x2, .int x3]) (rest := rest) C hw rfl rfl (met_x_sameSpan l D ct ad hw.2.1 σ x1 x2 x3 Qp hf) (cwV 3 C.2.2.2.2 (lw_V q1101 q1103 qs77 q200 q1104) rfl rfl rfl (by decide +kernel) hR) rfl hsz rfl hrm ⟨Nat.zero_le _, Nat.zero_le _⟩ hdg kk
def x_countsMore_p136 (σ : St) (x1 : Int32) (x2 : Int32) (x4 : Int32) (x5 : Int32) (x6 : Int32) (x7 : Int32) (Q : Int32 → St → Prop) (K5 : St → Int32 → Int32 → Prop) (v0 : Int32) (v1 : Int32) : Prop :=
  (vp_in x5 2028 ∧ (∀ s146 : St, s146 = s_A σ 53 (Int32.toNatClampNeg x5) x6 → (vp_in x5 2028 ∧ (∀ s155 : St, s155 = s_A s146 52 (Int32.toNatClampNeg x5) x7 → K5 s155 (v1 ||| v0) (x4 + 1)))))
def x_countsMore_p131 (σ : St) (x1 : Int32) (x2 : Int32) (x4 : Int32) (x5 : Int32) (x6 : Int32) (x7 : Int32) (Q : Int32 → St → Prop) (K5 : St → Int32 → Int32 → Prop) (v0 : Int32) : Prop :=
  (x_countsMore_p136 σ x1 x2 x4 x5 x6 x7 Q K5 1 v0)
def x_countsMore_p104 (σ : St) (x1 : Int32) (x2 : Int32) (x3 : Int32) (x4 : Int32) (x5 : Int32) (x6 : Int32) (Q : Int32 → St → Prop) (K5 : St → Int32 → Int32 → Prop) (v0 : Int32) : Prop :=
  (vp_in x5 2028 ∧ ((x6 = (gI σ 53 x5) → (vp_in x5 2028 ∧ ((v0 = (gI σ 52 x5) → (x_countsMore_p136 σ x1 x2 x4 x5 x6 v0 Q K5 0 x3)) ∧ (¬ v0 = (gI σ 52 x5) → (x_countsMore_p131 σ x1 x2 x4 x5 x6 v0 Q K5 x3))))) ∧ (¬ x6 = (gI σ 53 x5) → (x_countsMore_p131 σ x1 x2 x4 x5 x6 v0 Q K5 x3))))
def x_countsMore_p5 (x1 : Int32) (x2 : Int32) (Q : Int32 → St → Prop) (K5 : St → Int32 → Int32 → Prop) (σ : St) (x3 : Int32) (x4 : Int32) : Prop :=
  (((σ.1 80) ≤ x4 → (zB x3 ∧ Q x3 σ)) ∧ (¬ (σ.1 80) ≤ x4 → (vp_in (fx_pieceOf x4 x1 x2) 2028 ∧ (((gI σ 51 (fx_pieceOf x4 x1 x2)) = 0 → K5 σ x3 (x4 + 1)) ∧ (¬ (gI σ 51 (fx_pieceOf x4 x1 x2)) = 0 → (x_folds σ x4 x1 x2 41 45 46 2000000000 0 (fun r60 s60 => (x_isOnRing s60 x4 (fun r71 => ((r71 = 0 → (x_folds s60 x4 x1 x2 40 47 48 0 1 (fun r101 s101 => (x_countsMore_p104 s101 x1 x2 x3 x4 (fx_pieceOf x4 x1 x2) (fx_together 1 r60) Q K5 r101)))) ∧ (¬ r71 = 0 → (x_countsMore_p104 s60 x1 x2 x3 x4 (fx_pieceOf x4 x1 x2) (fx_together 1 r60) Q K5 (-3)))))))))))))
def x_countsMore (σ : St) (x1 : Int32) (x2 : Int32) (Q : Int32 → St → Prop) : Prop :=
  (Lp3 (x_countsMore_p5 x1 x2 Q) σ 0 0)
abbrev rm_x_countsMore : Room := { frames := 8, cells := 0, slots := 0, locals := 296 }
set_option maxHeartbeats 4000000 in
theorem met_x_countsMore (l : Launch) (D : va_G) (ct : Ct) (ad : Nat → Nat) (hJ : gJ shX ad ct) (σ : St) (x1 : Int32) (x2 : Int32) (Q : Int32 → St → Prop) (hf : x_countsMore σ x1 x2 Q) : Met l yX0_countsMore (ws_ yX0_countsMore cX0_countsMore 8 (some .boolean)) rm_x_countsMore (va_Pc [.ref (ad 0), .int x1, .int x2] (gP D ct shX ad σ)) (gQ rvI D ct shX ad Q) 0 0 (gA shX ad) := by
  refine g_metZ hJ (by decide) (Nat.le_of_ble_eq_true rfl) ?_
  intro p e s m args below meth c QQ ls C hw hl hret
  replace hl : lv_has ls 8 [(0, .ref (ad 0)), (1, .int x1), (2, .int x2)] := hl
  have J136 : ∀ (σ : St) (H : Heap) (locs : List Loc) (x1 : Int32) (x2 : Int32) (x4 : Int32) (x5 : Int32) (x6 : Int32) (x7 : Int32) (v0 : Int32) (v1 : Int32) (K5 : St → Int32 → Int32 → Prop) (_ : ∀ (σ : St) (H : Heap) (locs : List Loc) (x3 : Int32) (x4 : Int32) (ls : Array Slot), K5 σ x3 x4 → gH D ct shX ad s σ H locs → lv_has ls 8 [(0, .ref (ad 0)), (1, .int x1), (2, .int x2), (3, .int x3), (4, .int x4)] → W p l e rm_x_countsMore s m args below meth c H locs 0 0 QQ (F0 m 5 ls [])) (ls : Array Slot), x_countsMore_p136 σ x1 x2 x4 x5 x6 x7 Q K5 v0 v1 → gH D ct shX ad s σ H locs → lv_has ls 8 [(0, .ref (ad 0)), (1, .int x1), (2, .int x2), (4, .int x4), (5, .int x5), (6, .int x6), (7, .int x7)] → W p l e rm_x_countsMore s m args below meth c H locs 0 0 QQ (F0 m 136 ls [.int v0, .int v1]) := by
    intro σ H locs x1 x2 x4 x5 x6 x7 v0 v1 K5 hK5 ls hf hw hl
    unfold x_countsMore_p136 at hf
    refine lv_ior C.1 C.2.1 dX0_countsMore_136 ?_
    refine lv_istore_n (lv' := [(3, .int (v1 ||| v0)), (0, .ref (ad 0)), (1, .int x1), (2, .int x2), (4, .int x4), (5, .int x5), (6, .int x6), (7, .int x7)]) C.1 C.2.1 dX0_countsMore_137 rfl hl (Nat.le_of_ble_eq_true rfl) rfl (fun ls hl => ?_)
    refine lv_aload_n C.1 C.2.1 dX0_countsMore_138 rfl (lv_at hl 1 rfl) ?_
    refine xg_leastOf C hw dX0_countsMore_139 ?_
    refine lv_iload C.1 C.2.1 dX0_countsMore_142 (lv_at hl 5 rfl) ?_
    refine lv_iload C.1 C.2.1 dX0_countsMore_144 (lv_at hl 6 rfl) ?_
    obtain ⟨b146, hf⟩ := hf
    refine g_iast C shX_sep hw 53 rfl b146 dX0_countsMore_146 (fun s146 H locs e146 hw => ?_)
    replace hf := hf s146 e146
    refine lv_aload_n C.1 C.2.1 dX0_countsMore_147 rfl (lv_at hl 1 rfl) ?_
    refine xg_treesOf C hw dX0_countsMore_148 ?_
    refine lv_iload C.1 C.2.1 dX0_countsMore_151 (lv_at hl 5 rfl) ?_
    refine lv_iload C.1 C.2.1 dX0_countsMore_153 (lv_at hl 7 rfl) ?_
    obtain ⟨b155, hf⟩ := hf
    refine g_iast C shX_sep hw 52 rfl b155 dX0_countsMore_155 (fun s155 H locs e155 hw => ?_)
    replace hf := hf s155 e155
    refine lv_iinc (v := (x4 + 1)) (lv' := [(4, .int (x4 + 1)), (3, .int (v1 ||| v0)), (0, .ref (ad 0)), (1, .int x1), (2, .int x2), (5, .int x5), (6, .int x6), (7, .int x7)]) C.1 C.2.1 dX0_countsMore_156 hl (k := 4) rfl rfl (Nat.le_of_ble_eq_true rfl) rfl (fun ls hl => ?_)
    refine lv_goto (tgt := 5) C.1 C.2.1 dX0_countsMore_159 (by decide) ?_
    exact hK5 _ _ _ _ _ _ hf hw (lv_sub hl [2, 3, 4, 1, 0] rfl)
  have J131 : ∀ (σ : St) (H : Heap) (locs : List Loc) (x1 : Int32) (x2 : Int32) (x4 : Int32) (x5 : Int32) (x6 : Int32) (x7 : Int32) (v0 : Int32) (K5 : St → Int32 → Int32 → Prop) (_ : ∀ (σ : St) (H : Heap) (locs : List Loc) (x3 : Int32) (x4 : Int32) (ls : Array Slot), K5 σ x3 x4 → gH D ct shX ad s σ H locs → lv_has ls 8 [(0, .ref (ad 0)), (1, .int x1), (2, .int x2), (3, .int x3), (4, .int x4)] → W p l e rm_x_countsMore s m args below meth c H locs 0 0 QQ (F0 m 5 ls [])) (ls : Array Slot), x_countsMore_p131 σ x1 x2 x4 x5 x6 x7 Q K5 v0 → gH D ct shX ad s σ H locs → lv_has ls 8 [(0, .ref (ad 0)), (1, .int x1), (2, .int x2), (4, .int x4), (5, .int x5), (6, .int x6), (7, .int x7)] → W p l e rm_x_countsMore s m args below meth c H locs 0 0 QQ (F0 m 131 ls [.int v0]) := by
    intro σ H locs x1 x2 x4 x5 x6 x7 v0 K5 hK5 ls hf hw hl
    unfold x_countsMore_p131 at hf
    refine lv_iconst (v := 1) C.1 C.2.1 dX0_countsMore_131 rfl ?_
    refine lv_goto (tgt := 136) C.1 C.2.1 dX0_countsMore_132 (by decide) ?_
    exact J136 _ _ _ _ _ _ _ _ _ _ _ _ hK5 _ hf hw (lv_sub hl [0, 1, 2, 3, 4, 5, 6] rfl)
  have J104 : ∀ (σ : St) (H : Heap) (locs : List Loc) (x1 : Int32) (x2 : Int32) (x3 : Int32) (x4 : Int32) (x5 : Int32) (x6 : Int32) (v0 : Int32) (K5 : St → Int32 → Int32 → Prop) (_ : ∀ (σ : St) (H : Heap) (locs : List Loc) (x3 : Int32) (x4 : Int32) (ls : Array Slot), K5 σ x3 x4 → gH D ct shX ad s σ H locs → lv_has ls 8 [(0, .ref (ad 0)), (1, .int x1), (2, .int x2), (3, .int x3), (4, .int x4)] → W p l e rm_x_countsMore s m args below meth c H locs 0 0 QQ (F0 m 5 ls [])) (ls : Array Slot), x_countsMore_p104 σ x1 x2 x3 x4 x5 x6 Q K5 v0 → gH D ct shX ad s σ H locs → lv_has ls 8 [(0, .ref (ad 0)), (1, .int x1), (2, .int x2), (3, .int x3), (4, .int x4), (5, .int x5), (6, .int x6)] → W p l e rm_x_countsMore s m args below meth c H locs 0 0 QQ (F0 m 104 ls [.int v0]) := by
    intro σ H locs x1 x2 x3 x4 x5 x6 v0 K5 hK5 ls hf hw hl
    unfold x_countsMore_p104 at hf
    refine lv_istore (lv' := [(7, .int v0), (0, .ref (ad 0)), (1, .int x1), (2, .int x2), (3, .int x3), (4, .int x4), (5, .int x5), (6, .int x6)]) C.1 C.2.1 dX0_countsMore_104 hl (Nat.le_of_ble_eq_true rfl) rfl (fun ls hl => ?_)
    refine lv_iload_n C.1 C.2.1 dX0_countsMore_106 rfl (lv_at hl 4 rfl) ?_
    refine lv_iload C.1 C.2.1 dX0_countsMore_107 (lv_at hl 7 rfl) ?_
    refine lv_aload_n C.1 C.2.1 dX0_countsMore_109 rfl (lv_at hl 1 rfl) ?_
    refine xg_leastOf C hw dX0_countsMore_110 ?_
    refine lv_iload C.1 C.2.1 dX0_countsMore_113 (lv_at hl 6 rfl) ?_
    obtain ⟨b115, hf⟩ := hf
    refine g_iald C hw 53 rfl b115 dX0_countsMore_115 ?_
    refine lv_icmp_ne (tgt := 131) C.1 C.2.1 dX0_countsMore_116 (by decide) (fun h116 => ?_) (fun h116 => ?_)
    · replace hf := hf.2 h116
      exact J131 _ _ _ _ _ _ _ _ _ _ _ hK5 _ hf hw (lv_sub hl [1, 2, 3, 5, 6, 7, 0] rfl)
    · replace hf := hf.1 h116
      refine lv_iload C.1 C.2.1 dX0_countsMore_119 (lv_at hl 0 rfl) ?_
      refine lv_aload_n C.1 C.2.1 dX0_countsMore_121 rfl (lv_at hl 1 rfl) ?_
      refine xg_treesOf C hw dX0_countsMore_122 ?_
      refine lv_iload C.1 C.2.1 dX0_countsMore_125 (lv_at hl 6 rfl) ?_
      obtain ⟨b127, hf⟩ := hf
      refine g_iald C hw 52 rfl b127 dX0_countsMore_127 ?_
      refine lv_icmp_eq (tgt := 135) C.1 C.2.1 dX0_countsMore_128 (by decide) (fun h128 => ?_) (fun h128 => ?_)
      · replace hf := hf.1 h128
        refine lv_iconst (v := 0) C.1 C.2.1 dX0_countsMore_135 rfl ?_
        exact J136 _ _ _ _ _ _ _ _ _ _ _ _ hK5 _ hf hw (lv_sub hl [1, 2, 3, 5, 6, 7, 0] rfl)
      · replace hf := hf.2 h128
        exact J131 _ _ _ _ _ _ _ _ _ _ _ hK5 _ hf hw (lv_sub hl [1, 2, 3, 5, 6, 7, 0] rfl)
  have B5 : ∀ (x1 : Int32) (x2 : Int32) (K5 : St → Int32 → Int32 → Prop) (_ : ∀ (σ : St) (H : Heap) (locs : List Loc) (x3 : Int32) (x4 : Int32) (ls : Array Slot), K5 σ x3 x4 → gH D ct shX ad s σ H locs → lv_has ls 8 [(0, .ref (ad 0)), (1, .int x1), (2, .int x2), (3, .int x3), (4, .int x4)] → W p l e rm_x_countsMore s m args below meth c H locs 0 0 QQ (F0 m 5 ls [])) (σ : St) (H : Heap) (locs : List Loc) (x3 : Int32) (x4 : Int32) (ls : Array Slot), x_countsMore_p5 x1 x2 Q K5 σ x3 x4 → gH D ct shX ad s σ H locs → lv_has ls 8 [(0, .ref (ad 0)), (1, .int x1), (2, .int x2), (3, .int x3), (4, .int x4)] → W p l e rm_x_countsMore s m args below meth c H locs 0 0 QQ (F0 m 5 ls []) := by
    intro x1 x2 K5 hK5 σ H locs x3 x4 ls hf hw hl
    unfold x_countsMore_p5 at hf
    refine lv_iload C.1 C.2.1 dX0_countsMore_5 (lv_at hl 4 rfl) ?_
    refine lv_aload_n C.1 C.2.1 dX0_countsMore_7 rfl (lv_at hl 0 rfl) ?_
    refine xg_grammar C hw dX0_countsMore_8 ?_
    refine xn_many C hw dX0_countsMore_11 ?_
    refine lv_icmp_ge (tgt := 162) C.1 C.2.1 dX0_countsMore_14 (by decide) (fun h14 => ?_) (fun h14 => ?_)
    · replace hf := hf.1 h14
      refine lv_iload_n C.1 C.2.1 dX0_countsMore_162 rfl (lv_at hl 3 rfl) ?_
      obtain ⟨hz, hf⟩ := hf
      exact hret _ _ _ _ _ _ hf hw hz dX0_countsMore_163
    · replace hf := hf.2 h14
      refine lv_iload C.1 C.2.1 dX0_countsMore_17 (lv_at hl 4 rfl) ?_
      refine lv_iload_n C.1 C.2.1 dX0_countsMore_19 rfl (lv_at hl 1 rfl) ?_
      refine lv_iload_n C.1 C.2.1 dX0_countsMore_20 rfl (lv_at hl 2 rfl) ?_
      refine kx_pieceOf C hl.1 (Nat.le_of_ble_eq_true rfl) ⟨Nat.le_of_ble_eq_true rfl, Nat.le_of_ble_eq_true rfl⟩ dX0_countsMore_21 ?_
      refine lv_istore (lv' := [(5, .int (fx_pieceOf x4 x1 x2)), (0, .ref (ad 0)), (1, .int x1), (2, .int x2), (3, .int x3), (4, .int x4)]) C.1 C.2.1 dX0_countsMore_24 hl (Nat.le_of_ble_eq_true rfl) rfl (fun ls hl => ?_)
      refine lv_aload_n C.1 C.2.1 dX0_countsMore_26 rfl (lv_at hl 1 rfl) ?_
      refine xg_livesOf C hw dX0_countsMore_27 ?_
      refine lv_iload C.1 C.2.1 dX0_countsMore_30 (lv_at hl 0 rfl) ?_
      obtain ⟨b32, hf⟩ := hf
      refine g_zald C hw 51 rfl b32 dX0_countsMore_32 ?_
      refine lv_if_ne (tgt := 39) C.1 C.2.1 dX0_countsMore_33 (by decide) (fun h33 => ?_) (fun h33 => ?_)
      · replace hf := hf.2 h33
        refine lv_iconst (v := 1) C.1 C.2.1 dX0_countsMore_39 rfl ?_
        refine lv_aload_n C.1 C.2.1 dX0_countsMore_40 rfl (lv_at hl 1 rfl) ?_
        refine lv_iload C.1 C.2.1 dX0_countsMore_41 (lv_at hl 5 rfl) ?_
        refine lv_iload_n C.1 C.2.1 dX0_countsMore_43 rfl (lv_at hl 2 rfl) ?_
        refine lv_iload_n C.1 C.2.1 dX0_countsMore_44 rfl (lv_at hl 3 rfl) ?_
        refine lv_aload_n C.1 C.2.1 dX0_countsMore_45 rfl (lv_at hl 1 rfl) ?_
        refine xg_leastPart C hw dX0_countsMore_46 ?_
        refine lv_aload_n C.1 C.2.1 dX0_countsMore_49 rfl (lv_at hl 1 rfl) ?_
        refine xg_lesserFold C hw dX0_countsMore_50 ?_
        refine lv_aload_n C.1 C.2.1 dX0_countsMore_53 rfl (lv_at hl 1 rfl) ?_
        refine xg_togetherFold C hw dX0_countsMore_54 ?_
        refine lv_ldc C.1 C.2.1 C.2.2.2.1 (C.2.2.2.2 _ q355) dX0_countsMore_57 ?_
        refine lv_iconst (v := 0) C.1 C.2.1 dX0_countsMore_59 rfl ?_
        refine kx_folds C hw hl.1 (Nat.le_of_ble_eq_true rfl) ⟨Nat.le_of_ble_eq_true rfl, Nat.le_of_ble_eq_true rfl⟩ dX0_countsMore_60 hf (fun r60 s60 H locs hf hw => ?_)
        refine kx_together C hl.1 (Nat.le_of_ble_eq_true rfl) ⟨Nat.le_of_ble_eq_true rfl, Nat.le_of_ble_eq_true rfl⟩ dX0_countsMore_63 ?_
        refine lv_istore (lv' := [(6, .int (fx_together 1 r60)), (5, .int (fx_pieceOf x4 x1 x2)), (0, .ref (ad 0)), (1, .int x1), (2, .int x2), (3, .int x3), (4, .int x4)]) C.1 C.2.1 dX0_countsMore_66 hl (Nat.le_of_ble_eq_true rfl) rfl (fun ls hl => ?_)
        refine lv_aload_n C.1 C.2.1 dX0_countsMore_68 rfl (lv_at hl 2 rfl) ?_
        refine lv_iload C.1 C.2.1 dX0_countsMore_69 (lv_at hl 6 rfl) ?_
        refine kx_isOnRing C hw hl.1 (Nat.le_of_ble_eq_true rfl) ⟨Nat.le_of_ble_eq_true rfl, Nat.le_of_ble_eq_true rfl⟩ dX0_countsMore_71 hf (fun r71 hf => ?_)
        refine lv_if_eq (tgt := 82) C.1 C.2.1 dX0_countsMore_74 (by decide) (fun h74 => ?_) (fun h74 => ?_)
        · replace hf := hf.1 h74
          refine lv_aload_n C.1 C.2.1 dX0_countsMore_82 rfl (lv_at hl 2 rfl) ?_
          refine lv_iload C.1 C.2.1 dX0_countsMore_83 (lv_at hl 6 rfl) ?_
          refine lv_iload_n C.1 C.2.1 dX0_countsMore_85 rfl (lv_at hl 3 rfl) ?_
          refine lv_iload_n C.1 C.2.1 dX0_countsMore_86 rfl (lv_at hl 4 rfl) ?_
          refine lv_aload_n C.1 C.2.1 dX0_countsMore_87 rfl (lv_at hl 2 rfl) ?_
          refine xg_treesPart C hw dX0_countsMore_88 ?_
          refine lv_aload_n C.1 C.2.1 dX0_countsMore_91 rfl (lv_at hl 2 rfl) ?_
          refine xg_moreFold C hw dX0_countsMore_92 ?_
          refine lv_aload_n C.1 C.2.1 dX0_countsMore_95 rfl (lv_at hl 2 rfl) ?_
          refine xg_timesFold C hw dX0_countsMore_96 ?_
          refine lv_iconst (v := 0) C.1 C.2.1 dX0_countsMore_99 rfl ?_
          refine lv_iconst (v := 1) C.1 C.2.1 dX0_countsMore_100 rfl ?_
          refine kx_folds C hw hl.1 (Nat.le_of_ble_eq_true rfl) ⟨Nat.le_of_ble_eq_true rfl, Nat.le_of_ble_eq_true rfl⟩ dX0_countsMore_101 hf (fun r101 s101 H locs hf hw => ?_)
          exact J104 _ _ _ _ _ _ _ _ _ _ _ hK5 _ hf hw (lv_sub hl [2, 3, 4, 5, 6, 1, 0] rfl)
        · replace hf := hf.2 h74
          refine lv_bipush (v := (-3)) C.1 C.2.1 dX0_countsMore_77 rfl ?_
          refine lv_goto (tgt := 104) C.1 C.2.1 dX0_countsMore_79 (by decide) ?_
          exact J104 _ _ _ _ _ _ _ _ _ _ _ hK5 _ hf hw (lv_sub hl [2, 3, 4, 5, 6, 1, 0] rfl)
      · replace hf := hf.1 h33
        refine lv_goto (tgt := 156) C.1 C.2.1 dX0_countsMore_36 (by decide) ?_
        refine lv_iinc (v := (x4 + 1)) (lv' := [(4, .int (x4 + 1)), (5, .int (fx_pieceOf x4 x1 x2)), (0, .ref (ad 0)), (1, .int x1), (2, .int x2), (3, .int x3)]) C.1 C.2.1 dX0_countsMore_156 hl (k := 5) rfl rfl (Nat.le_of_ble_eq_true rfl) rfl (fun ls hl => ?_)
        refine lv_goto (tgt := 5) C.1 C.2.1 dX0_countsMore_159 (by decide) ?_
        exact hK5 _ _ _ _ _ _ hf hw (lv_sub hl [2, 3, 4, 5, 0] rfl)
  have P5 : ∀ (x1 : Int32) (x2 : Int32) (n : Nat) (σ : St) (x3 : Int32) (x4 : Int32) (ls : Array Slot) (H : Heap) (locs : List Loc), LL3 (x_countsMore_p5 x1 x2 Q) n σ x3 x4 → gH D ct shX ad s σ H locs → lv_has ls 8 [(0, .ref (ad 0)), (1, .int x1), (2, .int x2), (3, .int x3), (4, .int x4)] → W p l e rm_x_countsMore s m args below meth c H locs 0 0 QQ (F0 m 5 ls []) := by
    intro x1 x2 n
    induction n with
    | zero => intro σ x3 x4 ls H locs hf; exact False.elim hf
    | succ n ih => intro σ x3 x4 ls H locs hf hw hl; exact B5 x1 x2 (LL3 _ n) (fun σ H locs x3 x4 ls hf hw hl => ih σ x3 x4 ls H locs hf hw hl) σ H locs x3 x4 ls hf hw hl
  unfold x_countsMore at hf
  obtain ⟨H, hH⟩ : ∃ q, q = s.heap := ⟨_, rfl⟩
  obtain ⟨locs, hL⟩ : ∃ q : List Loc, q = [] := ⟨_, rfl⟩
  rw [← hH, ← hL] at hw ⊢
  refine lv_iconst (v := 0) C.1 C.2.1 dX0_countsMore_0 rfl ?_
  refine lv_istore_n (lv' := [(3, .int 0), (0, .ref (ad 0)), (1, .int x1), (2, .int x2)]) C.1 C.2.1 dX0_countsMore_1 rfl hl (Nat.le_of_ble_eq_true rfl) rfl (fun ls hl => ?_)
  refine lv_iconst (v := 0) C.1 C.2.1 dX0_countsMore_2 rfl ?_
  refine lv_istore (lv' := [(4, .int 0), (3, .int 0), (0, .ref (ad 0)), (1, .int x1), (2, .int x2)]) C.1 C.2.1 dX0_countsMore_3 hl (Nat.le_of_ble_eq_true rfl) rfl (fun ls hl => ?_)
  obtain ⟨n, hf⟩ := hf
  exact P5 _ _ n _ _ _ _ _ _ hf hw (lv_sub hl [2, 3, 4, 1, 0] rfl)
theorem kx_countsMore {p : Program} {l : Launch} {e : Env} {R : Room} {s : State} {m : MethodId} {args : Array Value} {below : List Frame} {meth : Method} {c : Code} {H : Heap} {locs : List Loc} {Z : State → Prop} {cc : ByteArray} {nL pc : Nat} {ls : Array Slot} {rest : List Value} {D : va_G} {ct : Ct} {ad : Nat → Nat} {σ : St} {x1 : Int32} {x2 : Int32} {Qp : Int32 → St → Prop} (C : CallFix p m c cc nL s args lw_all RX0) (hw : gH D ct shX ad s σ H locs) (hsz : ls.size = nL) (hrm : (rest.map fun v => v.category).sum ≤ 8) (hR : rm_x_countsMore.frames + 1 ≤ R.frames ∧ 8 + (8 + 11) + rm_x_countsMore.locals ≤ R.locals) (hdg : decode cc pc = .ok (.invokevirtual 584, 3)) (hf : x_countsMore σ x1 x2 Qp) (kk : ∀ (r : Int32) (σ1 : St) (H1 : Heap) (locs1 : List Loc), Qp r σ1 → gH D ct shX ad s σ1 H1 locs1 → W p l e R s m args below meth c H1 locs1 0 0 Z (F0 m (pc + 3) ls (.int r :: rest))) : W p l e R s m args below meth c H locs 0 0 Z (F0 m pc ls (.int x2 :: .int x1 :: .ref (ad 0) :: rest)) :=
  g_callV (As := [.int x1, .int x2]) (rest := rest) C hw rfl rfl (met_x_countsMore l D ct ad hw.2.1 σ x1 x2 Qp hf) (cwV 2 C.2.2.2.2 (lw_V q1110 q1112 qs79 q200 q1113) rfl rfl rfl (by decide +kernel) hR) rfl hsz rfl hrm ⟨Nat.zero_le _, Nat.zero_le _⟩ hdg kk
def x_costsMore_p116 (σ : St) (x1 : Int32) (x2 : Int32) (x4 : Int32) (x5 : Int32) (x6 : Int32) (Q : Int32 → St → Prop) (K5 : St → Int32 → Int32 → Prop) (v0 : Int32) (v1 : Int32) : Prop :=
  (vp_in x5 4394 ∧ (∀ s136 : St, s136 = s_A σ 56 (Int32.toNatClampNeg x5) (fx_lesser (gI σ 56 x5) x6) → K5 s136 (v1 ||| v0) (x4 + 1)))
def x_costsMore_p96 (σ : St) (x1 : Int32) (x2 : Int32) (x3 : Int32) (x4 : Int32) (x5 : Int32) (Q : Int32 → St → Prop) (K5 : St → Int32 → Int32 → Prop) (v0 : Int32) : Prop :=
  (vp_in x5 4394 ∧ (((gI σ 56 x5) ≤ v0 → (x_costsMore_p116 σ x1 x2 x4 x5 v0 Q K5 0 x3)) ∧ (¬ (gI σ 56 x5) ≤ v0 → (x_costsMore_p116 σ x1 x2 x4 x5 v0 Q K5 1 x3))))
def x_costsMore_p5 (x1 : Int32) (x2 : Int32) (Q : Int32 → St → Prop) (K5 : St → Int32 → Int32 → Prop) (σ : St) (x3 : Int32) (x4 : Int32) : Prop :=
  (((σ.1 80) ≤ x4 → (zB x3 ∧ Q x3 σ)) ∧ (¬ (σ.1 80) ≤ x4 → (((fx_isOn σ x4) = 0 → K5 σ x3 (x4 + 1)) ∧ (¬ (fx_isOn σ x4) = 0 → (vp_in x4 12 ∧ (vp_in x4 12 ∧ (((gI σ 84 x4) = 0 → (x_costsMore_p96 σ x1 x2 x3 x4 ((169 * ((gI σ 83 x4) - 26)) + (fx_spanOf x1 x2)) Q K5 (x2 - x1))) ∧ (¬ (gI σ 84 x4) = 0 → (x_folds σ x4 x1 x2 42 45 46 2000000000 0 (fun r93 s93 => (x_costsMore_p96 s93 x1 x2 x3 x4 ((169 * ((gI σ 83 x4) - 26)) + (fx_spanOf x1 x2)) Q K5 r93)))))))))))
def x_costsMore (σ : St) (x1 : Int32) (x2 : Int32) (Q : Int32 → St → Prop) : Prop :=
  (Lp3 (x_costsMore_p5 x1 x2 Q) σ 0 0)
abbrev rm_x_costsMore : Room := { frames := 8, cells := 0, slots := 0, locals := 296 }
set_option maxHeartbeats 4000000 in
theorem met_x_costsMore (l : Launch) (D : va_G) (ct : Ct) (ad : Nat → Nat) (hJ : gJ shX ad ct) (σ : St) (x1 : Int32) (x2 : Int32) (Q : Int32 → St → Prop) (hf : x_costsMore σ x1 x2 Q) : Met l yX0_costsMore (ws_ yX0_costsMore cX0_costsMore 7 (some .boolean)) rm_x_costsMore (va_Pc [.ref (ad 0), .int x1, .int x2] (gP D ct shX ad σ)) (gQ rvI D ct shX ad Q) 0 0 (gA shX ad) := by
  refine g_metZ hJ (by decide) (Nat.le_of_ble_eq_true rfl) ?_
  intro p e s m args below meth c QQ ls C hw hl hret
  replace hl : lv_has ls 7 [(0, .ref (ad 0)), (1, .int x1), (2, .int x2)] := hl
  have J116 : ∀ (σ : St) (H : Heap) (locs : List Loc) (x1 : Int32) (x2 : Int32) (x4 : Int32) (x5 : Int32) (x6 : Int32) (v0 : Int32) (v1 : Int32) (K5 : St → Int32 → Int32 → Prop) (_ : ∀ (σ : St) (H : Heap) (locs : List Loc) (x3 : Int32) (x4 : Int32) (ls : Array Slot), K5 σ x3 x4 → gH D ct shX ad s σ H locs → lv_has ls 7 [(0, .ref (ad 0)), (1, .int x1), (2, .int x2), (3, .int x3), (4, .int x4)] → W p l e rm_x_costsMore s m args below meth c H locs 0 0 QQ (F0 m 5 ls [])) (ls : Array Slot), x_costsMore_p116 σ x1 x2 x4 x5 x6 Q K5 v0 v1 → gH D ct shX ad s σ H locs → lv_has ls 7 [(0, .ref (ad 0)), (1, .int x1), (2, .int x2), (4, .int x4), (5, .int x5), (6, .int x6)] → W p l e rm_x_costsMore s m args below meth c H locs 0 0 QQ (F0 m 116 ls [.int v0, .int v1]) := by
    intro σ H locs x1 x2 x4 x5 x6 v0 v1 K5 hK5 ls hf hw hl
    unfold x_costsMore_p116 at hf
    refine lv_ior C.1 C.2.1 dX0_costsMore_116 ?_
    refine lv_istore_n (lv' := [(3, .int (v1 ||| v0)), (0, .ref (ad 0)), (1, .int x1), (2, .int x2), (4, .int x4), (5, .int x5), (6, .int x6)]) C.1 C.2.1 dX0_costsMore_117 rfl hl (Nat.le_of_ble_eq_true rfl) rfl (fun ls hl => ?_)
    refine lv_aload_n C.1 C.2.1 dX0_costsMore_118 rfl (lv_at hl 1 rfl) ?_
    refine xg_costOf C hw dX0_costsMore_119 ?_
    refine lv_iload C.1 C.2.1 dX0_costsMore_122 (lv_at hl 5 rfl) ?_
    refine lv_aload_n C.1 C.2.1 dX0_costsMore_124 rfl (lv_at hl 1 rfl) ?_
    refine xg_costOf C hw dX0_costsMore_125 ?_
    refine lv_iload C.1 C.2.1 dX0_costsMore_128 (lv_at hl 5 rfl) ?_
    obtain ⟨b130, hf⟩ := hf
    refine g_iald C hw 56 rfl b130 dX0_costsMore_130 ?_
    refine lv_iload C.1 C.2.1 dX0_costsMore_131 (lv_at hl 6 rfl) ?_
    refine kx_lesser C hl.1 (Nat.le_of_ble_eq_true rfl) ⟨Nat.le_of_ble_eq_true rfl, Nat.le_of_ble_eq_true rfl⟩ dX0_costsMore_133 ?_
    refine g_iast C shX_sep hw 56 rfl b130 dX0_costsMore_136 (fun s136 H locs e136 hw => ?_)
    replace hf := hf s136 e136
    refine lv_iinc (v := (x4 + 1)) (lv' := [(4, .int (x4 + 1)), (3, .int (v1 ||| v0)), (0, .ref (ad 0)), (1, .int x1), (2, .int x2), (5, .int x5), (6, .int x6)]) C.1 C.2.1 dX0_costsMore_137 hl (k := 4) rfl rfl (Nat.le_of_ble_eq_true rfl) rfl (fun ls hl => ?_)
    refine lv_goto (tgt := 5) C.1 C.2.1 dX0_costsMore_140 (by decide) ?_
    exact hK5 _ _ _ _ _ _ hf hw (lv_sub hl [2, 3, 4, 1, 0] rfl)
  have J96 : ∀ (σ : St) (H : Heap) (locs : List Loc) (x1 : Int32) (x2 : Int32) (x3 : Int32) (x4 : Int32) (x5 : Int32) (v0 : Int32) (K5 : St → Int32 → Int32 → Prop) (_ : ∀ (σ : St) (H : Heap) (locs : List Loc) (x3 : Int32) (x4 : Int32) (ls : Array Slot), K5 σ x3 x4 → gH D ct shX ad s σ H locs → lv_has ls 7 [(0, .ref (ad 0)), (1, .int x1), (2, .int x2), (3, .int x3), (4, .int x4)] → W p l e rm_x_costsMore s m args below meth c H locs 0 0 QQ (F0 m 5 ls [])) (ls : Array Slot), x_costsMore_p96 σ x1 x2 x3 x4 x5 Q K5 v0 → gH D ct shX ad s σ H locs → lv_has ls 7 [(0, .ref (ad 0)), (1, .int x1), (2, .int x2), (3, .int x3), (4, .int x4), (5, .int x5)] → W p l e rm_x_costsMore s m args below meth c H locs 0 0 QQ (F0 m 96 ls [.int v0]) := by
    intro σ H locs x1 x2 x3 x4 x5 v0 K5 hK5 ls hf hw hl
    unfold x_costsMore_p96 at hf
    refine lv_istore (lv' := [(6, .int v0), (0, .ref (ad 0)), (1, .int x1), (2, .int x2), (3, .int x3), (4, .int x4), (5, .int x5)]) C.1 C.2.1 dX0_costsMore_96 hl (Nat.le_of_ble_eq_true rfl) rfl (fun ls hl => ?_)
    refine lv_iload_n C.1 C.2.1 dX0_costsMore_98 rfl (lv_at hl 4 rfl) ?_
    refine lv_iload C.1 C.2.1 dX0_costsMore_99 (lv_at hl 0 rfl) ?_
    refine lv_aload_n C.1 C.2.1 dX0_costsMore_101 rfl (lv_at hl 1 rfl) ?_
    refine xg_costOf C hw dX0_costsMore_102 ?_
    refine lv_iload C.1 C.2.1 dX0_costsMore_105 (lv_at hl 6 rfl) ?_
    obtain ⟨b107, hf⟩ := hf
    refine g_iald C hw 56 rfl b107 dX0_costsMore_107 ?_
    refine lv_icmp_ge (tgt := 115) C.1 C.2.1 dX0_costsMore_108 (by decide) (fun h108 => ?_) (fun h108 => ?_)
    · replace hf := hf.1 h108
      refine lv_iconst (v := 0) C.1 C.2.1 dX0_costsMore_115 rfl ?_
      exact J116 _ _ _ _ _ _ _ _ _ _ _ hK5 _ hf hw (lv_sub hl [1, 2, 3, 5, 6, 0] rfl)
    · replace hf := hf.2 h108
      refine lv_iconst (v := 1) C.1 C.2.1 dX0_costsMore_111 rfl ?_
      refine lv_goto (tgt := 116) C.1 C.2.1 dX0_costsMore_112 (by decide) ?_
      exact J116 _ _ _ _ _ _ _ _ _ _ _ hK5 _ hf hw (lv_sub hl [1, 2, 3, 5, 6, 0] rfl)
  have B5 : ∀ (x1 : Int32) (x2 : Int32) (K5 : St → Int32 → Int32 → Prop) (_ : ∀ (σ : St) (H : Heap) (locs : List Loc) (x3 : Int32) (x4 : Int32) (ls : Array Slot), K5 σ x3 x4 → gH D ct shX ad s σ H locs → lv_has ls 7 [(0, .ref (ad 0)), (1, .int x1), (2, .int x2), (3, .int x3), (4, .int x4)] → W p l e rm_x_costsMore s m args below meth c H locs 0 0 QQ (F0 m 5 ls [])) (σ : St) (H : Heap) (locs : List Loc) (x3 : Int32) (x4 : Int32) (ls : Array Slot), x_costsMore_p5 x1 x2 Q K5 σ x3 x4 → gH D ct shX ad s σ H locs → lv_has ls 7 [(0, .ref (ad 0)), (1, .int x1), (2, .int x2), (3, .int x3), (4, .int x4)] → W p l e rm_x_costsMore s m args below meth c H locs 0 0 QQ (F0 m 5 ls []) := by
    intro x1 x2 K5 hK5 σ H locs x3 x4 ls hf hw hl
    unfold x_costsMore_p5 at hf
    refine lv_iload C.1 C.2.1 dX0_costsMore_5 (lv_at hl 4 rfl) ?_
    refine lv_aload_n C.1 C.2.1 dX0_costsMore_7 rfl (lv_at hl 0 rfl) ?_
    refine xg_grammar C hw dX0_costsMore_8 ?_
    refine xn_many C hw dX0_costsMore_11 ?_
    refine lv_icmp_ge (tgt := 143) C.1 C.2.1 dX0_costsMore_14 (by decide) (fun h14 => ?_) (fun h14 => ?_)
    · replace hf := hf.1 h14
      refine lv_iload_n C.1 C.2.1 dX0_costsMore_143 rfl (lv_at hl 3 rfl) ?_
      obtain ⟨hz, hf⟩ := hf
      exact hret _ _ _ _ _ _ hf hw hz dX0_costsMore_144
    · replace hf := hf.2 h14
      refine lv_aload_n C.1 C.2.1 dX0_costsMore_17 rfl (lv_at hl 0 rfl) ?_
      refine lv_iload C.1 C.2.1 dX0_costsMore_18 (lv_at hl 4 rfl) ?_
      refine kx_isOn C hw hl.1 (Nat.le_of_ble_eq_true rfl) ⟨Nat.le_of_ble_eq_true rfl, Nat.le_of_ble_eq_true rfl⟩ dX0_costsMore_20 ?_
      refine lv_if_ne (tgt := 29) C.1 C.2.1 dX0_costsMore_23 (by decide) (fun h23 => ?_) (fun h23 => ?_)
      · replace hf := hf.2 h23
        refine lv_sipush (v := 169) C.1 C.2.1 dX0_costsMore_29 rfl ?_
        refine lv_aload_n C.1 C.2.1 dX0_costsMore_32 rfl (lv_at hl 0 rfl) ?_
        refine xg_grammar C hw dX0_costsMore_33 ?_
        refine xn_left C hw dX0_costsMore_36 ?_
        refine lv_iload C.1 C.2.1 dX0_costsMore_39 (lv_at hl 4 rfl) ?_
        obtain ⟨b41, hf⟩ := hf
        refine g_iald C hw 83 rfl b41 dX0_costsMore_41 ?_
        refine lv_bipush (v := 26) C.1 C.2.1 dX0_costsMore_42 rfl ?_
        refine lv_isub C.1 C.2.1 dX0_costsMore_44 ?_
        refine lv_imul C.1 C.2.1 dX0_costsMore_45 ?_
        refine lv_iload_n C.1 C.2.1 dX0_costsMore_46 rfl (lv_at hl 1 rfl) ?_
        refine lv_iload_n C.1 C.2.1 dX0_costsMore_47 rfl (lv_at hl 2 rfl) ?_
        refine kx_spanOf C hl.1 (Nat.le_of_ble_eq_true rfl) ⟨Nat.le_of_ble_eq_true rfl, Nat.le_of_ble_eq_true rfl⟩ dX0_costsMore_48 ?_
        refine lv_iadd C.1 C.2.1 dX0_costsMore_51 ?_
        refine lv_istore (lv' := [(5, .int ((169 * ((gI σ 83 x4) - 26)) + (fx_spanOf x1 x2))), (0, .ref (ad 0)), (1, .int x1), (2, .int x2), (3, .int x3), (4, .int x4)]) C.1 C.2.1 dX0_costsMore_52 hl (Nat.le_of_ble_eq_true rfl) rfl (fun ls hl => ?_)
        refine lv_aload_n C.1 C.2.1 dX0_costsMore_54 rfl (lv_at hl 1 rfl) ?_
        refine xg_grammar C hw dX0_costsMore_55 ?_
        refine xn_size C hw dX0_costsMore_58 ?_
        refine lv_iload C.1 C.2.1 dX0_costsMore_61 (lv_at hl 5 rfl) ?_
        obtain ⟨b63, hf⟩ := hf
        refine g_iald C hw 84 rfl b63 dX0_costsMore_63 ?_
        refine lv_if_ne (tgt := 73) C.1 C.2.1 dX0_costsMore_64 (by decide) (fun h64 => ?_) (fun h64 => ?_)
        · replace hf := hf.2 h64
          refine lv_aload_n C.1 C.2.1 dX0_costsMore_73 rfl (lv_at hl 1 rfl) ?_
          refine lv_iload C.1 C.2.1 dX0_costsMore_74 (lv_at hl 5 rfl) ?_
          refine lv_iload_n C.1 C.2.1 dX0_costsMore_76 rfl (lv_at hl 2 rfl) ?_
          refine lv_iload_n C.1 C.2.1 dX0_costsMore_77 rfl (lv_at hl 3 rfl) ?_
          refine lv_aload_n C.1 C.2.1 dX0_costsMore_78 rfl (lv_at hl 1 rfl) ?_
          refine xg_costPart C hw dX0_costsMore_79 ?_
          refine lv_aload_n C.1 C.2.1 dX0_costsMore_82 rfl (lv_at hl 1 rfl) ?_
          refine xg_lesserFold C hw dX0_costsMore_83 ?_
          refine lv_aload_n C.1 C.2.1 dX0_costsMore_86 rfl (lv_at hl 1 rfl) ?_
          refine xg_togetherFold C hw dX0_costsMore_87 ?_
          refine lv_ldc C.1 C.2.1 C.2.2.2.1 (C.2.2.2.2 _ q355) dX0_costsMore_90 ?_
          refine lv_iconst (v := 0) C.1 C.2.1 dX0_costsMore_92 rfl ?_
          refine kx_folds C hw hl.1 (Nat.le_of_ble_eq_true rfl) ⟨Nat.le_of_ble_eq_true rfl, Nat.le_of_ble_eq_true rfl⟩ dX0_costsMore_93 hf (fun r93 s93 H locs hf hw => ?_)
          exact J96 _ _ _ _ _ _ _ _ _ _ hK5 _ hf hw (lv_sub hl [1, 2, 3, 4, 5, 0] rfl)
        · replace hf := hf.1 h64
          refine lv_iload_n C.1 C.2.1 dX0_costsMore_67 rfl (lv_at hl 3 rfl) ?_
          refine lv_iload_n C.1 C.2.1 dX0_costsMore_68 rfl (lv_at hl 2 rfl) ?_
          refine lv_isub C.1 C.2.1 dX0_costsMore_69 ?_
          refine lv_goto (tgt := 96) C.1 C.2.1 dX0_costsMore_70 (by decide) ?_
          exact J96 _ _ _ _ _ _ _ _ _ _ hK5 _ hf hw (lv_sub hl [1, 2, 3, 4, 5, 0] rfl)
      · replace hf := hf.1 h23
        refine lv_goto (tgt := 137) C.1 C.2.1 dX0_costsMore_26 (by decide) ?_
        refine lv_iinc (v := (x4 + 1)) (lv' := [(4, .int (x4 + 1)), (0, .ref (ad 0)), (1, .int x1), (2, .int x2), (3, .int x3)]) C.1 C.2.1 dX0_costsMore_137 hl (k := 4) rfl rfl (Nat.le_of_ble_eq_true rfl) rfl (fun ls hl => ?_)
        refine lv_goto (tgt := 5) C.1 C.2.1 dX0_costsMore_140 (by decide) ?_
        exact hK5 _ _ _ _ _ _ hf hw (lv_sub hl [1, 2, 3, 4, 0] rfl)
  have P5 : ∀ (x1 : Int32) (x2 : Int32) (n : Nat) (σ : St) (x3 : Int32) (x4 : Int32) (ls : Array Slot) (H : Heap) (locs : List Loc), LL3 (x_costsMore_p5 x1 x2 Q) n σ x3 x4 → gH D ct shX ad s σ H locs → lv_has ls 7 [(0, .ref (ad 0)), (1, .int x1), (2, .int x2), (3, .int x3), (4, .int x4)] → W p l e rm_x_costsMore s m args below meth c H locs 0 0 QQ (F0 m 5 ls []) := by
    intro x1 x2 n
    induction n with
    | zero => intro σ x3 x4 ls H locs hf; exact False.elim hf
    | succ n ih => intro σ x3 x4 ls H locs hf hw hl; exact B5 x1 x2 (LL3 _ n) (fun σ H locs x3 x4 ls hf hw hl => ih σ x3 x4 ls H locs hf hw hl) σ H locs x3 x4 ls hf hw hl
  unfold x_costsMore at hf
  obtain ⟨H, hH⟩ : ∃ q, q = s.heap := ⟨_, rfl⟩
  obtain ⟨locs, hL⟩ : ∃ q : List Loc, q = [] := ⟨_, rfl⟩
  rw [← hH, ← hL] at hw ⊢
  refine lv_iconst (v := 0) C.1 C.2.1 dX0_costsMore_0 rfl ?_
  refine lv_istore_n (lv' := [(3, .int 0), (0, .ref (ad 0)), (1, .int x1), (2, .int x2)]) C.1 C.2.1 dX0_costsMore_1 rfl hl (Nat.le_of_ble_eq_true rfl) rfl (fun ls hl => ?_)
  refine lv_iconst (v := 0) C.1 C.2.1 dX0_costsMore_2 rfl ?_
  refine lv_istore (lv' := [(4, .int 0), (3, .int 0), (0, .ref (ad 0)), (1, .int x1), (2, .int x2)]) C.1 C.2.1 dX0_costsMore_3 hl (Nat.le_of_ble_eq_true rfl) rfl (fun ls hl => ?_)
  obtain ⟨n, hf⟩ := hf
  exact P5 _ _ n _ _ _ _ _ _ hf hw (lv_sub hl [2, 3, 4, 1, 0] rfl)
theorem kx_costsMore {p : Program} {l : Launch} {e : Env} {R : Room} {s : State} {m : MethodId} {args : Array Value} {below : List Frame} {meth : Method} {c : Code} {H : Heap} {locs : List Loc} {Z : State → Prop} {cc : ByteArray} {nL pc : Nat} {ls : Array Slot} {rest : List Value} {D : va_G} {ct : Ct} {ad : Nat → Nat} {σ : St} {x1 : Int32} {x2 : Int32} {Qp : Int32 → St → Prop} (C : CallFix p m c cc nL s args lw_all RX0) (hw : gH D ct shX ad s σ H locs) (hsz : ls.size = nL) (hrm : (rest.map fun v => v.category).sum ≤ 8) (hR : rm_x_costsMore.frames + 1 ≤ R.frames ∧ 8 + (7 + 11) + rm_x_costsMore.locals ≤ R.locals) (hdg : decode cc pc = .ok (.invokevirtual 578, 3)) (hf : x_costsMore σ x1 x2 Qp) (kk : ∀ (r : Int32) (σ1 : St) (H1 : Heap) (locs1 : List Loc), Qp r σ1 → gH D ct shX ad s σ1 H1 locs1 → W p l e R s m args below meth c H1 locs1 0 0 Z (F0 m (pc + 3) ls (.int r :: rest))) : W p l e R s m args below meth c H locs 0 0 Z (F0 m pc ls (.int x2 :: .int x1 :: .ref (ad 0) :: rest)) :=
  g_callV (As := [.int x1, .int x2]) (rest := rest) C hw rfl rfl (met_x_costsMore l D ct ad hw.2.1 σ x1 x2 Qp hf) (cwV 2 C.2.2.2.2 (lw_V q1097 q1099 qs76 q200 q1100) rfl rfl rfl (by decide +kernel) hR) rfl hsz rfl hrm ⟨Nat.zero_le _, Nat.zero_le _⟩ hdg kk
def x_marksBelow_p57 (F : St → Int32 → Int32 → Int32 → Int32 → (Unit → St → Prop) → Prop) (x1 : Int32) (x2 : Int32) (x3 : Int32) (x4 : Int32) (x5 : Int32) (Q : Unit → St → Prop) (K17 : St → Int32 → Prop) (K57 : St → Int32 → Prop) (σ : St) (x6 : Int32) : Prop :=
  (((σ.1 80) ≤ x6 → (F σ x1 (x2 + 1) x5 x4 (fun _ s135 => K17 s135 (x5 + 1)))) ∧ (¬ (σ.1 80) ≤ x6 → (vp_in (fx_pieceOf x6 x3 x5) 2028 ∧ (((gI σ 51 (fx_pieceOf x6 x3 x5)) = 0 → K57 σ (x6 + 1)) ∧ (¬ (gI σ 51 (fx_pieceOf x6 x3 x5)) = 0 → (x_at σ x1 x2 (fun r91 => (((fx_isCapital r91) = 0 → K57 σ (x6 + 1)) ∧ (¬ (fx_isCapital r91) = 0 → (x_canBeBelow σ x1 x2 x6 (fun r105 => ((r105 = 0 → K57 σ (x6 + 1)) ∧ (¬ r105 = 0 → (x_marks σ x6 x3 x5 (fun _ s117 => K57 s117 (x6 + 1))))))))))))))))
def x_marksBelow_p17 (F : St → Int32 → Int32 → Int32 → Int32 → (Unit → St → Prop) → Prop) (x1 : Int32) (x2 : Int32) (x3 : Int32) (x4 : Int32) (Q : Unit → St → Prop) (K17 : St → Int32 → Prop) (σ : St) (x5 : Int32) : Prop :=
  ((x4 < x5 → Q () σ) ∧ (¬ x4 < x5 → (x_partLives σ x1 x2 x3 x5 (fun r30 => ((r30 = 0 → K17 σ (x5 + 1)) ∧ (¬ r30 = 0 → (x_canGoOn 6 σ x1 (x2 + 1) x5 x4 (fun r45 => ((r45 = 0 → K17 σ (x5 + 1)) ∧ (¬ r45 = 0 → (Lp2 (x_marksBelow_p57 F x1 x2 x3 x4 x5 Q K17) σ 0)))))))))))
def x_marksBelow_b (F : St → Int32 → Int32 → Int32 → Int32 → (Unit → St → Prop) → Prop) (σ : St) (x1 : Int32) (x2 : Int32) (x3 : Int32) (x4 : Int32) (Q : Unit → St → Prop) : Prop :=
  (vp_in x1 12 ∧ ((x2 = (gI σ 84 x1) → Q () σ) ∧ (¬ x2 = (gI σ 84 x1) → (Lp2 (x_marksBelow_p17 F x1 x2 x3 x4 Q) σ x3))))
def x_marksBelow : Nat → St → Int32 → Int32 → Int32 → Int32 → (Unit → St → Prop) → Prop
  | 0 => fun _ _ _ _ _ _ => False
  | d + 1 => x_marksBelow_b (x_marksBelow d)
abbrev rm_x_marksBelow (d : Nat) : Room := { frames := 13 + d, cells := 0, slots := 0, locals := 367 + d * 26 }
theorem kq_x_marksBelow {p : Program} {l : Launch} {e : Env} {R : Room} {s : State} {m : MethodId} {args : Array Value} {below : List Frame} {meth : Method} {c : Code} {H : Heap} {locs : List Loc} {Z : State → Prop} {cc : ByteArray} {nL pc : Nat} {ls : Array Slot} {rest : List Value} {D : va_G} {ct : Ct} {ad : Nat → Nat} {σ : St} {x1 : Int32} {x2 : Int32} {x3 : Int32} {x4 : Int32} {fF lF : Nat} {Qp : Unit → St → Prop} (C : CallFix p m c cc nL s args lw_all RX0) (hw : gH D ct shX ad s σ H locs) (hsz : ls.size = nL) (hrm : (rest.map fun v => v.category).sum ≤ 8) (hR : fF + 1 ≤ R.frames ∧ 8 + (7 + 11) + lF ≤ R.locals) (hdg : decode cc pc = .ok (.invokevirtual 603, 3)) (hM : Met l yX0_marksBelow (ws_ yX0_marksBelow cX0_marksBelow 7 (none)) { frames := fF, cells := 0, slots := 0, locals := lF } (va_Pc [.ref (ad 0), .int x1, .int x2, .int x3, .int x4] (gP D ct shX ad σ)) (gQ rvV D ct shX ad Qp) 0 0 (gA shX ad)) (kk : ∀ (r : Unit) (σ1 : St) (H1 : Heap) (locs1 : List Loc), Qp r σ1 → gH D ct shX ad s σ1 H1 locs1 → W p l e R s m args below meth c H1 locs1 0 0 Z (F0 m (pc + 3) ls (rest))) : W p l e R s m args below meth c H locs 0 0 Z (F0 m pc ls (.int x4 :: .int x3 :: .int x2 :: .int x1 :: .ref (ad 0) :: rest)) :=
  g_callV (As := [.int x1, .int x2, .int x3, .int x4]) (rest := rest) C hw rfl rfl hM (cwV 4 C.2.2.2.2 (lw_V q1126 q1128 qs83 q200 q1129) rfl rfl rfl (by decide +kernel) hR) rfl hsz rfl hrm ⟨Nat.zero_le _, Nat.zero_le _⟩ hdg kk
set_option maxHeartbeats 4000000 in
theorem met_x_marksBelow (l : Launch) (D : va_G) (ct : Ct) (ad : Nat → Nat) (hJ : gJ shX ad ct) : ∀ (d : Nat) (σ : St) (x1 : Int32) (x2 : Int32) (x3 : Int32) (x4 : Int32) (Q : Unit → St → Prop) (_ : x_marksBelow d σ x1 x2 x3 x4 Q), Met l yX0_marksBelow (ws_ yX0_marksBelow cX0_marksBelow 7 (none)) (rm_x_marksBelow d) (va_Pc [.ref (ad 0), .int x1, .int x2, .int x3, .int x4] (gP D ct shX ad σ)) (gQ rvV D ct shX ad Q) 0 0 (gA shX ad) := by
  intro d
  induction d with
  | zero => intro σ x1 x2 x3 x4 Q hf; exact False.elim hf
  | succ d hF =>
  intro σ x1 x2 x3 x4 Q hf
  replace hf : x_marksBelow_b (x_marksBelow d) σ x1 x2 x3 x4 Q := hf
  generalize hFd : x_marksBelow d = F at hf hF
  refine g_metV hJ (by decide) (Nat.le_of_ble_eq_true rfl) ?_
  intro p e s m args below meth c QQ ls C hw hl hret
  replace hl : lv_has ls 7 [(0, .ref (ad 0)), (1, .int x1), (2, .int x2), (3, .int x3), (4, .int x4)] := hl
  have B57 : ∀ (x1 : Int32) (x2 : Int32) (x3 : Int32) (x4 : Int32) (x5 : Int32) (K17 : St → Int32 → Prop) (_ : ∀ (σ : St) (H : Heap) (locs : List Loc) (x5 : Int32) (ls : Array Slot), K17 σ x5 → gH D ct shX ad s σ H locs → lv_has ls 7 [(0, .ref (ad 0)), (1, .int x1), (2, .int x2), (3, .int x3), (4, .int x4), (5, .int x5)] → W p l e (rm_x_marksBelow (d + 1)) s m args below meth c H locs 0 0 QQ (F0 m 17 ls [])) (K57 : St → Int32 → Prop) (_ : ∀ (σ : St) (H : Heap) (locs : List Loc) (x6 : Int32) (ls : Array Slot), K57 σ x6 → gH D ct shX ad s σ H locs → lv_has ls 7 [(0, .ref (ad 0)), (1, .int x1), (2, .int x2), (3, .int x3), (4, .int x4), (5, .int x5), (6, .int x6)] → W p l e (rm_x_marksBelow (d + 1)) s m args below meth c H locs 0 0 QQ (F0 m 57 ls [])) (σ : St) (H : Heap) (locs : List Loc) (x6 : Int32) (ls : Array Slot), x_marksBelow_p57 F x1 x2 x3 x4 x5 Q K17 K57 σ x6 → gH D ct shX ad s σ H locs → lv_has ls 7 [(0, .ref (ad 0)), (1, .int x1), (2, .int x2), (3, .int x3), (4, .int x4), (5, .int x5), (6, .int x6)] → W p l e (rm_x_marksBelow (d + 1)) s m args below meth c H locs 0 0 QQ (F0 m 57 ls []) := by
    intro x1 x2 x3 x4 x5 K17 hK17 K57 hK57 σ H locs x6 ls hf hw hl
    unfold x_marksBelow_p57 at hf
    refine lv_iload C.1 C.2.1 dX0_marksBelow_57 (lv_at hl 6 rfl) ?_
    refine lv_aload_n C.1 C.2.1 dX0_marksBelow_59 rfl (lv_at hl 0 rfl) ?_
    refine xg_grammar C hw dX0_marksBelow_60 ?_
    refine xn_many C hw dX0_marksBelow_63 ?_
    refine lv_icmp_ge (tgt := 126) C.1 C.2.1 dX0_marksBelow_66 (by decide) (fun h66 => ?_) (fun h66 => ?_)
    · replace hf := hf.1 h66
      refine lv_aload_n C.1 C.2.1 dX0_marksBelow_126 rfl (lv_at hl 0 rfl) ?_
      refine lv_iload_n C.1 C.2.1 dX0_marksBelow_127 rfl (lv_at hl 1 rfl) ?_
      refine lv_iload_n C.1 C.2.1 dX0_marksBelow_128 rfl (lv_at hl 2 rfl) ?_
      refine lv_iconst (v := 1) C.1 C.2.1 dX0_marksBelow_129 rfl ?_
      refine lv_iadd C.1 C.2.1 dX0_marksBelow_130 ?_
      refine lv_iload C.1 C.2.1 dX0_marksBelow_131 (lv_at hl 5 rfl) ?_
      refine lv_iload C.1 C.2.1 dX0_marksBelow_133 (lv_at hl 4 rfl) ?_
      refine kq_x_marksBelow C hw hl.1 (Nat.le_of_ble_eq_true rfl) ⟨Nat.le_of_eq (by show 13 + d + 1 = 13 + (d + 1); omega), Nat.le_of_eq (by show 8 + (7 + 11) + (367 + d * 26) = 367 + (d + 1) * 26; omega)⟩ dX0_marksBelow_135 (hF _ _ _ _ _ _ hf) (fun _ s135 H locs hf hw => ?_)
      refine lv_iinc (v := (x5 + 1)) (lv' := [(5, .int (x5 + 1)), (0, .ref (ad 0)), (1, .int x1), (2, .int x2), (3, .int x3), (4, .int x4), (6, .int x6)]) C.1 C.2.1 dX0_marksBelow_138 hl (k := 5) rfl rfl (Nat.le_of_ble_eq_true rfl) rfl (fun ls hl => ?_)
      refine lv_goto (tgt := 17) C.1 C.2.1 dX0_marksBelow_141 (by decide) ?_
      exact hK17 _ _ _ _ _ hf hw (lv_sub hl [1, 2, 3, 4, 5, 0] rfl)
    · replace hf := hf.2 h66
      refine lv_aload_n C.1 C.2.1 dX0_marksBelow_69 rfl (lv_at hl 0 rfl) ?_
      refine xg_livesOf C hw dX0_marksBelow_70 ?_
      refine lv_iload C.1 C.2.1 dX0_marksBelow_73 (lv_at hl 6 rfl) ?_
      refine lv_iload_n C.1 C.2.1 dX0_marksBelow_75 rfl (lv_at hl 3 rfl) ?_
      refine lv_iload C.1 C.2.1 dX0_marksBelow_76 (lv_at hl 5 rfl) ?_
      refine kx_pieceOf C hl.1 (Nat.le_of_ble_eq_true rfl) ⟨Nat.le_trans (Nat.le_of_ble_eq_true rfl) (Nat.le_add_right 13 _), Nat.le_trans (Nat.le_of_ble_eq_true rfl) (Nat.le_add_right 367 _)⟩ dX0_marksBelow_78 ?_
      obtain ⟨b81, hf⟩ := hf
      refine g_zald C hw 51 rfl b81 dX0_marksBelow_81 ?_
      refine lv_if_eq (tgt := 120) C.1 C.2.1 dX0_marksBelow_82 (by decide) (fun h82 => ?_) (fun h82 => ?_)
      · replace hf := hf.1 h82
        refine lv_iinc (v := (x6 + 1)) (lv' := [(6, .int (x6 + 1)), (0, .ref (ad 0)), (1, .int x1), (2, .int x2), (3, .int x3), (4, .int x4), (5, .int x5)]) C.1 C.2.1 dX0_marksBelow_120 hl (k := 6) rfl rfl (Nat.le_of_ble_eq_true rfl) rfl (fun ls hl => ?_)
        refine lv_goto (tgt := 57) C.1 C.2.1 dX0_marksBelow_123 (by decide) ?_
        exact hK57 _ _ _ _ _ hf hw (lv_sub hl [1, 2, 3, 4, 5, 6, 0] rfl)
      · replace hf := hf.2 h82
        refine lv_aload_n C.1 C.2.1 dX0_marksBelow_85 rfl (lv_at hl 0 rfl) ?_
        refine xg_grammar C hw dX0_marksBelow_86 ?_
        refine lv_iload_n C.1 C.2.1 dX0_marksBelow_89 rfl (lv_at hl 1 rfl) ?_
        refine lv_iload_n C.1 C.2.1 dX0_marksBelow_90 rfl (lv_at hl 2 rfl) ?_
        refine kx_at C hw hl.1 (Nat.le_of_ble_eq_true rfl) ⟨Nat.le_trans (Nat.le_of_ble_eq_true rfl) (Nat.le_add_right 13 _), Nat.le_trans (Nat.le_of_ble_eq_true rfl) (Nat.le_add_right 367 _)⟩ dX0_marksBelow_91 hf (fun r91 hf => ?_)
        refine kx_isCapital C hl.1 (Nat.le_of_ble_eq_true rfl) ⟨Nat.le_trans (Nat.le_of_ble_eq_true rfl) (Nat.le_add_right 13 _), Nat.le_trans (Nat.le_of_ble_eq_true rfl) (Nat.le_add_right 367 _)⟩ dX0_marksBelow_94 ?_
        refine lv_if_eq (tgt := 120) C.1 C.2.1 dX0_marksBelow_97 (by decide) (fun h97 => ?_) (fun h97 => ?_)
        · replace hf := hf.1 h97
          refine lv_iinc (v := (x6 + 1)) (lv' := [(6, .int (x6 + 1)), (0, .ref (ad 0)), (1, .int x1), (2, .int x2), (3, .int x3), (4, .int x4), (5, .int x5)]) C.1 C.2.1 dX0_marksBelow_120 hl (k := 6) rfl rfl (Nat.le_of_ble_eq_true rfl) rfl (fun ls hl => ?_)
          refine lv_goto (tgt := 57) C.1 C.2.1 dX0_marksBelow_123 (by decide) ?_
          exact hK57 _ _ _ _ _ hf hw (lv_sub hl [1, 2, 3, 4, 5, 6, 0] rfl)
        · replace hf := hf.2 h97
          refine lv_aload_n C.1 C.2.1 dX0_marksBelow_100 rfl (lv_at hl 0 rfl) ?_
          refine lv_iload_n C.1 C.2.1 dX0_marksBelow_101 rfl (lv_at hl 1 rfl) ?_
          refine lv_iload_n C.1 C.2.1 dX0_marksBelow_102 rfl (lv_at hl 2 rfl) ?_
          refine lv_iload C.1 C.2.1 dX0_marksBelow_103 (lv_at hl 6 rfl) ?_
          refine kx_canBeBelow C hw hl.1 (Nat.le_of_ble_eq_true rfl) ⟨Nat.le_trans (Nat.le_of_ble_eq_true rfl) (Nat.le_add_right 13 _), Nat.le_trans (Nat.le_of_ble_eq_true rfl) (Nat.le_add_right 367 _)⟩ dX0_marksBelow_105 hf (fun r105 hf => ?_)
          refine lv_if_eq (tgt := 120) C.1 C.2.1 dX0_marksBelow_108 (by decide) (fun h108 => ?_) (fun h108 => ?_)
          · replace hf := hf.1 h108
            refine lv_iinc (v := (x6 + 1)) (lv' := [(6, .int (x6 + 1)), (0, .ref (ad 0)), (1, .int x1), (2, .int x2), (3, .int x3), (4, .int x4), (5, .int x5)]) C.1 C.2.1 dX0_marksBelow_120 hl (k := 6) rfl rfl (Nat.le_of_ble_eq_true rfl) rfl (fun ls hl => ?_)
            refine lv_goto (tgt := 57) C.1 C.2.1 dX0_marksBelow_123 (by decide) ?_
            exact hK57 _ _ _ _ _ hf hw (lv_sub hl [1, 2, 3, 4, 5, 6, 0] rfl)
          · replace hf := hf.2 h108
            refine lv_aload_n C.1 C.2.1 dX0_marksBelow_111 rfl (lv_at hl 0 rfl) ?_
            refine lv_iload C.1 C.2.1 dX0_marksBelow_112 (lv_at hl 6 rfl) ?_
            refine lv_iload_n C.1 C.2.1 dX0_marksBelow_114 rfl (lv_at hl 3 rfl) ?_
            refine lv_iload C.1 C.2.1 dX0_marksBelow_115 (lv_at hl 5 rfl) ?_
            refine kx_marks C hw hl.1 (Nat.le_of_ble_eq_true rfl) ⟨Nat.le_trans (Nat.le_of_ble_eq_true rfl) (Nat.le_add_right 13 _), Nat.le_trans (Nat.le_of_ble_eq_true rfl) (Nat.le_add_right 367 _)⟩ dX0_marksBelow_117 hf (fun _ s117 H locs hf hw => ?_)
            refine lv_iinc (v := (x6 + 1)) (lv' := [(6, .int (x6 + 1)), (0, .ref (ad 0)), (1, .int x1), (2, .int x2), (3, .int x3), (4, .int x4), (5, .int x5)]) C.1 C.2.1 dX0_marksBelow_120 hl (k := 6) rfl rfl (Nat.le_of_ble_eq_true rfl) rfl (fun ls hl => ?_)
            refine lv_goto (tgt := 57) C.1 C.2.1 dX0_marksBelow_123 (by decide) ?_
            exact hK57 _ _ _ _ _ hf hw (lv_sub hl [1, 2, 3, 4, 5, 6, 0] rfl)
  have P57 : ∀ (x1 : Int32) (x2 : Int32) (x3 : Int32) (x4 : Int32) (x5 : Int32) (K17 : St → Int32 → Prop) (_ : ∀ (σ : St) (H : Heap) (locs : List Loc) (x5 : Int32) (ls : Array Slot), K17 σ x5 → gH D ct shX ad s σ H locs → lv_has ls 7 [(0, .ref (ad 0)), (1, .int x1), (2, .int x2), (3, .int x3), (4, .int x4), (5, .int x5)] → W p l e (rm_x_marksBelow (d + 1)) s m args below meth c H locs 0 0 QQ (F0 m 17 ls [])) (n : Nat) (σ : St) (x6 : Int32) (ls : Array Slot) (H : Heap) (locs : List Loc), LL2 (x_marksBelow_p57 F x1 x2 x3 x4 x5 Q K17) n σ x6 → gH D ct shX ad s σ H locs → lv_has ls 7 [(0, .ref (ad 0)), (1, .int x1), (2, .int x2), (3, .int x3), (4, .int x4), (5, .int x5), (6, .int x6)] → W p l e (rm_x_marksBelow (d + 1)) s m args below meth c H locs 0 0 QQ (F0 m 57 ls []) := by
    intro x1 x2 x3 x4 x5 K17 hK17 n
    induction n with
    | zero => intro σ x6 ls H locs hf; exact False.elim hf
    | succ n ih => intro σ x6 ls H locs hf hw hl; exact B57 x1 x2 x3 x4 x5 K17 hK17 (LL2 _ n) (fun σ H locs x6 ls hf hw hl => ih σ x6 ls H locs hf hw hl) σ H locs x6 ls hf hw hl
  have B17 : ∀ (x1 : Int32) (x2 : Int32) (x3 : Int32) (x4 : Int32) (K17 : St → Int32 → Prop) (_ : ∀ (σ : St) (H : Heap) (locs : List Loc) (x5 : Int32) (ls : Array Slot), K17 σ x5 → gH D ct shX ad s σ H locs → lv_has ls 7 [(0, .ref (ad 0)), (1, .int x1), (2, .int x2), (3, .int x3), (4, .int x4), (5, .int x5)] → W p l e (rm_x_marksBelow (d + 1)) s m args below meth c H locs 0 0 QQ (F0 m 17 ls [])) (σ : St) (H : Heap) (locs : List Loc) (x5 : Int32) (ls : Array Slot), x_marksBelow_p17 F x1 x2 x3 x4 Q K17 σ x5 → gH D ct shX ad s σ H locs → lv_has ls 7 [(0, .ref (ad 0)), (1, .int x1), (2, .int x2), (3, .int x3), (4, .int x4), (5, .int x5)] → W p l e (rm_x_marksBelow (d + 1)) s m args below meth c H locs 0 0 QQ (F0 m 17 ls []) := by
    intro x1 x2 x3 x4 K17 hK17 σ H locs x5 ls hf hw hl
    unfold x_marksBelow_p17 at hf
    refine lv_iload C.1 C.2.1 dX0_marksBelow_17 (lv_at hl 5 rfl) ?_
    refine lv_iload C.1 C.2.1 dX0_marksBelow_19 (lv_at hl 4 rfl) ?_
    refine lv_icmp_gt (tgt := 144) C.1 C.2.1 dX0_marksBelow_21 (by decide) (fun h21 => ?_) (fun h21 => ?_)
    · replace hf := hf.1 h21
      exact hret _ _ _ _ _ _ hf hw dX0_marksBelow_144
    · replace hf := hf.2 h21
      refine lv_aload_n C.1 C.2.1 dX0_marksBelow_24 rfl (lv_at hl 0 rfl) ?_
      refine lv_iload_n C.1 C.2.1 dX0_marksBelow_25 rfl (lv_at hl 1 rfl) ?_
      refine lv_iload_n C.1 C.2.1 dX0_marksBelow_26 rfl (lv_at hl 2 rfl) ?_
      refine lv_iload_n C.1 C.2.1 dX0_marksBelow_27 rfl (lv_at hl 3 rfl) ?_
      refine lv_iload C.1 C.2.1 dX0_marksBelow_28 (lv_at hl 5 rfl) ?_
      refine kx_partLives C hw hl.1 (Nat.le_of_ble_eq_true rfl) ⟨Nat.le_trans (Nat.le_of_ble_eq_true rfl) (Nat.le_add_right 13 _), Nat.le_trans (Nat.le_of_ble_eq_true rfl) (Nat.le_add_right 367 _)⟩ dX0_marksBelow_30 hf (fun r30 hf => ?_)
      refine lv_if_eq (tgt := 138) C.1 C.2.1 dX0_marksBelow_33 (by decide) (fun h33 => ?_) (fun h33 => ?_)
      · replace hf := hf.1 h33
        refine lv_iinc (v := (x5 + 1)) (lv' := [(5, .int (x5 + 1)), (0, .ref (ad 0)), (1, .int x1), (2, .int x2), (3, .int x3), (4, .int x4)]) C.1 C.2.1 dX0_marksBelow_138 hl (k := 5) rfl rfl (Nat.le_of_ble_eq_true rfl) rfl (fun ls hl => ?_)
        refine lv_goto (tgt := 17) C.1 C.2.1 dX0_marksBelow_141 (by decide) ?_
        exact hK17 _ _ _ _ _ hf hw (lv_sub hl [1, 2, 3, 4, 5, 0] rfl)
      · replace hf := hf.2 h33
        refine lv_aload_n C.1 C.2.1 dX0_marksBelow_36 rfl (lv_at hl 0 rfl) ?_
        refine lv_iload_n C.1 C.2.1 dX0_marksBelow_37 rfl (lv_at hl 1 rfl) ?_
        refine lv_iload_n C.1 C.2.1 dX0_marksBelow_38 rfl (lv_at hl 2 rfl) ?_
        refine lv_iconst (v := 1) C.1 C.2.1 dX0_marksBelow_39 rfl ?_
        refine lv_iadd C.1 C.2.1 dX0_marksBelow_40 ?_
        refine lv_iload C.1 C.2.1 dX0_marksBelow_41 (lv_at hl 5 rfl) ?_
        refine lv_iload C.1 C.2.1 dX0_marksBelow_43 (lv_at hl 4 rfl) ?_
        refine kx_canGoOn C hw hl.1 (Nat.le_of_ble_eq_true rfl) ⟨Nat.le_trans (Nat.le_of_ble_eq_true rfl) (Nat.le_add_right 13 _), Nat.le_trans (Nat.le_of_ble_eq_true rfl) (Nat.le_add_right 367 _)⟩ dX0_marksBelow_45 hf (fun r45 hf => ?_)
        refine lv_if_ne (tgt := 54) C.1 C.2.1 dX0_marksBelow_48 (by decide) (fun h48 => ?_) (fun h48 => ?_)
        · replace hf := hf.2 h48
          refine lv_iconst (v := 0) C.1 C.2.1 dX0_marksBelow_54 rfl ?_
          refine lv_istore (lv' := [(6, .int 0), (0, .ref (ad 0)), (1, .int x1), (2, .int x2), (3, .int x3), (4, .int x4), (5, .int x5)]) C.1 C.2.1 dX0_marksBelow_55 hl (Nat.le_of_ble_eq_true rfl) rfl (fun ls hl => ?_)
          obtain ⟨n, hf⟩ := hf
          exact P57 _ _ _ _ _ _ hK17 n _ _ _ _ _ hf hw (lv_sub hl [1, 2, 3, 4, 5, 6, 0] rfl)
        · replace hf := hf.1 h48
          refine lv_goto (tgt := 138) C.1 C.2.1 dX0_marksBelow_51 (by decide) ?_
          refine lv_iinc (v := (x5 + 1)) (lv' := [(5, .int (x5 + 1)), (0, .ref (ad 0)), (1, .int x1), (2, .int x2), (3, .int x3), (4, .int x4)]) C.1 C.2.1 dX0_marksBelow_138 hl (k := 5) rfl rfl (Nat.le_of_ble_eq_true rfl) rfl (fun ls hl => ?_)
          refine lv_goto (tgt := 17) C.1 C.2.1 dX0_marksBelow_141 (by decide) ?_
          exact hK17 _ _ _ _ _ hf hw (lv_sub hl [1, 2, 3, 4, 5, 0] rfl)
  have P17 : ∀ (x1 : Int32) (x2 : Int32) (x3 : Int32) (x4 : Int32) (n : Nat) (σ : St) (x5 : Int32) (ls : Array Slot) (H : Heap) (locs : List Loc), LL2 (x_marksBelow_p17 F x1 x2 x3 x4 Q) n σ x5 → gH D ct shX ad s σ H locs → lv_has ls 7 [(0, .ref (ad 0)), (1, .int x1), (2, .int x2), (3, .int x3), (4, .int x4), (5, .int x5)] → W p l e (rm_x_marksBelow (d + 1)) s m args below meth c H locs 0 0 QQ (F0 m 17 ls []) := by
    intro x1 x2 x3 x4 n
    induction n with
    | zero => intro σ x5 ls H locs hf; exact False.elim hf
    | succ n ih => intro σ x5 ls H locs hf hw hl; exact B17 x1 x2 x3 x4 (LL2 _ n) (fun σ H locs x5 ls hf hw hl => ih σ x5 ls H locs hf hw hl) σ H locs x5 ls hf hw hl
  unfold x_marksBelow_b at hf
  obtain ⟨H, hH⟩ : ∃ q, q = s.heap := ⟨_, rfl⟩
  obtain ⟨locs, hL⟩ : ∃ q : List Loc, q = [] := ⟨_, rfl⟩
  rw [← hH, ← hL] at hw ⊢
  refine lv_iload_n C.1 C.2.1 dX0_marksBelow_0 rfl (lv_at hl 2 rfl) ?_
  refine lv_aload_n C.1 C.2.1 dX0_marksBelow_1 rfl (lv_at hl 0 rfl) ?_
  refine xg_grammar C hw dX0_marksBelow_2 ?_
  refine xn_size C hw dX0_marksBelow_5 ?_
  refine lv_iload_n C.1 C.2.1 dX0_marksBelow_8 rfl (lv_at hl 1 rfl) ?_
  obtain ⟨b9, hf⟩ := hf
  refine g_iald C hw 84 rfl b9 dX0_marksBelow_9 ?_
  refine lv_icmp_ne (tgt := 14) C.1 C.2.1 dX0_marksBelow_10 (by decide) (fun h10 => ?_) (fun h10 => ?_)
  · replace hf := hf.2 h10
    refine lv_iload_n C.1 C.2.1 dX0_marksBelow_14 rfl (lv_at hl 3 rfl) ?_
    refine lv_istore (lv' := [(5, .int x3), (0, .ref (ad 0)), (1, .int x1), (2, .int x2), (3, .int x3), (4, .int x4)]) C.1 C.2.1 dX0_marksBelow_15 hl (Nat.le_of_ble_eq_true rfl) rfl (fun ls hl => ?_)
    obtain ⟨n, hf⟩ := hf
    exact P17 _ _ _ _ n _ _ _ _ _ hf hw (lv_sub hl [1, 2, 3, 4, 5, 0] rfl)
  · replace hf := hf.1 h10
    exact hret _ _ _ _ _ _ hf hw dX0_marksBelow_13
theorem kx_marksBelow {p : Program} {l : Launch} {e : Env} {R : Room} {s : State} {m : MethodId} {args : Array Value} {below : List Frame} {meth : Method} {c : Code} {H : Heap} {locs : List Loc} {Z : State → Prop} {cc : ByteArray} {nL pc : Nat} {ls : Array Slot} {rest : List Value} {D : va_G} {ct : Ct} {ad : Nat → Nat} {σ : St} {x1 : Int32} {x2 : Int32} {x3 : Int32} {x4 : Int32} {Qp : Unit → St → Prop} (C : CallFix p m c cc nL s args lw_all RX0) (hw : gH D ct shX ad s σ H locs) (hsz : ls.size = nL) (hrm : (rest.map fun v => v.category).sum ≤ 8) (hR : (rm_x_marksBelow 6).frames + 1 ≤ R.frames ∧ 8 + (7 + 11) + (rm_x_marksBelow 6).locals ≤ R.locals) (hdg : decode cc pc = .ok (.invokevirtual 603, 3)) (hf : x_marksBelow 6 σ x1 x2 x3 x4 Qp) (kk : ∀ (r : Unit) (σ1 : St) (H1 : Heap) (locs1 : List Loc), Qp r σ1 → gH D ct shX ad s σ1 H1 locs1 → W p l e R s m args below meth c H1 locs1 0 0 Z (F0 m (pc + 3) ls (rest))) : W p l e R s m args below meth c H locs 0 0 Z (F0 m pc ls (.int x4 :: .int x3 :: .int x2 :: .int x1 :: .ref (ad 0) :: rest)) :=
  kq_x_marksBelow C hw hsz hrm hR hdg (met_x_marksBelow l D ct ad hw.2.1 6 σ x1 x2 x3 x4 Qp hf) kk
def x_waysOf (σ : St) (x1 : Int32) (x2 : Int32) (x3 : Int32) (Q : Int32 → St → Prop) : Prop :=
  (((fx_isOn σ x1) = 0 → Q 0 σ) ∧ (¬ (fx_isOn σ x1) = 0 → (x_folds σ x1 x2 x3 39 49 50 0 1 (fun r26 s26 => Q r26 s26))))
abbrev rm_x_waysOf : Room := { frames := 8, cells := 0, slots := 0, locals := 296 }
set_option maxHeartbeats 4000000 in
theorem met_x_waysOf (l : Launch) (D : va_G) (ct : Ct) (ad : Nat → Nat) (hJ : gJ shX ad ct) (σ : St) (x1 : Int32) (x2 : Int32) (x3 : Int32) (Q : Int32 → St → Prop) (hf : x_waysOf σ x1 x2 x3 Q) : Met l yX0_waysOf (ws_ yX0_waysOf cX0_waysOf 4 (some .int)) rm_x_waysOf (va_Pc [.ref (ad 0), .int x1, .int x2, .int x3] (gP D ct shX ad σ)) (gQ rvI D ct shX ad Q) 0 0 (gA shX ad) := by
  refine g_metI hJ (by decide) (Nat.le_of_ble_eq_true rfl) ?_
  intro p e s m args below meth c QQ ls C hw hl hret
  replace hl : lv_has ls 4 [(0, .ref (ad 0)), (1, .int x1), (2, .int x2), (3, .int x3)] := hl
  unfold x_waysOf at hf
  obtain ⟨H, hH⟩ : ∃ q, q = s.heap := ⟨_, rfl⟩
  obtain ⟨locs, hL⟩ : ∃ q : List Loc, q = [] := ⟨_, rfl⟩
  rw [← hH, ← hL] at hw ⊢
  refine lv_aload_n C.1 C.2.1 dX0_waysOf_0 rfl (lv_at hl 0 rfl) ?_
  refine lv_iload_n C.1 C.2.1 dX0_waysOf_1 rfl (lv_at hl 1 rfl) ?_
  refine kx_isOn C hw hl.1 (Nat.le_of_ble_eq_true rfl) ⟨Nat.le_of_ble_eq_true rfl, Nat.le_of_ble_eq_true rfl⟩ dX0_waysOf_2 ?_
  refine lv_if_eq (tgt := 32) C.1 C.2.1 dX0_waysOf_5 (by decide) (fun h5 => ?_) (fun h5 => ?_)
  · replace hf := hf.1 h5
    refine lv_iconst (v := 0) C.1 C.2.1 dX0_waysOf_32 rfl ?_
    exact hret _ _ _ _ _ _ hf hw dX0_waysOf_33
  · replace hf := hf.2 h5
    refine lv_aload_n C.1 C.2.1 dX0_waysOf_8 rfl (lv_at hl 0 rfl) ?_
    refine lv_iload_n C.1 C.2.1 dX0_waysOf_9 rfl (lv_at hl 1 rfl) ?_
    refine lv_iload_n C.1 C.2.1 dX0_waysOf_10 rfl (lv_at hl 2 rfl) ?_
    refine lv_iload_n C.1 C.2.1 dX0_waysOf_11 rfl (lv_at hl 3 rfl) ?_
    refine lv_aload_n C.1 C.2.1 dX0_waysOf_12 rfl (lv_at hl 0 rfl) ?_
    refine xg_livesPart C hw dX0_waysOf_13 ?_
    refine lv_aload_n C.1 C.2.1 dX0_waysOf_16 rfl (lv_at hl 0 rfl) ?_
    refine xg_plainFold C hw dX0_waysOf_17 ?_
    refine lv_aload_n C.1 C.2.1 dX0_waysOf_20 rfl (lv_at hl 0 rfl) ?_
    refine xg_timesPlainFold C hw dX0_waysOf_21 ?_
    refine lv_iconst (v := 0) C.1 C.2.1 dX0_waysOf_24 rfl ?_
    refine lv_iconst (v := 1) C.1 C.2.1 dX0_waysOf_25 rfl ?_
    refine kx_folds C hw hl.1 (Nat.le_of_ble_eq_true rfl) ⟨Nat.le_of_ble_eq_true rfl, Nat.le_of_ble_eq_true rfl⟩ dX0_waysOf_26 hf (fun r26 s26 H locs hf hw => ?_)
    refine lv_goto (tgt := 33) C.1 C.2.1 dX0_waysOf_29 (by decide) ?_
    exact hret _ _ _ _ _ _ hf hw dX0_waysOf_33
theorem kx_waysOf {p : Program} {l : Launch} {e : Env} {R : Room} {s : State} {m : MethodId} {args : Array Value} {below : List Frame} {meth : Method} {c : Code} {H : Heap} {locs : List Loc} {Z : State → Prop} {cc : ByteArray} {nL pc : Nat} {ls : Array Slot} {rest : List Value} {D : va_G} {ct : Ct} {ad : Nat → Nat} {σ : St} {x1 : Int32} {x2 : Int32} {x3 : Int32} {Qp : Int32 → St → Prop} (C : CallFix p m c cc nL s args lw_all RX0) (hw : gH D ct shX ad s σ H locs) (hsz : ls.size = nL) (hrm : (rest.map fun v => v.category).sum ≤ 8) (hR : rm_x_waysOf.frames + 1 ≤ R.frames ∧ 8 + (4 + 11) + rm_x_waysOf.locals ≤ R.locals) (hdg : decode cc pc = .ok (.invokevirtual 613, 3)) (hf : x_waysOf σ x1 x2 x3 Qp) (kk : ∀ (r : Int32) (σ1 : St) (H1 : Heap) (locs1 : List Loc), Qp r σ1 → gH D ct shX ad s σ1 H1 locs1 → W p l e R s m args below meth c H1 locs1 0 0 Z (F0 m (pc + 3) ls (.int r :: rest))) : W p l e R s m args below meth c H locs 0 0 Z (F0 m pc ls (.int x3 :: .int x2 :: .int x1 :: .ref (ad 0) :: rest)) :=
  g_callV (As := [.int x1, .int x2, .int x3]) (rest := rest) C hw rfl rfl (met_x_waysOf l D ct ad hw.2.1 σ x1 x2 x3 Qp hf) (cwV 3 C.2.2.2.2 (lw_V q1146 q1148 qs85 q200 q1149) rfl rfl rfl (by decide +kernel) hR) rfl hsz rfl hrm ⟨Nat.zero_le _, Nat.zero_le _⟩ hdg kk
def x_chartsSpan_p185 (x1 : Int32) (x2 : Int32) (Q : Unit → St → Prop) (K185 : St → Int32 → Prop) (σ : St) (x3 : Int32) : Prop :=
  ((x3 = 0 → Q () σ) ∧ (¬ x3 = 0 → (x_countsMore σ x1 x2 (fun r192 s192 => K185 s192 r192))))
def x_chartsSpan_p176 (σ : St) (x1 : Int32) (x2 : Int32) (x4 : Int32) (Q : Unit → St → Prop) (K131 : St → Int32 → Prop) (v0 : Int32) (v1 : Int32) : Prop :=
  (vp_in v1 12 ∧ (∀ s176 : St, s176 = s_A σ 57 (Int32.toNatClampNeg v1) v0 → K131 s176 (x4 + 1)))
def x_chartsSpan_p131 (x1 : Int32) (x2 : Int32) (Q : Unit → St → Prop) (K131 : St → Int32 → Prop) (σ : St) (x4 : Int32) : Prop :=
  (((σ.1 80) ≤ x4 → (Lp2 (x_chartsSpan_p185 x1 x2 Q) σ 1)) ∧ (¬ (σ.1 80) ≤ x4 → (vp_in (fx_pieceOf x4 x1 x2) 2028 ∧ (((gI σ 51 (fx_pieceOf x4 x1 x2)) = 0 → (x_chartsSpan_p176 σ x1 x2 x4 Q K131 0 x4)) ∧ (¬ (gI σ 51 (fx_pieceOf x4 x1 x2)) = 0 → (x_sameSpan σ x4 x1 x2 (fun r169 => (x_chartsSpan_p176 σ x1 x2 x4 Q K131 r169 x4))))))))
def x_chartsSpan_p100 (x1 : Int32) (x2 : Int32) (Q : Unit → St → Prop) (K100 : St → Int32 → Prop) (σ : St) (x3 : Int32) : Prop :=
  ((x3 = 0 → (Lp2 (x_chartsSpan_p131 x1 x2 Q) σ 0)) ∧ (¬ x3 = 0 → (x_derivesMore σ x1 x2 (fun r107 s107 => (x_livesMore s107 x1 x2 (fun r113 s113 => (x_costsMore s113 x1 x2 (fun r120 s120 => K100 s120 ((r107 ||| r113) ||| r120)))))))))
def x_chartsSpan_p68 (x1 : Int32) (x2 : Int32) (Q : Unit → St → Prop) (K68 : St → Int32 → Prop) (σ : St) (x3 : Int32) : Prop :=
  ((26 ≤ x3 → (Lp2 (x_chartsSpan_p100 x1 x2 Q) σ 1)) ∧ (¬ 26 ≤ x3 → (vp_in ((169 * x3) + (fx_spanOf x1 x2)) 4394 ∧ (∀ s91 : St, s91 = s_A σ 56 (Int32.toNatClampNeg ((169 * x3) + (fx_spanOf x1 x2))) 2000000000 → K68 s91 (x3 + 1)))))
def x_chartsSpan_p13 (x1 : Int32) (x2 : Int32) (Q : Unit → St → Prop) (K13 : St → Int32 → Prop) (σ : St) (x3 : Int32) : Prop :=
  ((12 ≤ x3 → (Lp2 (x_chartsSpan_p68 x1 x2 Q) σ 0)) ∧ (¬ 12 ≤ x3 → (vp_in (fx_pieceOf x3 x1 x2) 2028 ∧ (∀ s34 : St, s34 = s_A σ 51 (Int32.toNatClampNeg (fx_pieceOf x3 x1 x2)) 0 → (vp_in (fx_pieceOf x3 x1 x2) 2028 ∧ (∀ s42 : St, s42 = s_A s34 54 (Int32.toNatClampNeg (fx_pieceOf x3 x1 x2)) 0 → (vp_in (fx_pieceOf x3 x1 x2) 2028 ∧ (∀ s50 : St, s50 = s_A s42 52 (Int32.toNatClampNeg (fx_pieceOf x3 x1 x2)) 0 → (vp_in (fx_pieceOf x3 x1 x2) 2028 ∧ (∀ s59 : St, s59 = s_A s50 53 (Int32.toNatClampNeg (fx_pieceOf x3 x1 x2)) 2000000000 → K13 s59 (x3 + 1)))))))))))
def x_chartsSpan (σ : St) (x1 : Int32) (x2 : Int32) (Q : Unit → St → Prop) : Prop :=
  (vp_in (fx_spanOf x1 x2) 169 ∧ (∀ s10 : St, s10 = s_A σ 55 (Int32.toNatClampNeg (fx_spanOf x1 x2)) 0 → (Lp2 (x_chartsSpan_p13 x1 x2 Q) s10 0)))
abbrev rm_x_chartsSpan : Room := { frames := 9, cells := 0, slots := 0, locals := 323 }
set_option maxHeartbeats 4000000 in
theorem met_x_chartsSpan (l : Launch) (D : va_G) (ct : Ct) (ad : Nat → Nat) (hJ : gJ shX ad ct) (σ : St) (x1 : Int32) (x2 : Int32) (Q : Unit → St → Prop) (hf : x_chartsSpan σ x1 x2 Q) : Met l yX0_chartsSpan (ws_ yX0_chartsSpan cX0_chartsSpan 5 (none)) rm_x_chartsSpan (va_Pc [.ref (ad 0), .int x1, .int x2] (gP D ct shX ad σ)) (gQ rvV D ct shX ad Q) 0 0 (gA shX ad) := by
  refine g_metV hJ (by decide) (Nat.le_of_ble_eq_true rfl) ?_
  intro p e s m args below meth c QQ ls C hw hl hret
  replace hl : lv_has ls 5 [(0, .ref (ad 0)), (1, .int x1), (2, .int x2)] := hl
  have B185 : ∀ (x1 : Int32) (x2 : Int32) (K185 : St → Int32 → Prop) (_ : ∀ (σ : St) (H : Heap) (locs : List Loc) (x3 : Int32) (ls : Array Slot), K185 σ x3 → gH D ct shX ad s σ H locs → lv_has ls 5 [(0, .ref (ad 0)), (1, .int x1), (2, .int x2), (3, .int x3)] → W p l e rm_x_chartsSpan s m args below meth c H locs 0 0 QQ (F0 m 185 ls [])) (σ : St) (H : Heap) (locs : List Loc) (x3 : Int32) (ls : Array Slot), x_chartsSpan_p185 x1 x2 Q K185 σ x3 → gH D ct shX ad s σ H locs → lv_has ls 5 [(0, .ref (ad 0)), (1, .int x1), (2, .int x2), (3, .int x3)] → W p l e rm_x_chartsSpan s m args below meth c H locs 0 0 QQ (F0 m 185 ls []) := by
    intro x1 x2 K185 hK185 σ H locs x3 ls hf hw hl
    unfold x_chartsSpan_p185 at hf
    refine lv_iload_n C.1 C.2.1 dX0_chartsSpan_185 rfl (lv_at hl 3 rfl) ?_
    refine lv_if_eq (tgt := 199) C.1 C.2.1 dX0_chartsSpan_186 (by decide) (fun h186 => ?_) (fun h186 => ?_)
    · replace hf := hf.1 h186
      exact hret _ _ _ _ _ _ hf hw dX0_chartsSpan_199
    · replace hf := hf.2 h186
      refine lv_aload_n C.1 C.2.1 dX0_chartsSpan_189 rfl (lv_at hl 0 rfl) ?_
      refine lv_iload_n C.1 C.2.1 dX0_chartsSpan_190 rfl (lv_at hl 1 rfl) ?_
      refine lv_iload_n C.1 C.2.1 dX0_chartsSpan_191 rfl (lv_at hl 2 rfl) ?_
      refine kx_countsMore C hw hl.1 (Nat.le_of_ble_eq_true rfl) ⟨Nat.le_of_ble_eq_true rfl, Nat.le_of_ble_eq_true rfl⟩ dX0_chartsSpan_192 hf (fun r192 s192 H locs hf hw => ?_)
      refine lv_istore_n (lv' := [(3, .int r192), (0, .ref (ad 0)), (1, .int x1), (2, .int x2)]) C.1 C.2.1 dX0_chartsSpan_195 rfl hl (Nat.le_of_ble_eq_true rfl) rfl (fun ls hl => ?_)
      refine lv_goto (tgt := 185) C.1 C.2.1 dX0_chartsSpan_196 (by decide) ?_
      exact hK185 _ _ _ _ _ hf hw (lv_sub hl [1, 2, 3, 0] rfl)
  have P185 : ∀ (x1 : Int32) (x2 : Int32) (n : Nat) (σ : St) (x3 : Int32) (ls : Array Slot) (H : Heap) (locs : List Loc), LL2 (x_chartsSpan_p185 x1 x2 Q) n σ x3 → gH D ct shX ad s σ H locs → lv_has ls 5 [(0, .ref (ad 0)), (1, .int x1), (2, .int x2), (3, .int x3)] → W p l e rm_x_chartsSpan s m args below meth c H locs 0 0 QQ (F0 m 185 ls []) := by
    intro x1 x2 n
    induction n with
    | zero => intro σ x3 ls H locs hf; exact False.elim hf
    | succ n ih => intro σ x3 ls H locs hf hw hl; exact B185 x1 x2 (LL2 _ n) (fun σ H locs x3 ls hf hw hl => ih σ x3 ls H locs hf hw hl) σ H locs x3 ls hf hw hl
  have J176 : ∀ (σ : St) (H : Heap) (locs : List Loc) (x1 : Int32) (x2 : Int32) (x4 : Int32) (v0 : Int32) (v1 : Int32) (K131 : St → Int32 → Prop) (_ : ∀ (σ : St) (H : Heap) (locs : List Loc) (x4 : Int32) (ls : Array Slot), K131 σ x4 → gH D ct shX ad s σ H locs → lv_has ls 5 [(0, .ref (ad 0)), (1, .int x1), (2, .int x2), (4, .int x4)] → W p l e rm_x_chartsSpan s m args below meth c H locs 0 0 QQ (F0 m 131 ls [])) (ls : Array Slot), x_chartsSpan_p176 σ x1 x2 x4 Q K131 v0 v1 → gH D ct shX ad s σ H locs → lv_has ls 5 [(0, .ref (ad 0)), (1, .int x1), (2, .int x2), (4, .int x4)] → W p l e rm_x_chartsSpan s m args below meth c H locs 0 0 QQ (F0 m 176 ls [.int v0, .int v1, .ref (ad 57)]) := by
    intro σ H locs x1 x2 x4 v0 v1 K131 hK131 ls hf hw hl
    unfold x_chartsSpan_p176 at hf
    obtain ⟨b176, hf⟩ := hf
    refine g_iast C shX_sep hw 57 rfl b176 dX0_chartsSpan_176 (fun s176 H locs e176 hw => ?_)
    replace hf := hf s176 e176
    refine lv_iinc (v := (x4 + 1)) (lv' := [(4, .int (x4 + 1)), (0, .ref (ad 0)), (1, .int x1), (2, .int x2)]) C.1 C.2.1 dX0_chartsSpan_177 hl (k := 3) rfl rfl (Nat.le_of_ble_eq_true rfl) rfl (fun ls hl => ?_)
    refine lv_goto (tgt := 131) C.1 C.2.1 dX0_chartsSpan_180 (by decide) ?_
    exact hK131 _ _ _ _ _ hf hw (lv_sub hl [1, 2, 3, 0] rfl)
  have B131 : ∀ (x1 : Int32) (x2 : Int32) (K131 : St → Int32 → Prop) (_ : ∀ (σ : St) (H : Heap) (locs : List Loc) (x4 : Int32) (ls : Array Slot), K131 σ x4 → gH D ct shX ad s σ H locs → lv_has ls 5 [(0, .ref (ad 0)), (1, .int x1), (2, .int x2), (4, .int x4)] → W p l e rm_x_chartsSpan s m args below meth c H locs 0 0 QQ (F0 m 131 ls [])) (σ : St) (H : Heap) (locs : List Loc) (x4 : Int32) (ls : Array Slot), x_chartsSpan_p131 x1 x2 Q K131 σ x4 → gH D ct shX ad s σ H locs → lv_has ls 5 [(0, .ref (ad 0)), (1, .int x1), (2, .int x2), (4, .int x4)] → W p l e rm_x_chartsSpan s m args below meth c H locs 0 0 QQ (F0 m 131 ls []) := by
    intro x1 x2 K131 hK131 σ H locs x4 ls hf hw hl
    unfold x_chartsSpan_p131 at hf
    refine lv_iload C.1 C.2.1 dX0_chartsSpan_131 (lv_at hl 3 rfl) ?_
    refine lv_aload_n C.1 C.2.1 dX0_chartsSpan_133 rfl (lv_at hl 0 rfl) ?_
    refine xg_grammar C hw dX0_chartsSpan_134 ?_
    refine xn_many C hw dX0_chartsSpan_137 ?_
    refine lv_icmp_ge (tgt := 183) C.1 C.2.1 dX0_chartsSpan_140 (by decide) (fun h140 => ?_) (fun h140 => ?_)
    · replace hf := hf.1 h140
      refine lv_iconst (v := 1) C.1 C.2.1 dX0_chartsSpan_183 rfl ?_
      refine lv_istore_n (lv' := [(3, .int 1), (0, .ref (ad 0)), (1, .int x1), (2, .int x2), (4, .int x4)]) C.1 C.2.1 dX0_chartsSpan_184 rfl hl (Nat.le_of_ble_eq_true rfl) rfl (fun ls hl => ?_)
      obtain ⟨n, hf⟩ := hf
      exact P185 _ _ n _ _ _ _ _ hf hw (lv_sub hl [1, 2, 3, 0] rfl)
    · replace hf := hf.2 h140
      refine lv_aload_n C.1 C.2.1 dX0_chartsSpan_143 rfl (lv_at hl 0 rfl) ?_
      refine xg_belowOf C hw dX0_chartsSpan_144 ?_
      refine lv_iload C.1 C.2.1 dX0_chartsSpan_147 (lv_at hl 3 rfl) ?_
      refine lv_aload_n C.1 C.2.1 dX0_chartsSpan_149 rfl (lv_at hl 0 rfl) ?_
      refine xg_livesOf C hw dX0_chartsSpan_150 ?_
      refine lv_iload C.1 C.2.1 dX0_chartsSpan_153 (lv_at hl 3 rfl) ?_
      refine lv_iload_n C.1 C.2.1 dX0_chartsSpan_155 rfl (lv_at hl 1 rfl) ?_
      refine lv_iload_n C.1 C.2.1 dX0_chartsSpan_156 rfl (lv_at hl 2 rfl) ?_
      refine kx_pieceOf C hl.1 (Nat.le_of_ble_eq_true rfl) ⟨Nat.le_of_ble_eq_true rfl, Nat.le_of_ble_eq_true rfl⟩ dX0_chartsSpan_157 ?_
      obtain ⟨b160, hf⟩ := hf
      refine g_zald C hw 51 rfl b160 dX0_chartsSpan_160 ?_
      refine lv_if_eq (tgt := 175) C.1 C.2.1 dX0_chartsSpan_161 (by decide) (fun h161 => ?_) (fun h161 => ?_)
      · replace hf := hf.1 h161
        refine lv_iconst (v := 0) C.1 C.2.1 dX0_chartsSpan_175 rfl ?_
        exact J176 _ _ _ _ _ _ _ _ _ hK131 _ hf hw (lv_sub hl [0, 1, 2, 3] rfl)
      · replace hf := hf.2 h161
        refine lv_aload_n C.1 C.2.1 dX0_chartsSpan_164 rfl (lv_at hl 0 rfl) ?_
        refine lv_iload C.1 C.2.1 dX0_chartsSpan_165 (lv_at hl 3 rfl) ?_
        refine lv_iload_n C.1 C.2.1 dX0_chartsSpan_167 rfl (lv_at hl 1 rfl) ?_
        refine lv_iload_n C.1 C.2.1 dX0_chartsSpan_168 rfl (lv_at hl 2 rfl) ?_
        refine kx_sameSpan C hw hl.1 (Nat.le_of_ble_eq_true rfl) ⟨Nat.le_of_ble_eq_true rfl, Nat.le_of_ble_eq_true rfl⟩ dX0_chartsSpan_169 hf (fun r169 hf => ?_)
        refine lv_goto (tgt := 176) C.1 C.2.1 dX0_chartsSpan_172 (by decide) ?_
        exact J176 _ _ _ _ _ _ _ _ _ hK131 _ hf hw (lv_sub hl [0, 1, 2, 3] rfl)
  have P131 : ∀ (x1 : Int32) (x2 : Int32) (n : Nat) (σ : St) (x4 : Int32) (ls : Array Slot) (H : Heap) (locs : List Loc), LL2 (x_chartsSpan_p131 x1 x2 Q) n σ x4 → gH D ct shX ad s σ H locs → lv_has ls 5 [(0, .ref (ad 0)), (1, .int x1), (2, .int x2), (4, .int x4)] → W p l e rm_x_chartsSpan s m args below meth c H locs 0 0 QQ (F0 m 131 ls []) := by
    intro x1 x2 n
    induction n with
    | zero => intro σ x4 ls H locs hf; exact False.elim hf
    | succ n ih => intro σ x4 ls H locs hf hw hl; exact B131 x1 x2 (LL2 _ n) (fun σ H locs x4 ls hf hw hl => ih σ x4 ls H locs hf hw hl) σ H locs x4 ls hf hw hl
  have B100 : ∀ (x1 : Int32) (x2 : Int32) (K100 : St → Int32 → Prop) (_ : ∀ (σ : St) (H : Heap) (locs : List Loc) (x3 : Int32) (ls : Array Slot), K100 σ x3 → gH D ct shX ad s σ H locs → lv_has ls 5 [(0, .ref (ad 0)), (1, .int x1), (2, .int x2), (3, .int x3)] → W p l e rm_x_chartsSpan s m args below meth c H locs 0 0 QQ (F0 m 100 ls [])) (σ : St) (H : Heap) (locs : List Loc) (x3 : Int32) (ls : Array Slot), x_chartsSpan_p100 x1 x2 Q K100 σ x3 → gH D ct shX ad s σ H locs → lv_has ls 5 [(0, .ref (ad 0)), (1, .int x1), (2, .int x2), (3, .int x3)] → W p l e rm_x_chartsSpan s m args below meth c H locs 0 0 QQ (F0 m 100 ls []) := by
    intro x1 x2 K100 hK100 σ H locs x3 ls hf hw hl
    unfold x_chartsSpan_p100 at hf
    refine lv_iload_n C.1 C.2.1 dX0_chartsSpan_100 rfl (lv_at hl 3 rfl) ?_
    refine lv_if_eq (tgt := 128) C.1 C.2.1 dX0_chartsSpan_101 (by decide) (fun h101 => ?_) (fun h101 => ?_)
    · replace hf := hf.1 h101
      refine lv_iconst (v := 0) C.1 C.2.1 dX0_chartsSpan_128 rfl ?_
      refine lv_istore (lv' := [(4, .int 0), (0, .ref (ad 0)), (1, .int x1), (2, .int x2), (3, .int x3)]) C.1 C.2.1 dX0_chartsSpan_129 hl (Nat.le_of_ble_eq_true rfl) rfl (fun ls hl => ?_)
      obtain ⟨n, hf⟩ := hf
      exact P131 _ _ n _ _ _ _ _ hf hw (lv_sub hl [1, 2, 3, 0] rfl)
    · replace hf := hf.2 h101
      refine lv_aload_n C.1 C.2.1 dX0_chartsSpan_104 rfl (lv_at hl 0 rfl) ?_
      refine lv_iload_n C.1 C.2.1 dX0_chartsSpan_105 rfl (lv_at hl 1 rfl) ?_
      refine lv_iload_n C.1 C.2.1 dX0_chartsSpan_106 rfl (lv_at hl 2 rfl) ?_
      refine kx_derivesMore C hw hl.1 (Nat.le_of_ble_eq_true rfl) ⟨Nat.le_of_ble_eq_true rfl, Nat.le_of_ble_eq_true rfl⟩ dX0_chartsSpan_107 hf (fun r107 s107 H locs hf hw => ?_)
      refine lv_aload_n C.1 C.2.1 dX0_chartsSpan_110 rfl (lv_at hl 0 rfl) ?_
      refine lv_iload_n C.1 C.2.1 dX0_chartsSpan_111 rfl (lv_at hl 1 rfl) ?_
      refine lv_iload_n C.1 C.2.1 dX0_chartsSpan_112 rfl (lv_at hl 2 rfl) ?_
      refine kx_livesMore C hw hl.1 (Nat.le_of_ble_eq_true rfl) ⟨Nat.le_of_ble_eq_true rfl, Nat.le_of_ble_eq_true rfl⟩ dX0_chartsSpan_113 hf (fun r113 s113 H locs hf hw => ?_)
      refine lv_ior C.1 C.2.1 dX0_chartsSpan_116 ?_
      refine lv_aload_n C.1 C.2.1 dX0_chartsSpan_117 rfl (lv_at hl 0 rfl) ?_
      refine lv_iload_n C.1 C.2.1 dX0_chartsSpan_118 rfl (lv_at hl 1 rfl) ?_
      refine lv_iload_n C.1 C.2.1 dX0_chartsSpan_119 rfl (lv_at hl 2 rfl) ?_
      refine kx_costsMore C hw hl.1 (Nat.le_of_ble_eq_true rfl) ⟨Nat.le_of_ble_eq_true rfl, Nat.le_of_ble_eq_true rfl⟩ dX0_chartsSpan_120 hf (fun r120 s120 H locs hf hw => ?_)
      refine lv_ior C.1 C.2.1 dX0_chartsSpan_123 ?_
      refine lv_istore_n (lv' := [(3, .int ((r107 ||| r113) ||| r120)), (0, .ref (ad 0)), (1, .int x1), (2, .int x2)]) C.1 C.2.1 dX0_chartsSpan_124 rfl hl (Nat.le_of_ble_eq_true rfl) rfl (fun ls hl => ?_)
      refine lv_goto (tgt := 100) C.1 C.2.1 dX0_chartsSpan_125 (by decide) ?_
      exact hK100 _ _ _ _ _ hf hw (lv_sub hl [1, 2, 3, 0] rfl)
  have P100 : ∀ (x1 : Int32) (x2 : Int32) (n : Nat) (σ : St) (x3 : Int32) (ls : Array Slot) (H : Heap) (locs : List Loc), LL2 (x_chartsSpan_p100 x1 x2 Q) n σ x3 → gH D ct shX ad s σ H locs → lv_has ls 5 [(0, .ref (ad 0)), (1, .int x1), (2, .int x2), (3, .int x3)] → W p l e rm_x_chartsSpan s m args below meth c H locs 0 0 QQ (F0 m 100 ls []) := by
    intro x1 x2 n
    induction n with
    | zero => intro σ x3 ls H locs hf; exact False.elim hf
    | succ n ih => intro σ x3 ls H locs hf hw hl; exact B100 x1 x2 (LL2 _ n) (fun σ H locs x3 ls hf hw hl => ih σ x3 ls H locs hf hw hl) σ H locs x3 ls hf hw hl
  have B68 : ∀ (x1 : Int32) (x2 : Int32) (K68 : St → Int32 → Prop) (_ : ∀ (σ : St) (H : Heap) (locs : List Loc) (x3 : Int32) (ls : Array Slot), K68 σ x3 → gH D ct shX ad s σ H locs → lv_has ls 5 [(0, .ref (ad 0)), (1, .int x1), (2, .int x2), (3, .int x3)] → W p l e rm_x_chartsSpan s m args below meth c H locs 0 0 QQ (F0 m 68 ls [])) (σ : St) (H : Heap) (locs : List Loc) (x3 : Int32) (ls : Array Slot), x_chartsSpan_p68 x1 x2 Q K68 σ x3 → gH D ct shX ad s σ H locs → lv_has ls 5 [(0, .ref (ad 0)), (1, .int x1), (2, .int x2), (3, .int x3)] → W p l e rm_x_chartsSpan s m args below meth c H locs 0 0 QQ (F0 m 68 ls []) := by
    intro x1 x2 K68 hK68 σ H locs x3 ls hf hw hl
    unfold x_chartsSpan_p68 at hf
    refine lv_iload_n C.1 C.2.1 dX0_chartsSpan_68 rfl (lv_at hl 3 rfl) ?_
    refine lv_bipush (v := 26) C.1 C.2.1 dX0_chartsSpan_69 rfl ?_
    refine lv_icmp_ge (tgt := 98) C.1 C.2.1 dX0_chartsSpan_71 (by decide) (fun h71 => ?_) (fun h71 => ?_)
    · replace hf := hf.1 h71
      refine lv_iconst (v := 1) C.1 C.2.1 dX0_chartsSpan_98 rfl ?_
      refine lv_istore_n (lv' := [(3, .int 1), (0, .ref (ad 0)), (1, .int x1), (2, .int x2)]) C.1 C.2.1 dX0_chartsSpan_99 rfl hl (Nat.le_of_ble_eq_true rfl) rfl (fun ls hl => ?_)
      obtain ⟨n, hf⟩ := hf
      exact P100 _ _ n _ _ _ _ _ hf hw (lv_sub hl [1, 2, 3, 0] rfl)
    · replace hf := hf.2 h71
      refine lv_aload_n C.1 C.2.1 dX0_chartsSpan_74 rfl (lv_at hl 0 rfl) ?_
      refine xg_costOf C hw dX0_chartsSpan_75 ?_
      refine lv_sipush (v := 169) C.1 C.2.1 dX0_chartsSpan_78 rfl ?_
      refine lv_iload_n C.1 C.2.1 dX0_chartsSpan_81 rfl (lv_at hl 3 rfl) ?_
      refine lv_imul C.1 C.2.1 dX0_chartsSpan_82 ?_
      refine lv_iload_n C.1 C.2.1 dX0_chartsSpan_83 rfl (lv_at hl 1 rfl) ?_
      refine lv_iload_n C.1 C.2.1 dX0_chartsSpan_84 rfl (lv_at hl 2 rfl) ?_
      refine kx_spanOf C hl.1 (Nat.le_of_ble_eq_true rfl) ⟨Nat.le_of_ble_eq_true rfl, Nat.le_of_ble_eq_true rfl⟩ dX0_chartsSpan_85 ?_
      refine lv_iadd C.1 C.2.1 dX0_chartsSpan_88 ?_
      refine lv_ldc C.1 C.2.1 C.2.2.2.1 (C.2.2.2.2 _ q355) dX0_chartsSpan_89 ?_
      obtain ⟨b91, hf⟩ := hf
      refine g_iast C shX_sep hw 56 rfl b91 dX0_chartsSpan_91 (fun s91 H locs e91 hw => ?_)
      replace hf := hf s91 e91
      refine lv_iinc (v := (x3 + 1)) (lv' := [(3, .int (x3 + 1)), (0, .ref (ad 0)), (1, .int x1), (2, .int x2)]) C.1 C.2.1 dX0_chartsSpan_92 hl (k := 3) rfl rfl (Nat.le_of_ble_eq_true rfl) rfl (fun ls hl => ?_)
      refine lv_goto (tgt := 68) C.1 C.2.1 dX0_chartsSpan_95 (by decide) ?_
      exact hK68 _ _ _ _ _ hf hw (lv_sub hl [1, 2, 3, 0] rfl)
  have P68 : ∀ (x1 : Int32) (x2 : Int32) (n : Nat) (σ : St) (x3 : Int32) (ls : Array Slot) (H : Heap) (locs : List Loc), LL2 (x_chartsSpan_p68 x1 x2 Q) n σ x3 → gH D ct shX ad s σ H locs → lv_has ls 5 [(0, .ref (ad 0)), (1, .int x1), (2, .int x2), (3, .int x3)] → W p l e rm_x_chartsSpan s m args below meth c H locs 0 0 QQ (F0 m 68 ls []) := by
    intro x1 x2 n
    induction n with
    | zero => intro σ x3 ls H locs hf; exact False.elim hf
    | succ n ih => intro σ x3 ls H locs hf hw hl; exact B68 x1 x2 (LL2 _ n) (fun σ H locs x3 ls hf hw hl => ih σ x3 ls H locs hf hw hl) σ H locs x3 ls hf hw hl
  have B13 : ∀ (x1 : Int32) (x2 : Int32) (K13 : St → Int32 → Prop) (_ : ∀ (σ : St) (H : Heap) (locs : List Loc) (x3 : Int32) (ls : Array Slot), K13 σ x3 → gH D ct shX ad s σ H locs → lv_has ls 5 [(0, .ref (ad 0)), (1, .int x1), (2, .int x2), (3, .int x3)] → W p l e rm_x_chartsSpan s m args below meth c H locs 0 0 QQ (F0 m 13 ls [])) (σ : St) (H : Heap) (locs : List Loc) (x3 : Int32) (ls : Array Slot), x_chartsSpan_p13 x1 x2 Q K13 σ x3 → gH D ct shX ad s σ H locs → lv_has ls 5 [(0, .ref (ad 0)), (1, .int x1), (2, .int x2), (3, .int x3)] → W p l e rm_x_chartsSpan s m args below meth c H locs 0 0 QQ (F0 m 13 ls []) := by
    intro x1 x2 K13 hK13 σ H locs x3 ls hf hw hl
    unfold x_chartsSpan_p13 at hf
    refine lv_iload_n C.1 C.2.1 dX0_chartsSpan_13 rfl (lv_at hl 3 rfl) ?_
    refine lv_bipush (v := 12) C.1 C.2.1 dX0_chartsSpan_14 rfl ?_
    refine lv_icmp_ge (tgt := 66) C.1 C.2.1 dX0_chartsSpan_16 (by decide) (fun h16 => ?_) (fun h16 => ?_)
    · replace hf := hf.1 h16
      refine lv_iconst (v := 0) C.1 C.2.1 dX0_chartsSpan_66 rfl ?_
      refine lv_istore_n (lv' := [(3, .int 0), (0, .ref (ad 0)), (1, .int x1), (2, .int x2)]) C.1 C.2.1 dX0_chartsSpan_67 rfl hl (Nat.le_of_ble_eq_true rfl) rfl (fun ls hl => ?_)
      obtain ⟨n, hf⟩ := hf
      exact P68 _ _ n _ _ _ _ _ hf hw (lv_sub hl [1, 2, 3, 0] rfl)
    · replace hf := hf.2 h16
      refine lv_iload_n C.1 C.2.1 dX0_chartsSpan_19 rfl (lv_at hl 3 rfl) ?_
      refine lv_iload_n C.1 C.2.1 dX0_chartsSpan_20 rfl (lv_at hl 1 rfl) ?_
      refine lv_iload_n C.1 C.2.1 dX0_chartsSpan_21 rfl (lv_at hl 2 rfl) ?_
      refine kx_pieceOf C hl.1 (Nat.le_of_ble_eq_true rfl) ⟨Nat.le_of_ble_eq_true rfl, Nat.le_of_ble_eq_true rfl⟩ dX0_chartsSpan_22 ?_
      refine lv_istore (lv' := [(4, .int (fx_pieceOf x3 x1 x2)), (0, .ref (ad 0)), (1, .int x1), (2, .int x2), (3, .int x3)]) C.1 C.2.1 dX0_chartsSpan_25 hl (Nat.le_of_ble_eq_true rfl) rfl (fun ls hl => ?_)
      refine lv_aload_n C.1 C.2.1 dX0_chartsSpan_27 rfl (lv_at hl 1 rfl) ?_
      refine xg_livesOf C hw dX0_chartsSpan_28 ?_
      refine lv_iload C.1 C.2.1 dX0_chartsSpan_31 (lv_at hl 0 rfl) ?_
      refine lv_iconst (v := 0) C.1 C.2.1 dX0_chartsSpan_33 rfl ?_
      obtain ⟨b34, hf⟩ := hf
      refine g_zast C shX_sep hw 51 rfl (Or.inl rfl) b34 dX0_chartsSpan_34 (fun s34 H locs e34 hw => ?_)
      replace hf := hf s34 e34
      refine lv_aload_n C.1 C.2.1 dX0_chartsSpan_35 rfl (lv_at hl 1 rfl) ?_
      refine xg_isPiece C hw dX0_chartsSpan_36 ?_
      refine lv_iload C.1 C.2.1 dX0_chartsSpan_39 (lv_at hl 0 rfl) ?_
      refine lv_iconst (v := 0) C.1 C.2.1 dX0_chartsSpan_41 rfl ?_
      obtain ⟨b42, hf⟩ := hf
      refine g_zast C shX_sep hw 54 rfl (Or.inl rfl) b42 dX0_chartsSpan_42 (fun s42 H locs e42 hw => ?_)
      replace hf := hf s42 e42
      refine lv_aload_n C.1 C.2.1 dX0_chartsSpan_43 rfl (lv_at hl 1 rfl) ?_
      refine xg_treesOf C hw dX0_chartsSpan_44 ?_
      refine lv_iload C.1 C.2.1 dX0_chartsSpan_47 (lv_at hl 0 rfl) ?_
      refine lv_iconst (v := 0) C.1 C.2.1 dX0_chartsSpan_49 rfl ?_
      obtain ⟨b50, hf⟩ := hf
      refine g_iast C shX_sep hw 52 rfl b50 dX0_chartsSpan_50 (fun s50 H locs e50 hw => ?_)
      replace hf := hf s50 e50
      refine lv_aload_n C.1 C.2.1 dX0_chartsSpan_51 rfl (lv_at hl 1 rfl) ?_
      refine xg_leastOf C hw dX0_chartsSpan_52 ?_
      refine lv_iload C.1 C.2.1 dX0_chartsSpan_55 (lv_at hl 0 rfl) ?_
      refine lv_ldc C.1 C.2.1 C.2.2.2.1 (C.2.2.2.2 _ q355) dX0_chartsSpan_57 ?_
      obtain ⟨b59, hf⟩ := hf
      refine g_iast C shX_sep hw 53 rfl b59 dX0_chartsSpan_59 (fun s59 H locs e59 hw => ?_)
      replace hf := hf s59 e59
      refine lv_iinc (v := (x3 + 1)) (lv' := [(3, .int (x3 + 1)), (4, .int (fx_pieceOf x3 x1 x2)), (0, .ref (ad 0)), (1, .int x1), (2, .int x2)]) C.1 C.2.1 dX0_chartsSpan_60 hl (k := 4) rfl rfl (Nat.le_of_ble_eq_true rfl) rfl (fun ls hl => ?_)
      refine lv_goto (tgt := 13) C.1 C.2.1 dX0_chartsSpan_63 (by decide) ?_
      exact hK13 _ _ _ _ _ hf hw (lv_sub hl [2, 3, 4, 0] rfl)
  have P13 : ∀ (x1 : Int32) (x2 : Int32) (n : Nat) (σ : St) (x3 : Int32) (ls : Array Slot) (H : Heap) (locs : List Loc), LL2 (x_chartsSpan_p13 x1 x2 Q) n σ x3 → gH D ct shX ad s σ H locs → lv_has ls 5 [(0, .ref (ad 0)), (1, .int x1), (2, .int x2), (3, .int x3)] → W p l e rm_x_chartsSpan s m args below meth c H locs 0 0 QQ (F0 m 13 ls []) := by
    intro x1 x2 n
    induction n with
    | zero => intro σ x3 ls H locs hf; exact False.elim hf
    | succ n ih => intro σ x3 ls H locs hf hw hl; exact B13 x1 x2 (LL2 _ n) (fun σ H locs x3 ls hf hw hl => ih σ x3 ls H locs hf hw hl) σ H locs x3 ls hf hw hl
  unfold x_chartsSpan at hf
  obtain ⟨H, hH⟩ : ∃ q, q = s.heap := ⟨_, rfl⟩
  obtain ⟨locs, hL⟩ : ∃ q : List Loc, q = [] := ⟨_, rfl⟩
  rw [← hH, ← hL] at hw ⊢
  refine lv_aload_n C.1 C.2.1 dX0_chartsSpan_0 rfl (lv_at hl 0 rfl) ?_
  refine xg_derivesOf C hw dX0_chartsSpan_1 ?_
  refine lv_iload_n C.1 C.2.1 dX0_chartsSpan_4 rfl (lv_at hl 1 rfl) ?_
  refine lv_iload_n C.1 C.2.1 dX0_chartsSpan_5 rfl (lv_at hl 2 rfl) ?_
  refine kx_spanOf C hl.1 (Nat.le_of_ble_eq_true rfl) ⟨Nat.le_of_ble_eq_true rfl, Nat.le_of_ble_eq_true rfl⟩ dX0_chartsSpan_6 ?_
  refine lv_iconst (v := 0) C.1 C.2.1 dX0_chartsSpan_9 rfl ?_
  obtain ⟨b10, hf⟩ := hf
  refine g_iast C shX_sep hw 55 rfl b10 dX0_chartsSpan_10 (fun s10 H locs e10 hw => ?_)
  replace hf := hf s10 e10
  refine lv_iconst (v := 0) C.1 C.2.1 dX0_chartsSpan_11 rfl ?_
  refine lv_istore_n (lv' := [(3, .int 0), (0, .ref (ad 0)), (1, .int x1), (2, .int x2)]) C.1 C.2.1 dX0_chartsSpan_12 rfl hl (Nat.le_of_ble_eq_true rfl) rfl (fun ls hl => ?_)
  obtain ⟨n, hf⟩ := hf
  exact P13 _ _ n _ _ _ _ _ hf hw (lv_sub hl [1, 2, 3, 0] rfl)
theorem kx_chartsSpan {p : Program} {l : Launch} {e : Env} {R : Room} {s : State} {m : MethodId} {args : Array Value} {below : List Frame} {meth : Method} {c : Code} {H : Heap} {locs : List Loc} {Z : State → Prop} {cc : ByteArray} {nL pc : Nat} {ls : Array Slot} {rest : List Value} {D : va_G} {ct : Ct} {ad : Nat → Nat} {σ : St} {x1 : Int32} {x2 : Int32} {Qp : Unit → St → Prop} (C : CallFix p m c cc nL s args lw_all RX0) (hw : gH D ct shX ad s σ H locs) (hsz : ls.size = nL) (hrm : (rest.map fun v => v.category).sum ≤ 8) (hR : rm_x_chartsSpan.frames + 1 ≤ R.frames ∧ 8 + (5 + 11) + rm_x_chartsSpan.locals ≤ R.locals) (hdg : decode cc pc = .ok (.invokevirtual 587, 3)) (hf : x_chartsSpan σ x1 x2 Qp) (kk : ∀ (r : Unit) (σ1 : St) (H1 : Heap) (locs1 : List Loc), Qp r σ1 → gH D ct shX ad s σ1 H1 locs1 → W p l e R s m args below meth c H1 locs1 0 0 Z (F0 m (pc + 3) ls (rest))) : W p l e R s m args below meth c H locs 0 0 Z (F0 m pc ls (.int x2 :: .int x1 :: .ref (ad 0) :: rest)) :=
  g_callV (As := [.int x1, .int x2]) (rest := rest) C hw rfl rfl (met_x_chartsSpan l D ct ad hw.2.1 σ x1 x2 Qp hf) (cwV 2 C.2.2.2.2 (lw_V q1073 q1075 qs72 q200 q1076) rfl rfl rfl (by decide +kernel) hR) rfl hsz rfl hrm ⟨Nat.zero_le _, Nat.zero_le _⟩ hdg kk
def x_growsForest_p70 (Q : Unit → St → Prop) (K70 : St → Prop) (σ : St) : Prop :=
  (((σ.1 59) ≤ 0 → Q () σ) ∧ (¬ (σ.1 59) ≤ 0 → (∀ s84 : St, s84 = s_I σ 59 ((σ.1 59) - 1) → (vp_in (s84.1 59) 2028 ∧ (x_marksBelow 6 s84 ((gI s84 58 (s84.1 59)) / 169) 0 (((gI s84 58 (s84.1 59)) - (gI s84 58 (s84.1 59)) / 169 * 169) / 13) ((gI s84 58 (s84.1 59)) - (gI s84 58 (s84.1 59)) / 13 * 13) (fun _ s116 => K70 s116))))))
def x_growsForest_p7 (Q : Unit → St → Prop) (K7 : St → Int32 → Prop) (σ : St) (x1 : Int32) : Prop :=
  (((σ.1 80) ≤ x1 → (Lp1 (x_growsForest_p70 Q) σ)) ∧ (¬ (σ.1 80) ≤ x1 → (vp_in x1 12 ∧ (((gI σ 83 x1) = (σ.1 82) → (vp_in (fx_pieceOf x1 0 (σ.1 4)) 2028 ∧ (((gI σ 51 (fx_pieceOf x1 0 (σ.1 4))) = 0 → K7 σ (x1 + 1)) ∧ (¬ (gI σ 51 (fx_pieceOf x1 0 (σ.1 4))) = 0 → (x_marks σ x1 0 (σ.1 4) (fun _ s61 => K7 s61 (x1 + 1))))))) ∧ (¬ (gI σ 83 x1) = (σ.1 82) → K7 σ (x1 + 1))))))
def x_growsForest (σ : St) (Q : Unit → St → Prop) : Prop :=
  (∀ s2 : St, s2 = s_I σ 59 0 → (Lp2 (x_growsForest_p7 Q) s2 0))
abbrev rm_x_growsForest : Room := { frames := 20, cells := 0, slots := 0, locals := 549 }
set_option maxHeartbeats 4000000 in
theorem met_x_growsForest (l : Launch) (D : va_G) (ct : Ct) (ad : Nat → Nat) (hJ : gJ shX ad ct) (σ : St) (Q : Unit → St → Prop) (hf : x_growsForest σ Q) : Met l yX0_growsForest (ws_ yX0_growsForest cX0_growsForest 2 (none)) rm_x_growsForest (va_Pc [.ref (ad 0)] (gP D ct shX ad σ)) (gQ rvV D ct shX ad Q) 0 0 (gA shX ad) := by
  refine g_metV hJ (by decide) (Nat.le_of_ble_eq_true rfl) ?_
  intro p e s m args below meth c QQ ls C hw hl hret
  replace hl : lv_has ls 2 [(0, .ref (ad 0))] := hl
  have B70 : ∀ (K70 : St → Prop) (_ : ∀ (σ : St) (H : Heap) (locs : List Loc) (ls : Array Slot), K70 σ → gH D ct shX ad s σ H locs → lv_has ls 2 [(0, .ref (ad 0))] → W p l e rm_x_growsForest s m args below meth c H locs 0 0 QQ (F0 m 70 ls [])) (σ : St) (H : Heap) (locs : List Loc) (ls : Array Slot), x_growsForest_p70 Q K70 σ → gH D ct shX ad s σ H locs → lv_has ls 2 [(0, .ref (ad 0))] → W p l e rm_x_growsForest s m args below meth c H locs 0 0 QQ (F0 m 70 ls []) := by
    intro K70 hK70 σ H locs ls hf hw hl
    unfold x_growsForest_p70 at hf
    refine lv_aload_n C.1 C.2.1 dX0_growsForest_70 rfl (lv_at hl 0 rfl) ?_
    refine xg_waitMany C hw dX0_growsForest_71 ?_
    refine lv_if_le (tgt := 122) C.1 C.2.1 dX0_growsForest_74 (by decide) (fun h74 => ?_) (fun h74 => ?_)
    · replace hf := hf.1 h74
      exact hret _ _ _ _ _ _ hf hw dX0_growsForest_122
    · replace hf := hf.2 h74
      refine lv_aload_n C.1 C.2.1 dX0_growsForest_77 rfl (lv_at hl 0 rfl) ?_
      refine lv_dup C.1 C.2.1 dX0_growsForest_78 rfl ?_
      refine xg_waitMany C hw dX0_growsForest_79 ?_
      refine lv_iconst (v := 1) C.1 C.2.1 dX0_growsForest_82 rfl ?_
      refine lv_isub C.1 C.2.1 dX0_growsForest_83 ?_
      refine xp_waitMany C hw dX0_growsForest_84 (fun s84 H locs e84 hw => ?_)
      replace hf := hf s84 e84
      refine lv_aload_n C.1 C.2.1 dX0_growsForest_87 rfl (lv_at hl 0 rfl) ?_
      refine xg_waiting C hw dX0_growsForest_88 ?_
      refine lv_aload_n C.1 C.2.1 dX0_growsForest_91 rfl (lv_at hl 0 rfl) ?_
      refine xg_waitMany C hw dX0_growsForest_92 ?_
      obtain ⟨b95, hf⟩ := hf
      refine g_iald C hw 58 rfl b95 dX0_growsForest_95 ?_
      refine lv_istore_n (lv' := [(1, .int (gI s84 58 (s84.1 59))), (0, .ref (ad 0))]) C.1 C.2.1 dX0_growsForest_96 rfl hl (Nat.le_of_ble_eq_true rfl) rfl (fun ls hl => ?_)
      refine lv_aload_n C.1 C.2.1 dX0_growsForest_97 rfl (lv_at hl 1 rfl) ?_
      refine lv_iload_n C.1 C.2.1 dX0_growsForest_98 rfl (lv_at hl 0 rfl) ?_
      refine lv_sipush (v := 169) C.1 C.2.1 dX0_growsForest_99 rfl ?_
      refine lv_idiv C.1 C.2.1 dX0_growsForest_102 (by decide) ?_
      refine lv_iconst (v := 0) C.1 C.2.1 dX0_growsForest_103 rfl ?_
      refine lv_iload_n C.1 C.2.1 dX0_growsForest_104 rfl (lv_at hl 0 rfl) ?_
      refine lv_sipush (v := 169) C.1 C.2.1 dX0_growsForest_105 rfl ?_
      refine lv_irem C.1 C.2.1 dX0_growsForest_108 (by decide) ?_
      refine lv_bipush (v := 13) C.1 C.2.1 dX0_growsForest_109 rfl ?_
      refine lv_idiv C.1 C.2.1 dX0_growsForest_111 (by decide) ?_
      refine lv_iload_n C.1 C.2.1 dX0_growsForest_112 rfl (lv_at hl 0 rfl) ?_
      refine lv_bipush (v := 13) C.1 C.2.1 dX0_growsForest_113 rfl ?_
      refine lv_irem C.1 C.2.1 dX0_growsForest_115 (by decide) ?_
      refine kx_marksBelow C hw hl.1 (Nat.le_of_ble_eq_true rfl) ⟨Nat.le_of_ble_eq_true rfl, Nat.le_of_ble_eq_true rfl⟩ dX0_growsForest_116 hf (fun _ s116 H locs hf hw => ?_)
      refine lv_goto (tgt := 70) C.1 C.2.1 dX0_growsForest_119 (by decide) ?_
      exact hK70 _ _ _ _ hf hw (lv_sub hl [1] rfl)
  have P70 : ∀ (n : Nat) (σ : St) (ls : Array Slot) (H : Heap) (locs : List Loc), LL1 (x_growsForest_p70 Q) n σ → gH D ct shX ad s σ H locs → lv_has ls 2 [(0, .ref (ad 0))] → W p l e rm_x_growsForest s m args below meth c H locs 0 0 QQ (F0 m 70 ls []) := by
    intro  n
    induction n with
    | zero => intro σ ls H locs hf; exact False.elim hf
    | succ n ih => intro σ ls H locs hf hw hl; exact B70  (LL1 _ n) (fun σ H locs  ls hf hw hl => ih σ ls H locs hf hw hl) σ H locs  ls hf hw hl
  have B7 : ∀ (K7 : St → Int32 → Prop) (_ : ∀ (σ : St) (H : Heap) (locs : List Loc) (x1 : Int32) (ls : Array Slot), K7 σ x1 → gH D ct shX ad s σ H locs → lv_has ls 2 [(0, .ref (ad 0)), (1, .int x1)] → W p l e rm_x_growsForest s m args below meth c H locs 0 0 QQ (F0 m 7 ls [])) (σ : St) (H : Heap) (locs : List Loc) (x1 : Int32) (ls : Array Slot), x_growsForest_p7 Q K7 σ x1 → gH D ct shX ad s σ H locs → lv_has ls 2 [(0, .ref (ad 0)), (1, .int x1)] → W p l e rm_x_growsForest s m args below meth c H locs 0 0 QQ (F0 m 7 ls []) := by
    intro K7 hK7 σ H locs x1 ls hf hw hl
    unfold x_growsForest_p7 at hf
    refine lv_iload_n C.1 C.2.1 dX0_growsForest_7 rfl (lv_at hl 1 rfl) ?_
    refine lv_aload_n C.1 C.2.1 dX0_growsForest_8 rfl (lv_at hl 0 rfl) ?_
    refine xg_grammar C hw dX0_growsForest_9 ?_
    refine xn_many C hw dX0_growsForest_12 ?_
    refine lv_icmp_ge (tgt := 70) C.1 C.2.1 dX0_growsForest_15 (by decide) (fun h15 => ?_) (fun h15 => ?_)
    · replace hf := hf.1 h15
      obtain ⟨n, hf⟩ := hf
      exact P70  n _ _ _ _ hf hw (lv_sub hl [0] rfl)
    · replace hf := hf.2 h15
      refine lv_aload_n C.1 C.2.1 dX0_growsForest_18 rfl (lv_at hl 0 rfl) ?_
      refine xg_grammar C hw dX0_growsForest_19 ?_
      refine xn_left C hw dX0_growsForest_22 ?_
      refine lv_iload_n C.1 C.2.1 dX0_growsForest_25 rfl (lv_at hl 1 rfl) ?_
      obtain ⟨b26, hf⟩ := hf
      refine g_iald C hw 83 rfl b26 dX0_growsForest_26 ?_
      refine lv_aload_n C.1 C.2.1 dX0_growsForest_27 rfl (lv_at hl 0 rfl) ?_
      refine xg_grammar C hw dX0_growsForest_28 ?_
      refine xn_start C hw dX0_growsForest_31 ?_
      refine lv_icmp_ne (tgt := 64) C.1 C.2.1 dX0_growsForest_34 (by decide) (fun h34 => ?_) (fun h34 => ?_)
      · replace hf := hf.2 h34
        refine lv_iinc (v := (x1 + 1)) (lv' := [(1, .int (x1 + 1)), (0, .ref (ad 0))]) C.1 C.2.1 dX0_growsForest_64 hl (k := 1) rfl rfl (Nat.le_of_ble_eq_true rfl) rfl (fun ls hl => ?_)
        refine lv_goto (tgt := 7) C.1 C.2.1 dX0_growsForest_67 (by decide) ?_
        exact hK7 _ _ _ _ _ hf hw (lv_sub hl [1, 0] rfl)
      · replace hf := hf.1 h34
        refine lv_aload_n C.1 C.2.1 dX0_growsForest_37 rfl (lv_at hl 0 rfl) ?_
        refine xg_livesOf C hw dX0_growsForest_38 ?_
        refine lv_iload_n C.1 C.2.1 dX0_growsForest_41 rfl (lv_at hl 1 rfl) ?_
        refine lv_iconst (v := 0) C.1 C.2.1 dX0_growsForest_42 rfl ?_
        refine lv_aload_n C.1 C.2.1 dX0_growsForest_43 rfl (lv_at hl 0 rfl) ?_
        refine xg_textMany C hw dX0_growsForest_44 ?_
        refine kx_pieceOf C hl.1 (Nat.le_of_ble_eq_true rfl) ⟨Nat.le_of_ble_eq_true rfl, Nat.le_of_ble_eq_true rfl⟩ dX0_growsForest_47 ?_
        obtain ⟨b50, hf⟩ := hf
        refine g_zald C hw 51 rfl b50 dX0_growsForest_50 ?_
        refine lv_if_eq (tgt := 64) C.1 C.2.1 dX0_growsForest_51 (by decide) (fun h51 => ?_) (fun h51 => ?_)
        · replace hf := hf.1 h51
          refine lv_iinc (v := (x1 + 1)) (lv' := [(1, .int (x1 + 1)), (0, .ref (ad 0))]) C.1 C.2.1 dX0_growsForest_64 hl (k := 1) rfl rfl (Nat.le_of_ble_eq_true rfl) rfl (fun ls hl => ?_)
          refine lv_goto (tgt := 7) C.1 C.2.1 dX0_growsForest_67 (by decide) ?_
          exact hK7 _ _ _ _ _ hf hw (lv_sub hl [1, 0] rfl)
        · replace hf := hf.2 h51
          refine lv_aload_n C.1 C.2.1 dX0_growsForest_54 rfl (lv_at hl 0 rfl) ?_
          refine lv_iload_n C.1 C.2.1 dX0_growsForest_55 rfl (lv_at hl 1 rfl) ?_
          refine lv_iconst (v := 0) C.1 C.2.1 dX0_growsForest_56 rfl ?_
          refine lv_aload_n C.1 C.2.1 dX0_growsForest_57 rfl (lv_at hl 0 rfl) ?_
          refine xg_textMany C hw dX0_growsForest_58 ?_
          refine kx_marks C hw hl.1 (Nat.le_of_ble_eq_true rfl) ⟨Nat.le_of_ble_eq_true rfl, Nat.le_of_ble_eq_true rfl⟩ dX0_growsForest_61 hf (fun _ s61 H locs hf hw => ?_)
          refine lv_iinc (v := (x1 + 1)) (lv' := [(1, .int (x1 + 1)), (0, .ref (ad 0))]) C.1 C.2.1 dX0_growsForest_64 hl (k := 1) rfl rfl (Nat.le_of_ble_eq_true rfl) rfl (fun ls hl => ?_)
          refine lv_goto (tgt := 7) C.1 C.2.1 dX0_growsForest_67 (by decide) ?_
          exact hK7 _ _ _ _ _ hf hw (lv_sub hl [1, 0] rfl)
  have P7 : ∀ (n : Nat) (σ : St) (x1 : Int32) (ls : Array Slot) (H : Heap) (locs : List Loc), LL2 (x_growsForest_p7 Q) n σ x1 → gH D ct shX ad s σ H locs → lv_has ls 2 [(0, .ref (ad 0)), (1, .int x1)] → W p l e rm_x_growsForest s m args below meth c H locs 0 0 QQ (F0 m 7 ls []) := by
    intro  n
    induction n with
    | zero => intro σ x1 ls H locs hf; exact False.elim hf
    | succ n ih => intro σ x1 ls H locs hf hw hl; exact B7  (LL2 _ n) (fun σ H locs x1 ls hf hw hl => ih σ x1 ls H locs hf hw hl) σ H locs x1 ls hf hw hl
  unfold x_growsForest at hf
  obtain ⟨H, hH⟩ : ∃ q, q = s.heap := ⟨_, rfl⟩
  obtain ⟨locs, hL⟩ : ∃ q : List Loc, q = [] := ⟨_, rfl⟩
  rw [← hH, ← hL] at hw ⊢
  refine lv_aload_n C.1 C.2.1 dX0_growsForest_0 rfl (lv_at hl 0 rfl) ?_
  refine lv_iconst (v := 0) C.1 C.2.1 dX0_growsForest_1 rfl ?_
  refine xp_waitMany C hw dX0_growsForest_2 (fun s2 H locs e2 hw => ?_)
  replace hf := hf s2 e2
  refine lv_iconst (v := 0) C.1 C.2.1 dX0_growsForest_5 rfl ?_
  refine lv_istore_n (lv' := [(1, .int 0), (0, .ref (ad 0))]) C.1 C.2.1 dX0_growsForest_6 rfl hl (Nat.le_of_ble_eq_true rfl) rfl (fun ls hl => ?_)
  obtain ⟨n, hf⟩ := hf
  exact P7  n _ _ _ _ _ hf hw (lv_sub hl [1, 0] rfl)
theorem kx_growsForest {p : Program} {l : Launch} {e : Env} {R : Room} {s : State} {m : MethodId} {args : Array Value} {below : List Frame} {meth : Method} {c : Code} {H : Heap} {locs : List Loc} {Z : State → Prop} {cc : ByteArray} {nL pc : Nat} {ls : Array Slot} {rest : List Value} {D : va_G} {ct : Ct} {ad : Nat → Nat} {σ : St} {Qp : Unit → St → Prop} (C : CallFix p m c cc nL s args lw_all RX0) (hw : gH D ct shX ad s σ H locs) (hsz : ls.size = nL) (hrm : (rest.map fun v => v.category).sum ≤ 8) (hR : rm_x_growsForest.frames + 1 ≤ R.frames ∧ 8 + (2 + 11) + rm_x_growsForest.locals ≤ R.locals) (hdg : decode cc pc = .ok (.invokevirtual 590, 3)) (hf : x_growsForest σ Qp) (kk : ∀ (r : Unit) (σ1 : St) (H1 : Heap) (locs1 : List Loc), Qp r σ1 → gH D ct shX ad s σ1 H1 locs1 → W p l e R s m args below meth c H1 locs1 0 0 Z (F0 m (pc + 3) ls (rest))) : W p l e R s m args below meth c H locs 0 0 Z (F0 m pc ls (.ref (ad 0) :: rest)) :=
  g_callV (As := []) (rest := rest) C hw rfl rfl (met_x_growsForest l D ct ad hw.2.1 σ Qp hf) (cwV 0 C.2.2.2.2 (lw_V q1118 q1120 qs81 q200 q1121) rfl rfl rfl (by decide +kernel) hR) rfl hsz rfl hrm ⟨Nat.zero_le _, Nat.zero_le _⟩ hdg kk
def x_waysOfNode_p6 (x1 : Int32) (x2 : Int32) (x3 : Int32) (Q : Int32 → St → Prop) (K6 : St → Int32 → Int32 → Prop) (σ : St) (x4 : Int32) (x5 : Int32) : Prop :=
  (((σ.1 80) ≤ x5 → Q x4 σ) ∧ (¬ (σ.1 80) ≤ x5 → (vp_in x5 12 ∧ (((gI σ 83 x5) = x1 → (vp_in (fx_pieceOf x5 x2 x3) 2028 ∧ (((gI σ 54 (fx_pieceOf x5 x2 x3)) = 0 → K6 σ (x4 + 0) (x5 + 1)) ∧ (¬ (gI σ 54 (fx_pieceOf x5 x2 x3)) = 0 → (x_waysOf σ x5 x2 x3 (fun r54 s54 => K6 s54 (x4 + r54) (x5 + 1))))))) ∧ (¬ (gI σ 83 x5) = x1 → K6 σ (x4 + 0) (x5 + 1))))))
def x_waysOfNode (σ : St) (x1 : Int32) (x2 : Int32) (x3 : Int32) (Q : Int32 → St → Prop) : Prop :=
  (Lp3 (x_waysOfNode_p6 x1 x2 x3 Q) σ 0 0)
abbrev rm_x_waysOfNode : Room := { frames := 9, cells := 0, slots := 0, locals := 319 }
set_option maxHeartbeats 4000000 in
theorem met_x_waysOfNode (l : Launch) (D : va_G) (ct : Ct) (ad : Nat → Nat) (hJ : gJ shX ad ct) (σ : St) (x1 : Int32) (x2 : Int32) (x3 : Int32) (Q : Int32 → St → Prop) (hf : x_waysOfNode σ x1 x2 x3 Q) : Met l yX0_waysOfNode (ws_ yX0_waysOfNode cX0_waysOfNode 6 (some .int)) rm_x_waysOfNode (va_Pc [.ref (ad 0), .int x1, .int x2, .int x3] (gP D ct shX ad σ)) (gQ rvI D ct shX ad Q) 0 0 (gA shX ad) := by
  refine g_metI hJ (by decide) (Nat.le_of_ble_eq_true rfl) ?_
  intro p e s m args below meth c QQ ls C hw hl hret
  replace hl : lv_has ls 6 [(0, .ref (ad 0)), (1, .int x1), (2, .int x2), (3, .int x3)] := hl
  have B6 : ∀ (x1 : Int32) (x2 : Int32) (x3 : Int32) (K6 : St → Int32 → Int32 → Prop) (_ : ∀ (σ : St) (H : Heap) (locs : List Loc) (x4 : Int32) (x5 : Int32) (ls : Array Slot), K6 σ x4 x5 → gH D ct shX ad s σ H locs → lv_has ls 6 [(0, .ref (ad 0)), (1, .int x1), (2, .int x2), (3, .int x3), (4, .int x4), (5, .int x5)] → W p l e rm_x_waysOfNode s m args below meth c H locs 0 0 QQ (F0 m 6 ls [])) (σ : St) (H : Heap) (locs : List Loc) (x4 : Int32) (x5 : Int32) (ls : Array Slot), x_waysOfNode_p6 x1 x2 x3 Q K6 σ x4 x5 → gH D ct shX ad s σ H locs → lv_has ls 6 [(0, .ref (ad 0)), (1, .int x1), (2, .int x2), (3, .int x3), (4, .int x4), (5, .int x5)] → W p l e rm_x_waysOfNode s m args below meth c H locs 0 0 QQ (F0 m 6 ls []) := by
    intro x1 x2 x3 K6 hK6 σ H locs x4 x5 ls hf hw hl
    unfold x_waysOfNode_p6 at hf
    refine lv_iload C.1 C.2.1 dX0_waysOfNode_6 (lv_at hl 5 rfl) ?_
    refine lv_aload_n C.1 C.2.1 dX0_waysOfNode_8 rfl (lv_at hl 0 rfl) ?_
    refine xg_grammar C hw dX0_waysOfNode_9 ?_
    refine xn_many C hw dX0_waysOfNode_12 ?_
    refine lv_icmp_ge (tgt := 70) C.1 C.2.1 dX0_waysOfNode_15 (by decide) (fun h15 => ?_) (fun h15 => ?_)
    · replace hf := hf.1 h15
      refine lv_iload C.1 C.2.1 dX0_waysOfNode_70 (lv_at hl 4 rfl) ?_
      exact hret _ _ _ _ _ _ hf hw dX0_waysOfNode_72
    · replace hf := hf.2 h15
      refine lv_iload C.1 C.2.1 dX0_waysOfNode_18 (lv_at hl 4 rfl) ?_
      refine lv_aload_n C.1 C.2.1 dX0_waysOfNode_20 rfl (lv_at hl 0 rfl) ?_
      refine xg_grammar C hw dX0_waysOfNode_21 ?_
      refine xn_left C hw dX0_waysOfNode_24 ?_
      refine lv_iload C.1 C.2.1 dX0_waysOfNode_27 (lv_at hl 5 rfl) ?_
      obtain ⟨b29, hf⟩ := hf
      refine g_iald C hw 83 rfl b29 dX0_waysOfNode_29 ?_
      refine lv_iload_n C.1 C.2.1 dX0_waysOfNode_30 rfl (lv_at hl 1 rfl) ?_
      refine lv_icmp_ne (tgt := 60) C.1 C.2.1 dX0_waysOfNode_31 (by decide) (fun h31 => ?_) (fun h31 => ?_)
      · replace hf := hf.2 h31
        refine lv_iconst (v := 0) C.1 C.2.1 dX0_waysOfNode_60 rfl ?_
        refine lv_iadd C.1 C.2.1 dX0_waysOfNode_61 ?_
        refine lv_istore (lv' := [(4, .int (x4 + 0)), (0, .ref (ad 0)), (1, .int x1), (2, .int x2), (3, .int x3), (5, .int x5)]) C.1 C.2.1 dX0_waysOfNode_62 hl (Nat.le_of_ble_eq_true rfl) rfl (fun ls hl => ?_)
        refine lv_iinc (v := (x5 + 1)) (lv' := [(5, .int (x5 + 1)), (4, .int (x4 + 0)), (0, .ref (ad 0)), (1, .int x1), (2, .int x2), (3, .int x3)]) C.1 C.2.1 dX0_waysOfNode_64 hl (k := 5) rfl rfl (Nat.le_of_ble_eq_true rfl) rfl (fun ls hl => ?_)
        refine lv_goto (tgt := 6) C.1 C.2.1 dX0_waysOfNode_67 (by decide) ?_
        exact hK6 _ _ _ _ _ _ hf hw (lv_sub hl [2, 3, 4, 5, 1, 0] rfl)
      · replace hf := hf.1 h31
        refine lv_aload_n C.1 C.2.1 dX0_waysOfNode_34 rfl (lv_at hl 0 rfl) ?_
        refine xg_isPiece C hw dX0_waysOfNode_35 ?_
        refine lv_iload C.1 C.2.1 dX0_waysOfNode_38 (lv_at hl 5 rfl) ?_
        refine lv_iload_n C.1 C.2.1 dX0_waysOfNode_40 rfl (lv_at hl 2 rfl) ?_
        refine lv_iload_n C.1 C.2.1 dX0_waysOfNode_41 rfl (lv_at hl 3 rfl) ?_
        refine kx_pieceOf C hl.1 (Nat.le_of_ble_eq_true rfl) ⟨Nat.le_of_ble_eq_true rfl, Nat.le_of_ble_eq_true rfl⟩ dX0_waysOfNode_42 ?_
        obtain ⟨b45, hf⟩ := hf
        refine g_zald C hw 54 rfl b45 dX0_waysOfNode_45 ?_
        refine lv_if_eq (tgt := 60) C.1 C.2.1 dX0_waysOfNode_46 (by decide) (fun h46 => ?_) (fun h46 => ?_)
        · replace hf := hf.1 h46
          refine lv_iconst (v := 0) C.1 C.2.1 dX0_waysOfNode_60 rfl ?_
          refine lv_iadd C.1 C.2.1 dX0_waysOfNode_61 ?_
          refine lv_istore (lv' := [(4, .int (x4 + 0)), (0, .ref (ad 0)), (1, .int x1), (2, .int x2), (3, .int x3), (5, .int x5)]) C.1 C.2.1 dX0_waysOfNode_62 hl (Nat.le_of_ble_eq_true rfl) rfl (fun ls hl => ?_)
          refine lv_iinc (v := (x5 + 1)) (lv' := [(5, .int (x5 + 1)), (4, .int (x4 + 0)), (0, .ref (ad 0)), (1, .int x1), (2, .int x2), (3, .int x3)]) C.1 C.2.1 dX0_waysOfNode_64 hl (k := 5) rfl rfl (Nat.le_of_ble_eq_true rfl) rfl (fun ls hl => ?_)
          refine lv_goto (tgt := 6) C.1 C.2.1 dX0_waysOfNode_67 (by decide) ?_
          exact hK6 _ _ _ _ _ _ hf hw (lv_sub hl [2, 3, 4, 5, 1, 0] rfl)
        · replace hf := hf.2 h46
          refine lv_aload_n C.1 C.2.1 dX0_waysOfNode_49 rfl (lv_at hl 0 rfl) ?_
          refine lv_iload C.1 C.2.1 dX0_waysOfNode_50 (lv_at hl 5 rfl) ?_
          refine lv_iload_n C.1 C.2.1 dX0_waysOfNode_52 rfl (lv_at hl 2 rfl) ?_
          refine lv_iload_n C.1 C.2.1 dX0_waysOfNode_53 rfl (lv_at hl 3 rfl) ?_
          refine kx_waysOf C hw hl.1 (Nat.le_of_ble_eq_true rfl) ⟨Nat.le_of_ble_eq_true rfl, Nat.le_of_ble_eq_true rfl⟩ dX0_waysOfNode_54 hf (fun r54 s54 H locs hf hw => ?_)
          refine lv_goto (tgt := 61) C.1 C.2.1 dX0_waysOfNode_57 (by decide) ?_
          refine lv_iadd C.1 C.2.1 dX0_waysOfNode_61 ?_
          refine lv_istore (lv' := [(4, .int (x4 + r54)), (0, .ref (ad 0)), (1, .int x1), (2, .int x2), (3, .int x3), (5, .int x5)]) C.1 C.2.1 dX0_waysOfNode_62 hl (Nat.le_of_ble_eq_true rfl) rfl (fun ls hl => ?_)
          refine lv_iinc (v := (x5 + 1)) (lv' := [(5, .int (x5 + 1)), (4, .int (x4 + r54)), (0, .ref (ad 0)), (1, .int x1), (2, .int x2), (3, .int x3)]) C.1 C.2.1 dX0_waysOfNode_64 hl (k := 5) rfl rfl (Nat.le_of_ble_eq_true rfl) rfl (fun ls hl => ?_)
          refine lv_goto (tgt := 6) C.1 C.2.1 dX0_waysOfNode_67 (by decide) ?_
          exact hK6 _ _ _ _ _ _ hf hw (lv_sub hl [2, 3, 4, 5, 1, 0] rfl)
  have P6 : ∀ (x1 : Int32) (x2 : Int32) (x3 : Int32) (n : Nat) (σ : St) (x4 : Int32) (x5 : Int32) (ls : Array Slot) (H : Heap) (locs : List Loc), LL3 (x_waysOfNode_p6 x1 x2 x3 Q) n σ x4 x5 → gH D ct shX ad s σ H locs → lv_has ls 6 [(0, .ref (ad 0)), (1, .int x1), (2, .int x2), (3, .int x3), (4, .int x4), (5, .int x5)] → W p l e rm_x_waysOfNode s m args below meth c H locs 0 0 QQ (F0 m 6 ls []) := by
    intro x1 x2 x3 n
    induction n with
    | zero => intro σ x4 x5 ls H locs hf; exact False.elim hf
    | succ n ih => intro σ x4 x5 ls H locs hf hw hl; exact B6 x1 x2 x3 (LL3 _ n) (fun σ H locs x4 x5 ls hf hw hl => ih σ x4 x5 ls H locs hf hw hl) σ H locs x4 x5 ls hf hw hl
  unfold x_waysOfNode at hf
  obtain ⟨H, hH⟩ : ∃ q, q = s.heap := ⟨_, rfl⟩
  obtain ⟨locs, hL⟩ : ∃ q : List Loc, q = [] := ⟨_, rfl⟩
  rw [← hH, ← hL] at hw ⊢
  refine lv_iconst (v := 0) C.1 C.2.1 dX0_waysOfNode_0 rfl ?_
  refine lv_istore (lv' := [(4, .int 0), (0, .ref (ad 0)), (1, .int x1), (2, .int x2), (3, .int x3)]) C.1 C.2.1 dX0_waysOfNode_1 hl (Nat.le_of_ble_eq_true rfl) rfl (fun ls hl => ?_)
  refine lv_iconst (v := 0) C.1 C.2.1 dX0_waysOfNode_3 rfl ?_
  refine lv_istore (lv' := [(5, .int 0), (4, .int 0), (0, .ref (ad 0)), (1, .int x1), (2, .int x2), (3, .int x3)]) C.1 C.2.1 dX0_waysOfNode_4 hl (Nat.le_of_ble_eq_true rfl) rfl (fun ls hl => ?_)
  obtain ⟨n, hf⟩ := hf
  exact P6 _ _ _ n _ _ _ _ _ _ hf hw (lv_sub hl [2, 3, 4, 5, 1, 0] rfl)
theorem kx_waysOfNode {p : Program} {l : Launch} {e : Env} {R : Room} {s : State} {m : MethodId} {args : Array Value} {below : List Frame} {meth : Method} {c : Code} {H : Heap} {locs : List Loc} {Z : State → Prop} {cc : ByteArray} {nL pc : Nat} {ls : Array Slot} {rest : List Value} {D : va_G} {ct : Ct} {ad : Nat → Nat} {σ : St} {x1 : Int32} {x2 : Int32} {x3 : Int32} {Qp : Int32 → St → Prop} (C : CallFix p m c cc nL s args lw_all RX0) (hw : gH D ct shX ad s σ H locs) (hsz : ls.size = nL) (hrm : (rest.map fun v => v.category).sum ≤ 8) (hR : rm_x_waysOfNode.frames + 1 ≤ R.frames ∧ 8 + (6 + 11) + rm_x_waysOfNode.locals ≤ R.locals) (hdg : decode cc pc = .ok (.invokevirtual 625, 3)) (hf : x_waysOfNode σ x1 x2 x3 Qp) (kk : ∀ (r : Int32) (σ1 : St) (H1 : Heap) (locs1 : List Loc), Qp r σ1 → gH D ct shX ad s σ1 H1 locs1 → W p l e R s m args below meth c H1 locs1 0 0 Z (F0 m (pc + 3) ls (.int r :: rest))) : W p l e R s m args below meth c H locs 0 0 Z (F0 m pc ls (.int x3 :: .int x2 :: .int x1 :: .ref (ad 0) :: rest)) :=
  g_callV (As := [.int x1, .int x2, .int x3]) (rest := rest) C hw rfl rfl (met_x_waysOfNode l D ct ad hw.2.1 σ x1 x2 x3 Qp hf) (cwV 3 C.2.2.2.2 (lw_V q1159 q1161 qs87 q200 q1162) rfl rfl rfl (by decide +kernel) hR) rfl hsz rfl hrm ⟨Nat.zero_le _, Nat.zero_le _⟩ hdg kk
