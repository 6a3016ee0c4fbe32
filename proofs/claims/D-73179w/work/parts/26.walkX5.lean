set_option maxRecDepth 100000
def x_charts_p25 (x1 : Int32) (Q : Unit → St → Prop) (K15 : St → Int32 → Prop) (K25 : St → Int32 → Prop) (σ : St) (x2 : Int32) : Prop :=
  (((σ.1 4) < (x2 + x1) → K15 σ (x1 + 1)) ∧ (¬ (σ.1 4) < (x2 + x1) → (x_chartsSpan σ x2 (x2 + x1) (fun _ s40 => K25 s40 (x2 + 1)))))
def x_charts_p15 (Q : Unit → St → Prop) (K15 : St → Int32 → Prop) (σ : St) (x1 : Int32) : Prop :=
  (((σ.1 4) < x1 → (x_growsForest σ (fun _ s56 => Q () s56))) ∧ (¬ (σ.1 4) < x1 → (Lp2 (x_charts_p25 x1 Q K15) σ 0)))
def x_charts (σ : St) (Q : Unit → St → Prop) : Prop :=
  (((σ.1 27) = 0 → (∀ s10 : St, s10 = s_I σ 27 1 → (Lp2 (x_charts_p15 Q) s10 0))) ∧ (¬ (σ.1 27) = 0 → Q () σ))
abbrev rm_x_charts : Room := { frames := 21, cells := 0, slots := 0, locals := 570 }
set_option maxHeartbeats 4000000 in
theorem met_x_charts (l : Launch) (D : va_G) (ct : Ct) (ad : Nat → Nat) (hJ : gJ shX ad ct) (σ : St) (Q : Unit → St → Prop) (hf : x_charts σ Q) : Met l yX0_charts (ws_ yX0_charts cX0_charts 3 (none)) rm_x_charts (va_Pc [.ref (ad 0)] (gP D ct shX ad σ)) (gQ rvV D ct shX ad Q) 0 0 (gA shX ad) := by
  refine g_metV hJ (by decide) (Nat.le_of_ble_eq_true rfl) ?_
  intro p e s m args below meth c QQ ls C hw hl hret
  replace hl : lv_has ls 3 [(0, .ref (ad 0))] := hl
  have B25 : ∀ (x1 : Int32) (K15 : St → Int32 → Prop) (_ : ∀ (σ : St) (H : Heap) (locs : List Loc) (x1 : Int32) (ls : Array Slot), K15 σ x1 → gH D ct shX ad s σ H locs → lv_has ls 3 [(0, .ref (ad 0)), (1, .int x1)] → W p l e rm_x_charts s m args below meth c H locs 0 0 QQ (F0 m 15 ls [])) (K25 : St → Int32 → Prop) (_ : ∀ (σ : St) (H : Heap) (locs : List Loc) (x2 : Int32) (ls : Array Slot), K25 σ x2 → gH D ct shX ad s σ H locs → lv_has ls 3 [(0, .ref (ad 0)), (1, .int x1), (2, .int x2)] → W p l e rm_x_charts s m args below meth c H locs 0 0 QQ (F0 m 25 ls [])) (σ : St) (H : Heap) (locs : List Loc) (x2 : Int32) (ls : Array Slot), x_charts_p25 x1 Q K15 K25 σ x2 → gH D ct shX ad s σ H locs → lv_has ls 3 [(0, .ref (ad 0)), (1, .int x1), (2, .int x2)] → W p l e rm_x_charts s m args below meth c H locs 0 0 QQ (F0 m 25 ls []) := by
    intro x1 K15 hK15 K25 hK25 σ H locs x2 ls hf hw hl
    unfold x_charts_p25 at hf
    refine lv_iload_n C.1 C.2.1 dX0_charts_25 rfl (lv_at hl 2 rfl) ?_
    refine lv_iload_n C.1 C.2.1 dX0_charts_26 rfl (lv_at hl 1 rfl) ?_
    refine lv_iadd C.1 C.2.1 dX0_charts_27 ?_
    refine lv_aload_n C.1 C.2.1 dX0_charts_28 rfl (lv_at hl 0 rfl) ?_
    refine xg_textMany C hw dX0_charts_29 ?_
    refine lv_icmp_gt (tgt := 49) C.1 C.2.1 dX0_charts_32 (by decide) (fun h32 => ?_) (fun h32 => ?_)
    · replace hf := hf.1 h32
      refine lv_iinc (v := (x1 + 1)) (lv' := [(1, .int (x1 + 1)), (0, .ref (ad 0)), (2, .int x2)]) C.1 C.2.1 dX0_charts_49 hl (k := 1) rfl rfl (Nat.le_of_ble_eq_true rfl) rfl (fun ls hl => ?_)
      refine lv_goto (tgt := 15) C.1 C.2.1 dX0_charts_52 (by decide) ?_
      exact hK15 _ _ _ _ _ hf hw (lv_sub hl [1, 0] rfl)
    · replace hf := hf.2 h32
      refine lv_aload_n C.1 C.2.1 dX0_charts_35 rfl (lv_at hl 0 rfl) ?_
      refine lv_iload_n C.1 C.2.1 dX0_charts_36 rfl (lv_at hl 2 rfl) ?_
      refine lv_iload_n C.1 C.2.1 dX0_charts_37 rfl (lv_at hl 2 rfl) ?_
      refine lv_iload_n C.1 C.2.1 dX0_charts_38 rfl (lv_at hl 1 rfl) ?_
      refine lv_iadd C.1 C.2.1 dX0_charts_39 ?_
      refine kx_chartsSpan C hw hl.1 (Nat.le_of_ble_eq_true rfl) ⟨Nat.le_of_ble_eq_true rfl, Nat.le_of_ble_eq_true rfl⟩ dX0_charts_40 hf (fun _ s40 H locs hf hw => ?_)
      refine lv_iinc (v := (x2 + 1)) (lv' := [(2, .int (x2 + 1)), (0, .ref (ad 0)), (1, .int x1)]) C.1 C.2.1 dX0_charts_43 hl (k := 2) rfl rfl (Nat.le_of_ble_eq_true rfl) rfl (fun ls hl => ?_)
      refine lv_goto (tgt := 25) C.1 C.2.1 dX0_charts_46 (by decide) ?_
      exact hK25 _ _ _ _ _ hf hw (lv_sub hl [1, 2, 0] rfl)
  have P25 : ∀ (x1 : Int32) (K15 : St → Int32 → Prop) (_ : ∀ (σ : St) (H : Heap) (locs : List Loc) (x1 : Int32) (ls : Array Slot), K15 σ x1 → gH D ct shX ad s σ H locs → lv_has ls 3 [(0, .ref (ad 0)), (1, .int x1)] → W p l e rm_x_charts s m args below meth c H locs 0 0 QQ (F0 m 15 ls [])) (n : Nat) (σ : St) (x2 : Int32) (ls : Array Slot) (H : Heap) (locs : List Loc), LL2 (x_charts_p25 x1 Q K15) n σ x2 → gH D ct shX ad s σ H locs → lv_has ls 3 [(0, .ref (ad 0)), (1, .int x1), (2, .int x2)] → W p l e rm_x_charts s m args below meth c H locs 0 0 QQ (F0 m 25 ls []) := by
    intro x1 K15 hK15 n
    induction n with
    | zero => intro σ x2 ls H locs hf; exact False.elim hf
    | succ n ih => intro σ x2 ls H locs hf hw hl; exact B25 x1 K15 hK15 (LL2 _ n) (fun σ H locs x2 ls hf hw hl => ih σ x2 ls H locs hf hw hl) σ H locs x2 ls hf hw hl
  have B15 : ∀ (K15 : St → Int32 → Prop) (_ : ∀ (σ : St) (H : Heap) (locs : List Loc) (x1 : Int32) (ls : Array Slot), K15 σ x1 → gH D ct shX ad s σ H locs → lv_has ls 3 [(0, .ref (ad 0)), (1, .int x1)] → W p l e rm_x_charts s m args below meth c H locs 0 0 QQ (F0 m 15 ls [])) (σ : St) (H : Heap) (locs : List Loc) (x1 : Int32) (ls : Array Slot), x_charts_p15 Q K15 σ x1 → gH D ct shX ad s σ H locs → lv_has ls 3 [(0, .ref (ad 0)), (1, .int x1)] → W p l e rm_x_charts s m args below meth c H locs 0 0 QQ (F0 m 15 ls []) := by
    intro K15 hK15 σ H locs x1 ls hf hw hl
    unfold x_charts_p15 at hf
    refine lv_iload_n C.1 C.2.1 dX0_charts_15 rfl (lv_at hl 1 rfl) ?_
    refine lv_aload_n C.1 C.2.1 dX0_charts_16 rfl (lv_at hl 0 rfl) ?_
    refine xg_textMany C hw dX0_charts_17 ?_
    refine lv_icmp_gt (tgt := 55) C.1 C.2.1 dX0_charts_20 (by decide) (fun h20 => ?_) (fun h20 => ?_)
    · replace hf := hf.1 h20
      refine lv_aload_n C.1 C.2.1 dX0_charts_55 rfl (lv_at hl 0 rfl) ?_
      refine kx_growsForest C hw hl.1 (Nat.le_of_ble_eq_true rfl) ⟨Nat.le_of_ble_eq_true rfl, Nat.le_of_ble_eq_true rfl⟩ dX0_charts_56 hf (fun _ s56 H locs hf hw => ?_)
      exact hret _ _ _ _ _ _ hf hw dX0_charts_59
    · replace hf := hf.2 h20
      refine lv_iconst (v := 0) C.1 C.2.1 dX0_charts_23 rfl ?_
      refine lv_istore_n (lv' := [(2, .int 0), (0, .ref (ad 0)), (1, .int x1)]) C.1 C.2.1 dX0_charts_24 rfl hl (Nat.le_of_ble_eq_true rfl) rfl (fun ls hl => ?_)
      obtain ⟨n, hf⟩ := hf
      exact P25 _ _ hK15 n _ _ _ _ _ hf hw (lv_sub hl [1, 2, 0] rfl)
  have P15 : ∀ (n : Nat) (σ : St) (x1 : Int32) (ls : Array Slot) (H : Heap) (locs : List Loc), LL2 (x_charts_p15 Q) n σ x1 → gH D ct shX ad s σ H locs → lv_has ls 3 [(0, .ref (ad 0)), (1, .int x1)] → W p l e rm_x_charts s m args below meth c H locs 0 0 QQ (F0 m 15 ls []) := by
    intro  n
    induction n with
    | zero => intro σ x1 ls H locs hf; exact False.elim hf
    | succ n ih => intro σ x1 ls H locs hf hw hl; exact B15  (LL2 _ n) (fun σ H locs x1 ls hf hw hl => ih σ x1 ls H locs hf hw hl) σ H locs x1 ls hf hw hl
  unfold x_charts at hf
  obtain ⟨H, hH⟩ : ∃ q, q = s.heap := ⟨_, rfl⟩
  obtain ⟨locs, hL⟩ : ∃ q : List Loc, q = [] := ⟨_, rfl⟩
  rw [← hH, ← hL] at hw ⊢
  refine lv_aload_n C.1 C.2.1 dX0_charts_0 rfl (lv_at hl 0 rfl) ?_
  refine xg_isCharted C hw dX0_charts_1 ?_
  refine lv_if_eq (tgt := 8) C.1 C.2.1 dX0_charts_4 (by decide) (fun h4 => ?_) (fun h4 => ?_)
  · replace hf := hf.1 h4
    refine lv_aload_n C.1 C.2.1 dX0_charts_8 rfl (lv_at hl 0 rfl) ?_
    refine lv_iconst (v := 1) C.1 C.2.1 dX0_charts_9 rfl ?_
    refine xp_isCharted C hw (Or.inr rfl) dX0_charts_10 (fun s10 H locs e10 hw => ?_)
    replace hf := hf s10 e10
    refine lv_iconst (v := 0) C.1 C.2.1 dX0_charts_13 rfl ?_
    refine lv_istore_n (lv' := [(1, .int 0), (0, .ref (ad 0))]) C.1 C.2.1 dX0_charts_14 rfl hl (Nat.le_of_ble_eq_true rfl) rfl (fun ls hl => ?_)
    obtain ⟨n, hf⟩ := hf
    exact P15  n _ _ _ _ _ hf hw (lv_sub hl [1, 0] rfl)
  · replace hf := hf.2 h4
    exact hret _ _ _ _ _ _ hf hw dX0_charts_7
theorem kx_charts {p : Program} {l : Launch} {e : Env} {R : Room} {s : State} {m : MethodId} {args : Array Value} {below : List Frame} {meth : Method} {c : Code} {H : Heap} {locs : List Loc} {Z : State → Prop} {cc : ByteArray} {nL pc : Nat} {ls : Array Slot} {rest : List Value} {D : va_G} {ct : Ct} {ad : Nat → Nat} {σ : St} {Qp : Unit → St → Prop} (C : CallFix p m c cc nL s args lw_all RX0) (hw : gH D ct shX ad s σ H locs) (hsz : ls.size = nL) (hrm : (rest.map fun v => v.category).sum ≤ 8) (hR : rm_x_charts.frames + 1 ≤ R.frames ∧ 8 + (3 + 11) + rm_x_charts.locals ≤ R.locals) (hdg : decode cc pc = .ok (.invokevirtual 610, 3)) (hf : x_charts σ Qp) (kk : ∀ (r : Unit) (σ1 : St) (H1 : Heap) (locs1 : List Loc), Qp r σ1 → gH D ct shX ad s σ1 H1 locs1 → W p l e R s m args below meth c H1 locs1 0 0 Z (F0 m (pc + 3) ls (rest))) : W p l e R s m args below meth c H locs 0 0 Z (F0 m pc ls (.ref (ad 0) :: rest)) :=
  g_callV (As := []) (rest := rest) C hw rfl rfl (met_x_charts l D ct ad hw.2.1 σ Qp hf) (cwV 0 C.2.2.2.2 (lw_V q1069 q1071 qs71 q200 q1072) rfl rfl rfl (by decide +kernel) hR) rfl hsz rfl hrm ⟨Nat.zero_le _, Nat.zero_le _⟩ hdg kk
def x_countsNodes_p72 (σ : St) (x1 : Int32) (x2 : Int32) (x3 : Int32) (x4 : Int32) (Q : Unit → St → Prop) (K21 : St → Int32 → Prop) (K27 : St → Int32 → Prop) (K40 : St → Int32 → Prop) (v0 : Int32) (v1 : Int32) : Prop :=
  (∀ s73 : St, s73 = s_I σ 60 (v1 + v0) → ((2 ≤ x4 → (∀ s92 : St, s92 = s_I s73 61 ((s73.1 61) + 1) → (∀ s97 : St, s97 = s_I s92 62 x1 → K40 s97 (x3 + 1)))) ∧ (¬ 2 ≤ x4 → K40 s73 (x3 + 1))))
def x_countsNodes_p40 (x1 : Int32) (x2 : Int32) (Q : Unit → St → Prop) (K21 : St → Int32 → Prop) (K27 : St → Int32 → Prop) (K40 : St → Int32 → Prop) (σ : St) (x3 : Int32) : Prop :=
  ((52 ≤ x3 → K27 σ (x2 + 1)) ∧ (¬ 52 ≤ x3 → (x_waysOfNode σ x3 x2 (x2 + x1) (fun r52 s52 => ((r52 ≤ 0 → (x_countsNodes_p72 s52 x1 x2 x3 r52 Q K21 K27 K40 0 (s52.1 60))) ∧ (¬ r52 ≤ 0 → (x_countsNodes_p72 s52 x1 x2 x3 r52 Q K21 K27 K40 1 (s52.1 60))))))))
def x_countsNodes_p27 (x1 : Int32) (Q : Unit → St → Prop) (K21 : St → Int32 → Prop) (K27 : St → Int32 → Prop) (σ : St) (x2 : Int32) : Prop :=
  (((σ.1 4) < (x2 + x1) → K21 σ (x1 + (-1))) ∧ (¬ (σ.1 4) < (x2 + x1) → (Lp2 (x_countsNodes_p40 x1 x2 Q K21 K27) σ 26)))
def x_countsNodes_p21 (Q : Unit → St → Prop) (K21 : St → Int32 → Prop) (σ : St) (x1 : Int32) : Prop :=
  ((x1 < 0 → Q () σ) ∧ (¬ x1 < 0 → (Lp2 (x_countsNodes_p27 x1 Q K21) σ 0)))
def x_countsNodes (σ : St) (Q : Unit → St → Prop) : Prop :=
  (∀ s2 : St, s2 = s_I σ 60 0 → (∀ s7 : St, s7 = s_I s2 61 0 → (∀ s13 : St, s13 = s_I s7 62 (-2) → (Lp2 (x_countsNodes_p21 Q) s13 (s13.1 4)))))
abbrev rm_x_countsNodes : Room := { frames := 10, cells := 0, slots := 0, locals := 344 }
set_option maxHeartbeats 4000000 in
theorem met_x_countsNodes (l : Launch) (D : va_G) (ct : Ct) (ad : Nat → Nat) (hJ : gJ shX ad ct) (σ : St) (Q : Unit → St → Prop) (hf : x_countsNodes σ Q) : Met l yX0_countsNodes (ws_ yX0_countsNodes cX0_countsNodes 5 (none)) rm_x_countsNodes (va_Pc [.ref (ad 0)] (gP D ct shX ad σ)) (gQ rvV D ct shX ad Q) 0 0 (gA shX ad) := by
  refine g_metV hJ (by decide) (Nat.le_of_ble_eq_true rfl) ?_
  intro p e s m args below meth c QQ ls C hw hl hret
  replace hl : lv_has ls 5 [(0, .ref (ad 0))] := hl
  have J72 : ∀ (σ : St) (H : Heap) (locs : List Loc) (x1 : Int32) (x2 : Int32) (x3 : Int32) (x4 : Int32) (v0 : Int32) (v1 : Int32) (K21 : St → Int32 → Prop) (_ : ∀ (σ : St) (H : Heap) (locs : List Loc) (x1 : Int32) (ls : Array Slot), K21 σ x1 → gH D ct shX ad s σ H locs → lv_has ls 5 [(0, .ref (ad 0)), (1, .int x1)] → W p l e rm_x_countsNodes s m args below meth c H locs 0 0 QQ (F0 m 21 ls [])) (K27 : St → Int32 → Prop) (_ : ∀ (σ : St) (H : Heap) (locs : List Loc) (x2 : Int32) (ls : Array Slot), K27 σ x2 → gH D ct shX ad s σ H locs → lv_has ls 5 [(0, .ref (ad 0)), (1, .int x1), (2, .int x2)] → W p l e rm_x_countsNodes s m args below meth c H locs 0 0 QQ (F0 m 27 ls [])) (K40 : St → Int32 → Prop) (_ : ∀ (σ : St) (H : Heap) (locs : List Loc) (x3 : Int32) (ls : Array Slot), K40 σ x3 → gH D ct shX ad s σ H locs → lv_has ls 5 [(0, .ref (ad 0)), (1, .int x1), (2, .int x2), (3, .int x3)] → W p l e rm_x_countsNodes s m args below meth c H locs 0 0 QQ (F0 m 40 ls [])) (ls : Array Slot), x_countsNodes_p72 σ x1 x2 x3 x4 Q K21 K27 K40 v0 v1 → gH D ct shX ad s σ H locs → lv_has ls 5 [(0, .ref (ad 0)), (1, .int x1), (2, .int x2), (3, .int x3), (4, .int x4)] → W p l e rm_x_countsNodes s m args below meth c H locs 0 0 QQ (F0 m 72 ls [.int v0, .int v1, .ref (ad 0)]) := by
    intro σ H locs x1 x2 x3 x4 v0 v1 K21 hK21 K27 hK27 K40 hK40 ls hf hw hl
    unfold x_countsNodes_p72 at hf
    refine lv_iadd C.1 C.2.1 dX0_countsNodes_72 ?_
    refine xp_nodes C hw dX0_countsNodes_73 (fun s73 H locs e73 hw => ?_)
    replace hf := hf s73 e73
    refine lv_iload C.1 C.2.1 dX0_countsNodes_76 (lv_at hl 4 rfl) ?_
    refine lv_iconst (v := 2) C.1 C.2.1 dX0_countsNodes_78 rfl ?_
    refine lv_icmp_ge (tgt := 85) C.1 C.2.1 dX0_countsNodes_79 (by decide) (fun h79 => ?_) (fun h79 => ?_)
    · replace hf := hf.1 h79
      refine lv_aload_n C.1 C.2.1 dX0_countsNodes_85 rfl (lv_at hl 0 rfl) ?_
      refine lv_dup C.1 C.2.1 dX0_countsNodes_86 rfl ?_
      refine xg_ambiguous C hw dX0_countsNodes_87 ?_
      refine lv_iconst (v := 1) C.1 C.2.1 dX0_countsNodes_90 rfl ?_
      refine lv_iadd C.1 C.2.1 dX0_countsNodes_91 ?_
      refine xp_ambiguous C hw dX0_countsNodes_92 (fun s92 H locs e92 hw => ?_)
      replace hf := hf s92 e92
      refine lv_aload_n C.1 C.2.1 dX0_countsNodes_95 rfl (lv_at hl 0 rfl) ?_
      refine lv_iload_n C.1 C.2.1 dX0_countsNodes_96 rfl (lv_at hl 1 rfl) ?_
      refine xp_narrow C hw dX0_countsNodes_97 (fun s97 H locs e97 hw => ?_)
      replace hf := hf s97 e97
      refine lv_iinc (v := (x3 + 1)) (lv' := [(3, .int (x3 + 1)), (0, .ref (ad 0)), (1, .int x1), (2, .int x2), (4, .int x4)]) C.1 C.2.1 dX0_countsNodes_100 hl (k := 3) rfl rfl (Nat.le_of_ble_eq_true rfl) rfl (fun ls hl => ?_)
      refine lv_goto (tgt := 40) C.1 C.2.1 dX0_countsNodes_103 (by decide) ?_
      exact hK40 _ _ _ _ _ hf hw (lv_sub hl [1, 2, 3, 0] rfl)
    · replace hf := hf.2 h79
      refine lv_goto (tgt := 100) C.1 C.2.1 dX0_countsNodes_82 (by decide) ?_
      refine lv_iinc (v := (x3 + 1)) (lv' := [(3, .int (x3 + 1)), (0, .ref (ad 0)), (1, .int x1), (2, .int x2), (4, .int x4)]) C.1 C.2.1 dX0_countsNodes_100 hl (k := 3) rfl rfl (Nat.le_of_ble_eq_true rfl) rfl (fun ls hl => ?_)
      refine lv_goto (tgt := 40) C.1 C.2.1 dX0_countsNodes_103 (by decide) ?_
      exact hK40 _ _ _ _ _ hf hw (lv_sub hl [1, 2, 3, 0] rfl)
  have B40 : ∀ (x1 : Int32) (x2 : Int32) (K21 : St → Int32 → Prop) (_ : ∀ (σ : St) (H : Heap) (locs : List Loc) (x1 : Int32) (ls : Array Slot), K21 σ x1 → gH D ct shX ad s σ H locs → lv_has ls 5 [(0, .ref (ad 0)), (1, .int x1)] → W p l e rm_x_countsNodes s m args below meth c H locs 0 0 QQ (F0 m 21 ls [])) (K27 : St → Int32 → Prop) (_ : ∀ (σ : St) (H : Heap) (locs : List Loc) (x2 : Int32) (ls : Array Slot), K27 σ x2 → gH D ct shX ad s σ H locs → lv_has ls 5 [(0, .ref (ad 0)), (1, .int x1), (2, .int x2)] → W p l e rm_x_countsNodes s m args below meth c H locs 0 0 QQ (F0 m 27 ls [])) (K40 : St → Int32 → Prop) (_ : ∀ (σ : St) (H : Heap) (locs : List Loc) (x3 : Int32) (ls : Array Slot), K40 σ x3 → gH D ct shX ad s σ H locs → lv_has ls 5 [(0, .ref (ad 0)), (1, .int x1), (2, .int x2), (3, .int x3)] → W p l e rm_x_countsNodes s m args below meth c H locs 0 0 QQ (F0 m 40 ls [])) (σ : St) (H : Heap) (locs : List Loc) (x3 : Int32) (ls : Array Slot), x_countsNodes_p40 x1 x2 Q K21 K27 K40 σ x3 → gH D ct shX ad s σ H locs → lv_has ls 5 [(0, .ref (ad 0)), (1, .int x1), (2, .int x2), (3, .int x3)] → W p l e rm_x_countsNodes s m args below meth c H locs 0 0 QQ (F0 m 40 ls []) := by
    intro x1 x2 K21 hK21 K27 hK27 K40 hK40 σ H locs x3 ls hf hw hl
    unfold x_countsNodes_p40 at hf
    refine lv_iload_n C.1 C.2.1 dX0_countsNodes_40 rfl (lv_at hl 3 rfl) ?_
    refine lv_bipush (v := 52) C.1 C.2.1 dX0_countsNodes_41 rfl ?_
    refine lv_icmp_ge (tgt := 106) C.1 C.2.1 dX0_countsNodes_43 (by decide) (fun h43 => ?_) (fun h43 => ?_)
    · replace hf := hf.1 h43
      refine lv_iinc (v := (x2 + 1)) (lv' := [(2, .int (x2 + 1)), (0, .ref (ad 0)), (1, .int x1), (3, .int x3)]) C.1 C.2.1 dX0_countsNodes_106 hl (k := 2) rfl rfl (Nat.le_of_ble_eq_true rfl) rfl (fun ls hl => ?_)
      refine lv_goto (tgt := 27) C.1 C.2.1 dX0_countsNodes_109 (by decide) ?_
      exact hK27 _ _ _ _ _ hf hw (lv_sub hl [1, 2, 0] rfl)
    · replace hf := hf.2 h43
      refine lv_aload_n C.1 C.2.1 dX0_countsNodes_46 rfl (lv_at hl 0 rfl) ?_
      refine lv_iload_n C.1 C.2.1 dX0_countsNodes_47 rfl (lv_at hl 3 rfl) ?_
      refine lv_iload_n C.1 C.2.1 dX0_countsNodes_48 rfl (lv_at hl 2 rfl) ?_
      refine lv_iload_n C.1 C.2.1 dX0_countsNodes_49 rfl (lv_at hl 2 rfl) ?_
      refine lv_iload_n C.1 C.2.1 dX0_countsNodes_50 rfl (lv_at hl 1 rfl) ?_
      refine lv_iadd C.1 C.2.1 dX0_countsNodes_51 ?_
      refine kx_waysOfNode C hw hl.1 (Nat.le_of_ble_eq_true rfl) ⟨Nat.le_of_ble_eq_true rfl, Nat.le_of_ble_eq_true rfl⟩ dX0_countsNodes_52 hf (fun r52 s52 H locs hf hw => ?_)
      refine lv_istore (lv' := [(4, .int r52), (0, .ref (ad 0)), (1, .int x1), (2, .int x2), (3, .int x3)]) C.1 C.2.1 dX0_countsNodes_55 hl (Nat.le_of_ble_eq_true rfl) rfl (fun ls hl => ?_)
      refine lv_aload_n C.1 C.2.1 dX0_countsNodes_57 rfl (lv_at hl 1 rfl) ?_
      refine lv_dup C.1 C.2.1 dX0_countsNodes_58 rfl ?_
      refine xg_nodes C hw dX0_countsNodes_59 ?_
      refine lv_iload C.1 C.2.1 dX0_countsNodes_62 (lv_at hl 0 rfl) ?_
      refine lv_if_le (tgt := 71) C.1 C.2.1 dX0_countsNodes_64 (by decide) (fun h64 => ?_) (fun h64 => ?_)
      · replace hf := hf.1 h64
        refine lv_iconst (v := 0) C.1 C.2.1 dX0_countsNodes_71 rfl ?_
        exact J72 _ _ _ _ _ _ _ _ _ _ hK21 _ hK27 _ hK40 _ hf hw (lv_sub hl [1, 2, 3, 4, 0] rfl)
      · replace hf := hf.2 h64
        refine lv_iconst (v := 1) C.1 C.2.1 dX0_countsNodes_67 rfl ?_
        refine lv_goto (tgt := 72) C.1 C.2.1 dX0_countsNodes_68 (by decide) ?_
        exact J72 _ _ _ _ _ _ _ _ _ _ hK21 _ hK27 _ hK40 _ hf hw (lv_sub hl [1, 2, 3, 4, 0] rfl)
  have P40 : ∀ (x1 : Int32) (x2 : Int32) (K21 : St → Int32 → Prop) (_ : ∀ (σ : St) (H : Heap) (locs : List Loc) (x1 : Int32) (ls : Array Slot), K21 σ x1 → gH D ct shX ad s σ H locs → lv_has ls 5 [(0, .ref (ad 0)), (1, .int x1)] → W p l e rm_x_countsNodes s m args below meth c H locs 0 0 QQ (F0 m 21 ls [])) (K27 : St → Int32 → Prop) (_ : ∀ (σ : St) (H : Heap) (locs : List Loc) (x2 : Int32) (ls : Array Slot), K27 σ x2 → gH D ct shX ad s σ H locs → lv_has ls 5 [(0, .ref (ad 0)), (1, .int x1), (2, .int x2)] → W p l e rm_x_countsNodes s m args below meth c H locs 0 0 QQ (F0 m 27 ls [])) (n : Nat) (σ : St) (x3 : Int32) (ls : Array Slot) (H : Heap) (locs : List Loc), LL2 (x_countsNodes_p40 x1 x2 Q K21 K27) n σ x3 → gH D ct shX ad s σ H locs → lv_has ls 5 [(0, .ref (ad 0)), (1, .int x1), (2, .int x2), (3, .int x3)] → W p l e rm_x_countsNodes s m args below meth c H locs 0 0 QQ (F0 m 40 ls []) := by
    intro x1 x2 K21 hK21 K27 hK27 n
    induction n with
    | zero => intro σ x3 ls H locs hf; exact False.elim hf
    | succ n ih => intro σ x3 ls H locs hf hw hl; exact B40 x1 x2 K21 hK21 K27 hK27 (LL2 _ n) (fun σ H locs x3 ls hf hw hl => ih σ x3 ls H locs hf hw hl) σ H locs x3 ls hf hw hl
  have B27 : ∀ (x1 : Int32) (K21 : St → Int32 → Prop) (_ : ∀ (σ : St) (H : Heap) (locs : List Loc) (x1 : Int32) (ls : Array Slot), K21 σ x1 → gH D ct shX ad s σ H locs → lv_has ls 5 [(0, .ref (ad 0)), (1, .int x1)] → W p l e rm_x_countsNodes s m args below meth c H locs 0 0 QQ (F0 m 21 ls [])) (K27 : St → Int32 → Prop) (_ : ∀ (σ : St) (H : Heap) (locs : List Loc) (x2 : Int32) (ls : Array Slot), K27 σ x2 → gH D ct shX ad s σ H locs → lv_has ls 5 [(0, .ref (ad 0)), (1, .int x1), (2, .int x2)] → W p l e rm_x_countsNodes s m args below meth c H locs 0 0 QQ (F0 m 27 ls [])) (σ : St) (H : Heap) (locs : List Loc) (x2 : Int32) (ls : Array Slot), x_countsNodes_p27 x1 Q K21 K27 σ x2 → gH D ct shX ad s σ H locs → lv_has ls 5 [(0, .ref (ad 0)), (1, .int x1), (2, .int x2)] → W p l e rm_x_countsNodes s m args below meth c H locs 0 0 QQ (F0 m 27 ls []) := by
    intro x1 K21 hK21 K27 hK27 σ H locs x2 ls hf hw hl
    unfold x_countsNodes_p27 at hf
    refine lv_iload_n C.1 C.2.1 dX0_countsNodes_27 rfl (lv_at hl 2 rfl) ?_
    refine lv_iload_n C.1 C.2.1 dX0_countsNodes_28 rfl (lv_at hl 1 rfl) ?_
    refine lv_iadd C.1 C.2.1 dX0_countsNodes_29 ?_
    refine lv_aload_n C.1 C.2.1 dX0_countsNodes_30 rfl (lv_at hl 0 rfl) ?_
    refine xg_textMany C hw dX0_countsNodes_31 ?_
    refine lv_icmp_gt (tgt := 112) C.1 C.2.1 dX0_countsNodes_34 (by decide) (fun h34 => ?_) (fun h34 => ?_)
    · replace hf := hf.1 h34
      refine lv_iinc (v := (x1 + (-1))) (lv' := [(1, .int (x1 + (-1))), (0, .ref (ad 0)), (2, .int x2)]) C.1 C.2.1 dX0_countsNodes_112 hl (k := 1) rfl rfl (Nat.le_of_ble_eq_true rfl) rfl (fun ls hl => ?_)
      refine lv_goto (tgt := 21) C.1 C.2.1 dX0_countsNodes_115 (by decide) ?_
      exact hK21 _ _ _ _ _ hf hw (lv_sub hl [1, 0] rfl)
    · replace hf := hf.2 h34
      refine lv_bipush (v := 26) C.1 C.2.1 dX0_countsNodes_37 rfl ?_
      refine lv_istore_n (lv' := [(3, .int 26), (0, .ref (ad 0)), (1, .int x1), (2, .int x2)]) C.1 C.2.1 dX0_countsNodes_39 rfl hl (Nat.le_of_ble_eq_true rfl) rfl (fun ls hl => ?_)
      obtain ⟨n, hf⟩ := hf
      exact P40 _ _ _ hK21 _ hK27 n _ _ _ _ _ hf hw (lv_sub hl [1, 2, 3, 0] rfl)
  have P27 : ∀ (x1 : Int32) (K21 : St → Int32 → Prop) (_ : ∀ (σ : St) (H : Heap) (locs : List Loc) (x1 : Int32) (ls : Array Slot), K21 σ x1 → gH D ct shX ad s σ H locs → lv_has ls 5 [(0, .ref (ad 0)), (1, .int x1)] → W p l e rm_x_countsNodes s m args below meth c H locs 0 0 QQ (F0 m 21 ls [])) (n : Nat) (σ : St) (x2 : Int32) (ls : Array Slot) (H : Heap) (locs : List Loc), LL2 (x_countsNodes_p27 x1 Q K21) n σ x2 → gH D ct shX ad s σ H locs → lv_has ls 5 [(0, .ref (ad 0)), (1, .int x1), (2, .int x2)] → W p l e rm_x_countsNodes s m args below meth c H locs 0 0 QQ (F0 m 27 ls []) := by
    intro x1 K21 hK21 n
    induction n with
    | zero => intro σ x2 ls H locs hf; exact False.elim hf
    | succ n ih => intro σ x2 ls H locs hf hw hl; exact B27 x1 K21 hK21 (LL2 _ n) (fun σ H locs x2 ls hf hw hl => ih σ x2 ls H locs hf hw hl) σ H locs x2 ls hf hw hl
  have B21 : ∀ (K21 : St → Int32 → Prop) (_ : ∀ (σ : St) (H : Heap) (locs : List Loc) (x1 : Int32) (ls : Array Slot), K21 σ x1 → gH D ct shX ad s σ H locs → lv_has ls 5 [(0, .ref (ad 0)), (1, .int x1)] → W p l e rm_x_countsNodes s m args below meth c H locs 0 0 QQ (F0 m 21 ls [])) (σ : St) (H : Heap) (locs : List Loc) (x1 : Int32) (ls : Array Slot), x_countsNodes_p21 Q K21 σ x1 → gH D ct shX ad s σ H locs → lv_has ls 5 [(0, .ref (ad 0)), (1, .int x1)] → W p l e rm_x_countsNodes s m args below meth c H locs 0 0 QQ (F0 m 21 ls []) := by
    intro K21 hK21 σ H locs x1 ls hf hw hl
    unfold x_countsNodes_p21 at hf
    refine lv_iload_n C.1 C.2.1 dX0_countsNodes_21 rfl (lv_at hl 1 rfl) ?_
    refine lv_if_lt (tgt := 118) C.1 C.2.1 dX0_countsNodes_22 (by decide) (fun h22 => ?_) (fun h22 => ?_)
    · replace hf := hf.1 h22
      exact hret _ _ _ _ _ _ hf hw dX0_countsNodes_118
    · replace hf := hf.2 h22
      refine lv_iconst (v := 0) C.1 C.2.1 dX0_countsNodes_25 rfl ?_
      refine lv_istore_n (lv' := [(2, .int 0), (0, .ref (ad 0)), (1, .int x1)]) C.1 C.2.1 dX0_countsNodes_26 rfl hl (Nat.le_of_ble_eq_true rfl) rfl (fun ls hl => ?_)
      obtain ⟨n, hf⟩ := hf
      exact P27 _ _ hK21 n _ _ _ _ _ hf hw (lv_sub hl [1, 2, 0] rfl)
  have P21 : ∀ (n : Nat) (σ : St) (x1 : Int32) (ls : Array Slot) (H : Heap) (locs : List Loc), LL2 (x_countsNodes_p21 Q) n σ x1 → gH D ct shX ad s σ H locs → lv_has ls 5 [(0, .ref (ad 0)), (1, .int x1)] → W p l e rm_x_countsNodes s m args below meth c H locs 0 0 QQ (F0 m 21 ls []) := by
    intro  n
    induction n with
    | zero => intro σ x1 ls H locs hf; exact False.elim hf
    | succ n ih => intro σ x1 ls H locs hf hw hl; exact B21  (LL2 _ n) (fun σ H locs x1 ls hf hw hl => ih σ x1 ls H locs hf hw hl) σ H locs x1 ls hf hw hl
  unfold x_countsNodes at hf
  obtain ⟨H, hH⟩ : ∃ q, q = s.heap := ⟨_, rfl⟩
  obtain ⟨locs, hL⟩ : ∃ q : List Loc, q = [] := ⟨_, rfl⟩
  rw [← hH, ← hL] at hw ⊢
  refine lv_aload_n C.1 C.2.1 dX0_countsNodes_0 rfl (lv_at hl 0 rfl) ?_
  refine lv_iconst (v := 0) C.1 C.2.1 dX0_countsNodes_1 rfl ?_
  refine xp_nodes C hw dX0_countsNodes_2 (fun s2 H locs e2 hw => ?_)
  replace hf := hf s2 e2
  refine lv_aload_n C.1 C.2.1 dX0_countsNodes_5 rfl (lv_at hl 0 rfl) ?_
  refine lv_iconst (v := 0) C.1 C.2.1 dX0_countsNodes_6 rfl ?_
  refine xp_ambiguous C hw dX0_countsNodes_7 (fun s7 H locs e7 hw => ?_)
  replace hf := hf s7 e7
  refine lv_aload_n C.1 C.2.1 dX0_countsNodes_10 rfl (lv_at hl 0 rfl) ?_
  refine lv_bipush (v := (-2)) C.1 C.2.1 dX0_countsNodes_11 rfl ?_
  refine xp_narrow C hw dX0_countsNodes_13 (fun s13 H locs e13 hw => ?_)
  replace hf := hf s13 e13
  refine lv_aload_n C.1 C.2.1 dX0_countsNodes_16 rfl (lv_at hl 0 rfl) ?_
  refine xg_textMany C hw dX0_countsNodes_17 ?_
  refine lv_istore_n (lv' := [(1, .int (s13.1 4)), (0, .ref (ad 0))]) C.1 C.2.1 dX0_countsNodes_20 rfl hl (Nat.le_of_ble_eq_true rfl) rfl (fun ls hl => ?_)
  obtain ⟨n, hf⟩ := hf
  exact P21  n _ _ _ _ _ hf hw (lv_sub hl [1, 0] rfl)
theorem kx_countsNodes {p : Program} {l : Launch} {e : Env} {R : Room} {s : State} {m : MethodId} {args : Array Value} {below : List Frame} {meth : Method} {c : Code} {H : Heap} {locs : List Loc} {Z : State → Prop} {cc : ByteArray} {nL pc : Nat} {ls : Array Slot} {rest : List Value} {D : va_G} {ct : Ct} {ad : Nat → Nat} {σ : St} {Qp : Unit → St → Prop} (C : CallFix p m c cc nL s args lw_all RX0) (hw : gH D ct shX ad s σ H locs) (hsz : ls.size = nL) (hrm : (rest.map fun v => v.category).sum ≤ 8) (hR : rm_x_countsNodes.frames + 1 ≤ R.frames ∧ 8 + (5 + 11) + rm_x_countsNodes.locals ≤ R.locals) (hdg : decode cc pc = .ok (.invokevirtual 630, 3)) (hf : x_countsNodes σ Qp) (kk : ∀ (r : Unit) (σ1 : St) (H1 : Heap) (locs1 : List Loc), Qp r σ1 → gH D ct shX ad s σ1 H1 locs1 → W p l e R s m args below meth c H1 locs1 0 0 Z (F0 m (pc + 3) ls (rest))) : W p l e R s m args below meth c H locs 0 0 Z (F0 m pc ls (.ref (ad 0) :: rest)) :=
  g_callV (As := []) (rest := rest) C hw rfl rfl (met_x_countsNodes l D ct ad hw.2.1 σ Qp hf) (cwV 0 C.2.2.2.2 (lw_V q1155 q1157 qs86 q200 q1158) rfl rfl rfl (by decide +kernel) hR) rfl hsz rfl hrm ⟨Nat.zero_le _, Nat.zero_le _⟩ hdg kk
def x_derives (σ : St) (x1 : Int32) (x2 : Int32) (x3 : Int32) (Q : Int32 → St → Prop) : Prop :=
  (((fx_isLeft σ x1) = 0 → Q (-1) σ) ∧ (¬ (fx_isLeft σ x1) = 0 → (((fx_isSpan σ x2 x3) = 0 → Q (-1) σ) ∧ (¬ (fx_isSpan σ x2 x3) = 0 → (x_charts σ (fun _ s20 => (vp_in (fx_spanOf x2 x3) 169 ∧ Q (((gI s20 55 (fx_spanOf x2 x3)) >>> ((x1 - 26) &&& 31)) &&& 1) s20)))))))
abbrev rm_x_derives : Room := { frames := 22, cells := 0, slots := 0, locals := 592 }
set_option maxHeartbeats 4000000 in
theorem met_x_derives (l : Launch) (D : va_G) (ct : Ct) (ad : Nat → Nat) (hJ : gJ shX ad ct) (σ : St) (x1 : Int32) (x2 : Int32) (x3 : Int32) (Q : Int32 → St → Prop) (hf : x_derives σ x1 x2 x3 Q) : Met l yX0_derives (ws_ yX0_derives cX0_derives 4 (some .int)) rm_x_derives (va_Pc [.ref (ad 0), .int x1, .int x2, .int x3] (gP D ct shX ad σ)) (gQ rvI D ct shX ad Q) 0 0 (gA shX ad) := by
  refine g_metI hJ (by decide) (Nat.le_of_ble_eq_true rfl) ?_
  intro p e s m args below meth c QQ ls C hw hl hret
  replace hl : lv_has ls 4 [(0, .ref (ad 0)), (1, .int x1), (2, .int x2), (3, .int x3)] := hl
  unfold x_derives at hf
  obtain ⟨H, hH⟩ : ∃ q, q = s.heap := ⟨_, rfl⟩
  obtain ⟨locs, hL⟩ : ∃ q : List Loc, q = [] := ⟨_, rfl⟩
  rw [← hH, ← hL] at hw ⊢
  refine lv_aload_n C.1 C.2.1 dX0_derives_0 rfl (lv_at hl 0 rfl) ?_
  refine lv_iload_n C.1 C.2.1 dX0_derives_1 rfl (lv_at hl 1 rfl) ?_
  refine kx_isLeft C hw hl.1 (Nat.le_of_ble_eq_true rfl) ⟨Nat.le_of_ble_eq_true rfl, Nat.le_of_ble_eq_true rfl⟩ dX0_derives_2 ?_
  refine lv_if_eq (tgt := 17) C.1 C.2.1 dX0_derives_5 (by decide) (fun h5 => ?_) (fun h5 => ?_)
  · replace hf := hf.1 h5
    refine lv_iconst (v := (-1)) C.1 C.2.1 dX0_derives_17 rfl ?_
    exact hret _ _ _ _ _ _ hf hw dX0_derives_18
  · replace hf := hf.2 h5
    refine lv_aload_n C.1 C.2.1 dX0_derives_8 rfl (lv_at hl 0 rfl) ?_
    refine lv_iload_n C.1 C.2.1 dX0_derives_9 rfl (lv_at hl 2 rfl) ?_
    refine lv_iload_n C.1 C.2.1 dX0_derives_10 rfl (lv_at hl 3 rfl) ?_
    refine kx_isSpan C hw hl.1 (Nat.le_of_ble_eq_true rfl) ⟨Nat.le_of_ble_eq_true rfl, Nat.le_of_ble_eq_true rfl⟩ dX0_derives_11 ?_
    refine lv_if_ne (tgt := 19) C.1 C.2.1 dX0_derives_14 (by decide) (fun h14 => ?_) (fun h14 => ?_)
    · replace hf := hf.2 h14
      refine lv_aload_n C.1 C.2.1 dX0_derives_19 rfl (lv_at hl 0 rfl) ?_
      refine kx_charts C hw hl.1 (Nat.le_of_ble_eq_true rfl) ⟨Nat.le_of_ble_eq_true rfl, Nat.le_of_ble_eq_true rfl⟩ dX0_derives_20 hf (fun _ s20 H locs hf hw => ?_)
      refine lv_aload_n C.1 C.2.1 dX0_derives_23 rfl (lv_at hl 0 rfl) ?_
      refine xg_derivesOf C hw dX0_derives_24 ?_
      refine lv_iload_n C.1 C.2.1 dX0_derives_27 rfl (lv_at hl 2 rfl) ?_
      refine lv_iload_n C.1 C.2.1 dX0_derives_28 rfl (lv_at hl 3 rfl) ?_
      refine kx_spanOf C hl.1 (Nat.le_of_ble_eq_true rfl) ⟨Nat.le_of_ble_eq_true rfl, Nat.le_of_ble_eq_true rfl⟩ dX0_derives_29 ?_
      obtain ⟨b32, hf⟩ := hf
      refine g_iald C hw 55 rfl b32 dX0_derives_32 ?_
      refine lv_iload_n C.1 C.2.1 dX0_derives_33 rfl (lv_at hl 1 rfl) ?_
      refine lv_bipush (v := 26) C.1 C.2.1 dX0_derives_34 rfl ?_
      refine lv_isub C.1 C.2.1 dX0_derives_36 ?_
      refine lv_ishr C.1 C.2.1 dX0_derives_37 ?_
      refine lv_iconst (v := 1) C.1 C.2.1 dX0_derives_38 rfl ?_
      refine lv_iand C.1 C.2.1 dX0_derives_39 ?_
      exact hret _ _ _ _ _ _ hf hw dX0_derives_40
    · replace hf := hf.1 h14
      refine lv_iconst (v := (-1)) C.1 C.2.1 dX0_derives_17 rfl ?_
      exact hret _ _ _ _ _ _ hf hw dX0_derives_18
def x_trees_p29 (σ : St) (x1 : Int32) (x2 : Int32) (x3 : Int32) (Q : Int32 → St → Prop) (K29 : Int32 → Int32 → Prop) (x4 : Int32) (x5 : Int32) : Prop :=
  (((σ.1 80) ≤ x5 → Q x4 σ) ∧ (¬ (σ.1 80) ≤ x5 → (vp_in x5 12 ∧ (((gI σ 83 x5) = x1 → (vp_in (fx_pieceOf x5 x2 x3) 2028 ∧ K29 (fx_more x4 (gI σ 52 (fx_pieceOf x5 x2 x3))) (x5 + 1))) ∧ (¬ (gI σ 83 x5) = x1 → K29 x4 (x5 + 1))))))
def x_trees (σ : St) (x1 : Int32) (x2 : Int32) (x3 : Int32) (Q : Int32 → St → Prop) : Prop :=
  (((fx_isLeft σ x1) = 0 → Q (-1) σ) ∧ (¬ (fx_isLeft σ x1) = 0 → (((fx_isSpan σ x2 x3) = 0 → Q (-1) σ) ∧ (¬ (fx_isSpan σ x2 x3) = 0 → (x_charts σ (fun _ s20 => (Lp2 (x_trees_p29 s20 x1 x2 x3 Q) 0 0)))))))
abbrev rm_x_trees : Room := { frames := 22, cells := 0, slots := 0, locals := 592 }
set_option maxHeartbeats 4000000 in
theorem met_x_trees (l : Launch) (D : va_G) (ct : Ct) (ad : Nat → Nat) (hJ : gJ shX ad ct) (σ : St) (x1 : Int32) (x2 : Int32) (x3 : Int32) (Q : Int32 → St → Prop) (hf : x_trees σ x1 x2 x3 Q) : Met l yX0_trees (ws_ yX0_trees cX0_trees 6 (some .int)) rm_x_trees (va_Pc [.ref (ad 0), .int x1, .int x2, .int x3] (gP D ct shX ad σ)) (gQ rvI D ct shX ad Q) 0 0 (gA shX ad) := by
  refine g_metI hJ (by decide) (Nat.le_of_ble_eq_true rfl) ?_
  intro p e s m args below meth c QQ ls C hw hl hret
  replace hl : lv_has ls 6 [(0, .ref (ad 0)), (1, .int x1), (2, .int x2), (3, .int x3)] := hl
  have B29 : ∀ (σ : St) (H : Heap) (locs : List Loc) (x1 : Int32) (x2 : Int32) (x3 : Int32) (K29 : Int32 → Int32 → Prop) (_ : ∀ (x4 : Int32) (x5 : Int32) (ls : Array Slot), K29 x4 x5 → lv_has ls 6 [(0, .ref (ad 0)), (1, .int x1), (2, .int x2), (3, .int x3), (4, .int x4), (5, .int x5)] → W p l e rm_x_trees s m args below meth c H locs 0 0 QQ (F0 m 29 ls [])) (x4 : Int32) (x5 : Int32) (ls : Array Slot), x_trees_p29 σ x1 x2 x3 Q K29 x4 x5 → gH D ct shX ad s σ H locs → lv_has ls 6 [(0, .ref (ad 0)), (1, .int x1), (2, .int x2), (3, .int x3), (4, .int x4), (5, .int x5)] → W p l e rm_x_trees s m args below meth c H locs 0 0 QQ (F0 m 29 ls []) := by
    intro σ H locs x1 x2 x3 K29 hK29 x4 x5 ls hf hw hl
    unfold x_trees_p29 at hf
    refine lv_iload C.1 C.2.1 dX0_trees_29 (lv_at hl 5 rfl) ?_
    refine lv_aload_n C.1 C.2.1 dX0_trees_31 rfl (lv_at hl 0 rfl) ?_
    refine xg_grammar C hw dX0_trees_32 ?_
    refine xn_many C hw dX0_trees_35 ?_
    refine lv_icmp_ge (tgt := 80) C.1 C.2.1 dX0_trees_38 (by decide) (fun h38 => ?_) (fun h38 => ?_)
    · replace hf := hf.1 h38
      refine lv_iload C.1 C.2.1 dX0_trees_80 (lv_at hl 4 rfl) ?_
      exact hret _ _ _ _ _ _ hf hw dX0_trees_82
    · replace hf := hf.2 h38
      refine lv_aload_n C.1 C.2.1 dX0_trees_41 rfl (lv_at hl 0 rfl) ?_
      refine xg_grammar C hw dX0_trees_42 ?_
      refine xn_left C hw dX0_trees_45 ?_
      refine lv_iload C.1 C.2.1 dX0_trees_48 (lv_at hl 5 rfl) ?_
      obtain ⟨b50, hf⟩ := hf
      refine g_iald C hw 83 rfl b50 dX0_trees_50 ?_
      refine lv_iload_n C.1 C.2.1 dX0_trees_51 rfl (lv_at hl 1 rfl) ?_
      refine lv_icmp_ne (tgt := 74) C.1 C.2.1 dX0_trees_52 (by decide) (fun h52 => ?_) (fun h52 => ?_)
      · replace hf := hf.2 h52
        refine lv_iinc (v := (x5 + 1)) (lv' := [(5, .int (x5 + 1)), (0, .ref (ad 0)), (1, .int x1), (2, .int x2), (3, .int x3), (4, .int x4)]) C.1 C.2.1 dX0_trees_74 hl (k := 5) rfl rfl (Nat.le_of_ble_eq_true rfl) rfl (fun ls hl => ?_)
        refine lv_goto (tgt := 29) C.1 C.2.1 dX0_trees_77 (by decide) ?_
        exact hK29 _ _ _ hf (lv_sub hl [1, 2, 3, 4, 5, 0] rfl)
      · replace hf := hf.1 h52
        refine lv_iload C.1 C.2.1 dX0_trees_55 (lv_at hl 4 rfl) ?_
        refine lv_aload_n C.1 C.2.1 dX0_trees_57 rfl (lv_at hl 0 rfl) ?_
        refine xg_treesOf C hw dX0_trees_58 ?_
        refine lv_iload C.1 C.2.1 dX0_trees_61 (lv_at hl 5 rfl) ?_
        refine lv_iload_n C.1 C.2.1 dX0_trees_63 rfl (lv_at hl 2 rfl) ?_
        refine lv_iload_n C.1 C.2.1 dX0_trees_64 rfl (lv_at hl 3 rfl) ?_
        refine kx_pieceOf C hl.1 (Nat.le_of_ble_eq_true rfl) ⟨Nat.le_of_ble_eq_true rfl, Nat.le_of_ble_eq_true rfl⟩ dX0_trees_65 ?_
        obtain ⟨b68, hf⟩ := hf
        refine g_iald C hw 52 rfl b68 dX0_trees_68 ?_
        refine kx_more C hl.1 (Nat.le_of_ble_eq_true rfl) ⟨Nat.le_of_ble_eq_true rfl, Nat.le_of_ble_eq_true rfl⟩ dX0_trees_69 ?_
        refine lv_istore (lv' := [(4, .int (fx_more x4 (gI σ 52 (fx_pieceOf x5 x2 x3)))), (0, .ref (ad 0)), (1, .int x1), (2, .int x2), (3, .int x3), (5, .int x5)]) C.1 C.2.1 dX0_trees_72 hl (Nat.le_of_ble_eq_true rfl) rfl (fun ls hl => ?_)
        refine lv_iinc (v := (x5 + 1)) (lv' := [(5, .int (x5 + 1)), (4, .int (fx_more x4 (gI σ 52 (fx_pieceOf x5 x2 x3)))), (0, .ref (ad 0)), (1, .int x1), (2, .int x2), (3, .int x3)]) C.1 C.2.1 dX0_trees_74 hl (k := 5) rfl rfl (Nat.le_of_ble_eq_true rfl) rfl (fun ls hl => ?_)
        refine lv_goto (tgt := 29) C.1 C.2.1 dX0_trees_77 (by decide) ?_
        exact hK29 _ _ _ hf (lv_sub hl [2, 3, 4, 5, 1, 0] rfl)
  have P29 : ∀ (σ : St) (H : Heap) (locs : List Loc) (x1 : Int32) (x2 : Int32) (x3 : Int32) (n : Nat) (x4 : Int32) (x5 : Int32) (ls : Array Slot), LL2 (x_trees_p29 σ x1 x2 x3 Q) n x4 x5 → gH D ct shX ad s σ H locs → lv_has ls 6 [(0, .ref (ad 0)), (1, .int x1), (2, .int x2), (3, .int x3), (4, .int x4), (5, .int x5)] → W p l e rm_x_trees s m args below meth c H locs 0 0 QQ (F0 m 29 ls []) := by
    intro σ H locs x1 x2 x3 n
    induction n with
    | zero => intro x4 x5 ls hf; exact False.elim hf
    | succ n ih => intro x4 x5 ls hf hw hl; exact B29 σ H locs x1 x2 x3 (LL2 _ n) (fun x4 x5 ls hf hl => ih x4 x5 ls hf hw hl) x4 x5 ls hf hw hl
  unfold x_trees at hf
  obtain ⟨H, hH⟩ : ∃ q, q = s.heap := ⟨_, rfl⟩
  obtain ⟨locs, hL⟩ : ∃ q : List Loc, q = [] := ⟨_, rfl⟩
  rw [← hH, ← hL] at hw ⊢
  refine lv_aload_n C.1 C.2.1 dX0_trees_0 rfl (lv_at hl 0 rfl) ?_
  refine lv_iload_n C.1 C.2.1 dX0_trees_1 rfl (lv_at hl 1 rfl) ?_
  refine kx_isLeft C hw hl.1 (Nat.le_of_ble_eq_true rfl) ⟨Nat.le_of_ble_eq_true rfl, Nat.le_of_ble_eq_true rfl⟩ dX0_trees_2 ?_
  refine lv_if_eq (tgt := 17) C.1 C.2.1 dX0_trees_5 (by decide) (fun h5 => ?_) (fun h5 => ?_)
  · replace hf := hf.1 h5
    refine lv_iconst (v := (-1)) C.1 C.2.1 dX0_trees_17 rfl ?_
    exact hret _ _ _ _ _ _ hf hw dX0_trees_18
  · replace hf := hf.2 h5
    refine lv_aload_n C.1 C.2.1 dX0_trees_8 rfl (lv_at hl 0 rfl) ?_
    refine lv_iload_n C.1 C.2.1 dX0_trees_9 rfl (lv_at hl 2 rfl) ?_
    refine lv_iload_n C.1 C.2.1 dX0_trees_10 rfl (lv_at hl 3 rfl) ?_
    refine kx_isSpan C hw hl.1 (Nat.le_of_ble_eq_true rfl) ⟨Nat.le_of_ble_eq_true rfl, Nat.le_of_ble_eq_true rfl⟩ dX0_trees_11 ?_
    refine lv_if_ne (tgt := 19) C.1 C.2.1 dX0_trees_14 (by decide) (fun h14 => ?_) (fun h14 => ?_)
    · replace hf := hf.2 h14
      refine lv_aload_n C.1 C.2.1 dX0_trees_19 rfl (lv_at hl 0 rfl) ?_
      refine kx_charts C hw hl.1 (Nat.le_of_ble_eq_true rfl) ⟨Nat.le_of_ble_eq_true rfl, Nat.le_of_ble_eq_true rfl⟩ dX0_trees_20 hf (fun _ s20 H locs hf hw => ?_)
      refine lv_iconst (v := 0) C.1 C.2.1 dX0_trees_23 rfl ?_
      refine lv_istore (lv' := [(4, .int 0), (0, .ref (ad 0)), (1, .int x1), (2, .int x2), (3, .int x3)]) C.1 C.2.1 dX0_trees_24 hl (Nat.le_of_ble_eq_true rfl) rfl (fun ls hl => ?_)
      refine lv_iconst (v := 0) C.1 C.2.1 dX0_trees_26 rfl ?_
      refine lv_istore (lv' := [(5, .int 0), (4, .int 0), (0, .ref (ad 0)), (1, .int x1), (2, .int x2), (3, .int x3)]) C.1 C.2.1 dX0_trees_27 hl (Nat.le_of_ble_eq_true rfl) rfl (fun ls hl => ?_)
      obtain ⟨n, hf⟩ := hf
      exact P29 _ _ _ _ _ _ n _ _ _ hf hw (lv_sub hl [2, 3, 4, 5, 1, 0] rfl)
    · replace hf := hf.1 h14
      refine lv_iconst (v := (-1)) C.1 C.2.1 dX0_trees_17 rfl ?_
      exact hret _ _ _ _ _ _ hf hw dX0_trees_18
def x_piece (σ : St) (x1 : Int32) (x2 : Int32) (x3 : Int32) (Q : Int32 → St → Prop) : Prop :=
  (((fx_isRule σ x1) = 0 → Q (-1) σ) ∧ (¬ (fx_isRule σ x1) = 0 → (((fx_isSpan σ x2 x3) = 0 → Q (-1) σ) ∧ (¬ (fx_isSpan σ x2 x3) = 0 → (x_charts σ (fun _ s20 => (vp_in (fx_pieceOf x1 x2 x3) 2028 ∧ (((gI s20 54 (fx_pieceOf x1 x2 x3)) = 0 → Q 0 s20) ∧ (¬ (gI s20 54 (fx_pieceOf x1 x2 x3)) = 0 → Q 1 s20)))))))))
abbrev rm_x_piece : Room := { frames := 22, cells := 0, slots := 0, locals := 592 }
set_option maxHeartbeats 4000000 in
theorem met_x_piece (l : Launch) (D : va_G) (ct : Ct) (ad : Nat → Nat) (hJ : gJ shX ad ct) (σ : St) (x1 : Int32) (x2 : Int32) (x3 : Int32) (Q : Int32 → St → Prop) (hf : x_piece σ x1 x2 x3 Q) : Met l yX0_piece (ws_ yX0_piece cX0_piece 4 (some .int)) rm_x_piece (va_Pc [.ref (ad 0), .int x1, .int x2, .int x3] (gP D ct shX ad σ)) (gQ rvI D ct shX ad Q) 0 0 (gA shX ad) := by
  refine g_metI hJ (by decide) (Nat.le_of_ble_eq_true rfl) ?_
  intro p e s m args below meth c QQ ls C hw hl hret
  replace hl : lv_has ls 4 [(0, .ref (ad 0)), (1, .int x1), (2, .int x2), (3, .int x3)] := hl
  unfold x_piece at hf
  obtain ⟨H, hH⟩ : ∃ q, q = s.heap := ⟨_, rfl⟩
  obtain ⟨locs, hL⟩ : ∃ q : List Loc, q = [] := ⟨_, rfl⟩
  rw [← hH, ← hL] at hw ⊢
  refine lv_aload_n C.1 C.2.1 dX0_piece_0 rfl (lv_at hl 0 rfl) ?_
  refine lv_iload_n C.1 C.2.1 dX0_piece_1 rfl (lv_at hl 1 rfl) ?_
  refine kx_isRule C hw hl.1 (Nat.le_of_ble_eq_true rfl) ⟨Nat.le_of_ble_eq_true rfl, Nat.le_of_ble_eq_true rfl⟩ dX0_piece_2 ?_
  refine lv_if_eq (tgt := 17) C.1 C.2.1 dX0_piece_5 (by decide) (fun h5 => ?_) (fun h5 => ?_)
  · replace hf := hf.1 h5
    refine lv_iconst (v := (-1)) C.1 C.2.1 dX0_piece_17 rfl ?_
    exact hret _ _ _ _ _ _ hf hw dX0_piece_18
  · replace hf := hf.2 h5
    refine lv_aload_n C.1 C.2.1 dX0_piece_8 rfl (lv_at hl 0 rfl) ?_
    refine lv_iload_n C.1 C.2.1 dX0_piece_9 rfl (lv_at hl 2 rfl) ?_
    refine lv_iload_n C.1 C.2.1 dX0_piece_10 rfl (lv_at hl 3 rfl) ?_
    refine kx_isSpan C hw hl.1 (Nat.le_of_ble_eq_true rfl) ⟨Nat.le_of_ble_eq_true rfl, Nat.le_of_ble_eq_true rfl⟩ dX0_piece_11 ?_
    refine lv_if_ne (tgt := 19) C.1 C.2.1 dX0_piece_14 (by decide) (fun h14 => ?_) (fun h14 => ?_)
    · replace hf := hf.2 h14
      refine lv_aload_n C.1 C.2.1 dX0_piece_19 rfl (lv_at hl 0 rfl) ?_
      refine kx_charts C hw hl.1 (Nat.le_of_ble_eq_true rfl) ⟨Nat.le_of_ble_eq_true rfl, Nat.le_of_ble_eq_true rfl⟩ dX0_piece_20 hf (fun _ s20 H locs hf hw => ?_)
      refine lv_aload_n C.1 C.2.1 dX0_piece_23 rfl (lv_at hl 0 rfl) ?_
      refine xg_isPiece C hw dX0_piece_24 ?_
      refine lv_iload_n C.1 C.2.1 dX0_piece_27 rfl (lv_at hl 1 rfl) ?_
      refine lv_iload_n C.1 C.2.1 dX0_piece_28 rfl (lv_at hl 2 rfl) ?_
      refine lv_iload_n C.1 C.2.1 dX0_piece_29 rfl (lv_at hl 3 rfl) ?_
      refine kx_pieceOf C hl.1 (Nat.le_of_ble_eq_true rfl) ⟨Nat.le_of_ble_eq_true rfl, Nat.le_of_ble_eq_true rfl⟩ dX0_piece_30 ?_
      obtain ⟨b33, hf⟩ := hf
      refine g_zald C hw 54 rfl b33 dX0_piece_33 ?_
      refine lv_if_eq (tgt := 41) C.1 C.2.1 dX0_piece_34 (by decide) (fun h34 => ?_) (fun h34 => ?_)
      · replace hf := hf.1 h34
        refine lv_iconst (v := 0) C.1 C.2.1 dX0_piece_41 rfl ?_
        exact hret _ _ _ _ _ _ hf hw dX0_piece_42
      · replace hf := hf.2 h34
        refine lv_iconst (v := 1) C.1 C.2.1 dX0_piece_37 rfl ?_
        refine lv_goto (tgt := 42) C.1 C.2.1 dX0_piece_38 (by decide) ?_
        exact hret _ _ _ _ _ _ hf hw dX0_piece_42
    · replace hf := hf.1 h14
      refine lv_iconst (v := (-1)) C.1 C.2.1 dX0_piece_17 rfl ?_
      exact hret _ _ _ _ _ _ hf hw dX0_piece_18
def x_ways (σ : St) (x1 : Int32) (x2 : Int32) (x3 : Int32) (Q : Int32 → St → Prop) : Prop :=
  (((fx_isRule σ x1) = 0 → Q (-1) σ) ∧ (¬ (fx_isRule σ x1) = 0 → (((fx_isSpan σ x2 x3) = 0 → Q (-1) σ) ∧ (¬ (fx_isSpan σ x2 x3) = 0 → (x_charts σ (fun _ s20 => (x_waysOf s20 x1 x2 x3 (fun r27 s27 => Q r27 s27))))))))
abbrev rm_x_ways : Room := { frames := 22, cells := 0, slots := 0, locals := 592 }
set_option maxHeartbeats 4000000 in
theorem met_x_ways (l : Launch) (D : va_G) (ct : Ct) (ad : Nat → Nat) (hJ : gJ shX ad ct) (σ : St) (x1 : Int32) (x2 : Int32) (x3 : Int32) (Q : Int32 → St → Prop) (hf : x_ways σ x1 x2 x3 Q) : Met l yX0_ways (ws_ yX0_ways cX0_ways 4 (some .int)) rm_x_ways (va_Pc [.ref (ad 0), .int x1, .int x2, .int x3] (gP D ct shX ad σ)) (gQ rvI D ct shX ad Q) 0 0 (gA shX ad) := by
  refine g_metI hJ (by decide) (Nat.le_of_ble_eq_true rfl) ?_
  intro p e s m args below meth c QQ ls C hw hl hret
  replace hl : lv_has ls 4 [(0, .ref (ad 0)), (1, .int x1), (2, .int x2), (3, .int x3)] := hl
  unfold x_ways at hf
  obtain ⟨H, hH⟩ : ∃ q, q = s.heap := ⟨_, rfl⟩
  obtain ⟨locs, hL⟩ : ∃ q : List Loc, q = [] := ⟨_, rfl⟩
  rw [← hH, ← hL] at hw ⊢
  refine lv_aload_n C.1 C.2.1 dX0_ways_0 rfl (lv_at hl 0 rfl) ?_
  refine lv_iload_n C.1 C.2.1 dX0_ways_1 rfl (lv_at hl 1 rfl) ?_
  refine kx_isRule C hw hl.1 (Nat.le_of_ble_eq_true rfl) ⟨Nat.le_of_ble_eq_true rfl, Nat.le_of_ble_eq_true rfl⟩ dX0_ways_2 ?_
  refine lv_if_eq (tgt := 17) C.1 C.2.1 dX0_ways_5 (by decide) (fun h5 => ?_) (fun h5 => ?_)
  · replace hf := hf.1 h5
    refine lv_iconst (v := (-1)) C.1 C.2.1 dX0_ways_17 rfl ?_
    exact hret _ _ _ _ _ _ hf hw dX0_ways_18
  · replace hf := hf.2 h5
    refine lv_aload_n C.1 C.2.1 dX0_ways_8 rfl (lv_at hl 0 rfl) ?_
    refine lv_iload_n C.1 C.2.1 dX0_ways_9 rfl (lv_at hl 2 rfl) ?_
    refine lv_iload_n C.1 C.2.1 dX0_ways_10 rfl (lv_at hl 3 rfl) ?_
    refine kx_isSpan C hw hl.1 (Nat.le_of_ble_eq_true rfl) ⟨Nat.le_of_ble_eq_true rfl, Nat.le_of_ble_eq_true rfl⟩ dX0_ways_11 ?_
    refine lv_if_ne (tgt := 19) C.1 C.2.1 dX0_ways_14 (by decide) (fun h14 => ?_) (fun h14 => ?_)
    · replace hf := hf.2 h14
      refine lv_aload_n C.1 C.2.1 dX0_ways_19 rfl (lv_at hl 0 rfl) ?_
      refine kx_charts C hw hl.1 (Nat.le_of_ble_eq_true rfl) ⟨Nat.le_of_ble_eq_true rfl, Nat.le_of_ble_eq_true rfl⟩ dX0_ways_20 hf (fun _ s20 H locs hf hw => ?_)
      refine lv_aload_n C.1 C.2.1 dX0_ways_23 rfl (lv_at hl 0 rfl) ?_
      refine lv_iload_n C.1 C.2.1 dX0_ways_24 rfl (lv_at hl 1 rfl) ?_
      refine lv_iload_n C.1 C.2.1 dX0_ways_25 rfl (lv_at hl 2 rfl) ?_
      refine lv_iload_n C.1 C.2.1 dX0_ways_26 rfl (lv_at hl 3 rfl) ?_
      refine kx_waysOf C hw hl.1 (Nat.le_of_ble_eq_true rfl) ⟨Nat.le_of_ble_eq_true rfl, Nat.le_of_ble_eq_true rfl⟩ dX0_ways_27 hf (fun r27 s27 H locs hf hw => ?_)
      exact hret _ _ _ _ _ _ hf hw dX0_ways_30
    · replace hf := hf.1 h14
      refine lv_iconst (v := (-1)) C.1 C.2.1 dX0_ways_17 rfl ?_
      exact hret _ _ _ _ _ _ hf hw dX0_ways_18
def x_forest_p60 (σ : St) (x3 : Int32) (x4 : Int32) (Q : Int32 → St → Prop) (K33 : Int32 → Int32 → Prop) (K47 : Int32 → Int32 → Prop) (K60 : Int32 → Int32 → Prop) (x2 : Int32) (x5 : Int32) : Prop :=
  (((σ.1 4) < x5 → K47 x2 (x4 + 1)) ∧ (¬ (σ.1 4) < x5 → (vp_in (fx_pieceOf x3 x4 x5) 2028 ∧ (((gI σ 54 (fx_pieceOf x3 x4 x5)) = 0 → K60 (x2 + 0) (x5 + 1)) ∧ (¬ (gI σ 54 (fx_pieceOf x3 x4 x5)) = 0 → K60 (x2 + 1) (x5 + 1))))))
def x_forest_p47 (σ : St) (x3 : Int32) (Q : Int32 → St → Prop) (K33 : Int32 → Int32 → Prop) (K47 : Int32 → Int32 → Prop) (x2 : Int32) (x4 : Int32) : Prop :=
  (((σ.1 4) < x4 → K33 x2 (x3 + 1)) ∧ (¬ (σ.1 4) < x4 → (Lp2 (x_forest_p60 σ x3 x4 Q K33 K47) x2 x4)))
def x_forest_p33 (σ : St) (Q : Int32 → St → Prop) (K33 : Int32 → Int32 → Prop) (x2 : Int32) (x3 : Int32) : Prop :=
  (((σ.1 80) ≤ x3 → Q x2 σ) ∧ (¬ (σ.1 80) ≤ x3 → (Lp2 (x_forest_p47 σ x3 Q K33) x2 0)))
def x_forest (σ : St) (x1 : Int32) (Q : Int32 → St → Prop) : Prop :=
  (((fx_in (Int32.toInt64 x1) 0 3) = 0 → Q (-1) σ) ∧ (¬ (fx_in (Int32.toInt64 x1) 0 3) = 0 → (x_charts σ (fun _ s22 => ((x1 = 0 → (Lp2 (x_forest_p33 s22 Q) 0 0)) ∧ (¬ x1 = 0 → (x_countsNodes s22 (fun _ s114 => ((x1 = 1 → Q (s114.1 60) s114) ∧ (¬ x1 = 1 → ((x1 = 2 → Q (s114.1 61) s114) ∧ (¬ x1 = 2 → Q (s114.1 62) s114))))))))))))
abbrev rm_x_forest : Room := { frames := 22, cells := 0, slots := 0, locals := 592 }
set_option maxHeartbeats 4000000 in
theorem met_x_forest (l : Launch) (D : va_G) (ct : Ct) (ad : Nat → Nat) (hJ : gJ shX ad ct) (σ : St) (x1 : Int32) (Q : Int32 → St → Prop) (hf : x_forest σ x1 Q) : Met l yX0_forest (ws_ yX0_forest cX0_forest 6 (some .int)) rm_x_forest (va_Pc [.ref (ad 0), .int x1] (gP D ct shX ad σ)) (gQ rvI D ct shX ad Q) 0 0 (gA shX ad) := by
  refine g_metI hJ (by decide) (Nat.le_of_ble_eq_true rfl) ?_
  intro p e s m args below meth c QQ ls C hw hl hret
  replace hl : lv_has ls 6 [(0, .ref (ad 0)), (1, .int x1)] := hl
  have B60 : ∀ (σ : St) (H : Heap) (locs : List Loc) (x3 : Int32) (x4 : Int32) (K33 : Int32 → Int32 → Prop) (_ : ∀ (x2 : Int32) (x3 : Int32) (ls : Array Slot), K33 x2 x3 → lv_has ls 6 [(0, .ref (ad 0)), (2, .int x2), (3, .int x3)] → W p l e rm_x_forest s m args below meth c H locs 0 0 QQ (F0 m 33 ls [])) (K47 : Int32 → Int32 → Prop) (_ : ∀ (x2 : Int32) (x4 : Int32) (ls : Array Slot), K47 x2 x4 → lv_has ls 6 [(0, .ref (ad 0)), (2, .int x2), (3, .int x3), (4, .int x4)] → W p l e rm_x_forest s m args below meth c H locs 0 0 QQ (F0 m 47 ls [])) (K60 : Int32 → Int32 → Prop) (_ : ∀ (x2 : Int32) (x5 : Int32) (ls : Array Slot), K60 x2 x5 → lv_has ls 6 [(0, .ref (ad 0)), (2, .int x2), (3, .int x3), (4, .int x4), (5, .int x5)] → W p l e rm_x_forest s m args below meth c H locs 0 0 QQ (F0 m 60 ls [])) (x2 : Int32) (x5 : Int32) (ls : Array Slot), x_forest_p60 σ x3 x4 Q K33 K47 K60 x2 x5 → gH D ct shX ad s σ H locs → lv_has ls 6 [(0, .ref (ad 0)), (2, .int x2), (3, .int x3), (4, .int x4), (5, .int x5)] → W p l e rm_x_forest s m args below meth c H locs 0 0 QQ (F0 m 60 ls []) := by
    intro σ H locs x3 x4 K33 hK33 K47 hK47 K60 hK60 x2 x5 ls hf hw hl
    unfold x_forest_p60 at hf
    refine lv_iload C.1 C.2.1 dX0_forest_60 (lv_at hl 4 rfl) ?_
    refine lv_aload_n C.1 C.2.1 dX0_forest_62 rfl (lv_at hl 0 rfl) ?_
    refine xg_textMany C hw dX0_forest_63 ?_
    refine lv_icmp_gt (tgt := 99) C.1 C.2.1 dX0_forest_66 (by decide) (fun h66 => ?_) (fun h66 => ?_)
    · replace hf := hf.1 h66
      refine lv_iinc (v := (x4 + 1)) (lv' := [(4, .int (x4 + 1)), (0, .ref (ad 0)), (2, .int x2), (3, .int x3), (5, .int x5)]) C.1 C.2.1 dX0_forest_99 hl (k := 3) rfl rfl (Nat.le_of_ble_eq_true rfl) rfl (fun ls hl => ?_)
      refine lv_goto (tgt := 47) C.1 C.2.1 dX0_forest_102 (by decide) ?_
      exact hK47 _ _ _ hf (lv_sub hl [1, 2, 3, 0] rfl)
    · replace hf := hf.2 h66
      refine lv_iload_n C.1 C.2.1 dX0_forest_69 rfl (lv_at hl 1 rfl) ?_
      refine lv_aload_n C.1 C.2.1 dX0_forest_70 rfl (lv_at hl 0 rfl) ?_
      refine xg_isPiece C hw dX0_forest_71 ?_
      refine lv_iload_n C.1 C.2.1 dX0_forest_74 rfl (lv_at hl 2 rfl) ?_
      refine lv_iload C.1 C.2.1 dX0_forest_75 (lv_at hl 3 rfl) ?_
      refine lv_iload C.1 C.2.1 dX0_forest_77 (lv_at hl 4 rfl) ?_
      refine kx_pieceOf C hl.1 (Nat.le_of_ble_eq_true rfl) ⟨Nat.le_of_ble_eq_true rfl, Nat.le_of_ble_eq_true rfl⟩ dX0_forest_79 ?_
      obtain ⟨b82, hf⟩ := hf
      refine g_zald C hw 54 rfl b82 dX0_forest_82 ?_
      refine lv_if_eq (tgt := 90) C.1 C.2.1 dX0_forest_83 (by decide) (fun h83 => ?_) (fun h83 => ?_)
      · replace hf := hf.1 h83
        refine lv_iconst (v := 0) C.1 C.2.1 dX0_forest_90 rfl ?_
        refine lv_iadd C.1 C.2.1 dX0_forest_91 ?_
        refine lv_istore_n (lv' := [(2, .int (x2 + 0)), (0, .ref (ad 0)), (3, .int x3), (4, .int x4), (5, .int x5)]) C.1 C.2.1 dX0_forest_92 rfl hl (Nat.le_of_ble_eq_true rfl) rfl (fun ls hl => ?_)
        refine lv_iinc (v := (x5 + 1)) (lv' := [(5, .int (x5 + 1)), (2, .int (x2 + 0)), (0, .ref (ad 0)), (3, .int x3), (4, .int x4)]) C.1 C.2.1 dX0_forest_93 hl (k := 4) rfl rfl (Nat.le_of_ble_eq_true rfl) rfl (fun ls hl => ?_)
        refine lv_goto (tgt := 60) C.1 C.2.1 dX0_forest_96 (by decide) ?_
        exact hK60 _ _ _ hf (lv_sub hl [2, 1, 3, 4, 0] rfl)
      · replace hf := hf.2 h83
        refine lv_iconst (v := 1) C.1 C.2.1 dX0_forest_86 rfl ?_
        refine lv_goto (tgt := 91) C.1 C.2.1 dX0_forest_87 (by decide) ?_
        refine lv_iadd C.1 C.2.1 dX0_forest_91 ?_
        refine lv_istore_n (lv' := [(2, .int (x2 + 1)), (0, .ref (ad 0)), (3, .int x3), (4, .int x4), (5, .int x5)]) C.1 C.2.1 dX0_forest_92 rfl hl (Nat.le_of_ble_eq_true rfl) rfl (fun ls hl => ?_)
        refine lv_iinc (v := (x5 + 1)) (lv' := [(5, .int (x5 + 1)), (2, .int (x2 + 1)), (0, .ref (ad 0)), (3, .int x3), (4, .int x4)]) C.1 C.2.1 dX0_forest_93 hl (k := 4) rfl rfl (Nat.le_of_ble_eq_true rfl) rfl (fun ls hl => ?_)
        refine lv_goto (tgt := 60) C.1 C.2.1 dX0_forest_96 (by decide) ?_
        exact hK60 _ _ _ hf (lv_sub hl [2, 1, 3, 4, 0] rfl)
  have P60 : ∀ (σ : St) (H : Heap) (locs : List Loc) (x3 : Int32) (x4 : Int32) (K33 : Int32 → Int32 → Prop) (_ : ∀ (x2 : Int32) (x3 : Int32) (ls : Array Slot), K33 x2 x3 → lv_has ls 6 [(0, .ref (ad 0)), (2, .int x2), (3, .int x3)] → W p l e rm_x_forest s m args below meth c H locs 0 0 QQ (F0 m 33 ls [])) (K47 : Int32 → Int32 → Prop) (_ : ∀ (x2 : Int32) (x4 : Int32) (ls : Array Slot), K47 x2 x4 → lv_has ls 6 [(0, .ref (ad 0)), (2, .int x2), (3, .int x3), (4, .int x4)] → W p l e rm_x_forest s m args below meth c H locs 0 0 QQ (F0 m 47 ls [])) (n : Nat) (x2 : Int32) (x5 : Int32) (ls : Array Slot), LL2 (x_forest_p60 σ x3 x4 Q K33 K47) n x2 x5 → gH D ct shX ad s σ H locs → lv_has ls 6 [(0, .ref (ad 0)), (2, .int x2), (3, .int x3), (4, .int x4), (5, .int x5)] → W p l e rm_x_forest s m args below meth c H locs 0 0 QQ (F0 m 60 ls []) := by
    intro σ H locs x3 x4 K33 hK33 K47 hK47 n
    induction n with
    | zero => intro x2 x5 ls hf; exact False.elim hf
    | succ n ih => intro x2 x5 ls hf hw hl; exact B60 σ H locs x3 x4 K33 hK33 K47 hK47 (LL2 _ n) (fun x2 x5 ls hf hl => ih x2 x5 ls hf hw hl) x2 x5 ls hf hw hl
  have B47 : ∀ (σ : St) (H : Heap) (locs : List Loc) (x3 : Int32) (K33 : Int32 → Int32 → Prop) (_ : ∀ (x2 : Int32) (x3 : Int32) (ls : Array Slot), K33 x2 x3 → lv_has ls 6 [(0, .ref (ad 0)), (2, .int x2), (3, .int x3)] → W p l e rm_x_forest s m args below meth c H locs 0 0 QQ (F0 m 33 ls [])) (K47 : Int32 → Int32 → Prop) (_ : ∀ (x2 : Int32) (x4 : Int32) (ls : Array Slot), K47 x2 x4 → lv_has ls 6 [(0, .ref (ad 0)), (2, .int x2), (3, .int x3), (4, .int x4)] → W p l e rm_x_forest s m args below meth c H locs 0 0 QQ (F0 m 47 ls [])) (x2 : Int32) (x4 : Int32) (ls : Array Slot), x_forest_p47 σ x3 Q K33 K47 x2 x4 → gH D ct shX ad s σ H locs → lv_has ls 6 [(0, .ref (ad 0)), (2, .int x2), (3, .int x3), (4, .int x4)] → W p l e rm_x_forest s m args below meth c H locs 0 0 QQ (F0 m 47 ls []) := by
    intro σ H locs x3 K33 hK33 K47 hK47 x2 x4 ls hf hw hl
    unfold x_forest_p47 at hf
    refine lv_iload C.1 C.2.1 dX0_forest_47 (lv_at hl 3 rfl) ?_
    refine lv_aload_n C.1 C.2.1 dX0_forest_49 rfl (lv_at hl 0 rfl) ?_
    refine xg_textMany C hw dX0_forest_50 ?_
    refine lv_icmp_gt (tgt := 105) C.1 C.2.1 dX0_forest_53 (by decide) (fun h53 => ?_) (fun h53 => ?_)
    · replace hf := hf.1 h53
      refine lv_iinc (v := (x3 + 1)) (lv' := [(3, .int (x3 + 1)), (0, .ref (ad 0)), (2, .int x2), (4, .int x4)]) C.1 C.2.1 dX0_forest_105 hl (k := 2) rfl rfl (Nat.le_of_ble_eq_true rfl) rfl (fun ls hl => ?_)
      refine lv_goto (tgt := 33) C.1 C.2.1 dX0_forest_108 (by decide) ?_
      exact hK33 _ _ _ hf (lv_sub hl [1, 2, 0] rfl)
    · replace hf := hf.2 h53
      refine lv_iload C.1 C.2.1 dX0_forest_56 (lv_at hl 3 rfl) ?_
      refine lv_istore (lv' := [(5, .int x4), (0, .ref (ad 0)), (2, .int x2), (3, .int x3), (4, .int x4)]) C.1 C.2.1 dX0_forest_58 hl (Nat.le_of_ble_eq_true rfl) rfl (fun ls hl => ?_)
      obtain ⟨n, hf⟩ := hf
      exact P60 _ _ _ _ _ _ hK33 _ hK47 n _ _ _ hf hw (lv_sub hl [1, 2, 3, 4, 0] rfl)
  have P47 : ∀ (σ : St) (H : Heap) (locs : List Loc) (x3 : Int32) (K33 : Int32 → Int32 → Prop) (_ : ∀ (x2 : Int32) (x3 : Int32) (ls : Array Slot), K33 x2 x3 → lv_has ls 6 [(0, .ref (ad 0)), (2, .int x2), (3, .int x3)] → W p l e rm_x_forest s m args below meth c H locs 0 0 QQ (F0 m 33 ls [])) (n : Nat) (x2 : Int32) (x4 : Int32) (ls : Array Slot), LL2 (x_forest_p47 σ x3 Q K33) n x2 x4 → gH D ct shX ad s σ H locs → lv_has ls 6 [(0, .ref (ad 0)), (2, .int x2), (3, .int x3), (4, .int x4)] → W p l e rm_x_forest s m args below meth c H locs 0 0 QQ (F0 m 47 ls []) := by
    intro σ H locs x3 K33 hK33 n
    induction n with
    | zero => intro x2 x4 ls hf; exact False.elim hf
    | succ n ih => intro x2 x4 ls hf hw hl; exact B47 σ H locs x3 K33 hK33 (LL2 _ n) (fun x2 x4 ls hf hl => ih x2 x4 ls hf hw hl) x2 x4 ls hf hw hl
  have B33 : ∀ (σ : St) (H : Heap) (locs : List Loc) (K33 : Int32 → Int32 → Prop) (_ : ∀ (x2 : Int32) (x3 : Int32) (ls : Array Slot), K33 x2 x3 → lv_has ls 6 [(0, .ref (ad 0)), (2, .int x2), (3, .int x3)] → W p l e rm_x_forest s m args below meth c H locs 0 0 QQ (F0 m 33 ls [])) (x2 : Int32) (x3 : Int32) (ls : Array Slot), x_forest_p33 σ Q K33 x2 x3 → gH D ct shX ad s σ H locs → lv_has ls 6 [(0, .ref (ad 0)), (2, .int x2), (3, .int x3)] → W p l e rm_x_forest s m args below meth c H locs 0 0 QQ (F0 m 33 ls []) := by
    intro σ H locs K33 hK33 x2 x3 ls hf hw hl
    unfold x_forest_p33 at hf
    refine lv_iload_n C.1 C.2.1 dX0_forest_33 rfl (lv_at hl 2 rfl) ?_
    refine lv_aload_n C.1 C.2.1 dX0_forest_34 rfl (lv_at hl 0 rfl) ?_
    refine xg_grammar C hw dX0_forest_35 ?_
    refine xn_many C hw dX0_forest_38 ?_
    refine lv_icmp_ge (tgt := 111) C.1 C.2.1 dX0_forest_41 (by decide) (fun h41 => ?_) (fun h41 => ?_)
    · replace hf := hf.1 h41
      refine lv_iload_n C.1 C.2.1 dX0_forest_111 rfl (lv_at hl 1 rfl) ?_
      exact hret _ _ _ _ _ _ hf hw dX0_forest_112
    · replace hf := hf.2 h41
      refine lv_iconst (v := 0) C.1 C.2.1 dX0_forest_44 rfl ?_
      refine lv_istore (lv' := [(4, .int 0), (0, .ref (ad 0)), (2, .int x2), (3, .int x3)]) C.1 C.2.1 dX0_forest_45 hl (Nat.le_of_ble_eq_true rfl) rfl (fun ls hl => ?_)
      obtain ⟨n, hf⟩ := hf
      exact P47 _ _ _ _ _ hK33 n _ _ _ hf hw (lv_sub hl [1, 2, 3, 0] rfl)
  have P33 : ∀ (σ : St) (H : Heap) (locs : List Loc) (n : Nat) (x2 : Int32) (x3 : Int32) (ls : Array Slot), LL2 (x_forest_p33 σ Q) n x2 x3 → gH D ct shX ad s σ H locs → lv_has ls 6 [(0, .ref (ad 0)), (2, .int x2), (3, .int x3)] → W p l e rm_x_forest s m args below meth c H locs 0 0 QQ (F0 m 33 ls []) := by
    intro σ H locs n
    induction n with
    | zero => intro x2 x3 ls hf; exact False.elim hf
    | succ n ih => intro x2 x3 ls hf hw hl; exact B33 σ H locs (LL2 _ n) (fun x2 x3 ls hf hl => ih x2 x3 ls hf hw hl) x2 x3 ls hf hw hl
  unfold x_forest at hf
  obtain ⟨H, hH⟩ : ∃ q, q = s.heap := ⟨_, rfl⟩
  obtain ⟨locs, hL⟩ : ∃ q : List Loc, q = [] := ⟨_, rfl⟩
  rw [← hH, ← hL] at hw ⊢
  refine lv_aload_n C.1 C.2.1 dX0_forest_0 rfl (lv_at hl 0 rfl) ?_
  refine xg_grammar C hw dX0_forest_1 ?_
  refine lv_ifnull C.1 C.2.1 dX0_forest_4 ?_
  refine lv_iload_n C.1 C.2.1 dX0_forest_7 rfl (lv_at hl 1 rfl) ?_
  refine lv_i2l C.1 C.2.1 dX0_forest_8 rfl ?_
  refine lv_lconst (v := 0) C.1 C.2.1 dX0_forest_9 rfl ?_
  refine lv_ldc2 C.1 C.2.1 C.2.2.2.1 (C.2.2.2.2 _ q1154) dX0_forest_10 ?_
  refine kx_in C hl.1 (Nat.le_of_ble_eq_true rfl) ⟨Nat.le_of_ble_eq_true rfl, Nat.le_of_ble_eq_true rfl⟩ dX0_forest_13 ?_
  refine lv_if_ne (tgt := 21) C.1 C.2.1 dX0_forest_16 (by decide) (fun h16 => ?_) (fun h16 => ?_)
  · replace hf := hf.2 h16
    refine lv_aload_n C.1 C.2.1 dX0_forest_21 rfl (lv_at hl 0 rfl) ?_
    refine kx_charts C hw hl.1 (Nat.le_of_ble_eq_true rfl) ⟨Nat.le_of_ble_eq_true rfl, Nat.le_of_ble_eq_true rfl⟩ dX0_forest_22 hf (fun _ s22 H locs hf hw => ?_)
    refine lv_iload_n C.1 C.2.1 dX0_forest_25 rfl (lv_at hl 1 rfl) ?_
    refine lv_if_ne (tgt := 113) C.1 C.2.1 dX0_forest_26 (by decide) (fun h26 => ?_) (fun h26 => ?_)
    · replace hf := hf.2 h26
      refine lv_aload_n C.1 C.2.1 dX0_forest_113 rfl (lv_at hl 0 rfl) ?_
      refine kx_countsNodes C hw hl.1 (Nat.le_of_ble_eq_true rfl) ⟨Nat.le_of_ble_eq_true rfl, Nat.le_of_ble_eq_true rfl⟩ dX0_forest_114 hf (fun _ s114 H locs hf hw => ?_)
      refine lv_iload_n C.1 C.2.1 dX0_forest_117 rfl (lv_at hl 1 rfl) ?_
      refine lv_iconst (v := 1) C.1 C.2.1 dX0_forest_118 rfl ?_
      refine lv_icmp_ne (tgt := 129) C.1 C.2.1 dX0_forest_119 (by decide) (fun h119 => ?_) (fun h119 => ?_)
      · replace hf := hf.2 h119
        refine lv_iload_n C.1 C.2.1 dX0_forest_129 rfl (lv_at hl 1 rfl) ?_
        refine lv_iconst (v := 2) C.1 C.2.1 dX0_forest_130 rfl ?_
        refine lv_icmp_ne (tgt := 141) C.1 C.2.1 dX0_forest_131 (by decide) (fun h131 => ?_) (fun h131 => ?_)
        · replace hf := hf.2 h131
          refine lv_aload_n C.1 C.2.1 dX0_forest_141 rfl (lv_at hl 0 rfl) ?_
          refine xg_narrow C hw dX0_forest_142 ?_
          exact hret _ _ _ _ _ _ hf hw dX0_forest_145
        · replace hf := hf.1 h131
          refine lv_aload_n C.1 C.2.1 dX0_forest_134 rfl (lv_at hl 0 rfl) ?_
          refine xg_ambiguous C hw dX0_forest_135 ?_
          refine lv_goto (tgt := 145) C.1 C.2.1 dX0_forest_138 (by decide) ?_
          exact hret _ _ _ _ _ _ hf hw dX0_forest_145
      · replace hf := hf.1 h119
        refine lv_aload_n C.1 C.2.1 dX0_forest_122 rfl (lv_at hl 0 rfl) ?_
        refine xg_nodes C hw dX0_forest_123 ?_
        refine lv_goto (tgt := 145) C.1 C.2.1 dX0_forest_126 (by decide) ?_
        exact hret _ _ _ _ _ _ hf hw dX0_forest_145
    · replace hf := hf.1 h26
      refine lv_iconst (v := 0) C.1 C.2.1 dX0_forest_29 rfl ?_
      refine lv_istore_n (lv' := [(2, .int 0), (0, .ref (ad 0)), (1, .int x1)]) C.1 C.2.1 dX0_forest_30 rfl hl (Nat.le_of_ble_eq_true rfl) rfl (fun ls hl => ?_)
      refine lv_iconst (v := 0) C.1 C.2.1 dX0_forest_31 rfl ?_
      refine lv_istore_n (lv' := [(3, .int 0), (2, .int 0), (0, .ref (ad 0)), (1, .int x1)]) C.1 C.2.1 dX0_forest_32 rfl hl (Nat.le_of_ble_eq_true rfl) rfl (fun ls hl => ?_)
      obtain ⟨n, hf⟩ := hf
      exact P33 _ _ _ n _ _ _ hf hw (lv_sub hl [2, 1, 0] rfl)
  · replace hf := hf.1 h16
    refine lv_iconst (v := (-1)) C.1 C.2.1 dX0_forest_19 rfl ?_
    exact hret _ _ _ _ _ _ hf hw dX0_forest_20
def x_smallest (σ : St) (Q : Int32 → St → Prop) : Prop :=
  (x_charts σ (fun _ s10 => (x_leastWhole s10 (fun r14 => ((r14 < 2000000000 → (x_leastWhole s10 (fun r28 => Q r28 s10))) ∧ (¬ r14 < 2000000000 → Q (-2) s10))))))
abbrev rm_x_smallest : Room := { frames := 22, cells := 0, slots := 0, locals := 592 }
set_option maxHeartbeats 4000000 in
theorem met_x_smallest (l : Launch) (D : va_G) (ct : Ct) (ad : Nat → Nat) (hJ : gJ shX ad ct) (σ : St) (Q : Int32 → St → Prop) (hf : x_smallest σ Q) : Met l yX0_smallest (ws_ yX0_smallest cX0_smallest 1 (some .int)) rm_x_smallest (va_Pc [.ref (ad 0)] (gP D ct shX ad σ)) (gQ rvI D ct shX ad Q) 0 0 (gA shX ad) := by
  refine g_metI hJ (by decide) (Nat.le_of_ble_eq_true rfl) ?_
  intro p e s m args below meth c QQ ls C hw hl hret
  replace hl : lv_has ls 1 [(0, .ref (ad 0))] := hl
  unfold x_smallest at hf
  obtain ⟨H, hH⟩ : ∃ q, q = s.heap := ⟨_, rfl⟩
  obtain ⟨locs, hL⟩ : ∃ q : List Loc, q = [] := ⟨_, rfl⟩
  rw [← hH, ← hL] at hw ⊢
  refine lv_aload_n C.1 C.2.1 dX0_smallest_0 rfl (lv_at hl 0 rfl) ?_
  refine xg_grammar C hw dX0_smallest_1 ?_
  refine lv_ifnonnull (tgt := 9) C.1 C.2.1 dX0_smallest_4 (by decide) ?_
  refine lv_aload_n C.1 C.2.1 dX0_smallest_9 rfl (lv_at hl 0 rfl) ?_
  refine kx_charts C hw hl.1 (Nat.le_of_ble_eq_true rfl) ⟨Nat.le_of_ble_eq_true rfl, Nat.le_of_ble_eq_true rfl⟩ dX0_smallest_10 hf (fun _ s10 H locs hf hw => ?_)
  refine lv_aload_n C.1 C.2.1 dX0_smallest_13 rfl (lv_at hl 0 rfl) ?_
  refine kx_leastWhole C hw hl.1 (Nat.le_of_ble_eq_true rfl) ⟨Nat.le_of_ble_eq_true rfl, Nat.le_of_ble_eq_true rfl⟩ dX0_smallest_14 hf (fun r14 hf => ?_)
  refine lv_ldc C.1 C.2.1 C.2.2.2.1 (C.2.2.2.2 _ q355) dX0_smallest_17 ?_
  refine lv_icmp_lt (tgt := 27) C.1 C.2.1 dX0_smallest_19 (by decide) (fun h19 => ?_) (fun h19 => ?_)
  · replace hf := hf.1 h19
    refine lv_aload_n C.1 C.2.1 dX0_smallest_27 rfl (lv_at hl 0 rfl) ?_
    refine kx_leastWhole C hw hl.1 (Nat.le_of_ble_eq_true rfl) ⟨Nat.le_of_ble_eq_true rfl, Nat.le_of_ble_eq_true rfl⟩ dX0_smallest_28 hf (fun r28 hf => ?_)
    exact hret _ _ _ _ _ _ hf hw dX0_smallest_31
  · replace hf := hf.2 h19
    refine lv_bipush (v := (-2)) C.1 C.2.1 dX0_smallest_22 rfl ?_
    refine lv_goto (tgt := 31) C.1 C.2.1 dX0_smallest_24 (by decide) ?_
    exact hret _ _ _ _ _ _ hf hw dX0_smallest_31
def x_whole_p18 (σ : St) (Q : Int32 → St → Prop) (K18 : Int32 → Prop) (x1 : Int32) : Prop :=
  ((x1 < 0 → Q (-2) σ) ∧ (¬ x1 < 0 → (vp_in (fx_spanOf 0 x1) 169 ∧ (((fx_has (gI σ 55 (fx_spanOf 0 x1)) ((σ.1 82) - 26)) = 0 → K18 (x1 + (-1))) ∧ (¬ (fx_has (gI σ 55 (fx_spanOf 0 x1)) ((σ.1 82) - 26)) = 0 → Q x1 σ)))))
def x_whole (σ : St) (Q : Int32 → St → Prop) : Prop :=
  (x_charts σ (fun _ s10 => (Lp1 (x_whole_p18 s10 Q) (s10.1 4))))
abbrev rm_x_whole : Room := { frames := 22, cells := 0, slots := 0, locals := 592 }
set_option maxHeartbeats 4000000 in
theorem met_x_whole (l : Launch) (D : va_G) (ct : Ct) (ad : Nat → Nat) (hJ : gJ shX ad ct) (σ : St) (Q : Int32 → St → Prop) (hf : x_whole σ Q) : Met l yX0_whole (ws_ yX0_whole cX0_whole 2 (some .int)) rm_x_whole (va_Pc [.ref (ad 0)] (gP D ct shX ad σ)) (gQ rvI D ct shX ad Q) 0 0 (gA shX ad) := by
  refine g_metI hJ (by decide) (Nat.le_of_ble_eq_true rfl) ?_
  intro p e s m args below meth c QQ ls C hw hl hret
  replace hl : lv_has ls 2 [(0, .ref (ad 0))] := hl
  have B18 : ∀ (σ : St) (H : Heap) (locs : List Loc) (K18 : Int32 → Prop) (_ : ∀ (x1 : Int32) (ls : Array Slot), K18 x1 → lv_has ls 2 [(0, .ref (ad 0)), (1, .int x1)] → W p l e rm_x_whole s m args below meth c H locs 0 0 QQ (F0 m 18 ls [])) (x1 : Int32) (ls : Array Slot), x_whole_p18 σ Q K18 x1 → gH D ct shX ad s σ H locs → lv_has ls 2 [(0, .ref (ad 0)), (1, .int x1)] → W p l e rm_x_whole s m args below meth c H locs 0 0 QQ (F0 m 18 ls []) := by
    intro σ H locs K18 hK18 x1 ls hf hw hl
    unfold x_whole_p18 at hf
    refine lv_iload_n C.1 C.2.1 dX0_whole_18 rfl (lv_at hl 1 rfl) ?_
    refine lv_if_lt (tgt := 56) C.1 C.2.1 dX0_whole_19 (by decide) (fun h19 => ?_) (fun h19 => ?_)
    · replace hf := hf.1 h19
      refine lv_bipush (v := (-2)) C.1 C.2.1 dX0_whole_56 rfl ?_
      exact hret _ _ _ _ _ _ hf hw dX0_whole_58
    · replace hf := hf.2 h19
      refine lv_aload_n C.1 C.2.1 dX0_whole_22 rfl (lv_at hl 0 rfl) ?_
      refine xg_derivesOf C hw dX0_whole_23 ?_
      refine lv_iconst (v := 0) C.1 C.2.1 dX0_whole_26 rfl ?_
      refine lv_iload_n C.1 C.2.1 dX0_whole_27 rfl (lv_at hl 1 rfl) ?_
      refine kx_spanOf C hl.1 (Nat.le_of_ble_eq_true rfl) ⟨Nat.le_of_ble_eq_true rfl, Nat.le_of_ble_eq_true rfl⟩ dX0_whole_28 ?_
      obtain ⟨b31, hf⟩ := hf
      refine g_iald C hw 55 rfl b31 dX0_whole_31 ?_
      refine lv_aload_n C.1 C.2.1 dX0_whole_32 rfl (lv_at hl 0 rfl) ?_
      refine xg_grammar C hw dX0_whole_33 ?_
      refine xn_start C hw dX0_whole_36 ?_
      refine lv_bipush (v := 26) C.1 C.2.1 dX0_whole_39 rfl ?_
      refine lv_isub C.1 C.2.1 dX0_whole_41 ?_
      refine kx_has C hl.1 (Nat.le_of_ble_eq_true rfl) ⟨Nat.le_of_ble_eq_true rfl, Nat.le_of_ble_eq_true rfl⟩ dX0_whole_42 ?_
      refine lv_if_eq (tgt := 50) C.1 C.2.1 dX0_whole_45 (by decide) (fun h45 => ?_) (fun h45 => ?_)
      · replace hf := hf.1 h45
        refine lv_iinc (v := (x1 + (-1))) (lv' := [(1, .int (x1 + (-1))), (0, .ref (ad 0))]) C.1 C.2.1 dX0_whole_50 hl (k := 1) rfl rfl (Nat.le_of_ble_eq_true rfl) rfl (fun ls hl => ?_)
        refine lv_goto (tgt := 18) C.1 C.2.1 dX0_whole_53 (by decide) ?_
        exact hK18 _ _ hf (lv_sub hl [1, 0] rfl)
      · replace hf := hf.2 h45
        refine lv_iload_n C.1 C.2.1 dX0_whole_48 rfl (lv_at hl 1 rfl) ?_
        exact hret _ _ _ _ _ _ hf hw dX0_whole_49
  have P18 : ∀ (σ : St) (H : Heap) (locs : List Loc) (n : Nat) (x1 : Int32) (ls : Array Slot), LL1 (x_whole_p18 σ Q) n x1 → gH D ct shX ad s σ H locs → lv_has ls 2 [(0, .ref (ad 0)), (1, .int x1)] → W p l e rm_x_whole s m args below meth c H locs 0 0 QQ (F0 m 18 ls []) := by
    intro σ H locs n
    induction n with
    | zero => intro x1 ls hf; exact False.elim hf
    | succ n ih => intro x1 ls hf hw hl; exact B18 σ H locs (LL1 _ n) (fun x1 ls hf hl => ih x1 ls hf hw hl) x1 ls hf hw hl
  unfold x_whole at hf
  obtain ⟨H, hH⟩ : ∃ q, q = s.heap := ⟨_, rfl⟩
  obtain ⟨locs, hL⟩ : ∃ q : List Loc, q = [] := ⟨_, rfl⟩
  rw [← hH, ← hL] at hw ⊢
  refine lv_aload_n C.1 C.2.1 dX0_whole_0 rfl (lv_at hl 0 rfl) ?_
  refine xg_grammar C hw dX0_whole_1 ?_
  refine lv_ifnonnull (tgt := 9) C.1 C.2.1 dX0_whole_4 (by decide) ?_
  refine lv_aload_n C.1 C.2.1 dX0_whole_9 rfl (lv_at hl 0 rfl) ?_
  refine kx_charts C hw hl.1 (Nat.le_of_ble_eq_true rfl) ⟨Nat.le_of_ble_eq_true rfl, Nat.le_of_ble_eq_true rfl⟩ dX0_whole_10 hf (fun _ s10 H locs hf hw => ?_)
  refine lv_aload_n C.1 C.2.1 dX0_whole_13 rfl (lv_at hl 0 rfl) ?_
  refine xg_textMany C hw dX0_whole_14 ?_
  refine lv_istore_n (lv' := [(1, .int (s10.1 4)), (0, .ref (ad 0))]) C.1 C.2.1 dX0_whole_17 rfl hl (Nat.le_of_ble_eq_true rfl) rfl (fun ls hl => ?_)
  obtain ⟨n, hf⟩ := hf
  exact P18 _ _ _ n _ _ hf hw (lv_sub hl [1, 0] rfl)
def x_mend (σ : St) (Q : Int32 → St → Prop) : Prop :=
  (x_charts σ (fun _ s10 => (vp_in ((169 * ((s10.1 82) - 26)) + (fx_spanOf 0 (s10.1 4))) 4394 ∧ (((gI s10 56 ((169 * ((s10.1 82) - 26)) + (fx_spanOf 0 (s10.1 4)))) < 2000000000 → Q (gI s10 56 ((169 * ((s10.1 82) - 26)) + (fx_spanOf 0 (s10.1 4)))) s10) ∧ (¬ (gI s10 56 ((169 * ((s10.1 82) - 26)) + (fx_spanOf 0 (s10.1 4)))) < 2000000000 → Q (-2) s10)))))
abbrev rm_x_mend : Room := { frames := 22, cells := 0, slots := 0, locals := 592 }
set_option maxHeartbeats 4000000 in
theorem met_x_mend (l : Launch) (D : va_G) (ct : Ct) (ad : Nat → Nat) (hJ : gJ shX ad ct) (σ : St) (Q : Int32 → St → Prop) (hf : x_mend σ Q) : Met l yX0_mend (ws_ yX0_mend cX0_mend 2 (some .int)) rm_x_mend (va_Pc [.ref (ad 0)] (gP D ct shX ad σ)) (gQ rvI D ct shX ad Q) 0 0 (gA shX ad) := by
  refine g_metI hJ (by decide) (Nat.le_of_ble_eq_true rfl) ?_
  intro p e s m args below meth c QQ ls C hw hl hret
  replace hl : lv_has ls 2 [(0, .ref (ad 0))] := hl
  unfold x_mend at hf
  obtain ⟨H, hH⟩ : ∃ q, q = s.heap := ⟨_, rfl⟩
  obtain ⟨locs, hL⟩ : ∃ q : List Loc, q = [] := ⟨_, rfl⟩
  rw [← hH, ← hL] at hw ⊢
  refine lv_aload_n C.1 C.2.1 dX0_mend_0 rfl (lv_at hl 0 rfl) ?_
  refine xg_grammar C hw dX0_mend_1 ?_
  refine lv_ifnonnull (tgt := 9) C.1 C.2.1 dX0_mend_4 (by decide) ?_
  refine lv_aload_n C.1 C.2.1 dX0_mend_9 rfl (lv_at hl 0 rfl) ?_
  refine kx_charts C hw hl.1 (Nat.le_of_ble_eq_true rfl) ⟨Nat.le_of_ble_eq_true rfl, Nat.le_of_ble_eq_true rfl⟩ dX0_mend_10 hf (fun _ s10 H locs hf hw => ?_)
  refine lv_aload_n C.1 C.2.1 dX0_mend_13 rfl (lv_at hl 0 rfl) ?_
  refine xg_costOf C hw dX0_mend_14 ?_
  refine lv_sipush (v := 169) C.1 C.2.1 dX0_mend_17 rfl ?_
  refine lv_aload_n C.1 C.2.1 dX0_mend_20 rfl (lv_at hl 0 rfl) ?_
  refine xg_grammar C hw dX0_mend_21 ?_
  refine xn_start C hw dX0_mend_24 ?_
  refine lv_bipush (v := 26) C.1 C.2.1 dX0_mend_27 rfl ?_
  refine lv_isub C.1 C.2.1 dX0_mend_29 ?_
  refine lv_imul C.1 C.2.1 dX0_mend_30 ?_
  refine lv_iconst (v := 0) C.1 C.2.1 dX0_mend_31 rfl ?_
  refine lv_aload_n C.1 C.2.1 dX0_mend_32 rfl (lv_at hl 0 rfl) ?_
  refine xg_textMany C hw dX0_mend_33 ?_
  refine kx_spanOf C hl.1 (Nat.le_of_ble_eq_true rfl) ⟨Nat.le_of_ble_eq_true rfl, Nat.le_of_ble_eq_true rfl⟩ dX0_mend_36 ?_
  refine lv_iadd C.1 C.2.1 dX0_mend_39 ?_
  obtain ⟨b40, hf⟩ := hf
  refine g_iald C hw 56 rfl b40 dX0_mend_40 ?_
  refine lv_istore_n (lv' := [(1, .int (gI s10 56 ((169 * ((s10.1 82) - 26)) + (fx_spanOf 0 (s10.1 4))))), (0, .ref (ad 0))]) C.1 C.2.1 dX0_mend_41 rfl hl (Nat.le_of_ble_eq_true rfl) rfl (fun ls hl => ?_)
  refine lv_iload_n C.1 C.2.1 dX0_mend_42 rfl (lv_at hl 0 rfl) ?_
  refine lv_ldc C.1 C.2.1 C.2.2.2.1 (C.2.2.2.2 _ q355) dX0_mend_43 ?_
  refine lv_icmp_lt (tgt := 53) C.1 C.2.1 dX0_mend_45 (by decide) (fun h45 => ?_) (fun h45 => ?_)
  · replace hf := hf.1 h45
    refine lv_iload_n C.1 C.2.1 dX0_mend_53 rfl (lv_at hl 0 rfl) ?_
    exact hret _ _ _ _ _ _ hf hw dX0_mend_54
  · replace hf := hf.2 h45
    refine lv_bipush (v := (-2)) C.1 C.2.1 dX0_mend_48 rfl ?_
    refine lv_goto (tgt := 54) C.1 C.2.1 dX0_mend_50 (by decide) ?_
    exact hret _ _ _ _ _ _ hf hw dX0_mend_54
