set_option maxRecDepth 100000
def m_carriesAll (σ : St) (x1 : Int32) (x2 : Int32) (Q : Unit → St → Prop) : Prop :=
  (∀ s6 : St, s6 = s_I σ 71 (640 * x1) → (zB x2 ∧ (∀ s11 : St, s11 = s_I s6 72 x2 → (m_carryRow s11 7 2 (fun _ s19 => (m_carryRow s19 12 3 (fun _ s27 => (m_carryRow s27 12 4 (fun _ s35 => (m_carryRow s35 48 5 (fun _ s43 => (m_carryRow s43 12 6 (fun _ s51 => (m_carryRow s51 12 7 (fun _ s59 => (m_carryRow s59 12 8 (fun _ s67 => (m_carryRow s67 8 9 (fun _ s75 => (∀ s87 : St, s87 = s_A s75 39 (Int32.toNatClampNeg 0) (s75.1 40) → (m_carryRow s87 1 39 (fun _ s93 => (∀ s103 : St, s103 = s_I s93 40 (gI s93 39 0) → (m_carryRow s103 480 38 (fun _ s111 => Q () s111)))))))))))))))))))))))))
abbrev rm_m_carriesAll : Room := { frames := 1, cells := 0, slots := 0, locals := 22 }
set_option maxHeartbeats 4000000 in
theorem met_m_carriesAll (l : Launch) (D : va_G) (ct : Ct) (ad : Nat → Nat) (hJ : gJ shM ad ct) (σ : St) (x1 : Int32) (x2 : Int32) (Q : Unit → St → Prop) (hf : m_carriesAll σ x1 x2 Q) : Met l yX3_carriesAll (ws_ yX3_carriesAll cX3_carriesAll 3 (none)) rm_m_carriesAll (va_Pc [.ref (ad 0), .int x1, .int x2] (gP D ct shM ad σ)) (gQ rvV D ct shM ad Q) 0 0 (gA shM ad) := by
  refine g_metV hJ (by decide) (Nat.le_of_ble_eq_true rfl) ?_
  intro p e s m args below meth c QQ ls C hw hl hret
  replace hl : lv_has ls 3 [(0, .ref (ad 0)), (1, .int x1), (2, .int x2)] := hl
  unfold m_carriesAll at hf
  obtain ⟨H, hH⟩ : ∃ q, q = s.heap := ⟨_, rfl⟩
  obtain ⟨locs, hL⟩ : ∃ q : List Loc, q = [] := ⟨_, rfl⟩
  rw [← hH, ← hL] at hw ⊢
  refine lv_aload_n C.1 C.2.1 dX3_carriesAll_0 rfl (lv_at hl 0 rfl) ?_
  refine lv_sipush (v := 640) C.1 C.2.1 dX3_carriesAll_1 rfl ?_
  refine lv_iload_n C.1 C.2.1 dX3_carriesAll_4 rfl (lv_at hl 1 rfl) ?_
  refine lv_imul C.1 C.2.1 dX3_carriesAll_5 ?_
  refine mp_imageAt C hw dX3_carriesAll_6 (fun s6 H locs e6 hw => ?_)
  replace hf := hf s6 e6
  refine lv_aload_n C.1 C.2.1 dX3_carriesAll_9 rfl (lv_at hl 0 rfl) ?_
  refine lv_iload_n C.1 C.2.1 dX3_carriesAll_10 rfl (lv_at hl 2 rfl) ?_
  obtain ⟨h11, hf⟩ := hf
  refine mp_goesBack C hw h11 dX3_carriesAll_11 (fun s11 H locs e11 hw => ?_)
  replace hf := hf s11 e11
  refine lv_aload_n C.1 C.2.1 dX3_carriesAll_14 rfl (lv_at hl 0 rfl) ?_
  refine lv_aload_n C.1 C.2.1 dX3_carriesAll_15 rfl (lv_at hl 0 rfl) ?_
  refine mg_scalar C hw dX3_carriesAll_16 ?_
  refine km_carryRow C hw hl.1 (Nat.le_of_ble_eq_true rfl) ⟨Nat.le_of_ble_eq_true rfl, Nat.le_of_ble_eq_true rfl⟩ dX3_carriesAll_19 rfl hf (fun _ s19 H locs hf hw => ?_)
  refine lv_aload_n C.1 C.2.1 dX3_carriesAll_22 rfl (lv_at hl 0 rfl) ?_
  refine lv_aload_n C.1 C.2.1 dX3_carriesAll_23 rfl (lv_at hl 0 rfl) ?_
  refine mg_left C hw dX3_carriesAll_24 ?_
  refine km_carryRow C hw hl.1 (Nat.le_of_ble_eq_true rfl) ⟨Nat.le_of_ble_eq_true rfl, Nat.le_of_ble_eq_true rfl⟩ dX3_carriesAll_27 rfl hf (fun _ s27 H locs hf hw => ?_)
  refine lv_aload_n C.1 C.2.1 dX3_carriesAll_30 rfl (lv_at hl 0 rfl) ?_
  refine lv_aload_n C.1 C.2.1 dX3_carriesAll_31 rfl (lv_at hl 0 rfl) ?_
  refine mg_size C hw dX3_carriesAll_32 ?_
  refine km_carryRow C hw hl.1 (Nat.le_of_ble_eq_true rfl) ⟨Nat.le_of_ble_eq_true rfl, Nat.le_of_ble_eq_true rfl⟩ dX3_carriesAll_35 rfl hf (fun _ s35 H locs hf hw => ?_)
  refine lv_aload_n C.1 C.2.1 dX3_carriesAll_38 rfl (lv_at hl 0 rfl) ?_
  refine lv_aload_n C.1 C.2.1 dX3_carriesAll_39 rfl (lv_at hl 0 rfl) ?_
  refine mg_sym C hw dX3_carriesAll_40 ?_
  refine km_carryRow C hw hl.1 (Nat.le_of_ble_eq_true rfl) ⟨Nat.le_of_ble_eq_true rfl, Nat.le_of_ble_eq_true rfl⟩ dX3_carriesAll_43 rfl hf (fun _ s43 H locs hf hw => ?_)
  refine lv_aload_n C.1 C.2.1 dX3_carriesAll_46 rfl (lv_at hl 0 rfl) ?_
  refine lv_aload_n C.1 C.2.1 dX3_carriesAll_47 rfl (lv_at hl 0 rfl) ?_
  refine mg_rank C hw dX3_carriesAll_48 ?_
  refine km_carryRow C hw hl.1 (Nat.le_of_ble_eq_true rfl) ⟨Nat.le_of_ble_eq_true rfl, Nat.le_of_ble_eq_true rfl⟩ dX3_carriesAll_51 rfl hf (fun _ s51 H locs hf hw => ?_)
  refine lv_aload_n C.1 C.2.1 dX3_carriesAll_54 rfl (lv_at hl 0 rfl) ?_
  refine lv_aload_n C.1 C.2.1 dX3_carriesAll_55 rfl (lv_at hl 0 rfl) ?_
  refine mg_side C hw dX3_carriesAll_56 ?_
  refine km_carryRow C hw hl.1 (Nat.le_of_ble_eq_true rfl) ⟨Nat.le_of_ble_eq_true rfl, Nat.le_of_ble_eq_true rfl⟩ dX3_carriesAll_59 rfl hf (fun _ s59 H locs hf hw => ?_)
  refine lv_aload_n C.1 C.2.1 dX3_carriesAll_62 rfl (lv_at hl 0 rfl) ?_
  refine lv_aload_n C.1 C.2.1 dX3_carriesAll_63 rfl (lv_at hl 0 rfl) ?_
  refine mg_text C hw dX3_carriesAll_64 ?_
  refine km_carryRow C hw hl.1 (Nat.le_of_ble_eq_true rfl) ⟨Nat.le_of_ble_eq_true rfl, Nat.le_of_ble_eq_true rfl⟩ dX3_carriesAll_67 rfl hf (fun _ s67 H locs hf hw => ?_)
  refine lv_aload_n C.1 C.2.1 dX3_carriesAll_70 rfl (lv_at hl 0 rfl) ?_
  refine lv_aload_n C.1 C.2.1 dX3_carriesAll_71 rfl (lv_at hl 0 rfl) ?_
  refine mg_bans C hw dX3_carriesAll_72 ?_
  refine km_carryRow C hw hl.1 (Nat.le_of_ble_eq_true rfl) ⟨Nat.le_of_ble_eq_true rfl, Nat.le_of_ble_eq_true rfl⟩ dX3_carriesAll_75 rfl hf (fun _ s75 H locs hf hw => ?_)
  refine lv_aload_n C.1 C.2.1 dX3_carriesAll_78 rfl (lv_at hl 0 rfl) ?_
  refine mg_pastOf C hw dX3_carriesAll_79 ?_
  refine lv_iconst (v := 0) C.1 C.2.1 dX3_carriesAll_82 rfl ?_
  refine lv_aload_n C.1 C.2.1 dX3_carriesAll_83 rfl (lv_at hl 0 rfl) ?_
  refine mg_pastMany C hw dX3_carriesAll_84 ?_
  refine g_iast C shM_sep hw 39 rfl (vpD rfl) dX3_carriesAll_87 (fun s87 H locs e87 hw => ?_)
  replace hf := hf s87 e87
  refine lv_aload_n C.1 C.2.1 dX3_carriesAll_88 rfl (lv_at hl 0 rfl) ?_
  refine lv_aload_n C.1 C.2.1 dX3_carriesAll_89 rfl (lv_at hl 0 rfl) ?_
  refine mg_pastOf C hw dX3_carriesAll_90 ?_
  refine km_carryRow C hw hl.1 (Nat.le_of_ble_eq_true rfl) ⟨Nat.le_of_ble_eq_true rfl, Nat.le_of_ble_eq_true rfl⟩ dX3_carriesAll_93 rfl hf (fun _ s93 H locs hf hw => ?_)
  refine lv_aload_n C.1 C.2.1 dX3_carriesAll_96 rfl (lv_at hl 0 rfl) ?_
  refine lv_aload_n C.1 C.2.1 dX3_carriesAll_97 rfl (lv_at hl 0 rfl) ?_
  refine mg_pastOf C hw dX3_carriesAll_98 ?_
  refine lv_iconst (v := 0) C.1 C.2.1 dX3_carriesAll_101 rfl ?_
  refine g_iald C hw 39 rfl (vpD rfl) dX3_carriesAll_102 ?_
  refine mp_pastMany C hw dX3_carriesAll_103 (fun s103 H locs e103 hw => ?_)
  replace hf := hf s103 e103
  refine lv_aload_n C.1 C.2.1 dX3_carriesAll_106 rfl (lv_at hl 0 rfl) ?_
  refine lv_aload_n C.1 C.2.1 dX3_carriesAll_107 rfl (lv_at hl 0 rfl) ?_
  refine mg_past C hw dX3_carriesAll_108 ?_
  refine km_carryRow C hw hl.1 (Nat.le_of_ble_eq_true rfl) ⟨Nat.le_of_ble_eq_true rfl, Nat.le_of_ble_eq_true rfl⟩ dX3_carriesAll_111 rfl hf (fun _ s111 H locs hf hw => ?_)
  exact hret _ _ _ _ _ _ hf hw dX3_carriesAll_114
theorem km_carriesAll {p : Program} {l : Launch} {e : Env} {R : Room} {s : State} {m : MethodId} {args : Array Value} {below : List Frame} {meth : Method} {c : Code} {H : Heap} {locs : List Loc} {Z : State → Prop} {cc : ByteArray} {nL pc : Nat} {ls : Array Slot} {rest : List Value} {D : va_G} {ct : Ct} {ad : Nat → Nat} {σ : St} {x1 : Int32} {x2 : Int32} {Qp : Unit → St → Prop} (C : CallFix p m c cc nL s args lw_all RX3) (hw : gH D ct shM ad s σ H locs) (hsz : ls.size = nL) (hrm : (rest.map fun v => v.category).sum ≤ 8) (hR : rm_m_carriesAll.frames + 1 ≤ R.frames ∧ 8 + (3 + 11) + rm_m_carriesAll.locals ≤ R.locals) (hdg : decode cc pc = .ok (.invokevirtual 630, 3)) (hf : m_carriesAll σ x1 x2 Qp) (kk : ∀ (r : Unit) (σ1 : St) (H1 : Heap) (locs1 : List Loc), Qp r σ1 → gH D ct shM ad s σ1 H1 locs1 → W p l e R s m args below meth c H1 locs1 0 0 Z (F0 m (pc + 3) ls (rest))) : W p l e R s m args below meth c H locs 0 0 Z (F0 m pc ls (.int x2 :: .int x1 :: .ref (ad 0) :: rest)) :=
  g_callV (As := [.int x1, .int x2]) (rest := rest) C hw rfl rfl (met_m_carriesAll l D ct ad hw.2.1 σ x1 x2 Qp hf) (cwV 2 C.2.2.2.2 (lw_V q2144 q2146 qs197 q207 q2147) rfl rfl rfl (by decide +kernel) hR) rfl hsz rfl hrm ⟨Nat.zero_le _, Nat.zero_le _⟩ hdg kk
def m_readsLeft_p64 (σ : St) (x1 : Int32) (Q : Unit → St → Prop) : Prop :=
  (vp_in (σ.1 16) 12 ∧ (∀ s73 : St, s73 = s_A σ 10 (Int32.toNatClampNeg (σ.1 16)) x1 → (vp_in (s73.1 16) 12 ∧ (∀ s83 : St, s83 = s_A s73 11 (Int32.toNatClampNeg (s73.1 16)) 0 → (vp_in (s83.1 16) 12 ∧ (∀ s93 : St, s93 = s_A s83 13 (Int32.toNatClampNeg (s83.1 16)) 0 → (vp_in (s93.1 16) 12 ∧ (∀ s103 : St, s103 = s_A s93 14 (Int32.toNatClampNeg (s93.1 16)) 0 → (∀ s111 : St, s111 = s_I s103 16 ((s103.1 16) + 1) → (∀ s121 : St, s121 = s_I s111 18 ((s111.1 18) + 1) → Q () s121))))))))))
def m_readsLeft_p54 (σ : St) (Q : Unit → St → Prop) : Prop :=
  (m_fails σ 4 (σ.1 18) (fun _ s60 => Q () s60))
def m_readsLeft (σ : St) (Q : Unit → St → Prop) : Prop :=
  (m_sign σ (fun r1 s1 => (((fm_isCapital (fm_letterOf r1)) = 0 → (m_fails s1 0 (s1.1 18) (fun _ s21 => Q () s21))) ∧ (¬ (fm_isCapital (fm_letterOf r1)) = 0 → (((s1.1 16) = 12 → (m_readsLeft_p54 s1 Q)) ∧ (¬ (s1.1 16) = 12 → (m_isNewLeft s1 (fm_letterOf r1) (s1.1 16) (fun r40 => ((r40 = 0 → (m_newLefts s1 (fun r47 => ((r47 = 5 → (m_readsLeft_p54 s1 Q)) ∧ (¬ r47 = 5 → (m_readsLeft_p64 s1 (fm_letterOf r1) Q)))))) ∧ (¬ r40 = 0 → (m_readsLeft_p64 s1 (fm_letterOf r1) Q)))))))))))
abbrev rm_m_readsLeft : Room := { frames := 2, cells := 0, slots := 0, locals := 45 }
set_option maxHeartbeats 4000000 in
theorem met_m_readsLeft (l : Launch) (D : va_G) (ct : Ct) (ad : Nat → Nat) (hJ : gJ shM ad ct) (σ : St) (Q : Unit → St → Prop) (hf : m_readsLeft σ Q) : Met l yX3_readsLeft (ws_ yX3_readsLeft cX3_readsLeft 2 (none)) rm_m_readsLeft (va_Pc [.ref (ad 0)] (gP D ct shM ad σ)) (gQ rvV D ct shM ad Q) 0 0 (gA shM ad) := by
  refine g_metV hJ (by decide) (Nat.le_of_ble_eq_true rfl) ?_
  intro p e s m args below meth c QQ ls C hw hl hret
  replace hl : lv_has ls 2 [(0, .ref (ad 0))] := hl
  have J64 : ∀ (σ : St) (H : Heap) (locs : List Loc) (x1 : Int32) (ls : Array Slot), m_readsLeft_p64 σ x1 Q → gH D ct shM ad s σ H locs → lv_has ls 2 [(0, .ref (ad 0)), (1, .int x1)] → W p l e rm_m_readsLeft s m args below meth c H locs 0 0 QQ (F0 m 64 ls []) := by
    intro σ H locs x1 ls hf hw hl
    unfold m_readsLeft_p64 at hf
    refine lv_aload_n C.1 C.2.1 dX3_readsLeft_64 rfl (lv_at hl 0 rfl) ?_
    refine mg_newLeft C hw dX3_readsLeft_65 ?_
    refine lv_aload_n C.1 C.2.1 dX3_readsLeft_68 rfl (lv_at hl 0 rfl) ?_
    refine mg_newMany C hw dX3_readsLeft_69 ?_
    refine lv_iload_n C.1 C.2.1 dX3_readsLeft_72 rfl (lv_at hl 1 rfl) ?_
    obtain ⟨b73, hf⟩ := hf
    refine g_iast C shM_sep hw 10 rfl b73 dX3_readsLeft_73 (fun s73 H locs e73 hw => ?_)
    replace hf := hf s73 e73
    refine lv_aload_n C.1 C.2.1 dX3_readsLeft_74 rfl (lv_at hl 0 rfl) ?_
    refine mg_newSize C hw dX3_readsLeft_75 ?_
    refine lv_aload_n C.1 C.2.1 dX3_readsLeft_78 rfl (lv_at hl 0 rfl) ?_
    refine mg_newMany C hw dX3_readsLeft_79 ?_
    refine lv_iconst (v := 0) C.1 C.2.1 dX3_readsLeft_82 rfl ?_
    obtain ⟨b83, hf⟩ := hf
    refine g_iast C shM_sep hw 11 rfl b83 dX3_readsLeft_83 (fun s83 H locs e83 hw => ?_)
    replace hf := hf s83 e83
    refine lv_aload_n C.1 C.2.1 dX3_readsLeft_84 rfl (lv_at hl 0 rfl) ?_
    refine mg_newRank C hw dX3_readsLeft_85 ?_
    refine lv_aload_n C.1 C.2.1 dX3_readsLeft_88 rfl (lv_at hl 0 rfl) ?_
    refine mg_newMany C hw dX3_readsLeft_89 ?_
    refine lv_iconst (v := 0) C.1 C.2.1 dX3_readsLeft_92 rfl ?_
    obtain ⟨b93, hf⟩ := hf
    refine g_iast C shM_sep hw 13 rfl b93 dX3_readsLeft_93 (fun s93 H locs e93 hw => ?_)
    replace hf := hf s93 e93
    refine lv_aload_n C.1 C.2.1 dX3_readsLeft_94 rfl (lv_at hl 0 rfl) ?_
    refine mg_newSide C hw dX3_readsLeft_95 ?_
    refine lv_aload_n C.1 C.2.1 dX3_readsLeft_98 rfl (lv_at hl 0 rfl) ?_
    refine mg_newMany C hw dX3_readsLeft_99 ?_
    refine lv_iconst (v := 0) C.1 C.2.1 dX3_readsLeft_102 rfl ?_
    obtain ⟨b103, hf⟩ := hf
    refine g_iast C shM_sep hw 14 rfl b103 dX3_readsLeft_103 (fun s103 H locs e103 hw => ?_)
    replace hf := hf s103 e103
    refine lv_aload_n C.1 C.2.1 dX3_readsLeft_104 rfl (lv_at hl 0 rfl) ?_
    refine lv_dup C.1 C.2.1 dX3_readsLeft_105 rfl ?_
    refine mg_newMany C hw dX3_readsLeft_106 ?_
    refine lv_iconst (v := 1) C.1 C.2.1 dX3_readsLeft_109 rfl ?_
    refine lv_iadd C.1 C.2.1 dX3_readsLeft_110 ?_
    refine mp_newMany C hw dX3_readsLeft_111 (fun s111 H locs e111 hw => ?_)
    replace hf := hf s111 e111
    refine lv_aload_n C.1 C.2.1 dX3_readsLeft_114 rfl (lv_at hl 0 rfl) ?_
    refine lv_dup C.1 C.2.1 dX3_readsLeft_115 rfl ?_
    refine mg_p C hw dX3_readsLeft_116 ?_
    refine lv_iconst (v := 1) C.1 C.2.1 dX3_readsLeft_119 rfl ?_
    refine lv_iadd C.1 C.2.1 dX3_readsLeft_120 ?_
    refine mp_p C hw dX3_readsLeft_121 (fun s121 H locs e121 hw => ?_)
    replace hf := hf s121 e121
    exact hret _ _ _ _ _ _ hf hw dX3_readsLeft_124
  have J54 : ∀ (σ : St) (H : Heap) (locs : List Loc) (ls : Array Slot), m_readsLeft_p54 σ Q → gH D ct shM ad s σ H locs → lv_has ls 2 [(0, .ref (ad 0))] → W p l e rm_m_readsLeft s m args below meth c H locs 0 0 QQ (F0 m 54 ls []) := by
    intro σ H locs ls hf hw hl
    unfold m_readsLeft_p54 at hf
    refine lv_aload_n C.1 C.2.1 dX3_readsLeft_54 rfl (lv_at hl 0 rfl) ?_
    refine lv_iconst (v := 4) C.1 C.2.1 dX3_readsLeft_55 rfl ?_
    refine lv_aload_n C.1 C.2.1 dX3_readsLeft_56 rfl (lv_at hl 0 rfl) ?_
    refine mg_p C hw dX3_readsLeft_57 ?_
    refine km_fails C hw hl.1 (Nat.le_of_ble_eq_true rfl) ⟨Nat.le_of_ble_eq_true rfl, Nat.le_of_ble_eq_true rfl⟩ dX3_readsLeft_60 hf (fun _ s60 H locs hf hw => ?_)
    exact hret _ _ _ _ _ _ hf hw dX3_readsLeft_63
  unfold m_readsLeft at hf
  obtain ⟨H, hH⟩ : ∃ q, q = s.heap := ⟨_, rfl⟩
  obtain ⟨locs, hL⟩ : ∃ q : List Loc, q = [] := ⟨_, rfl⟩
  rw [← hH, ← hL] at hw ⊢
  refine lv_aload_n C.1 C.2.1 dX3_readsLeft_0 rfl (lv_at hl 0 rfl) ?_
  refine km_sign C hw hl.1 (Nat.le_of_ble_eq_true rfl) ⟨Nat.le_of_ble_eq_true rfl, Nat.le_of_ble_eq_true rfl⟩ dX3_readsLeft_1 hf (fun r1 s1 H locs hf hw => ?_)
  refine km_letterOf C hl.1 (Nat.le_of_ble_eq_true rfl) ⟨Nat.le_of_ble_eq_true rfl, Nat.le_of_ble_eq_true rfl⟩ dX3_readsLeft_4 ?_
  refine lv_istore_n (lv' := [(1, .int (fm_letterOf r1)), (0, .ref (ad 0))]) C.1 C.2.1 dX3_readsLeft_7 rfl hl (Nat.le_of_ble_eq_true rfl) rfl (fun ls hl => ?_)
  refine lv_iload_n C.1 C.2.1 dX3_readsLeft_8 rfl (lv_at hl 0 rfl) ?_
  refine km_isCapital C hl.1 (Nat.le_of_ble_eq_true rfl) ⟨Nat.le_of_ble_eq_true rfl, Nat.le_of_ble_eq_true rfl⟩ dX3_readsLeft_9 ?_
  refine lv_if_ne (tgt := 25) C.1 C.2.1 dX3_readsLeft_12 (by decide) (fun h12 => ?_) (fun h12 => ?_)
  · replace hf := hf.2 h12
    refine lv_aload_n C.1 C.2.1 dX3_readsLeft_25 rfl (lv_at hl 1 rfl) ?_
    refine mg_newMany C hw dX3_readsLeft_26 ?_
    refine lv_bipush (v := 12) C.1 C.2.1 dX3_readsLeft_29 rfl ?_
    refine lv_icmp_eq (tgt := 54) C.1 C.2.1 dX3_readsLeft_31 (by decide) (fun h31 => ?_) (fun h31 => ?_)
    · replace hf := hf.1 h31
      exact J54 _ _ _ _ hf hw (lv_sub hl [1] rfl)
    · replace hf := hf.2 h31
      refine lv_aload_n C.1 C.2.1 dX3_readsLeft_34 rfl (lv_at hl 1 rfl) ?_
      refine lv_iload_n C.1 C.2.1 dX3_readsLeft_35 rfl (lv_at hl 0 rfl) ?_
      refine lv_aload_n C.1 C.2.1 dX3_readsLeft_36 rfl (lv_at hl 1 rfl) ?_
      refine mg_newMany C hw dX3_readsLeft_37 ?_
      refine km_isNewLeft C hw hl.1 (Nat.le_of_ble_eq_true rfl) ⟨Nat.le_of_ble_eq_true rfl, Nat.le_of_ble_eq_true rfl⟩ dX3_readsLeft_40 hf (fun r40 hf => ?_)
      refine lv_if_ne (tgt := 64) C.1 C.2.1 dX3_readsLeft_43 (by decide) (fun h43 => ?_) (fun h43 => ?_)
      · replace hf := hf.2 h43
        exact J64 _ _ _ _ _ hf hw (lv_sub hl [1, 0] rfl)
      · replace hf := hf.1 h43
        refine lv_aload_n C.1 C.2.1 dX3_readsLeft_46 rfl (lv_at hl 1 rfl) ?_
        refine km_newLefts C hw hl.1 (Nat.le_of_ble_eq_true rfl) ⟨Nat.le_of_ble_eq_true rfl, Nat.le_of_ble_eq_true rfl⟩ dX3_readsLeft_47 hf (fun r47 hf => ?_)
        refine lv_iconst (v := 5) C.1 C.2.1 dX3_readsLeft_50 rfl ?_
        refine lv_icmp_ne (tgt := 64) C.1 C.2.1 dX3_readsLeft_51 (by decide) (fun h51 => ?_) (fun h51 => ?_)
        · replace hf := hf.2 h51
          exact J64 _ _ _ _ _ hf hw (lv_sub hl [1, 0] rfl)
        · replace hf := hf.1 h51
          exact J54 _ _ _ _ hf hw (lv_sub hl [1] rfl)
  · replace hf := hf.1 h12
    refine lv_aload_n C.1 C.2.1 dX3_readsLeft_15 rfl (lv_at hl 1 rfl) ?_
    refine lv_iconst (v := 0) C.1 C.2.1 dX3_readsLeft_16 rfl ?_
    refine lv_aload_n C.1 C.2.1 dX3_readsLeft_17 rfl (lv_at hl 1 rfl) ?_
    refine mg_p C hw dX3_readsLeft_18 ?_
    refine km_fails C hw hl.1 (Nat.le_of_ble_eq_true rfl) ⟨Nat.le_of_ble_eq_true rfl, Nat.le_of_ble_eq_true rfl⟩ dX3_readsLeft_21 hf (fun _ s21 H locs hf hw => ?_)
    exact hret _ _ _ _ _ _ hf hw dX3_readsLeft_24
theorem km_readsLeft {p : Program} {l : Launch} {e : Env} {R : Room} {s : State} {m : MethodId} {args : Array Value} {below : List Frame} {meth : Method} {c : Code} {H : Heap} {locs : List Loc} {Z : State → Prop} {cc : ByteArray} {nL pc : Nat} {ls : Array Slot} {rest : List Value} {D : va_G} {ct : Ct} {ad : Nat → Nat} {σ : St} {Qp : Unit → St → Prop} (C : CallFix p m c cc nL s args lw_all RX3) (hw : gH D ct shM ad s σ H locs) (hsz : ls.size = nL) (hrm : (rest.map fun v => v.category).sum ≤ 8) (hR : rm_m_readsLeft.frames + 1 ≤ R.frames ∧ 8 + (2 + 11) + rm_m_readsLeft.locals ≤ R.locals) (hdg : decode cc pc = .ok (.invokevirtual 219, 3)) (hf : m_readsLeft σ Qp) (kk : ∀ (r : Unit) (σ1 : St) (H1 : Heap) (locs1 : List Loc), Qp r σ1 → gH D ct shM ad s σ1 H1 locs1 → W p l e R s m args below meth c H1 locs1 0 0 Z (F0 m (pc + 3) ls (rest))) : W p l e R s m args below meth c H locs 0 0 Z (F0 m pc ls (.ref (ad 0) :: rest)) :=
  g_callV (As := []) (rest := rest) C hw rfl rfl (met_m_readsLeft l D ct ad hw.2.1 σ Qp hf) (cwV 0 C.2.2.2.2 (lw_V q1566 q1568 qs101 q207 q1569) rfl rfl rfl (by decide +kernel) hR) rfl hsz rfl hrm ⟨Nat.zero_le _, Nat.zero_le _⟩ hdg kk
def m_readsRight_p44 (x1 : Int32) (Q : Unit → St → Prop) (K44 : St → Int32 → Prop) (σ : St) (x2 : Int32) : Prop :=
  ((x2 = (-1) → Q () σ) ∧ (¬ x2 = (-1) → (vp_in x1 12 ∧ (((gI σ 11 x1) = 4 → (m_fails σ 3 (σ.1 18) (fun _ s65 => Q () s65))) ∧ (¬ (gI σ 11 x1) = 4 → (vp_in ((4 * x1) + (gI σ 11 x1)) 48 ∧ (∀ s84 : St, s84 = s_A σ 12 (Int32.toNatClampNeg ((4 * x1) + (gI σ 11 x1))) x2 → (vp_in ((4 * x1) + (gI s84 11 x1)) 48 ∧ (∀ s103 : St, s103 = s_A s84 15 (Int32.toNatClampNeg ((4 * x1) + (gI s84 11 x1))) (s84.1 18) → (∀ s113 : St, s113 = s_A s103 11 (Int32.toNatClampNeg x1) ((gI s103 11 x1) + 1) → (∀ s121 : St, s121 = s_I s113 18 ((s113.1 18) + 1) → (m_sign s121 (fun r125 s125 => K44 s125 (fm_letterOf r125))))))))))))))
def m_readsRight (σ : St) (Q : Unit → St → Prop) : Prop :=
  (m_sign σ (fun r8 s8 => ((r8 = 61 → (∀ s33 : St, s33 = s_I s8 18 ((s8.1 18) + 1) → (m_sign s33 (fun r37 s37 => (Lp2 (m_readsRight_p44 ((σ.1 16) - 1) Q) s37 (fm_letterOf r37)))))) ∧ (¬ r8 = 61 → (m_fails s8 0 (s8.1 18) (fun _ s22 => Q () s22))))))
abbrev rm_m_readsRight : Room := { frames := 2, cells := 0, slots := 0, locals := 45 }
set_option maxHeartbeats 4000000 in
theorem met_m_readsRight (l : Launch) (D : va_G) (ct : Ct) (ad : Nat → Nat) (hJ : gJ shM ad ct) (σ : St) (Q : Unit → St → Prop) (hf : m_readsRight σ Q) : Met l yX3_readsRight (ws_ yX3_readsRight cX3_readsRight 3 (none)) rm_m_readsRight (va_Pc [.ref (ad 0)] (gP D ct shM ad σ)) (gQ rvV D ct shM ad Q) 0 0 (gA shM ad) := by
  refine g_metV hJ (by decide) (Nat.le_of_ble_eq_true rfl) ?_
  intro p e s m args below meth c QQ ls C hw hl hret
  replace hl : lv_has ls 3 [(0, .ref (ad 0))] := hl
  have B44 : ∀ (x1 : Int32) (K44 : St → Int32 → Prop) (_ : ∀ (σ : St) (H : Heap) (locs : List Loc) (x2 : Int32) (ls : Array Slot), K44 σ x2 → gH D ct shM ad s σ H locs → lv_has ls 3 [(0, .ref (ad 0)), (1, .int x1), (2, .int x2)] → W p l e rm_m_readsRight s m args below meth c H locs 0 0 QQ (F0 m 44 ls [])) (σ : St) (H : Heap) (locs : List Loc) (x2 : Int32) (ls : Array Slot), m_readsRight_p44 x1 Q K44 σ x2 → gH D ct shM ad s σ H locs → lv_has ls 3 [(0, .ref (ad 0)), (1, .int x1), (2, .int x2)] → W p l e rm_m_readsRight s m args below meth c H locs 0 0 QQ (F0 m 44 ls []) := by
    intro x1 K44 hK44 σ H locs x2 ls hf hw hl
    unfold m_readsRight_p44 at hf
    refine lv_iload_n C.1 C.2.1 dX3_readsRight_44 rfl (lv_at hl 2 rfl) ?_
    refine lv_iconst (v := (-1)) C.1 C.2.1 dX3_readsRight_45 rfl ?_
    refine lv_icmp_eq (tgt := 135) C.1 C.2.1 dX3_readsRight_46 (by decide) (fun h46 => ?_) (fun h46 => ?_)
    · replace hf := hf.1 h46
      exact hret _ _ _ _ _ _ hf hw dX3_readsRight_135
    · replace hf := hf.2 h46
      refine lv_aload_n C.1 C.2.1 dX3_readsRight_49 rfl (lv_at hl 0 rfl) ?_
      refine mg_newSize C hw dX3_readsRight_50 ?_
      refine lv_iload_n C.1 C.2.1 dX3_readsRight_53 rfl (lv_at hl 1 rfl) ?_
      obtain ⟨b54, hf⟩ := hf
      refine g_iald C hw 11 rfl b54 dX3_readsRight_54 ?_
      refine lv_iconst (v := 4) C.1 C.2.1 dX3_readsRight_55 rfl ?_
      refine lv_icmp_ne (tgt := 69) C.1 C.2.1 dX3_readsRight_56 (by decide) (fun h56 => ?_) (fun h56 => ?_)
      · replace hf := hf.2 h56
        refine lv_aload_n C.1 C.2.1 dX3_readsRight_69 rfl (lv_at hl 0 rfl) ?_
        refine mg_newSym C hw dX3_readsRight_70 ?_
        refine lv_iconst (v := 4) C.1 C.2.1 dX3_readsRight_73 rfl ?_
        refine lv_iload_n C.1 C.2.1 dX3_readsRight_74 rfl (lv_at hl 1 rfl) ?_
        refine lv_imul C.1 C.2.1 dX3_readsRight_75 ?_
        refine lv_aload_n C.1 C.2.1 dX3_readsRight_76 rfl (lv_at hl 0 rfl) ?_
        refine mg_newSize C hw dX3_readsRight_77 ?_
        refine lv_iload_n C.1 C.2.1 dX3_readsRight_80 rfl (lv_at hl 1 rfl) ?_
        refine g_iald C hw 11 rfl b54 dX3_readsRight_81 ?_
        refine lv_iadd C.1 C.2.1 dX3_readsRight_82 ?_
        refine lv_iload_n C.1 C.2.1 dX3_readsRight_83 rfl (lv_at hl 2 rfl) ?_
        obtain ⟨b84, hf⟩ := hf
        refine g_iast C shM_sep hw 12 rfl b84 dX3_readsRight_84 (fun s84 H locs e84 hw => ?_)
        replace hf := hf s84 e84
        refine lv_aload_n C.1 C.2.1 dX3_readsRight_85 rfl (lv_at hl 0 rfl) ?_
        refine mg_symAt C hw dX3_readsRight_86 ?_
        refine lv_iconst (v := 4) C.1 C.2.1 dX3_readsRight_89 rfl ?_
        refine lv_iload_n C.1 C.2.1 dX3_readsRight_90 rfl (lv_at hl 1 rfl) ?_
        refine lv_imul C.1 C.2.1 dX3_readsRight_91 ?_
        refine lv_aload_n C.1 C.2.1 dX3_readsRight_92 rfl (lv_at hl 0 rfl) ?_
        refine mg_newSize C hw dX3_readsRight_93 ?_
        refine lv_iload_n C.1 C.2.1 dX3_readsRight_96 rfl (lv_at hl 1 rfl) ?_
        refine g_iald C hw 11 rfl b54 dX3_readsRight_97 ?_
        refine lv_iadd C.1 C.2.1 dX3_readsRight_98 ?_
        refine lv_aload_n C.1 C.2.1 dX3_readsRight_99 rfl (lv_at hl 0 rfl) ?_
        refine mg_p C hw dX3_readsRight_100 ?_
        obtain ⟨b103, hf⟩ := hf
        refine g_iast C shM_sep hw 15 rfl b103 dX3_readsRight_103 (fun s103 H locs e103 hw => ?_)
        replace hf := hf s103 e103
        refine lv_aload_n C.1 C.2.1 dX3_readsRight_104 rfl (lv_at hl 0 rfl) ?_
        refine mg_newSize C hw dX3_readsRight_105 ?_
        refine lv_iload_n C.1 C.2.1 dX3_readsRight_108 rfl (lv_at hl 1 rfl) ?_
        refine lv_dup2_11 C.1 C.2.1 dX3_readsRight_109 rfl rfl ?_
        refine g_iald C hw 11 rfl b54 dX3_readsRight_110 ?_
        refine lv_iconst (v := 1) C.1 C.2.1 dX3_readsRight_111 rfl ?_
        refine lv_iadd C.1 C.2.1 dX3_readsRight_112 ?_
        refine g_iast C shM_sep hw 11 rfl b54 dX3_readsRight_113 (fun s113 H locs e113 hw => ?_)
        replace hf := hf s113 e113
        refine lv_aload_n C.1 C.2.1 dX3_readsRight_114 rfl (lv_at hl 0 rfl) ?_
        refine lv_dup C.1 C.2.1 dX3_readsRight_115 rfl ?_
        refine mg_p C hw dX3_readsRight_116 ?_
        refine lv_iconst (v := 1) C.1 C.2.1 dX3_readsRight_119 rfl ?_
        refine lv_iadd C.1 C.2.1 dX3_readsRight_120 ?_
        refine mp_p C hw dX3_readsRight_121 (fun s121 H locs e121 hw => ?_)
        replace hf := hf s121 e121
        refine lv_aload_n C.1 C.2.1 dX3_readsRight_124 rfl (lv_at hl 0 rfl) ?_
        refine km_sign C hw hl.1 (Nat.le_of_ble_eq_true rfl) ⟨Nat.le_of_ble_eq_true rfl, Nat.le_of_ble_eq_true rfl⟩ dX3_readsRight_125 hf (fun r125 s125 H locs hf hw => ?_)
        refine km_letterOf C hl.1 (Nat.le_of_ble_eq_true rfl) ⟨Nat.le_of_ble_eq_true rfl, Nat.le_of_ble_eq_true rfl⟩ dX3_readsRight_128 ?_
        refine lv_istore_n (lv' := [(2, .int (fm_letterOf r125)), (0, .ref (ad 0)), (1, .int x1)]) C.1 C.2.1 dX3_readsRight_131 rfl hl (Nat.le_of_ble_eq_true rfl) rfl (fun ls hl => ?_)
        refine lv_goto (tgt := 44) C.1 C.2.1 dX3_readsRight_132 (by decide) ?_
        exact hK44 _ _ _ _ _ hf hw (lv_sub hl [1, 2, 0] rfl)
      · replace hf := hf.1 h56
        refine lv_aload_n C.1 C.2.1 dX3_readsRight_59 rfl (lv_at hl 0 rfl) ?_
        refine lv_iconst (v := 3) C.1 C.2.1 dX3_readsRight_60 rfl ?_
        refine lv_aload_n C.1 C.2.1 dX3_readsRight_61 rfl (lv_at hl 0 rfl) ?_
        refine mg_p C hw dX3_readsRight_62 ?_
        refine km_fails C hw hl.1 (Nat.le_of_ble_eq_true rfl) ⟨Nat.le_of_ble_eq_true rfl, Nat.le_of_ble_eq_true rfl⟩ dX3_readsRight_65 hf (fun _ s65 H locs hf hw => ?_)
        exact hret _ _ _ _ _ _ hf hw dX3_readsRight_68
  have P44 : ∀ (x1 : Int32) (n : Nat) (σ : St) (x2 : Int32) (ls : Array Slot) (H : Heap) (locs : List Loc), LL2 (m_readsRight_p44 x1 Q) n σ x2 → gH D ct shM ad s σ H locs → lv_has ls 3 [(0, .ref (ad 0)), (1, .int x1), (2, .int x2)] → W p l e rm_m_readsRight s m args below meth c H locs 0 0 QQ (F0 m 44 ls []) := by
    intro x1 n
    induction n with
    | zero => intro σ x2 ls H locs hf; exact False.elim hf
    | succ n ih => intro σ x2 ls H locs hf hw hl; exact B44 x1 (LL2 _ n) (fun σ H locs x2 ls hf hw hl => ih σ x2 ls H locs hf hw hl) σ H locs x2 ls hf hw hl
  unfold m_readsRight at hf
  obtain ⟨H, hH⟩ : ∃ q, q = s.heap := ⟨_, rfl⟩
  obtain ⟨locs, hL⟩ : ∃ q : List Loc, q = [] := ⟨_, rfl⟩
  rw [← hH, ← hL] at hw ⊢
  refine lv_aload_n C.1 C.2.1 dX3_readsRight_0 rfl (lv_at hl 0 rfl) ?_
  refine mg_newMany C hw dX3_readsRight_1 ?_
  refine lv_iconst (v := 1) C.1 C.2.1 dX3_readsRight_4 rfl ?_
  refine lv_isub C.1 C.2.1 dX3_readsRight_5 ?_
  refine lv_istore_n (lv' := [(1, .int ((σ.1 16) - 1)), (0, .ref (ad 0))]) C.1 C.2.1 dX3_readsRight_6 rfl hl (Nat.le_of_ble_eq_true rfl) rfl (fun ls hl => ?_)
  refine lv_aload_n C.1 C.2.1 dX3_readsRight_7 rfl (lv_at hl 1 rfl) ?_
  refine km_sign C hw hl.1 (Nat.le_of_ble_eq_true rfl) ⟨Nat.le_of_ble_eq_true rfl, Nat.le_of_ble_eq_true rfl⟩ dX3_readsRight_8 hf (fun r8 s8 H locs hf hw => ?_)
  refine lv_bipush (v := 61) C.1 C.2.1 dX3_readsRight_11 rfl ?_
  refine lv_icmp_eq (tgt := 26) C.1 C.2.1 dX3_readsRight_13 (by decide) (fun h13 => ?_) (fun h13 => ?_)
  · replace hf := hf.1 h13
    refine lv_aload_n C.1 C.2.1 dX3_readsRight_26 rfl (lv_at hl 1 rfl) ?_
    refine lv_dup C.1 C.2.1 dX3_readsRight_27 rfl ?_
    refine mg_p C hw dX3_readsRight_28 ?_
    refine lv_iconst (v := 1) C.1 C.2.1 dX3_readsRight_31 rfl ?_
    refine lv_iadd C.1 C.2.1 dX3_readsRight_32 ?_
    refine mp_p C hw dX3_readsRight_33 (fun s33 H locs e33 hw => ?_)
    replace hf := hf s33 e33
    refine lv_aload_n C.1 C.2.1 dX3_readsRight_36 rfl (lv_at hl 1 rfl) ?_
    refine km_sign C hw hl.1 (Nat.le_of_ble_eq_true rfl) ⟨Nat.le_of_ble_eq_true rfl, Nat.le_of_ble_eq_true rfl⟩ dX3_readsRight_37 hf (fun r37 s37 H locs hf hw => ?_)
    refine km_letterOf C hl.1 (Nat.le_of_ble_eq_true rfl) ⟨Nat.le_of_ble_eq_true rfl, Nat.le_of_ble_eq_true rfl⟩ dX3_readsRight_40 ?_
    refine lv_istore_n (lv' := [(2, .int (fm_letterOf r37)), (1, .int ((σ.1 16) - 1)), (0, .ref (ad 0))]) C.1 C.2.1 dX3_readsRight_43 rfl hl (Nat.le_of_ble_eq_true rfl) rfl (fun ls hl => ?_)
    obtain ⟨n, hf⟩ := hf
    exact P44 _ n _ _ _ _ _ hf hw (lv_sub hl [2, 1, 0] rfl)
  · replace hf := hf.2 h13
    refine lv_aload_n C.1 C.2.1 dX3_readsRight_16 rfl (lv_at hl 1 rfl) ?_
    refine lv_iconst (v := 0) C.1 C.2.1 dX3_readsRight_17 rfl ?_
    refine lv_aload_n C.1 C.2.1 dX3_readsRight_18 rfl (lv_at hl 1 rfl) ?_
    refine mg_p C hw dX3_readsRight_19 ?_
    refine km_fails C hw hl.1 (Nat.le_of_ble_eq_true rfl) ⟨Nat.le_of_ble_eq_true rfl, Nat.le_of_ble_eq_true rfl⟩ dX3_readsRight_22 hf (fun _ s22 H locs hf hw => ?_)
    exact hret _ _ _ _ _ _ hf hw dX3_readsRight_25
theorem km_readsRight {p : Program} {l : Launch} {e : Env} {R : Room} {s : State} {m : MethodId} {args : Array Value} {below : List Frame} {meth : Method} {c : Code} {H : Heap} {locs : List Loc} {Z : State → Prop} {cc : ByteArray} {nL pc : Nat} {ls : Array Slot} {rest : List Value} {D : va_G} {ct : Ct} {ad : Nat → Nat} {σ : St} {Qp : Unit → St → Prop} (C : CallFix p m c cc nL s args lw_all RX3) (hw : gH D ct shM ad s σ H locs) (hsz : ls.size = nL) (hrm : (rest.map fun v => v.category).sum ≤ 8) (hR : rm_m_readsRight.frames + 1 ≤ R.frames ∧ 8 + (3 + 11) + rm_m_readsRight.locals ≤ R.locals) (hdg : decode cc pc = .ok (.invokevirtual 222, 3)) (hf : m_readsRight σ Qp) (kk : ∀ (r : Unit) (σ1 : St) (H1 : Heap) (locs1 : List Loc), Qp r σ1 → gH D ct shM ad s σ1 H1 locs1 → W p l e R s m args below meth c H1 locs1 0 0 Z (F0 m (pc + 3) ls (rest))) : W p l e R s m args below meth c H locs 0 0 Z (F0 m pc ls (.ref (ad 0) :: rest)) :=
  g_callV (As := []) (rest := rest) C hw rfl rfl (met_m_readsRight l D ct ad hw.2.1 σ Qp hf) (cwV 0 C.2.2.2.2 (lw_V q1599 q1601 qs106 q207 q1602) rfl rfl rfl (by decide +kernel) hR) rfl hsz rfl hrm ⟨Nat.zero_le _, Nat.zero_le _⟩ hdg kk
def m_rule (σ : St) (x1 : Int32) (x2 : Int32) (Q : Int32 → Prop) : Prop :=
  (((fm_isRule σ x1) = 0 → Q (-1)) ∧ (¬ (fm_isRule σ x1) = 0 → ((x2 = 0 → (vp_in x1 12 ∧ Q (gI σ 3 x1))) ∧ (¬ x2 = 0 → ((x2 = 1 → (vp_in x1 12 ∧ Q (gI σ 4 x1))) ∧ (¬ x2 = 1 → ((x2 = 2 → (vp_in x1 12 ∧ Q (gI σ 6 x1))) ∧ (¬ x2 = 2 → ((x2 = 3 → (vp_in x1 12 ∧ Q (gI σ 7 x1))) ∧ (¬ x2 = 3 → ((x2 = 4 → (((fm_isOn σ x1) = 0 → Q 1) ∧ (¬ (fm_isOn σ x1) = 0 → Q 0))) ∧ (¬ x2 = 4 → Q (-1)))))))))))))
abbrev rm_m_rule : Room := { frames := 2, cells := 0, slots := 0, locals := 46 }
set_option maxHeartbeats 4000000 in
theorem met_m_rule (l : Launch) (D : va_G) (ct : Ct) (ad : Nat → Nat) (hJ : gJ shM ad ct) (σ : St) (x1 : Int32) (x2 : Int32) (Q : Int32 → Prop) (hf : m_rule σ x1 x2 Q) : Met l yX3_rule (ws_ yX3_rule cX3_rule 3 (some .int)) rm_m_rule (va_Pc [.ref (ad 0), .int x1, .int x2] (gP D ct shM ad σ)) (gR rvI Q) 0 0 (fun _ => False) := by
  refine g_metRI hJ (by decide) (Nat.le_of_ble_eq_true rfl) ?_
  intro p e s m args below meth c QQ ls H C hw hl hret
  replace hl : lv_has ls 3 [(0, .ref (ad 0)), (1, .int x1), (2, .int x2)] := hl
  unfold m_rule at hf
  refine lv_aload_n C.1 C.2.1 dX3_rule_0 rfl (lv_at hl 0 rfl) ?_
  refine lv_iload_n C.1 C.2.1 dX3_rule_1 rfl (lv_at hl 1 rfl) ?_
  refine km_isRule C hw hl.1 (Nat.le_of_ble_eq_true rfl) ⟨Nat.le_of_ble_eq_true rfl, Nat.le_of_ble_eq_true rfl⟩ dX3_rule_2 ?_
  refine lv_if_ne (tgt := 10) C.1 C.2.1 dX3_rule_5 (by decide) (fun h5 => ?_) (fun h5 => ?_)
  · replace hf := hf.2 h5
    refine lv_iload_n C.1 C.2.1 dX3_rule_10 rfl (lv_at hl 2 rfl) ?_
    by_cases h11_0 : x2 = 0
    · replace hf := hf.1 h11_0
      refine lv_tableIn (tgt := 44) C.1 C.2.1 dX3_rule_11 (by rw [h11_0]; decide) (by rw [h11_0]; decide) (by rw [h11_0]; rfl) (by decide) ?_
      refine lv_aload_n C.1 C.2.1 dX3_rule_44 rfl (lv_at hl 0 rfl) ?_
      refine mg_left C hw dX3_rule_45 ?_
      refine lv_iload_n C.1 C.2.1 dX3_rule_48 rfl (lv_at hl 1 rfl) ?_
      obtain ⟨b49, hf⟩ := hf
      refine g_iald C hw 3 rfl b49 dX3_rule_49 ?_
      exact hret _ _ _ hf dX3_rule_50
    · replace hf := hf.2 h11_0
      by_cases h11_1 : x2 = 1
      · replace hf := hf.1 h11_1
        refine lv_tableIn (tgt := 51) C.1 C.2.1 dX3_rule_11 (by rw [h11_1]; decide) (by rw [h11_1]; decide) (by rw [h11_1]; rfl) (by decide) ?_
        refine lv_aload_n C.1 C.2.1 dX3_rule_51 rfl (lv_at hl 0 rfl) ?_
        refine mg_size C hw dX3_rule_52 ?_
        refine lv_iload_n C.1 C.2.1 dX3_rule_55 rfl (lv_at hl 1 rfl) ?_
        obtain ⟨b56, hf⟩ := hf
        refine g_iald C hw 4 rfl b56 dX3_rule_56 ?_
        exact hret _ _ _ hf dX3_rule_57
      · replace hf := hf.2 h11_1
        by_cases h11_2 : x2 = 2
        · replace hf := hf.1 h11_2
          refine lv_tableIn (tgt := 58) C.1 C.2.1 dX3_rule_11 (by rw [h11_2]; decide) (by rw [h11_2]; decide) (by rw [h11_2]; rfl) (by decide) ?_
          refine lv_aload_n C.1 C.2.1 dX3_rule_58 rfl (lv_at hl 0 rfl) ?_
          refine mg_rank C hw dX3_rule_59 ?_
          refine lv_iload_n C.1 C.2.1 dX3_rule_62 rfl (lv_at hl 1 rfl) ?_
          obtain ⟨b63, hf⟩ := hf
          refine g_iald C hw 6 rfl b63 dX3_rule_63 ?_
          exact hret _ _ _ hf dX3_rule_64
        · replace hf := hf.2 h11_2
          by_cases h11_3 : x2 = 3
          · replace hf := hf.1 h11_3
            refine lv_tableIn (tgt := 65) C.1 C.2.1 dX3_rule_11 (by rw [h11_3]; decide) (by rw [h11_3]; decide) (by rw [h11_3]; rfl) (by decide) ?_
            refine lv_aload_n C.1 C.2.1 dX3_rule_65 rfl (lv_at hl 0 rfl) ?_
            refine mg_side C hw dX3_rule_66 ?_
            refine lv_iload_n C.1 C.2.1 dX3_rule_69 rfl (lv_at hl 1 rfl) ?_
            obtain ⟨b70, hf⟩ := hf
            refine g_iald C hw 7 rfl b70 dX3_rule_70 ?_
            exact hret _ _ _ hf dX3_rule_71
          · replace hf := hf.2 h11_3
            by_cases h11_4 : x2 = 4
            · replace hf := hf.1 h11_4
              refine lv_tableIn (tgt := 72) C.1 C.2.1 dX3_rule_11 (by rw [h11_4]; decide) (by rw [h11_4]; decide) (by rw [h11_4]; rfl) (by decide) ?_
              refine lv_aload_n C.1 C.2.1 dX3_rule_72 rfl (lv_at hl 0 rfl) ?_
              refine lv_iload_n C.1 C.2.1 dX3_rule_73 rfl (lv_at hl 1 rfl) ?_
              refine km_isOn C hw hl.1 (Nat.le_of_ble_eq_true rfl) ⟨Nat.le_of_ble_eq_true rfl, Nat.le_of_ble_eq_true rfl⟩ dX3_rule_74 ?_
              refine lv_if_eq (tgt := 84) C.1 C.2.1 dX3_rule_77 (by decide) (fun h77 => ?_) (fun h77 => ?_)
              · replace hf := hf.1 h77
                refine lv_iconst (v := 1) C.1 C.2.1 dX3_rule_84 rfl ?_
                exact hret _ _ _ hf dX3_rule_85
              · replace hf := hf.2 h77
                refine lv_iconst (v := 0) C.1 C.2.1 dX3_rule_80 rfl ?_
                refine lv_goto (tgt := 85) C.1 C.2.1 dX3_rule_81 (by decide) ?_
                exact hret _ _ _ hf dX3_rule_85
            · replace hf := hf.2 h11_4
              refine lv_tableOut (tgt := 86) C.1 C.2.1 dX3_rule_11 (tb_out_0_4 h11_0 h11_1 h11_2 h11_3 h11_4) (by decide) ?_
              refine lv_iconst (v := (-1)) C.1 C.2.1 dX3_rule_86 rfl ?_
              exact hret _ _ _ hf dX3_rule_87
  · replace hf := hf.1 h5
    refine lv_iconst (v := (-1)) C.1 C.2.1 dX3_rule_8 rfl ?_
    exact hret _ _ _ hf dX3_rule_9
def m_symbol (σ : St) (x1 : Int32) (x2 : Int32) (Q : Int32 → Prop) : Prop :=
  (((fm_isRule σ x1) = 0 → Q (-1)) ∧ (¬ (fm_isRule σ x1) = 0 → (vp_in x1 12 ∧ (((fm_in (Int32.toInt64 x2) 0 (Int32.toInt64 ((gI σ 4 x1) - 1))) = 0 → Q (-1)) ∧ (¬ (fm_in (Int32.toInt64 x2) 0 (Int32.toInt64 ((gI σ 4 x1) - 1))) = 0 → (vp_in ((4 * x1) + x2) 48 ∧ Q (gI σ 5 ((4 * x1) + x2))))))))
abbrev rm_m_symbol : Room := { frames := 2, cells := 0, slots := 0, locals := 46 }
set_option maxHeartbeats 4000000 in
theorem met_m_symbol (l : Launch) (D : va_G) (ct : Ct) (ad : Nat → Nat) (hJ : gJ shM ad ct) (σ : St) (x1 : Int32) (x2 : Int32) (Q : Int32 → Prop) (hf : m_symbol σ x1 x2 Q) : Met l yX3_symbol (ws_ yX3_symbol cX3_symbol 3 (some .int)) rm_m_symbol (va_Pc [.ref (ad 0), .int x1, .int x2] (gP D ct shM ad σ)) (gR rvI Q) 0 0 (fun _ => False) := by
  refine g_metRI hJ (by decide) (Nat.le_of_ble_eq_true rfl) ?_
  intro p e s m args below meth c QQ ls H C hw hl hret
  replace hl : lv_has ls 3 [(0, .ref (ad 0)), (1, .int x1), (2, .int x2)] := hl
  unfold m_symbol at hf
  refine lv_aload_n C.1 C.2.1 dX3_symbol_0 rfl (lv_at hl 0 rfl) ?_
  refine lv_iload_n C.1 C.2.1 dX3_symbol_1 rfl (lv_at hl 1 rfl) ?_
  refine km_isRule C hw hl.1 (Nat.le_of_ble_eq_true rfl) ⟨Nat.le_of_ble_eq_true rfl, Nat.le_of_ble_eq_true rfl⟩ dX3_symbol_2 ?_
  refine lv_if_eq (tgt := 39) C.1 C.2.1 dX3_symbol_5 (by decide) (fun h5 => ?_) (fun h5 => ?_)
  · replace hf := hf.1 h5
    refine lv_iconst (v := (-1)) C.1 C.2.1 dX3_symbol_39 rfl ?_
    exact hret _ _ _ hf dX3_symbol_40
  · replace hf := hf.2 h5
    refine lv_iload_n C.1 C.2.1 dX3_symbol_8 rfl (lv_at hl 2 rfl) ?_
    refine lv_i2l C.1 C.2.1 dX3_symbol_9 rfl ?_
    refine lv_lconst (v := 0) C.1 C.2.1 dX3_symbol_10 rfl ?_
    refine lv_aload_n C.1 C.2.1 dX3_symbol_11 rfl (lv_at hl 0 rfl) ?_
    refine mg_size C hw dX3_symbol_12 ?_
    refine lv_iload_n C.1 C.2.1 dX3_symbol_15 rfl (lv_at hl 1 rfl) ?_
    obtain ⟨b16, hf⟩ := hf
    refine g_iald C hw 4 rfl b16 dX3_symbol_16 ?_
    refine lv_iconst (v := 1) C.1 C.2.1 dX3_symbol_17 rfl ?_
    refine lv_isub C.1 C.2.1 dX3_symbol_18 ?_
    refine lv_i2l C.1 C.2.1 dX3_symbol_19 rfl ?_
    refine km_in C hl.1 (Nat.le_of_ble_eq_true rfl) ⟨Nat.le_of_ble_eq_true rfl, Nat.le_of_ble_eq_true rfl⟩ dX3_symbol_20 ?_
    refine lv_if_eq (tgt := 39) C.1 C.2.1 dX3_symbol_23 (by decide) (fun h23 => ?_) (fun h23 => ?_)
    · replace hf := hf.1 h23
      refine lv_iconst (v := (-1)) C.1 C.2.1 dX3_symbol_39 rfl ?_
      exact hret _ _ _ hf dX3_symbol_40
    · replace hf := hf.2 h23
      refine lv_aload_n C.1 C.2.1 dX3_symbol_26 rfl (lv_at hl 0 rfl) ?_
      refine mg_sym C hw dX3_symbol_27 ?_
      refine lv_iconst (v := 4) C.1 C.2.1 dX3_symbol_30 rfl ?_
      refine lv_iload_n C.1 C.2.1 dX3_symbol_31 rfl (lv_at hl 1 rfl) ?_
      refine lv_imul C.1 C.2.1 dX3_symbol_32 ?_
      refine lv_iload_n C.1 C.2.1 dX3_symbol_33 rfl (lv_at hl 2 rfl) ?_
      refine lv_iadd C.1 C.2.1 dX3_symbol_34 ?_
      obtain ⟨b35, hf⟩ := hf
      refine g_iald C hw 5 rfl b35 dX3_symbol_35 ?_
      refine lv_goto (tgt := 40) C.1 C.2.1 dX3_symbol_36 (by decide) ?_
      exact hret _ _ _ hf dX3_symbol_40
def m_areIn_p3 (σ : St) (x1 : Int32) (x2 : Int32) (x4 : Int32) (x5 : Int32) (Q : Int32 → Prop) (K3 : Int32 → Prop) (x6 : Int32) : Prop :=
  ((x4 ≤ x6 → Q 1) ∧ (¬ x4 ≤ x6 → (vp_in ((4 * x2) + x6) 48 ∧ ((x6 = x5 → K3 (x6 + 1)) ∧ (¬ x6 = x5 → ((((fm_bitOf (gI σ 5 ((4 * x2) + x6))) &&& x1) = 0 → Q 0) ∧ (¬ ((fm_bitOf (gI σ 5 ((4 * x2) + x6))) &&& x1) = 0 → K3 (x6 + 1))))))))
def m_areIn (σ : St) (x1 : Int32) (x2 : Int32) (x3 : Int32) (x4 : Int32) (x5 : Int32) (Q : Int32 → Prop) : Prop :=
  (Lp1 (m_areIn_p3 σ x1 x2 x4 x5 Q) x3)
abbrev rm_m_areIn : Room := { frames := 2, cells := 0, slots := 0, locals := 40 }
set_option maxHeartbeats 4000000 in
theorem met_m_areIn (l : Launch) (D : va_G) (ct : Ct) (ad : Nat → Nat) (hJ : gJ shM ad ct) (σ : St) (x1 : Int32) (x2 : Int32) (x3 : Int32) (x4 : Int32) (x5 : Int32) (Q : Int32 → Prop) (hf : m_areIn σ x1 x2 x3 x4 x5 Q) : Met l yX3_areIn (ws_ yX3_areIn cX3_areIn 8 (some .boolean)) rm_m_areIn (va_Pc [.ref (ad 0), .int x1, .int x2, .int x3, .int x4, .int x5] (gP D ct shM ad σ)) (gR rvI Q) 0 0 (fun _ => False) := by
  refine g_metRZ hJ (by decide) (Nat.le_of_ble_eq_true rfl) ?_
  intro p e s m args below meth c QQ ls H C hw hl hret
  replace hl : lv_has ls 8 [(0, .ref (ad 0)), (1, .int x1), (2, .int x2), (3, .int x3), (4, .int x4), (5, .int x5)] := hl
  have B3 : ∀ (x1 : Int32) (x2 : Int32) (x4 : Int32) (x5 : Int32) (K3 : Int32 → Prop) (_ : ∀ (x6 : Int32) (ls : Array Slot), K3 x6 → lv_has ls 8 [(0, .ref (ad 0)), (1, .int x1), (2, .int x2), (4, .int x4), (5, .int x5), (6, .int x6)] → W p l e rm_m_areIn s m args below meth c H [] 0 0 QQ (F0 m 3 ls [])) (x6 : Int32) (ls : Array Slot), m_areIn_p3 σ x1 x2 x4 x5 Q K3 x6 → lv_has ls 8 [(0, .ref (ad 0)), (1, .int x1), (2, .int x2), (4, .int x4), (5, .int x5), (6, .int x6)] → W p l e rm_m_areIn s m args below meth c H [] 0 0 QQ (F0 m 3 ls []) := by
    intro x1 x2 x4 x5 K3 hK3 x6 ls hf hl
    unfold m_areIn_p3 at hf
    refine lv_iload C.1 C.2.1 dX3_areIn_3 (lv_at hl 5 rfl) ?_
    refine lv_iload C.1 C.2.1 dX3_areIn_5 (lv_at hl 3 rfl) ?_
    refine lv_icmp_ge (tgt := 48) C.1 C.2.1 dX3_areIn_7 (by decide) (fun h7 => ?_) (fun h7 => ?_)
    · replace hf := hf.1 h7
      refine lv_iconst (v := 1) C.1 C.2.1 dX3_areIn_48 rfl ?_
      exact hret _ _ _ hf (Or.inr rfl) dX3_areIn_49
    · replace hf := hf.2 h7
      refine lv_aload_n C.1 C.2.1 dX3_areIn_10 rfl (lv_at hl 0 rfl) ?_
      refine mg_sym C hw dX3_areIn_11 ?_
      refine lv_iconst (v := 4) C.1 C.2.1 dX3_areIn_14 rfl ?_
      refine lv_iload_n C.1 C.2.1 dX3_areIn_15 rfl (lv_at hl 2 rfl) ?_
      refine lv_imul C.1 C.2.1 dX3_areIn_16 ?_
      refine lv_iload C.1 C.2.1 dX3_areIn_17 (lv_at hl 5 rfl) ?_
      refine lv_iadd C.1 C.2.1 dX3_areIn_19 ?_
      obtain ⟨b20, hf⟩ := hf
      refine g_iald C hw 5 rfl b20 dX3_areIn_20 ?_
      refine lv_istore (lv' := [(7, .int (gI σ 5 ((4 * x2) + x6))), (0, .ref (ad 0)), (1, .int x1), (2, .int x2), (4, .int x4), (5, .int x5), (6, .int x6)]) C.1 C.2.1 dX3_areIn_21 hl (Nat.le_of_ble_eq_true rfl) rfl (fun ls hl => ?_)
      refine lv_iload C.1 C.2.1 dX3_areIn_23 (lv_at hl 6 rfl) ?_
      refine lv_iload C.1 C.2.1 dX3_areIn_25 (lv_at hl 5 rfl) ?_
      refine lv_icmp_eq (tgt := 42) C.1 C.2.1 dX3_areIn_27 (by decide) (fun h27 => ?_) (fun h27 => ?_)
      · replace hf := hf.1 h27
        refine lv_iinc (v := (x6 + 1)) (lv' := [(6, .int (x6 + 1)), (7, .int (gI σ 5 ((4 * x2) + x6))), (0, .ref (ad 0)), (1, .int x1), (2, .int x2), (4, .int x4), (5, .int x5)]) C.1 C.2.1 dX3_areIn_42 hl (k := 6) rfl rfl (Nat.le_of_ble_eq_true rfl) rfl (fun ls hl => ?_)
        refine lv_goto (tgt := 3) C.1 C.2.1 dX3_areIn_45 (by decide) ?_
        exact hK3 _ _ hf (lv_sub hl [2, 3, 4, 5, 6, 0] rfl)
      · replace hf := hf.2 h27
        refine lv_iload C.1 C.2.1 dX3_areIn_30 (lv_at hl 0 rfl) ?_
        refine km_bitOf C hl.1 (Nat.le_of_ble_eq_true rfl) ⟨Nat.le_of_ble_eq_true rfl, Nat.le_of_ble_eq_true rfl⟩ dX3_areIn_32 ?_
        refine lv_iload_n C.1 C.2.1 dX3_areIn_35 rfl (lv_at hl 2 rfl) ?_
        refine lv_iand C.1 C.2.1 dX3_areIn_36 ?_
        refine lv_if_ne (tgt := 42) C.1 C.2.1 dX3_areIn_37 (by decide) (fun h37 => ?_) (fun h37 => ?_)
        · replace hf := hf.2 h37
          refine lv_iinc (v := (x6 + 1)) (lv' := [(6, .int (x6 + 1)), (7, .int (gI σ 5 ((4 * x2) + x6))), (0, .ref (ad 0)), (1, .int x1), (2, .int x2), (4, .int x4), (5, .int x5)]) C.1 C.2.1 dX3_areIn_42 hl (k := 6) rfl rfl (Nat.le_of_ble_eq_true rfl) rfl (fun ls hl => ?_)
          refine lv_goto (tgt := 3) C.1 C.2.1 dX3_areIn_45 (by decide) ?_
          exact hK3 _ _ hf (lv_sub hl [2, 3, 4, 5, 6, 0] rfl)
        · replace hf := hf.1 h37
          refine lv_iconst (v := 0) C.1 C.2.1 dX3_areIn_40 rfl ?_
          exact hret _ _ _ hf (Or.inl rfl) dX3_areIn_41
  have P3 : ∀ (x1 : Int32) (x2 : Int32) (x4 : Int32) (x5 : Int32) (n : Nat) (x6 : Int32) (ls : Array Slot), LL1 (m_areIn_p3 σ x1 x2 x4 x5 Q) n x6 → lv_has ls 8 [(0, .ref (ad 0)), (1, .int x1), (2, .int x2), (4, .int x4), (5, .int x5), (6, .int x6)] → W p l e rm_m_areIn s m args below meth c H [] 0 0 QQ (F0 m 3 ls []) := by
    intro x1 x2 x4 x5 n
    induction n with
    | zero => intro x6 ls hf; exact False.elim hf
    | succ n ih => intro x6 ls hf hl; exact B3 x1 x2 x4 x5 (LL1 _ n) ih x6 ls hf hl
  unfold m_areIn at hf
  refine lv_iload_n C.1 C.2.1 dX3_areIn_0 rfl (lv_at hl 3 rfl) ?_
  refine lv_istore (lv' := [(6, .int x3), (0, .ref (ad 0)), (1, .int x1), (2, .int x2), (3, .int x3), (4, .int x4), (5, .int x5)]) C.1 C.2.1 dX3_areIn_1 hl (Nat.le_of_ble_eq_true rfl) rfl (fun ls hl => ?_)
  obtain ⟨n, hf⟩ := hf
  exact P3 _ _ _ _ n _ _ hf (lv_sub hl [1, 2, 3, 5, 6, 0] rfl)
theorem km_areIn {p : Program} {l : Launch} {e : Env} {R : Room} {s : State} {m : MethodId} {args : Array Value} {below : List Frame} {meth : Method} {c : Code} {H : Heap} {locs : List Loc} {Z : State → Prop} {cc : ByteArray} {nL pc : Nat} {ls : Array Slot} {rest : List Value} {D : va_G} {ct : Ct} {ad : Nat → Nat} {σ : St} {x1 : Int32} {x2 : Int32} {x3 : Int32} {x4 : Int32} {x5 : Int32} {Qp : Int32 → Prop} (C : CallFix p m c cc nL s args lw_all RX3) (hw : gH D ct shM ad s σ H locs) (hsz : ls.size = nL) (hrm : (rest.map fun v => v.category).sum ≤ 8) (hR : rm_m_areIn.frames + 1 ≤ R.frames ∧ 8 + (8 + 11) + rm_m_areIn.locals ≤ R.locals) (hdg : decode cc pc = .ok (.invokevirtual 266, 3)) (hf : m_areIn σ x1 x2 x3 x4 x5 Qp) (kk : ∀ (r : Int32), Qp r → W p l e R s m args below meth c H locs 0 0 Z (F0 m (pc + 3) ls (.int r :: rest))) : W p l e R s m args below meth c H locs 0 0 Z (F0 m pc ls (.int x5 :: .int x4 :: .int x3 :: .int x2 :: .int x1 :: .ref (ad 0) :: rest)) :=
  g_callVR (As := [.int x1, .int x2, .int x3, .int x4, .int x5]) (rest := rest) C hw rfl rfl (met_m_areIn l D ct ad hw.2.1 σ x1 x2 x3 x4 x5 Qp hf) (cwV 5 C.2.2.2.2 (lw_V q1699 q1701 qs123 q207 q1702) rfl rfl rfl (by decide +kernel) hR) rfl hsz rfl hrm ⟨Nat.zero_le _, Nat.zero_le _⟩ hdg kk
def m_areCapitalsIn_p2 (σ : St) (x1 : Int32) (x2 : Int32) (Q : Int32 → Prop) (K2 : Int32 → Prop) (x3 : Int32) : Prop :=
  (vp_in x2 12 ∧ (((gI σ 4 x2) ≤ x3 → Q 1) ∧ (¬ (gI σ 4 x2) ≤ x3 → (vp_in ((4 * x2) + x3) 48 ∧ (((fm_isCapital (gI σ 5 ((4 * x2) + x3))) = 0 → K2 (x3 + 1)) ∧ (¬ (fm_isCapital (gI σ 5 ((4 * x2) + x3))) = 0 → ((((fm_bitOf (gI σ 5 ((4 * x2) + x3))) &&& x1) = 0 → Q 0) ∧ (¬ ((fm_bitOf (gI σ 5 ((4 * x2) + x3))) &&& x1) = 0 → K2 (x3 + 1)))))))))
def m_areCapitalsIn (σ : St) (x1 : Int32) (x2 : Int32) (Q : Int32 → Prop) : Prop :=
  (Lp1 (m_areCapitalsIn_p2 σ x1 x2 Q) 0)
abbrev rm_m_areCapitalsIn : Room := { frames := 2, cells := 0, slots := 0, locals := 40 }
set_option maxHeartbeats 4000000 in
theorem met_m_areCapitalsIn (l : Launch) (D : va_G) (ct : Ct) (ad : Nat → Nat) (hJ : gJ shM ad ct) (σ : St) (x1 : Int32) (x2 : Int32) (Q : Int32 → Prop) (hf : m_areCapitalsIn σ x1 x2 Q) : Met l yX3_areCapitalsIn (ws_ yX3_areCapitalsIn cX3_areCapitalsIn 5 (some .boolean)) rm_m_areCapitalsIn (va_Pc [.ref (ad 0), .int x1, .int x2] (gP D ct shM ad σ)) (gR rvI Q) 0 0 (fun _ => False) := by
  refine g_metRZ hJ (by decide) (Nat.le_of_ble_eq_true rfl) ?_
  intro p e s m args below meth c QQ ls H C hw hl hret
  replace hl : lv_has ls 5 [(0, .ref (ad 0)), (1, .int x1), (2, .int x2)] := hl
  have B2 : ∀ (x1 : Int32) (x2 : Int32) (K2 : Int32 → Prop) (_ : ∀ (x3 : Int32) (ls : Array Slot), K2 x3 → lv_has ls 5 [(0, .ref (ad 0)), (1, .int x1), (2, .int x2), (3, .int x3)] → W p l e rm_m_areCapitalsIn s m args below meth c H [] 0 0 QQ (F0 m 2 ls [])) (x3 : Int32) (ls : Array Slot), m_areCapitalsIn_p2 σ x1 x2 Q K2 x3 → lv_has ls 5 [(0, .ref (ad 0)), (1, .int x1), (2, .int x2), (3, .int x3)] → W p l e rm_m_areCapitalsIn s m args below meth c H [] 0 0 QQ (F0 m 2 ls []) := by
    intro x1 x2 K2 hK2 x3 ls hf hl
    unfold m_areCapitalsIn_p2 at hf
    refine lv_iload_n C.1 C.2.1 dX3_areCapitalsIn_2 rfl (lv_at hl 3 rfl) ?_
    refine lv_aload_n C.1 C.2.1 dX3_areCapitalsIn_3 rfl (lv_at hl 0 rfl) ?_
    refine mg_size C hw dX3_areCapitalsIn_4 ?_
    refine lv_iload_n C.1 C.2.1 dX3_areCapitalsIn_7 rfl (lv_at hl 2 rfl) ?_
    obtain ⟨b8, hf⟩ := hf
    refine g_iald C hw 4 rfl b8 dX3_areCapitalsIn_8 ?_
    refine lv_icmp_ge (tgt := 50) C.1 C.2.1 dX3_areCapitalsIn_9 (by decide) (fun h9 => ?_) (fun h9 => ?_)
    · replace hf := hf.1 h9
      refine lv_iconst (v := 1) C.1 C.2.1 dX3_areCapitalsIn_50 rfl ?_
      exact hret _ _ _ hf (Or.inr rfl) dX3_areCapitalsIn_51
    · replace hf := hf.2 h9
      refine lv_aload_n C.1 C.2.1 dX3_areCapitalsIn_12 rfl (lv_at hl 0 rfl) ?_
      refine mg_sym C hw dX3_areCapitalsIn_13 ?_
      refine lv_iconst (v := 4) C.1 C.2.1 dX3_areCapitalsIn_16 rfl ?_
      refine lv_iload_n C.1 C.2.1 dX3_areCapitalsIn_17 rfl (lv_at hl 2 rfl) ?_
      refine lv_imul C.1 C.2.1 dX3_areCapitalsIn_18 ?_
      refine lv_iload_n C.1 C.2.1 dX3_areCapitalsIn_19 rfl (lv_at hl 3 rfl) ?_
      refine lv_iadd C.1 C.2.1 dX3_areCapitalsIn_20 ?_
      obtain ⟨b21, hf⟩ := hf
      refine g_iald C hw 5 rfl b21 dX3_areCapitalsIn_21 ?_
      refine lv_istore (lv' := [(4, .int (gI σ 5 ((4 * x2) + x3))), (0, .ref (ad 0)), (1, .int x1), (2, .int x2), (3, .int x3)]) C.1 C.2.1 dX3_areCapitalsIn_22 hl (Nat.le_of_ble_eq_true rfl) rfl (fun ls hl => ?_)
      refine lv_iload C.1 C.2.1 dX3_areCapitalsIn_24 (lv_at hl 0 rfl) ?_
      refine km_isCapital C hl.1 (Nat.le_of_ble_eq_true rfl) ⟨Nat.le_of_ble_eq_true rfl, Nat.le_of_ble_eq_true rfl⟩ dX3_areCapitalsIn_26 ?_
      refine lv_if_eq (tgt := 44) C.1 C.2.1 dX3_areCapitalsIn_29 (by decide) (fun h29 => ?_) (fun h29 => ?_)
      · replace hf := hf.1 h29
        refine lv_iinc (v := (x3 + 1)) (lv' := [(3, .int (x3 + 1)), (4, .int (gI σ 5 ((4 * x2) + x3))), (0, .ref (ad 0)), (1, .int x1), (2, .int x2)]) C.1 C.2.1 dX3_areCapitalsIn_44 hl (k := 4) rfl rfl (Nat.le_of_ble_eq_true rfl) rfl (fun ls hl => ?_)
        refine lv_goto (tgt := 2) C.1 C.2.1 dX3_areCapitalsIn_47 (by decide) ?_
        exact hK2 _ _ hf (lv_sub hl [2, 3, 4, 0] rfl)
      · replace hf := hf.2 h29
        refine lv_iload C.1 C.2.1 dX3_areCapitalsIn_32 (lv_at hl 0 rfl) ?_
        refine km_bitOf C hl.1 (Nat.le_of_ble_eq_true rfl) ⟨Nat.le_of_ble_eq_true rfl, Nat.le_of_ble_eq_true rfl⟩ dX3_areCapitalsIn_34 ?_
        refine lv_iload_n C.1 C.2.1 dX3_areCapitalsIn_37 rfl (lv_at hl 2 rfl) ?_
        refine lv_iand C.1 C.2.1 dX3_areCapitalsIn_38 ?_
        refine lv_if_ne (tgt := 44) C.1 C.2.1 dX3_areCapitalsIn_39 (by decide) (fun h39 => ?_) (fun h39 => ?_)
        · replace hf := hf.2 h39
          refine lv_iinc (v := (x3 + 1)) (lv' := [(3, .int (x3 + 1)), (4, .int (gI σ 5 ((4 * x2) + x3))), (0, .ref (ad 0)), (1, .int x1), (2, .int x2)]) C.1 C.2.1 dX3_areCapitalsIn_44 hl (k := 4) rfl rfl (Nat.le_of_ble_eq_true rfl) rfl (fun ls hl => ?_)
          refine lv_goto (tgt := 2) C.1 C.2.1 dX3_areCapitalsIn_47 (by decide) ?_
          exact hK2 _ _ hf (lv_sub hl [2, 3, 4, 0] rfl)
        · replace hf := hf.1 h39
          refine lv_iconst (v := 0) C.1 C.2.1 dX3_areCapitalsIn_42 rfl ?_
          exact hret _ _ _ hf (Or.inl rfl) dX3_areCapitalsIn_43
  have P2 : ∀ (x1 : Int32) (x2 : Int32) (n : Nat) (x3 : Int32) (ls : Array Slot), LL1 (m_areCapitalsIn_p2 σ x1 x2 Q) n x3 → lv_has ls 5 [(0, .ref (ad 0)), (1, .int x1), (2, .int x2), (3, .int x3)] → W p l e rm_m_areCapitalsIn s m args below meth c H [] 0 0 QQ (F0 m 2 ls []) := by
    intro x1 x2 n
    induction n with
    | zero => intro x3 ls hf; exact False.elim hf
    | succ n ih => intro x3 ls hf hl; exact B2 x1 x2 (LL1 _ n) ih x3 ls hf hl
  unfold m_areCapitalsIn at hf
  refine lv_iconst (v := 0) C.1 C.2.1 dX3_areCapitalsIn_0 rfl ?_
  refine lv_istore_n (lv' := [(3, .int 0), (0, .ref (ad 0)), (1, .int x1), (2, .int x2)]) C.1 C.2.1 dX3_areCapitalsIn_1 rfl hl (Nat.le_of_ble_eq_true rfl) rfl (fun ls hl => ?_)
  obtain ⟨n, hf⟩ := hf
  exact P2 _ _ n _ _ hf (lv_sub hl [1, 2, 3, 0] rfl)
theorem km_areCapitalsIn {p : Program} {l : Launch} {e : Env} {R : Room} {s : State} {m : MethodId} {args : Array Value} {below : List Frame} {meth : Method} {c : Code} {H : Heap} {locs : List Loc} {Z : State → Prop} {cc : ByteArray} {nL pc : Nat} {ls : Array Slot} {rest : List Value} {D : va_G} {ct : Ct} {ad : Nat → Nat} {σ : St} {x1 : Int32} {x2 : Int32} {Qp : Int32 → Prop} (C : CallFix p m c cc nL s args lw_all RX3) (hw : gH D ct shM ad s σ H locs) (hsz : ls.size = nL) (hrm : (rest.map fun v => v.category).sum ≤ 8) (hR : rm_m_areCapitalsIn.frames + 1 ≤ R.frames ∧ 8 + (5 + 11) + rm_m_areCapitalsIn.locals ≤ R.locals) (hdg : decode cc pc = .ok (.invokevirtual 270, 3)) (hf : m_areCapitalsIn σ x1 x2 Qp) (kk : ∀ (r : Int32), Qp r → W p l e R s m args below meth c H locs 0 0 Z (F0 m (pc + 3) ls (.int r :: rest))) : W p l e R s m args below meth c H locs 0 0 Z (F0 m pc ls (.int x2 :: .int x1 :: .ref (ad 0) :: rest)) :=
  g_callVR (As := [.int x1, .int x2]) (rest := rest) C hw rfl rfl (met_m_areCapitalsIn l D ct ad hw.2.1 σ x1 x2 Qp hf) (cwV 2 C.2.2.2.2 (lw_V q1707 q1709 qs125 q207 q1710) rfl rfl rfl (by decide +kernel) hR) rfl hsz rfl hrm ⟨Nat.zero_le _, Nat.zero_le _⟩ hdg kk
def m_growsReached_p17 (σ : St) (x3 : Int32) (Q : Int32 → Prop) (K4 : Int32 → Int32 → Prop) (K17 : Int32 → Int32 → Prop) (x2 : Int32) (x4 : Int32) : Prop :=
  (vp_in x3 12 ∧ (((gI σ 4 x3) ≤ x4 → K4 x2 (x3 + 1)) ∧ (¬ (gI σ 4 x3) ≤ x4 → (((fm_isOn σ x3) = 0 → K4 x2 (x3 + 1)) ∧ (¬ (fm_isOn σ x3) = 0 → (vp_in x3 12 ∧ ((((fm_bitOf (gI σ 3 x3)) &&& x2) = 0 → K4 x2 (x3 + 1)) ∧ (¬ ((fm_bitOf (gI σ 3 x3)) &&& x2) = 0 → (vp_in ((4 * x3) + x4) 48 ∧ K17 (x2 ||| (fm_bitOf (gI σ 5 ((4 * x3) + x4)))) (x4 + 1))))))))))
def m_growsReached_p4 (σ : St) (Q : Int32 → Prop) (K4 : Int32 → Int32 → Prop) (x2 : Int32) (x3 : Int32) : Prop :=
  (((gI σ 2 0) ≤ x3 → Q x2) ∧ (¬ (gI σ 2 0) ≤ x3 → (Lp2 (m_growsReached_p17 σ x3 Q K4) x2 0)))
def m_growsReached (σ : St) (x1 : Int32) (Q : Int32 → Prop) : Prop :=
  (Lp2 (m_growsReached_p4 σ Q) x1 0)
abbrev rm_m_growsReached : Room := { frames := 2, cells := 0, slots := 0, locals := 42 }
set_option maxHeartbeats 4000000 in
theorem met_m_growsReached (l : Launch) (D : va_G) (ct : Ct) (ad : Nat → Nat) (hJ : gJ shM ad ct) (σ : St) (x1 : Int32) (Q : Int32 → Prop) (hf : m_growsReached σ x1 Q) : Met l yX3_growsReached (ws_ yX3_growsReached cX3_growsReached 5 (some .int)) rm_m_growsReached (va_Pc [.ref (ad 0), .int x1] (gP D ct shM ad σ)) (gR rvI Q) 0 0 (fun _ => False) := by
  refine g_metRI hJ (by decide) (Nat.le_of_ble_eq_true rfl) ?_
  intro p e s m args below meth c QQ ls H C hw hl hret
  replace hl : lv_has ls 5 [(0, .ref (ad 0)), (1, .int x1)] := hl
  have B17 : ∀ (x3 : Int32) (K4 : Int32 → Int32 → Prop) (_ : ∀ (x2 : Int32) (x3 : Int32) (ls : Array Slot), K4 x2 x3 → lv_has ls 5 [(0, .ref (ad 0)), (2, .int x2), (3, .int x3)] → W p l e rm_m_growsReached s m args below meth c H [] 0 0 QQ (F0 m 4 ls [])) (K17 : Int32 → Int32 → Prop) (_ : ∀ (x2 : Int32) (x4 : Int32) (ls : Array Slot), K17 x2 x4 → lv_has ls 5 [(0, .ref (ad 0)), (2, .int x2), (3, .int x3), (4, .int x4)] → W p l e rm_m_growsReached s m args below meth c H [] 0 0 QQ (F0 m 17 ls [])) (x2 : Int32) (x4 : Int32) (ls : Array Slot), m_growsReached_p17 σ x3 Q K4 K17 x2 x4 → lv_has ls 5 [(0, .ref (ad 0)), (2, .int x2), (3, .int x3), (4, .int x4)] → W p l e rm_m_growsReached s m args below meth c H [] 0 0 QQ (F0 m 17 ls []) := by
    intro x3 K4 hK4 K17 hK17 x2 x4 ls hf hl
    unfold m_growsReached_p17 at hf
    refine lv_iload C.1 C.2.1 dX3_growsReached_17 (lv_at hl 3 rfl) ?_
    refine lv_aload_n C.1 C.2.1 dX3_growsReached_19 rfl (lv_at hl 0 rfl) ?_
    refine mg_size C hw dX3_growsReached_20 ?_
    refine lv_iload_n C.1 C.2.1 dX3_growsReached_23 rfl (lv_at hl 2 rfl) ?_
    obtain ⟨b24, hf⟩ := hf
    refine g_iald C hw 4 rfl b24 dX3_growsReached_24 ?_
    refine lv_icmp_ge (tgt := 73) C.1 C.2.1 dX3_growsReached_25 (by decide) (fun h25 => ?_) (fun h25 => ?_)
    · replace hf := hf.1 h25
      refine lv_iinc (v := (x3 + 1)) (lv' := [(3, .int (x3 + 1)), (0, .ref (ad 0)), (2, .int x2), (4, .int x4)]) C.1 C.2.1 dX3_growsReached_73 hl (k := 2) rfl rfl (Nat.le_of_ble_eq_true rfl) rfl (fun ls hl => ?_)
      refine lv_goto (tgt := 4) C.1 C.2.1 dX3_growsReached_76 (by decide) ?_
      exact hK4 _ _ _ hf (lv_sub hl [1, 2, 0] rfl)
    · replace hf := hf.2 h25
      refine lv_aload_n C.1 C.2.1 dX3_growsReached_28 rfl (lv_at hl 0 rfl) ?_
      refine lv_iload_n C.1 C.2.1 dX3_growsReached_29 rfl (lv_at hl 2 rfl) ?_
      refine km_isOn C hw hl.1 (Nat.le_of_ble_eq_true rfl) ⟨Nat.le_of_ble_eq_true rfl, Nat.le_of_ble_eq_true rfl⟩ dX3_growsReached_30 ?_
      refine lv_if_eq (tgt := 73) C.1 C.2.1 dX3_growsReached_33 (by decide) (fun h33 => ?_) (fun h33 => ?_)
      · replace hf := hf.1 h33
        refine lv_iinc (v := (x3 + 1)) (lv' := [(3, .int (x3 + 1)), (0, .ref (ad 0)), (2, .int x2), (4, .int x4)]) C.1 C.2.1 dX3_growsReached_73 hl (k := 2) rfl rfl (Nat.le_of_ble_eq_true rfl) rfl (fun ls hl => ?_)
        refine lv_goto (tgt := 4) C.1 C.2.1 dX3_growsReached_76 (by decide) ?_
        exact hK4 _ _ _ hf (lv_sub hl [1, 2, 0] rfl)
      · replace hf := hf.2 h33
        refine lv_aload_n C.1 C.2.1 dX3_growsReached_36 rfl (lv_at hl 0 rfl) ?_
        refine mg_left C hw dX3_growsReached_37 ?_
        refine lv_iload_n C.1 C.2.1 dX3_growsReached_40 rfl (lv_at hl 2 rfl) ?_
        obtain ⟨b41, hf⟩ := hf
        refine g_iald C hw 3 rfl b41 dX3_growsReached_41 ?_
        refine km_bitOf C hl.1 (Nat.le_of_ble_eq_true rfl) ⟨Nat.le_of_ble_eq_true rfl, Nat.le_of_ble_eq_true rfl⟩ dX3_growsReached_42 ?_
        refine lv_iload_n C.1 C.2.1 dX3_growsReached_45 rfl (lv_at hl 1 rfl) ?_
        refine lv_iand C.1 C.2.1 dX3_growsReached_46 ?_
        refine lv_if_eq (tgt := 73) C.1 C.2.1 dX3_growsReached_47 (by decide) (fun h47 => ?_) (fun h47 => ?_)
        · replace hf := hf.1 h47
          refine lv_iinc (v := (x3 + 1)) (lv' := [(3, .int (x3 + 1)), (0, .ref (ad 0)), (2, .int x2), (4, .int x4)]) C.1 C.2.1 dX3_growsReached_73 hl (k := 2) rfl rfl (Nat.le_of_ble_eq_true rfl) rfl (fun ls hl => ?_)
          refine lv_goto (tgt := 4) C.1 C.2.1 dX3_growsReached_76 (by decide) ?_
          exact hK4 _ _ _ hf (lv_sub hl [1, 2, 0] rfl)
        · replace hf := hf.2 h47
          refine lv_iload_n C.1 C.2.1 dX3_growsReached_50 rfl (lv_at hl 1 rfl) ?_
          refine lv_aload_n C.1 C.2.1 dX3_growsReached_51 rfl (lv_at hl 0 rfl) ?_
          refine mg_sym C hw dX3_growsReached_52 ?_
          refine lv_iconst (v := 4) C.1 C.2.1 dX3_growsReached_55 rfl ?_
          refine lv_iload_n C.1 C.2.1 dX3_growsReached_56 rfl (lv_at hl 2 rfl) ?_
          refine lv_imul C.1 C.2.1 dX3_growsReached_57 ?_
          refine lv_iload C.1 C.2.1 dX3_growsReached_58 (lv_at hl 3 rfl) ?_
          refine lv_iadd C.1 C.2.1 dX3_growsReached_60 ?_
          obtain ⟨b61, hf⟩ := hf
          refine g_iald C hw 5 rfl b61 dX3_growsReached_61 ?_
          refine km_bitOf C hl.1 (Nat.le_of_ble_eq_true rfl) ⟨Nat.le_of_ble_eq_true rfl, Nat.le_of_ble_eq_true rfl⟩ dX3_growsReached_62 ?_
          refine lv_ior C.1 C.2.1 dX3_growsReached_65 ?_
          refine lv_istore_n (lv' := [(2, .int (x2 ||| (fm_bitOf (gI σ 5 ((4 * x3) + x4))))), (0, .ref (ad 0)), (3, .int x3), (4, .int x4)]) C.1 C.2.1 dX3_growsReached_66 rfl hl (Nat.le_of_ble_eq_true rfl) rfl (fun ls hl => ?_)
          refine lv_iinc (v := (x4 + 1)) (lv' := [(4, .int (x4 + 1)), (2, .int (x2 ||| (fm_bitOf (gI σ 5 ((4 * x3) + x4))))), (0, .ref (ad 0)), (3, .int x3)]) C.1 C.2.1 dX3_growsReached_67 hl (k := 3) rfl rfl (Nat.le_of_ble_eq_true rfl) rfl (fun ls hl => ?_)
          refine lv_goto (tgt := 17) C.1 C.2.1 dX3_growsReached_70 (by decide) ?_
          exact hK17 _ _ _ hf (lv_sub hl [2, 1, 3, 0] rfl)
  have P17 : ∀ (x3 : Int32) (K4 : Int32 → Int32 → Prop) (_ : ∀ (x2 : Int32) (x3 : Int32) (ls : Array Slot), K4 x2 x3 → lv_has ls 5 [(0, .ref (ad 0)), (2, .int x2), (3, .int x3)] → W p l e rm_m_growsReached s m args below meth c H [] 0 0 QQ (F0 m 4 ls [])) (n : Nat) (x2 : Int32) (x4 : Int32) (ls : Array Slot), LL2 (m_growsReached_p17 σ x3 Q K4) n x2 x4 → lv_has ls 5 [(0, .ref (ad 0)), (2, .int x2), (3, .int x3), (4, .int x4)] → W p l e rm_m_growsReached s m args below meth c H [] 0 0 QQ (F0 m 17 ls []) := by
    intro x3 K4 hK4 n
    induction n with
    | zero => intro x2 x4 ls hf; exact False.elim hf
    | succ n ih => intro x2 x4 ls hf hl; exact B17 x3 K4 hK4 (LL2 _ n) ih x2 x4 ls hf hl
  have B4 : ∀ (K4 : Int32 → Int32 → Prop) (_ : ∀ (x2 : Int32) (x3 : Int32) (ls : Array Slot), K4 x2 x3 → lv_has ls 5 [(0, .ref (ad 0)), (2, .int x2), (3, .int x3)] → W p l e rm_m_growsReached s m args below meth c H [] 0 0 QQ (F0 m 4 ls [])) (x2 : Int32) (x3 : Int32) (ls : Array Slot), m_growsReached_p4 σ Q K4 x2 x3 → lv_has ls 5 [(0, .ref (ad 0)), (2, .int x2), (3, .int x3)] → W p l e rm_m_growsReached s m args below meth c H [] 0 0 QQ (F0 m 4 ls []) := by
    intro K4 hK4 x2 x3 ls hf hl
    unfold m_growsReached_p4 at hf
    refine lv_iload_n C.1 C.2.1 dX3_growsReached_4 rfl (lv_at hl 2 rfl) ?_
    refine lv_aload_n C.1 C.2.1 dX3_growsReached_5 rfl (lv_at hl 0 rfl) ?_
    refine mg_scalar C hw dX3_growsReached_6 ?_
    refine lv_iconst (v := 0) C.1 C.2.1 dX3_growsReached_9 rfl ?_
    refine g_iald C hw 2 rfl (vpD rfl) dX3_growsReached_10 ?_
    refine lv_icmp_ge (tgt := 79) C.1 C.2.1 dX3_growsReached_11 (by decide) (fun h11 => ?_) (fun h11 => ?_)
    · replace hf := hf.1 h11
      refine lv_iload_n C.1 C.2.1 dX3_growsReached_79 rfl (lv_at hl 1 rfl) ?_
      exact hret _ _ _ hf dX3_growsReached_80
    · replace hf := hf.2 h11
      refine lv_iconst (v := 0) C.1 C.2.1 dX3_growsReached_14 rfl ?_
      refine lv_istore (lv' := [(4, .int 0), (0, .ref (ad 0)), (2, .int x2), (3, .int x3)]) C.1 C.2.1 dX3_growsReached_15 hl (Nat.le_of_ble_eq_true rfl) rfl (fun ls hl => ?_)
      obtain ⟨n, hf⟩ := hf
      exact P17 _ _ hK4 n _ _ _ hf (lv_sub hl [1, 2, 3, 0] rfl)
  have P4 : ∀ (n : Nat) (x2 : Int32) (x3 : Int32) (ls : Array Slot), LL2 (m_growsReached_p4 σ Q) n x2 x3 → lv_has ls 5 [(0, .ref (ad 0)), (2, .int x2), (3, .int x3)] → W p l e rm_m_growsReached s m args below meth c H [] 0 0 QQ (F0 m 4 ls []) := by
    intro  n
    induction n with
    | zero => intro x2 x3 ls hf; exact False.elim hf
    | succ n ih => intro x2 x3 ls hf hl; exact B4  (LL2 _ n) ih x2 x3 ls hf hl
  unfold m_growsReached at hf
  refine lv_iload_n C.1 C.2.1 dX3_growsReached_0 rfl (lv_at hl 1 rfl) ?_
  refine lv_istore_n (lv' := [(2, .int x1), (0, .ref (ad 0)), (1, .int x1)]) C.1 C.2.1 dX3_growsReached_1 rfl hl (Nat.le_of_ble_eq_true rfl) rfl (fun ls hl => ?_)
  refine lv_iconst (v := 0) C.1 C.2.1 dX3_growsReached_2 rfl ?_
  refine lv_istore_n (lv' := [(3, .int 0), (2, .int x1), (0, .ref (ad 0)), (1, .int x1)]) C.1 C.2.1 dX3_growsReached_3 rfl hl (Nat.le_of_ble_eq_true rfl) rfl (fun ls hl => ?_)
  obtain ⟨n, hf⟩ := hf
  exact P4  n _ _ _ hf (lv_sub hl [2, 1, 0] rfl)
theorem km_growsReached {p : Program} {l : Launch} {e : Env} {R : Room} {s : State} {m : MethodId} {args : Array Value} {below : List Frame} {meth : Method} {c : Code} {H : Heap} {locs : List Loc} {Z : State → Prop} {cc : ByteArray} {nL pc : Nat} {ls : Array Slot} {rest : List Value} {D : va_G} {ct : Ct} {ad : Nat → Nat} {σ : St} {x1 : Int32} {Qp : Int32 → Prop} (C : CallFix p m c cc nL s args lw_all RX3) (hw : gH D ct shM ad s σ H locs) (hsz : ls.size = nL) (hrm : (rest.map fun v => v.category).sum ≤ 8) (hR : rm_m_growsReached.frames + 1 ≤ R.frames ∧ 8 + (5 + 11) + rm_m_growsReached.locals ≤ R.locals) (hdg : decode cc pc = .ok (.invokevirtual 291, 3)) (hf : m_growsReached σ x1 Qp) (kk : ∀ (r : Int32), Qp r → W p l e R s m args below meth c H locs 0 0 Z (F0 m (pc + 3) ls (.int r :: rest))) : W p l e R s m args below meth c H locs 0 0 Z (F0 m pc ls (.int x1 :: .ref (ad 0) :: rest)) :=
  g_callVR (As := [.int x1]) (rest := rest) C hw rfl rfl (met_m_growsReached l D ct ad hw.2.1 σ x1 Qp hf) (cwV 1 C.2.2.2.2 (lw_V q1711 q1713 qs126 q207 q1714) rfl rfl rfl (by decide +kernel) hR) rfl hsz rfl hrm ⟨Nat.zero_le _, Nat.zero_le _⟩ hdg kk
def m_firstBehind_p5 (σ : St) (x1 : Int32) (Q : Int32 → Prop) (K5 : Int32 → Int32 → Prop) (x3 : Int32) (x4 : Int32) : Prop :=
  (vp_in x1 12 ∧ (((gI σ 4 x1) ≤ x4 → Q x3) ∧ (¬ (gI σ 4 x1) ≤ x4 → (vp_in ((4 * x1) + x4) 48 ∧ (m_firstOf σ (gI σ 5 ((4 * x1) + x4)) (fun r33 => ((((fm_bitOf (gI σ 5 ((4 * x1) + x4))) &&& (σ.1 27)) = 0 → Q (x3 ||| r33)) ∧ (¬ ((fm_bitOf (gI σ 5 ((4 * x1) + x4))) &&& (σ.1 27)) = 0 → K5 (x3 ||| r33) (x4 + 1)))))))))
def m_firstBehind (σ : St) (x1 : Int32) (x2 : Int32) (Q : Int32 → Prop) : Prop :=
  (Lp2 (m_firstBehind_p5 σ x1 Q) 0 x2)
abbrev rm_m_firstBehind : Room := { frames := 2, cells := 0, slots := 0, locals := 41 }
set_option maxHeartbeats 4000000 in
theorem met_m_firstBehind (l : Launch) (D : va_G) (ct : Ct) (ad : Nat → Nat) (hJ : gJ shM ad ct) (σ : St) (x1 : Int32) (x2 : Int32) (Q : Int32 → Prop) (hf : m_firstBehind σ x1 x2 Q) : Met l yX3_firstBehind (ws_ yX3_firstBehind cX3_firstBehind 6 (some .int)) rm_m_firstBehind (va_Pc [.ref (ad 0), .int x1, .int x2] (gP D ct shM ad σ)) (gR rvI Q) 0 0 (fun _ => False) := by
  refine g_metRI hJ (by decide) (Nat.le_of_ble_eq_true rfl) ?_
  intro p e s m args below meth c QQ ls H C hw hl hret
  replace hl : lv_has ls 6 [(0, .ref (ad 0)), (1, .int x1), (2, .int x2)] := hl
  have B5 : ∀ (x1 : Int32) (K5 : Int32 → Int32 → Prop) (_ : ∀ (x3 : Int32) (x4 : Int32) (ls : Array Slot), K5 x3 x4 → lv_has ls 6 [(0, .ref (ad 0)), (1, .int x1), (3, .int x3), (4, .int x4)] → W p l e rm_m_firstBehind s m args below meth c H [] 0 0 QQ (F0 m 5 ls [])) (x3 : Int32) (x4 : Int32) (ls : Array Slot), m_firstBehind_p5 σ x1 Q K5 x3 x4 → lv_has ls 6 [(0, .ref (ad 0)), (1, .int x1), (3, .int x3), (4, .int x4)] → W p l e rm_m_firstBehind s m args below meth c H [] 0 0 QQ (F0 m 5 ls []) := by
    intro x1 K5 hK5 x3 x4 ls hf hl
    unfold m_firstBehind_p5 at hf
    refine lv_iload C.1 C.2.1 dX3_firstBehind_5 (lv_at hl 3 rfl) ?_
    refine lv_aload_n C.1 C.2.1 dX3_firstBehind_7 rfl (lv_at hl 0 rfl) ?_
    refine mg_size C hw dX3_firstBehind_8 ?_
    refine lv_iload_n C.1 C.2.1 dX3_firstBehind_11 rfl (lv_at hl 1 rfl) ?_
    obtain ⟨b12, hf⟩ := hf
    refine g_iald C hw 4 rfl b12 dX3_firstBehind_12 ?_
    refine lv_icmp_ge (tgt := 59) C.1 C.2.1 dX3_firstBehind_13 (by decide) (fun h13 => ?_) (fun h13 => ?_)
    · replace hf := hf.1 h13
      refine lv_iload_n C.1 C.2.1 dX3_firstBehind_59 rfl (lv_at hl 2 rfl) ?_
      exact hret _ _ _ hf dX3_firstBehind_60
    · replace hf := hf.2 h13
      refine lv_aload_n C.1 C.2.1 dX3_firstBehind_16 rfl (lv_at hl 0 rfl) ?_
      refine mg_sym C hw dX3_firstBehind_17 ?_
      refine lv_iconst (v := 4) C.1 C.2.1 dX3_firstBehind_20 rfl ?_
      refine lv_iload_n C.1 C.2.1 dX3_firstBehind_21 rfl (lv_at hl 1 rfl) ?_
      refine lv_imul C.1 C.2.1 dX3_firstBehind_22 ?_
      refine lv_iload C.1 C.2.1 dX3_firstBehind_23 (lv_at hl 3 rfl) ?_
      refine lv_iadd C.1 C.2.1 dX3_firstBehind_25 ?_
      obtain ⟨b26, hf⟩ := hf
      refine g_iald C hw 5 rfl b26 dX3_firstBehind_26 ?_
      refine lv_istore (lv' := [(5, .int (gI σ 5 ((4 * x1) + x4))), (0, .ref (ad 0)), (1, .int x1), (3, .int x3), (4, .int x4)]) C.1 C.2.1 dX3_firstBehind_27 hl (Nat.le_of_ble_eq_true rfl) rfl (fun ls hl => ?_)
      refine lv_iload_n C.1 C.2.1 dX3_firstBehind_29 rfl (lv_at hl 3 rfl) ?_
      refine lv_aload_n C.1 C.2.1 dX3_firstBehind_30 rfl (lv_at hl 1 rfl) ?_
      refine lv_iload C.1 C.2.1 dX3_firstBehind_31 (lv_at hl 0 rfl) ?_
      refine km_firstOf C hw hl.1 (Nat.le_of_ble_eq_true rfl) ⟨Nat.le_of_ble_eq_true rfl, Nat.le_of_ble_eq_true rfl⟩ dX3_firstBehind_33 hf (fun r33 hf => ?_)
      refine lv_ior C.1 C.2.1 dX3_firstBehind_36 ?_
      refine lv_istore_n (lv' := [(3, .int (x3 ||| r33)), (5, .int (gI σ 5 ((4 * x1) + x4))), (0, .ref (ad 0)), (1, .int x1), (4, .int x4)]) C.1 C.2.1 dX3_firstBehind_37 rfl hl (Nat.le_of_ble_eq_true rfl) rfl (fun ls hl => ?_)
      refine lv_iload C.1 C.2.1 dX3_firstBehind_38 (lv_at hl 1 rfl) ?_
      refine km_bitOf C hl.1 (Nat.le_of_ble_eq_true rfl) ⟨Nat.le_of_ble_eq_true rfl, Nat.le_of_ble_eq_true rfl⟩ dX3_firstBehind_40 ?_
      refine lv_aload_n C.1 C.2.1 dX3_firstBehind_43 rfl (lv_at hl 2 rfl) ?_
      refine mg_empties C hw dX3_firstBehind_44 ?_
      refine lv_iand C.1 C.2.1 dX3_firstBehind_47 ?_
      refine lv_if_ne (tgt := 53) C.1 C.2.1 dX3_firstBehind_48 (by decide) (fun h48 => ?_) (fun h48 => ?_)
      · replace hf := hf.2 h48
        refine lv_iinc (v := (x4 + 1)) (lv' := [(4, .int (x4 + 1)), (3, .int (x3 ||| r33)), (5, .int (gI σ 5 ((4 * x1) + x4))), (0, .ref (ad 0)), (1, .int x1)]) C.1 C.2.1 dX3_firstBehind_53 hl (k := 4) rfl rfl (Nat.le_of_ble_eq_true rfl) rfl (fun ls hl => ?_)
        refine lv_goto (tgt := 5) C.1 C.2.1 dX3_firstBehind_56 (by decide) ?_
        exact hK5 _ _ _ hf (lv_sub hl [3, 4, 1, 0] rfl)
      · replace hf := hf.1 h48
        refine lv_iload_n C.1 C.2.1 dX3_firstBehind_51 rfl (lv_at hl 0 rfl) ?_
        exact hret _ _ _ hf dX3_firstBehind_52
  have P5 : ∀ (x1 : Int32) (n : Nat) (x3 : Int32) (x4 : Int32) (ls : Array Slot), LL2 (m_firstBehind_p5 σ x1 Q) n x3 x4 → lv_has ls 6 [(0, .ref (ad 0)), (1, .int x1), (3, .int x3), (4, .int x4)] → W p l e rm_m_firstBehind s m args below meth c H [] 0 0 QQ (F0 m 5 ls []) := by
    intro x1 n
    induction n with
    | zero => intro x3 x4 ls hf; exact False.elim hf
    | succ n ih => intro x3 x4 ls hf hl; exact B5 x1 (LL2 _ n) ih x3 x4 ls hf hl
  unfold m_firstBehind at hf
  refine lv_iconst (v := 0) C.1 C.2.1 dX3_firstBehind_0 rfl ?_
  refine lv_istore_n (lv' := [(3, .int 0), (0, .ref (ad 0)), (1, .int x1), (2, .int x2)]) C.1 C.2.1 dX3_firstBehind_1 rfl hl (Nat.le_of_ble_eq_true rfl) rfl (fun ls hl => ?_)
  refine lv_iload_n C.1 C.2.1 dX3_firstBehind_2 rfl (lv_at hl 3 rfl) ?_
  refine lv_istore (lv' := [(4, .int x2), (3, .int 0), (0, .ref (ad 0)), (1, .int x1), (2, .int x2)]) C.1 C.2.1 dX3_firstBehind_3 hl (Nat.le_of_ble_eq_true rfl) rfl (fun ls hl => ?_)
  obtain ⟨n, hf⟩ := hf
  exact P5 _ n _ _ _ hf (lv_sub hl [2, 3, 1, 0] rfl)
theorem km_firstBehind {p : Program} {l : Launch} {e : Env} {R : Room} {s : State} {m : MethodId} {args : Array Value} {below : List Frame} {meth : Method} {c : Code} {H : Heap} {locs : List Loc} {Z : State → Prop} {cc : ByteArray} {nL pc : Nat} {ls : Array Slot} {rest : List Value} {D : va_G} {ct : Ct} {ad : Nat → Nat} {σ : St} {x1 : Int32} {x2 : Int32} {Qp : Int32 → Prop} (C : CallFix p m c cc nL s args lw_all RX3) (hw : gH D ct shM ad s σ H locs) (hsz : ls.size = nL) (hrm : (rest.map fun v => v.category).sum ≤ 8) (hR : rm_m_firstBehind.frames + 1 ≤ R.frames ∧ 8 + (6 + 11) + rm_m_firstBehind.locals ≤ R.locals) (hdg : decode cc pc = .ok (.invokevirtual 311, 3)) (hf : m_firstBehind σ x1 x2 Qp) (kk : ∀ (r : Int32), Qp r → W p l e R s m args below meth c H locs 0 0 Z (F0 m (pc + 3) ls (.int r :: rest))) : W p l e R s m args below meth c H locs 0 0 Z (F0 m pc ls (.int x2 :: .int x1 :: .ref (ad 0) :: rest)) :=
  g_callVR (As := [.int x1, .int x2]) (rest := rest) C hw rfl rfl (met_m_firstBehind l D ct ad hw.2.1 σ x1 x2 Qp hf) (cwV 2 C.2.2.2.2 (lw_V q1735 q1737 qs131 q207 q1738) rfl rfl rfl (by decide +kernel) hR) rfl hsz rfl hrm ⟨Nat.zero_le _, Nat.zero_le _⟩ hdg kk
def m_shortest_p115 (σ : St) (x1 : Int32) (x2 : Int32) (x3 : Int32) (Q : Int32 → St → Prop) (K35 : St → Int32 → Prop) (K43 : St → Int32 → Prop) (v0 : Int32) (v1 : Int32) : Prop :=
  (vp_in v1 26 ∧ (∀ s115 : St, s115 = s_A σ 33 (Int32.toNatClampNeg v1) v0 → K43 s115 (x3 + 1)))
def m_shortest_p83 (σ : St) (x1 : Int32) (x2 : Int32) (x3 : Int32) (x4 : Int32) (Q : Int32 → St → Prop) (K35 : St → Int32 → Prop) (K43 : St → Int32 → Prop) (v0 : Int32) : Prop :=
  (vp_in x4 26 ∧ (((gI σ 33 x4) ≤ v0 → (m_shortest_p115 σ x1 x2 x3 Q K35 K43 (gI σ 33 x4) x4)) ∧ (¬ (gI σ 33 x4) ≤ v0 → (m_shortest_p115 σ x1 x2 x3 Q K35 K43 v0 x4))))
def m_shortest_p43 (x1 : Int32) (x2 : Int32) (Q : Int32 → St → Prop) (K35 : St → Int32 → Prop) (K43 : St → Int32 → Prop) (σ : St) (x3 : Int32) : Prop :=
  (((gI σ 2 0) ≤ x3 → K35 σ (x2 + 1)) ∧ (¬ (gI σ 2 0) ≤ x3 → (vp_in x3 12 ∧ (((fm_isOn σ x3) = 0 → (m_shortest_p83 σ x1 x2 x3 ((gI σ 3 x3) - 26) Q K35 K43 2000000000)) ∧ (¬ (fm_isOn σ x3) = 0 → (m_fewestIn σ x3 (fun r74 => (m_shortest_p83 σ x1 x2 x3 ((gI σ 3 x3) - 26) Q K35 K43 r74))))))))
def m_shortest_p35 (x1 : Int32) (Q : Int32 → St → Prop) (K35 : St → Int32 → Prop) (σ : St) (x2 : Int32) : Prop :=
  ((12 < x2 → (vp_in (x1 - 26) 26 ∧ (((gI σ 33 (x1 - 26)) < 2000000000 → Q (gI σ 33 (x1 - 26)) σ) ∧ (¬ (gI σ 33 (x1 - 26)) < 2000000000 → Q (-2) σ)))) ∧ (¬ 12 < x2 → (Lp2 (m_shortest_p43 x1 x2 Q K35) σ 0)))
def m_shortest_p12 (x1 : Int32) (Q : Int32 → St → Prop) (K12 : St → Int32 → Prop) (σ : St) (x2 : Int32) : Prop :=
  ((26 ≤ x2 → (Lp2 (m_shortest_p35 x1 Q) σ 0)) ∧ (¬ 26 ≤ x2 → (vp_in x2 26 ∧ (∀ s26 : St, s26 = s_A σ 33 (Int32.toNatClampNeg x2) 2000000000 → K12 s26 (x2 + 1)))))
def m_shortest (σ : St) (x1 : Int32) (Q : Int32 → St → Prop) : Prop :=
  (m_isLeft σ x1 (fun r2 => ((r2 = 0 → Q (-1) σ) ∧ (¬ r2 = 0 → (Lp2 (m_shortest_p12 x1 Q) σ 0)))))
abbrev rm_m_shortest : Room := { frames := 2, cells := 0, slots := 0, locals := 45 }
set_option maxHeartbeats 4000000 in
theorem met_m_shortest (l : Launch) (D : va_G) (ct : Ct) (ad : Nat → Nat) (hJ : gJ shM ad ct) (σ : St) (x1 : Int32) (Q : Int32 → St → Prop) (hf : m_shortest σ x1 Q) : Met l yX3_shortest (ws_ yX3_shortest cX3_shortest 6 (some .int)) rm_m_shortest (va_Pc [.ref (ad 0), .int x1] (gP D ct shM ad σ)) (gQ rvI D ct shM ad Q) 0 0 (gA shM ad) := by
  refine g_metI hJ (by decide) (Nat.le_of_ble_eq_true rfl) ?_
  intro p e s m args below meth c QQ ls C hw hl hret
  replace hl : lv_has ls 6 [(0, .ref (ad 0)), (1, .int x1)] := hl
  have J115 : ∀ (σ : St) (H : Heap) (locs : List Loc) (x1 : Int32) (x2 : Int32) (x3 : Int32) (v0 : Int32) (v1 : Int32) (K35 : St → Int32 → Prop) (_ : ∀ (σ : St) (H : Heap) (locs : List Loc) (x2 : Int32) (ls : Array Slot), K35 σ x2 → gH D ct shM ad s σ H locs → lv_has ls 6 [(0, .ref (ad 0)), (1, .int x1), (2, .int x2)] → W p l e rm_m_shortest s m args below meth c H locs 0 0 QQ (F0 m 35 ls [])) (K43 : St → Int32 → Prop) (_ : ∀ (σ : St) (H : Heap) (locs : List Loc) (x3 : Int32) (ls : Array Slot), K43 σ x3 → gH D ct shM ad s σ H locs → lv_has ls 6 [(0, .ref (ad 0)), (1, .int x1), (2, .int x2), (3, .int x3)] → W p l e rm_m_shortest s m args below meth c H locs 0 0 QQ (F0 m 43 ls [])) (ls : Array Slot), m_shortest_p115 σ x1 x2 x3 Q K35 K43 v0 v1 → gH D ct shM ad s σ H locs → lv_has ls 6 [(0, .ref (ad 0)), (1, .int x1), (2, .int x2), (3, .int x3)] → W p l e rm_m_shortest s m args below meth c H locs 0 0 QQ (F0 m 115 ls [.int v0, .int v1, .ref (ad 33)]) := by
    intro σ H locs x1 x2 x3 v0 v1 K35 hK35 K43 hK43 ls hf hw hl
    unfold m_shortest_p115 at hf
    obtain ⟨b115, hf⟩ := hf
    refine g_iast C shM_sep hw 33 rfl b115 dX3_shortest_115 (fun s115 H locs e115 hw => ?_)
    replace hf := hf s115 e115
    refine lv_iinc (v := (x3 + 1)) (lv' := [(3, .int (x3 + 1)), (0, .ref (ad 0)), (1, .int x1), (2, .int x2)]) C.1 C.2.1 dX3_shortest_116 hl (k := 3) rfl rfl (Nat.le_of_ble_eq_true rfl) rfl (fun ls hl => ?_)
    refine lv_goto (tgt := 43) C.1 C.2.1 dX3_shortest_119 (by decide) ?_
    exact hK43 _ _ _ _ _ hf hw (lv_sub hl [1, 2, 3, 0] rfl)
  have J83 : ∀ (σ : St) (H : Heap) (locs : List Loc) (x1 : Int32) (x2 : Int32) (x3 : Int32) (x4 : Int32) (v0 : Int32) (K35 : St → Int32 → Prop) (_ : ∀ (σ : St) (H : Heap) (locs : List Loc) (x2 : Int32) (ls : Array Slot), K35 σ x2 → gH D ct shM ad s σ H locs → lv_has ls 6 [(0, .ref (ad 0)), (1, .int x1), (2, .int x2)] → W p l e rm_m_shortest s m args below meth c H locs 0 0 QQ (F0 m 35 ls [])) (K43 : St → Int32 → Prop) (_ : ∀ (σ : St) (H : Heap) (locs : List Loc) (x3 : Int32) (ls : Array Slot), K43 σ x3 → gH D ct shM ad s σ H locs → lv_has ls 6 [(0, .ref (ad 0)), (1, .int x1), (2, .int x2), (3, .int x3)] → W p l e rm_m_shortest s m args below meth c H locs 0 0 QQ (F0 m 43 ls [])) (ls : Array Slot), m_shortest_p83 σ x1 x2 x3 x4 Q K35 K43 v0 → gH D ct shM ad s σ H locs → lv_has ls 6 [(0, .ref (ad 0)), (1, .int x1), (2, .int x2), (3, .int x3), (4, .int x4)] → W p l e rm_m_shortest s m args below meth c H locs 0 0 QQ (F0 m 83 ls [.int v0]) := by
    intro σ H locs x1 x2 x3 x4 v0 K35 hK35 K43 hK43 ls hf hw hl
    unfold m_shortest_p83 at hf
    refine lv_istore (lv' := [(5, .int v0), (0, .ref (ad 0)), (1, .int x1), (2, .int x2), (3, .int x3), (4, .int x4)]) C.1 C.2.1 dX3_shortest_83 hl (Nat.le_of_ble_eq_true rfl) rfl (fun ls hl => ?_)
    refine lv_aload_n C.1 C.2.1 dX3_shortest_85 rfl (lv_at hl 1 rfl) ?_
    refine mg_fewest C hw dX3_shortest_86 ?_
    refine lv_iload C.1 C.2.1 dX3_shortest_89 (lv_at hl 5 rfl) ?_
    refine lv_iload C.1 C.2.1 dX3_shortest_91 (lv_at hl 0 rfl) ?_
    refine lv_aload_n C.1 C.2.1 dX3_shortest_93 rfl (lv_at hl 1 rfl) ?_
    refine mg_fewest C hw dX3_shortest_94 ?_
    refine lv_iload C.1 C.2.1 dX3_shortest_97 (lv_at hl 5 rfl) ?_
    obtain ⟨b99, hf⟩ := hf
    refine g_iald C hw 33 rfl b99 dX3_shortest_99 ?_
    refine lv_icmp_ge (tgt := 108) C.1 C.2.1 dX3_shortest_100 (by decide) (fun h100 => ?_) (fun h100 => ?_)
    · replace hf := hf.1 h100
      refine lv_aload_n C.1 C.2.1 dX3_shortest_108 rfl (lv_at hl 1 rfl) ?_
      refine mg_fewest C hw dX3_shortest_109 ?_
      refine lv_iload C.1 C.2.1 dX3_shortest_112 (lv_at hl 5 rfl) ?_
      refine g_iald C hw 33 rfl b99 dX3_shortest_114 ?_
      exact J115 _ _ _ _ _ _ _ _ _ hK35 _ hK43 _ hf hw (lv_sub hl [1, 2, 3, 4] rfl)
    · replace hf := hf.2 h100
      refine lv_iload C.1 C.2.1 dX3_shortest_103 (lv_at hl 0 rfl) ?_
      refine lv_goto (tgt := 115) C.1 C.2.1 dX3_shortest_105 (by decide) ?_
      exact J115 _ _ _ _ _ _ _ _ _ hK35 _ hK43 _ hf hw (lv_sub hl [1, 2, 3, 4] rfl)
  have B43 : ∀ (x1 : Int32) (x2 : Int32) (K35 : St → Int32 → Prop) (_ : ∀ (σ : St) (H : Heap) (locs : List Loc) (x2 : Int32) (ls : Array Slot), K35 σ x2 → gH D ct shM ad s σ H locs → lv_has ls 6 [(0, .ref (ad 0)), (1, .int x1), (2, .int x2)] → W p l e rm_m_shortest s m args below meth c H locs 0 0 QQ (F0 m 35 ls [])) (K43 : St → Int32 → Prop) (_ : ∀ (σ : St) (H : Heap) (locs : List Loc) (x3 : Int32) (ls : Array Slot), K43 σ x3 → gH D ct shM ad s σ H locs → lv_has ls 6 [(0, .ref (ad 0)), (1, .int x1), (2, .int x2), (3, .int x3)] → W p l e rm_m_shortest s m args below meth c H locs 0 0 QQ (F0 m 43 ls [])) (σ : St) (H : Heap) (locs : List Loc) (x3 : Int32) (ls : Array Slot), m_shortest_p43 x1 x2 Q K35 K43 σ x3 → gH D ct shM ad s σ H locs → lv_has ls 6 [(0, .ref (ad 0)), (1, .int x1), (2, .int x2), (3, .int x3)] → W p l e rm_m_shortest s m args below meth c H locs 0 0 QQ (F0 m 43 ls []) := by
    intro x1 x2 K35 hK35 K43 hK43 σ H locs x3 ls hf hw hl
    unfold m_shortest_p43 at hf
    refine lv_iload_n C.1 C.2.1 dX3_shortest_43 rfl (lv_at hl 3 rfl) ?_
    refine lv_aload_n C.1 C.2.1 dX3_shortest_44 rfl (lv_at hl 0 rfl) ?_
    refine mg_scalar C hw dX3_shortest_45 ?_
    refine lv_iconst (v := 0) C.1 C.2.1 dX3_shortest_48 rfl ?_
    refine g_iald C hw 2 rfl (vpD rfl) dX3_shortest_49 ?_
    refine lv_icmp_ge (tgt := 122) C.1 C.2.1 dX3_shortest_50 (by decide) (fun h50 => ?_) (fun h50 => ?_)
    · replace hf := hf.1 h50
      refine lv_iinc (v := (x2 + 1)) (lv' := [(2, .int (x2 + 1)), (0, .ref (ad 0)), (1, .int x1), (3, .int x3)]) C.1 C.2.1 dX3_shortest_122 hl (k := 2) rfl rfl (Nat.le_of_ble_eq_true rfl) rfl (fun ls hl => ?_)
      refine lv_goto (tgt := 35) C.1 C.2.1 dX3_shortest_125 (by decide) ?_
      exact hK35 _ _ _ _ _ hf hw (lv_sub hl [1, 2, 0] rfl)
    · replace hf := hf.2 h50
      refine lv_aload_n C.1 C.2.1 dX3_shortest_53 rfl (lv_at hl 0 rfl) ?_
      refine mg_left C hw dX3_shortest_54 ?_
      refine lv_iload_n C.1 C.2.1 dX3_shortest_57 rfl (lv_at hl 3 rfl) ?_
      obtain ⟨b58, hf⟩ := hf
      refine g_iald C hw 3 rfl b58 dX3_shortest_58 ?_
      refine lv_bipush (v := 26) C.1 C.2.1 dX3_shortest_59 rfl ?_
      refine lv_isub C.1 C.2.1 dX3_shortest_61 ?_
      refine lv_istore (lv' := [(4, .int ((gI σ 3 x3) - 26)), (0, .ref (ad 0)), (1, .int x1), (2, .int x2), (3, .int x3)]) C.1 C.2.1 dX3_shortest_62 hl (Nat.le_of_ble_eq_true rfl) rfl (fun ls hl => ?_)
      refine lv_aload_n C.1 C.2.1 dX3_shortest_64 rfl (lv_at hl 1 rfl) ?_
      refine lv_iload_n C.1 C.2.1 dX3_shortest_65 rfl (lv_at hl 4 rfl) ?_
      refine km_isOn C hw hl.1 (Nat.le_of_ble_eq_true rfl) ⟨Nat.le_of_ble_eq_true rfl, Nat.le_of_ble_eq_true rfl⟩ dX3_shortest_66 ?_
      refine lv_if_eq (tgt := 80) C.1 C.2.1 dX3_shortest_69 (by decide) (fun h69 => ?_) (fun h69 => ?_)
      · replace hf := hf.1 h69
        refine lv_ldcw C.1 C.2.1 C.2.2.2.1 (C.2.2.2.2 _ q1760) dX3_shortest_80 ?_
        exact J83 _ _ _ _ _ _ _ _ _ hK35 _ hK43 _ hf hw (lv_sub hl [1, 2, 3, 4, 0] rfl)
      · replace hf := hf.2 h69
        refine lv_aload_n C.1 C.2.1 dX3_shortest_72 rfl (lv_at hl 1 rfl) ?_
        refine lv_iload_n C.1 C.2.1 dX3_shortest_73 rfl (lv_at hl 4 rfl) ?_
        refine km_fewestIn C hw hl.1 (Nat.le_of_ble_eq_true rfl) ⟨Nat.le_of_ble_eq_true rfl, Nat.le_of_ble_eq_true rfl⟩ dX3_shortest_74 hf (fun r74 hf => ?_)
        refine lv_goto (tgt := 83) C.1 C.2.1 dX3_shortest_77 (by decide) ?_
        exact J83 _ _ _ _ _ _ _ _ _ hK35 _ hK43 _ hf hw (lv_sub hl [1, 2, 3, 4, 0] rfl)
  have P43 : ∀ (x1 : Int32) (x2 : Int32) (K35 : St → Int32 → Prop) (_ : ∀ (σ : St) (H : Heap) (locs : List Loc) (x2 : Int32) (ls : Array Slot), K35 σ x2 → gH D ct shM ad s σ H locs → lv_has ls 6 [(0, .ref (ad 0)), (1, .int x1), (2, .int x2)] → W p l e rm_m_shortest s m args below meth c H locs 0 0 QQ (F0 m 35 ls [])) (n : Nat) (σ : St) (x3 : Int32) (ls : Array Slot) (H : Heap) (locs : List Loc), LL2 (m_shortest_p43 x1 x2 Q K35) n σ x3 → gH D ct shM ad s σ H locs → lv_has ls 6 [(0, .ref (ad 0)), (1, .int x1), (2, .int x2), (3, .int x3)] → W p l e rm_m_shortest s m args below meth c H locs 0 0 QQ (F0 m 43 ls []) := by
    intro x1 x2 K35 hK35 n
    induction n with
    | zero => intro σ x3 ls H locs hf; exact False.elim hf
    | succ n ih => intro σ x3 ls H locs hf hw hl; exact B43 x1 x2 K35 hK35 (LL2 _ n) (fun σ H locs x3 ls hf hw hl => ih σ x3 ls H locs hf hw hl) σ H locs x3 ls hf hw hl
  have B35 : ∀ (x1 : Int32) (K35 : St → Int32 → Prop) (_ : ∀ (σ : St) (H : Heap) (locs : List Loc) (x2 : Int32) (ls : Array Slot), K35 σ x2 → gH D ct shM ad s σ H locs → lv_has ls 6 [(0, .ref (ad 0)), (1, .int x1), (2, .int x2)] → W p l e rm_m_shortest s m args below meth c H locs 0 0 QQ (F0 m 35 ls [])) (σ : St) (H : Heap) (locs : List Loc) (x2 : Int32) (ls : Array Slot), m_shortest_p35 x1 Q K35 σ x2 → gH D ct shM ad s σ H locs → lv_has ls 6 [(0, .ref (ad 0)), (1, .int x1), (2, .int x2)] → W p l e rm_m_shortest s m args below meth c H locs 0 0 QQ (F0 m 35 ls []) := by
    intro x1 K35 hK35 σ H locs x2 ls hf hw hl
    unfold m_shortest_p35 at hf
    refine lv_iload_n C.1 C.2.1 dX3_shortest_35 rfl (lv_at hl 2 rfl) ?_
    refine lv_bipush (v := 12) C.1 C.2.1 dX3_shortest_36 rfl ?_
    refine lv_icmp_gt (tgt := 128) C.1 C.2.1 dX3_shortest_38 (by decide) (fun h38 => ?_) (fun h38 => ?_)
    · replace hf := hf.1 h38
      refine lv_aload_n C.1 C.2.1 dX3_shortest_128 rfl (lv_at hl 0 rfl) ?_
      refine mg_fewest C hw dX3_shortest_129 ?_
      refine lv_iload_n C.1 C.2.1 dX3_shortest_132 rfl (lv_at hl 1 rfl) ?_
      refine lv_bipush (v := 26) C.1 C.2.1 dX3_shortest_133 rfl ?_
      refine lv_isub C.1 C.2.1 dX3_shortest_135 ?_
      obtain ⟨b136, hf⟩ := hf
      refine g_iald C hw 33 rfl b136 dX3_shortest_136 ?_
      refine lv_istore_n (lv' := [(2, .int (gI σ 33 (x1 - 26))), (0, .ref (ad 0)), (1, .int x1)]) C.1 C.2.1 dX3_shortest_137 rfl hl (Nat.le_of_ble_eq_true rfl) rfl (fun ls hl => ?_)
      refine lv_iload_n C.1 C.2.1 dX3_shortest_138 rfl (lv_at hl 0 rfl) ?_
      refine lv_ldcw C.1 C.2.1 C.2.2.2.1 (C.2.2.2.2 _ q1760) dX3_shortest_139 ?_
      refine lv_icmp_lt (tgt := 150) C.1 C.2.1 dX3_shortest_142 (by decide) (fun h142 => ?_) (fun h142 => ?_)
      · replace hf := hf.1 h142
        refine lv_iload_n C.1 C.2.1 dX3_shortest_150 rfl (lv_at hl 0 rfl) ?_
        exact hret _ _ _ _ _ _ hf hw dX3_shortest_151
      · replace hf := hf.2 h142
        refine lv_bipush (v := (-2)) C.1 C.2.1 dX3_shortest_145 rfl ?_
        refine lv_goto (tgt := 151) C.1 C.2.1 dX3_shortest_147 (by decide) ?_
        exact hret _ _ _ _ _ _ hf hw dX3_shortest_151
    · replace hf := hf.2 h38
      refine lv_iconst (v := 0) C.1 C.2.1 dX3_shortest_41 rfl ?_
      refine lv_istore_n (lv' := [(3, .int 0), (0, .ref (ad 0)), (1, .int x1), (2, .int x2)]) C.1 C.2.1 dX3_shortest_42 rfl hl (Nat.le_of_ble_eq_true rfl) rfl (fun ls hl => ?_)
      obtain ⟨n, hf⟩ := hf
      exact P43 _ _ _ hK35 n _ _ _ _ _ hf hw (lv_sub hl [1, 2, 3, 0] rfl)
  have P35 : ∀ (x1 : Int32) (n : Nat) (σ : St) (x2 : Int32) (ls : Array Slot) (H : Heap) (locs : List Loc), LL2 (m_shortest_p35 x1 Q) n σ x2 → gH D ct shM ad s σ H locs → lv_has ls 6 [(0, .ref (ad 0)), (1, .int x1), (2, .int x2)] → W p l e rm_m_shortest s m args below meth c H locs 0 0 QQ (F0 m 35 ls []) := by
    intro x1 n
    induction n with
    | zero => intro σ x2 ls H locs hf; exact False.elim hf
    | succ n ih => intro σ x2 ls H locs hf hw hl; exact B35 x1 (LL2 _ n) (fun σ H locs x2 ls hf hw hl => ih σ x2 ls H locs hf hw hl) σ H locs x2 ls hf hw hl
  have B12 : ∀ (x1 : Int32) (K12 : St → Int32 → Prop) (_ : ∀ (σ : St) (H : Heap) (locs : List Loc) (x2 : Int32) (ls : Array Slot), K12 σ x2 → gH D ct shM ad s σ H locs → lv_has ls 6 [(0, .ref (ad 0)), (1, .int x1), (2, .int x2)] → W p l e rm_m_shortest s m args below meth c H locs 0 0 QQ (F0 m 12 ls [])) (σ : St) (H : Heap) (locs : List Loc) (x2 : Int32) (ls : Array Slot), m_shortest_p12 x1 Q K12 σ x2 → gH D ct shM ad s σ H locs → lv_has ls 6 [(0, .ref (ad 0)), (1, .int x1), (2, .int x2)] → W p l e rm_m_shortest s m args below meth c H locs 0 0 QQ (F0 m 12 ls []) := by
    intro x1 K12 hK12 σ H locs x2 ls hf hw hl
    unfold m_shortest_p12 at hf
    refine lv_iload_n C.1 C.2.1 dX3_shortest_12 rfl (lv_at hl 2 rfl) ?_
    refine lv_bipush (v := 26) C.1 C.2.1 dX3_shortest_13 rfl ?_
    refine lv_icmp_ge (tgt := 33) C.1 C.2.1 dX3_shortest_15 (by decide) (fun h15 => ?_) (fun h15 => ?_)
    · replace hf := hf.1 h15
      refine lv_iconst (v := 0) C.1 C.2.1 dX3_shortest_33 rfl ?_
      refine lv_istore_n (lv' := [(2, .int 0), (0, .ref (ad 0)), (1, .int x1)]) C.1 C.2.1 dX3_shortest_34 rfl hl (Nat.le_of_ble_eq_true rfl) rfl (fun ls hl => ?_)
      obtain ⟨n, hf⟩ := hf
      exact P35 _ n _ _ _ _ _ hf hw (lv_sub hl [1, 2, 0] rfl)
    · replace hf := hf.2 h15
      refine lv_aload_n C.1 C.2.1 dX3_shortest_18 rfl (lv_at hl 0 rfl) ?_
      refine mg_fewest C hw dX3_shortest_19 ?_
      refine lv_iload_n C.1 C.2.1 dX3_shortest_22 rfl (lv_at hl 2 rfl) ?_
      refine lv_ldcw C.1 C.2.1 C.2.2.2.1 (C.2.2.2.2 _ q1760) dX3_shortest_23 ?_
      obtain ⟨b26, hf⟩ := hf
      refine g_iast C shM_sep hw 33 rfl b26 dX3_shortest_26 (fun s26 H locs e26 hw => ?_)
      replace hf := hf s26 e26
      refine lv_iinc (v := (x2 + 1)) (lv' := [(2, .int (x2 + 1)), (0, .ref (ad 0)), (1, .int x1)]) C.1 C.2.1 dX3_shortest_27 hl (k := 2) rfl rfl (Nat.le_of_ble_eq_true rfl) rfl (fun ls hl => ?_)
      refine lv_goto (tgt := 12) C.1 C.2.1 dX3_shortest_30 (by decide) ?_
      exact hK12 _ _ _ _ _ hf hw (lv_sub hl [1, 2, 0] rfl)
  have P12 : ∀ (x1 : Int32) (n : Nat) (σ : St) (x2 : Int32) (ls : Array Slot) (H : Heap) (locs : List Loc), LL2 (m_shortest_p12 x1 Q) n σ x2 → gH D ct shM ad s σ H locs → lv_has ls 6 [(0, .ref (ad 0)), (1, .int x1), (2, .int x2)] → W p l e rm_m_shortest s m args below meth c H locs 0 0 QQ (F0 m 12 ls []) := by
    intro x1 n
    induction n with
    | zero => intro σ x2 ls H locs hf; exact False.elim hf
    | succ n ih => intro σ x2 ls H locs hf hw hl; exact B12 x1 (LL2 _ n) (fun σ H locs x2 ls hf hw hl => ih σ x2 ls H locs hf hw hl) σ H locs x2 ls hf hw hl
  unfold m_shortest at hf
  obtain ⟨H, hH⟩ : ∃ q, q = s.heap := ⟨_, rfl⟩
  obtain ⟨locs, hL⟩ : ∃ q : List Loc, q = [] := ⟨_, rfl⟩
  rw [← hH, ← hL] at hw ⊢
  refine lv_aload_n C.1 C.2.1 dX3_shortest_0 rfl (lv_at hl 0 rfl) ?_
  refine lv_iload_n C.1 C.2.1 dX3_shortest_1 rfl (lv_at hl 1 rfl) ?_
  refine km_isLeft C hw hl.1 (Nat.le_of_ble_eq_true rfl) ⟨Nat.le_of_ble_eq_true rfl, Nat.le_of_ble_eq_true rfl⟩ dX3_shortest_2 hf (fun r2 hf => ?_)
  refine lv_if_ne (tgt := 10) C.1 C.2.1 dX3_shortest_5 (by decide) (fun h5 => ?_) (fun h5 => ?_)
  · replace hf := hf.2 h5
    refine lv_iconst (v := 0) C.1 C.2.1 dX3_shortest_10 rfl ?_
    refine lv_istore_n (lv' := [(2, .int 0), (0, .ref (ad 0)), (1, .int x1)]) C.1 C.2.1 dX3_shortest_11 rfl hl (Nat.le_of_ble_eq_true rfl) rfl (fun ls hl => ?_)
    obtain ⟨n, hf⟩ := hf
    exact P12 _ n _ _ _ _ _ hf hw (lv_sub hl [1, 2, 0] rfl)
  · replace hf := hf.1 h5
    refine lv_iconst (v := (-1)) C.1 C.2.1 dX3_shortest_8 rfl ?_
    exact hret _ _ _ _ _ _ hf hw dX3_shortest_9
def m_begun_p5 (σ : St) (x1 : Int32) (Q : Int64 → Prop) (K5 : Int64 → Int32 → Prop) (x2 : Int64) (x4 : Int32) : Prop :=
  (((gI σ 2 0) ≤ x4 → Q x2) ∧ (¬ (gI σ 2 0) ≤ x4 → (((fm_isOn σ x4) = 0 → K5 (x2 ||| 0) (x4 + 1)) ∧ (¬ (fm_isOn σ x4) = 0 → (vp_in x4 12 ∧ (((gI σ 3 x4) = x1 → K5 (x2 ||| (fm_point x4 0)) (x4 + 1)) ∧ (¬ (gI σ 3 x4) = x1 → K5 (x2 ||| 0) (x4 + 1))))))))
def m_begun (σ : St) (x1 : Int32) (Q : Int64 → Prop) : Prop :=
  (Lp2 (m_begun_p5 σ x1 Q) 0 0)
abbrev rm_m_begun : Room := { frames := 2, cells := 0, slots := 0, locals := 42 }
set_option maxHeartbeats 4000000 in
theorem met_m_begun (l : Launch) (D : va_G) (ct : Ct) (ad : Nat → Nat) (hJ : gJ shM ad ct) (σ : St) (x1 : Int32) (Q : Int64 → Prop) (hf : m_begun σ x1 Q) : Met l yX3_begun (ws_ yX3_begun cX3_begun 5 (some .long)) rm_m_begun (va_Pc [.ref (ad 0), .int x1] (gP D ct shM ad σ)) (gR rvL Q) 0 0 (fun _ => False) := by
  refine g_metRL hJ (by decide) (Nat.le_of_ble_eq_true rfl) ?_
  intro p e s m args below meth c QQ ls H C hw hl hret
  replace hl : lv_has ls 5 [(0, .ref (ad 0)), (1, .int x1)] := hl
  have B5 : ∀ (x1 : Int32) (K5 : Int64 → Int32 → Prop) (_ : ∀ (x2 : Int64) (x4 : Int32) (ls : Array Slot), K5 x2 x4 → lv_has ls 5 [(0, .ref (ad 0)), (1, .int x1), (2, .long x2), (4, .int x4)] → W p l e rm_m_begun s m args below meth c H [] 0 0 QQ (F0 m 5 ls [])) (x2 : Int64) (x4 : Int32) (ls : Array Slot), m_begun_p5 σ x1 Q K5 x2 x4 → lv_has ls 5 [(0, .ref (ad 0)), (1, .int x1), (2, .long x2), (4, .int x4)] → W p l e rm_m_begun s m args below meth c H [] 0 0 QQ (F0 m 5 ls []) := by
    intro x1 K5 hK5 x2 x4 ls hf hl
    unfold m_begun_p5 at hf
    refine lv_iload C.1 C.2.1 dX3_begun_5 (lv_at hl 3 rfl) ?_
    refine lv_aload_n C.1 C.2.1 dX3_begun_7 rfl (lv_at hl 0 rfl) ?_
    refine mg_scalar C hw dX3_begun_8 ?_
    refine lv_iconst (v := 0) C.1 C.2.1 dX3_begun_11 rfl ?_
    refine g_iald C hw 2 rfl (vpD rfl) dX3_begun_12 ?_
    refine lv_icmp_ge (tgt := 55) C.1 C.2.1 dX3_begun_13 (by decide) (fun h13 => ?_) (fun h13 => ?_)
    · replace hf := hf.1 h13
      refine lv_lload_n C.1 C.2.1 dX3_begun_55 rfl (lv_at hl 2 rfl) ?_
      exact hret _ _ _ hf dX3_begun_56
    · replace hf := hf.2 h13
      refine lv_lload_n C.1 C.2.1 dX3_begun_16 rfl (lv_at hl 2 rfl) ?_
      refine lv_aload_n C.1 C.2.1 dX3_begun_17 rfl (lv_at hl 0 rfl) ?_
      refine lv_iload C.1 C.2.1 dX3_begun_18 (lv_at hl 3 rfl) ?_
      refine km_isOn C hw hl.1 (Nat.le_of_ble_eq_true rfl) ⟨Nat.le_of_ble_eq_true rfl, Nat.le_of_ble_eq_true rfl⟩ dX3_begun_20 ?_
      refine lv_if_eq (tgt := 46) C.1 C.2.1 dX3_begun_23 (by decide) (fun h23 => ?_) (fun h23 => ?_)
      · replace hf := hf.1 h23
        refine lv_lconst (v := 0) C.1 C.2.1 dX3_begun_46 rfl ?_
        refine lv_lor C.1 C.2.1 dX3_begun_47 ?_
        refine lv_lstore_n (lv' := [(2, .long (x2 ||| 0)), (0, .ref (ad 0)), (1, .int x1), (4, .int x4)]) C.1 C.2.1 dX3_begun_48 rfl hl (Nat.le_of_ble_eq_true rfl) rfl (fun ls hl => ?_)
        refine lv_iinc (v := (x4 + 1)) (lv' := [(4, .int (x4 + 1)), (2, .long (x2 ||| 0)), (0, .ref (ad 0)), (1, .int x1)]) C.1 C.2.1 dX3_begun_49 hl (k := 3) rfl rfl (Nat.le_of_ble_eq_true rfl) rfl (fun ls hl => ?_)
        refine lv_goto (tgt := 5) C.1 C.2.1 dX3_begun_52 (by decide) ?_
        exact hK5 _ _ _ hf (lv_sub hl [2, 3, 1, 0] rfl)
      · replace hf := hf.2 h23
        refine lv_aload_n C.1 C.2.1 dX3_begun_26 rfl (lv_at hl 0 rfl) ?_
        refine mg_left C hw dX3_begun_27 ?_
        refine lv_iload C.1 C.2.1 dX3_begun_30 (lv_at hl 3 rfl) ?_
        obtain ⟨b32, hf⟩ := hf
        refine g_iald C hw 3 rfl b32 dX3_begun_32 ?_
        refine lv_iload_n C.1 C.2.1 dX3_begun_33 rfl (lv_at hl 1 rfl) ?_
        refine lv_icmp_ne (tgt := 46) C.1 C.2.1 dX3_begun_34 (by decide) (fun h34 => ?_) (fun h34 => ?_)
        · replace hf := hf.2 h34
          refine lv_lconst (v := 0) C.1 C.2.1 dX3_begun_46 rfl ?_
          refine lv_lor C.1 C.2.1 dX3_begun_47 ?_
          refine lv_lstore_n (lv' := [(2, .long (x2 ||| 0)), (0, .ref (ad 0)), (1, .int x1), (4, .int x4)]) C.1 C.2.1 dX3_begun_48 rfl hl (Nat.le_of_ble_eq_true rfl) rfl (fun ls hl => ?_)
          refine lv_iinc (v := (x4 + 1)) (lv' := [(4, .int (x4 + 1)), (2, .long (x2 ||| 0)), (0, .ref (ad 0)), (1, .int x1)]) C.1 C.2.1 dX3_begun_49 hl (k := 3) rfl rfl (Nat.le_of_ble_eq_true rfl) rfl (fun ls hl => ?_)
          refine lv_goto (tgt := 5) C.1 C.2.1 dX3_begun_52 (by decide) ?_
          exact hK5 _ _ _ hf (lv_sub hl [2, 3, 1, 0] rfl)
        · replace hf := hf.1 h34
          refine lv_iload C.1 C.2.1 dX3_begun_37 (lv_at hl 3 rfl) ?_
          refine lv_iconst (v := 0) C.1 C.2.1 dX3_begun_39 rfl ?_
          refine km_point C hl.1 (Nat.le_of_ble_eq_true rfl) ⟨Nat.le_of_ble_eq_true rfl, Nat.le_of_ble_eq_true rfl⟩ dX3_begun_40 ?_
          refine lv_goto (tgt := 47) C.1 C.2.1 dX3_begun_43 (by decide) ?_
          refine lv_lor C.1 C.2.1 dX3_begun_47 ?_
          refine lv_lstore_n (lv' := [(2, .long (x2 ||| (fm_point x4 0))), (0, .ref (ad 0)), (1, .int x1), (4, .int x4)]) C.1 C.2.1 dX3_begun_48 rfl hl (Nat.le_of_ble_eq_true rfl) rfl (fun ls hl => ?_)
          refine lv_iinc (v := (x4 + 1)) (lv' := [(4, .int (x4 + 1)), (2, .long (x2 ||| (fm_point x4 0))), (0, .ref (ad 0)), (1, .int x1)]) C.1 C.2.1 dX3_begun_49 hl (k := 3) rfl rfl (Nat.le_of_ble_eq_true rfl) rfl (fun ls hl => ?_)
          refine lv_goto (tgt := 5) C.1 C.2.1 dX3_begun_52 (by decide) ?_
          exact hK5 _ _ _ hf (lv_sub hl [2, 3, 1, 0] rfl)
  have P5 : ∀ (x1 : Int32) (n : Nat) (x2 : Int64) (x4 : Int32) (ls : Array Slot), LL2 (m_begun_p5 σ x1 Q) n x2 x4 → lv_has ls 5 [(0, .ref (ad 0)), (1, .int x1), (2, .long x2), (4, .int x4)] → W p l e rm_m_begun s m args below meth c H [] 0 0 QQ (F0 m 5 ls []) := by
    intro x1 n
    induction n with
    | zero => intro x2 x4 ls hf; exact False.elim hf
    | succ n ih => intro x2 x4 ls hf hl; exact B5 x1 (LL2 _ n) ih x2 x4 ls hf hl
  unfold m_begun at hf
  refine lv_lconst (v := 0) C.1 C.2.1 dX3_begun_0 rfl ?_
  refine lv_lstore_n (lv' := [(2, .long 0), (0, .ref (ad 0)), (1, .int x1)]) C.1 C.2.1 dX3_begun_1 rfl hl (Nat.le_of_ble_eq_true rfl) rfl (fun ls hl => ?_)
  refine lv_iconst (v := 0) C.1 C.2.1 dX3_begun_2 rfl ?_
  refine lv_istore (lv' := [(4, .int 0), (2, .long 0), (0, .ref (ad 0)), (1, .int x1)]) C.1 C.2.1 dX3_begun_3 hl (Nat.le_of_ble_eq_true rfl) rfl (fun ls hl => ?_)
  obtain ⟨n, hf⟩ := hf
  exact P5 _ n _ _ _ hf (lv_sub hl [2, 3, 1, 0] rfl)
theorem km_begun {p : Program} {l : Launch} {e : Env} {R : Room} {s : State} {m : MethodId} {args : Array Value} {below : List Frame} {meth : Method} {c : Code} {H : Heap} {locs : List Loc} {Z : State → Prop} {cc : ByteArray} {nL pc : Nat} {ls : Array Slot} {rest : List Value} {D : va_G} {ct : Ct} {ad : Nat → Nat} {σ : St} {x1 : Int32} {Qp : Int64 → Prop} (C : CallFix p m c cc nL s args lw_all RX3) (hw : gH D ct shM ad s σ H locs) (hsz : ls.size = nL) (hrm : (rest.map fun v => v.category).sum ≤ 8) (hR : rm_m_begun.frames + 1 ≤ R.frames ∧ 8 + (5 + 11) + rm_m_begun.locals ≤ R.locals) (hdg : decode cc pc = .ok (.invokevirtual 343, 3)) (hf : m_begun σ x1 Qp) (kk : ∀ (r : Int64), Qp r → W p l e R s m args below meth c H locs 0 0 Z (F0 m (pc + 3) ls (.long r :: rest))) : W p l e R s m args below meth c H locs 0 0 Z (F0 m pc ls (.int x1 :: .ref (ad 0) :: rest)) :=
  g_callVR (As := [.int x1]) (rest := rest) C hw rfl rfl (met_m_begun l D ct ad hw.2.1 σ x1 Qp hf) (cwV 1 C.2.2.2.2 (lw_V q1631 q1633 qs112 q207 q1634) rfl rfl rfl (by decide +kernel) hR) rfl hsz rfl hrm ⟨Nat.zero_le _, Nat.zero_le _⟩ hdg kk
def m_movesAll_p15 (Q : Unit → St → Prop) (K15 : St → Int32 → Prop) (σ : St) (x3 : Int32) : Prop :=
  ((5 < x3 → (m_movesRow σ 12 8 (fun _ s47 => (m_movesRow s47 8 9 (fun _ s55 => Q () s55))))) ∧ (¬ 5 < x3 → (vp_in x3 7 ∧ (m_moves σ (gI σ 2 x3) (fun r32 s32 => (∀ s35 : St, s35 = s_A s32 2 (Int32.toNatClampNeg x3) r32 → K15 s35 (x3 + 1)))))))
def m_movesAll (σ : St) (x1 : Int32) (x2 : Int32) (Q : Unit → St → Prop) : Prop :=
  (∀ s5 : St, s5 = s_I σ 41 (24 * x1) → (zB x2 ∧ (∀ s10 : St, s10 = s_I s5 42 x2 → (Lp2 (m_movesAll_p15 Q) s10 2))))
abbrev rm_m_movesAll : Room := { frames := 2, cells := 0, slots := 0, locals := 44 }
set_option maxHeartbeats 4000000 in
theorem met_m_movesAll (l : Launch) (D : va_G) (ct : Ct) (ad : Nat → Nat) (hJ : gJ shM ad ct) (σ : St) (x1 : Int32) (x2 : Int32) (Q : Unit → St → Prop) (hf : m_movesAll σ x1 x2 Q) : Met l yX3_movesAll (ws_ yX3_movesAll cX3_movesAll 4 (none)) rm_m_movesAll (va_Pc [.ref (ad 0), .int x1, .int x2] (gP D ct shM ad σ)) (gQ rvV D ct shM ad Q) 0 0 (gA shM ad) := by
  refine g_metV hJ (by decide) (Nat.le_of_ble_eq_true rfl) ?_
  intro p e s m args below meth c QQ ls C hw hl hret
  replace hl : lv_has ls 4 [(0, .ref (ad 0)), (1, .int x1), (2, .int x2)] := hl
  have B15 : ∀ (K15 : St → Int32 → Prop) (_ : ∀ (σ : St) (H : Heap) (locs : List Loc) (x3 : Int32) (ls : Array Slot), K15 σ x3 → gH D ct shM ad s σ H locs → lv_has ls 4 [(0, .ref (ad 0)), (3, .int x3)] → W p l e rm_m_movesAll s m args below meth c H locs 0 0 QQ (F0 m 15 ls [])) (σ : St) (H : Heap) (locs : List Loc) (x3 : Int32) (ls : Array Slot), m_movesAll_p15 Q K15 σ x3 → gH D ct shM ad s σ H locs → lv_has ls 4 [(0, .ref (ad 0)), (3, .int x3)] → W p l e rm_m_movesAll s m args below meth c H locs 0 0 QQ (F0 m 15 ls []) := by
    intro K15 hK15 σ H locs x3 ls hf hw hl
    unfold m_movesAll_p15 at hf
    refine lv_iload_n C.1 C.2.1 dX3_movesAll_15 rfl (lv_at hl 1 rfl) ?_
    refine lv_iconst (v := 5) C.1 C.2.1 dX3_movesAll_16 rfl ?_
    refine lv_icmp_gt (tgt := 42) C.1 C.2.1 dX3_movesAll_17 (by decide) (fun h17 => ?_) (fun h17 => ?_)
    · replace hf := hf.1 h17
      refine lv_aload_n C.1 C.2.1 dX3_movesAll_42 rfl (lv_at hl 0 rfl) ?_
      refine lv_aload_n C.1 C.2.1 dX3_movesAll_43 rfl (lv_at hl 0 rfl) ?_
      refine mg_text C hw dX3_movesAll_44 ?_
      refine km_movesRow C hw hl.1 (Nat.le_of_ble_eq_true rfl) ⟨Nat.le_of_ble_eq_true rfl, Nat.le_of_ble_eq_true rfl⟩ dX3_movesAll_47 rfl hf (fun _ s47 H locs hf hw => ?_)
      refine lv_aload_n C.1 C.2.1 dX3_movesAll_50 rfl (lv_at hl 0 rfl) ?_
      refine lv_aload_n C.1 C.2.1 dX3_movesAll_51 rfl (lv_at hl 0 rfl) ?_
      refine mg_bans C hw dX3_movesAll_52 ?_
      refine km_movesRow C hw hl.1 (Nat.le_of_ble_eq_true rfl) ⟨Nat.le_of_ble_eq_true rfl, Nat.le_of_ble_eq_true rfl⟩ dX3_movesAll_55 rfl hf (fun _ s55 H locs hf hw => ?_)
      exact hret _ _ _ _ _ _ hf hw dX3_movesAll_58
    · replace hf := hf.2 h17
      refine lv_aload_n C.1 C.2.1 dX3_movesAll_20 rfl (lv_at hl 0 rfl) ?_
      refine mg_scalar C hw dX3_movesAll_21 ?_
      refine lv_iload_n C.1 C.2.1 dX3_movesAll_24 rfl (lv_at hl 1 rfl) ?_
      refine lv_aload_n C.1 C.2.1 dX3_movesAll_25 rfl (lv_at hl 0 rfl) ?_
      refine lv_aload_n C.1 C.2.1 dX3_movesAll_26 rfl (lv_at hl 0 rfl) ?_
      refine mg_scalar C hw dX3_movesAll_27 ?_
      refine lv_iload_n C.1 C.2.1 dX3_movesAll_30 rfl (lv_at hl 1 rfl) ?_
      obtain ⟨b31, hf⟩ := hf
      refine g_iald C hw 2 rfl b31 dX3_movesAll_31 ?_
      refine km_moves C hw hl.1 (Nat.le_of_ble_eq_true rfl) ⟨Nat.le_of_ble_eq_true rfl, Nat.le_of_ble_eq_true rfl⟩ dX3_movesAll_32 hf (fun r32 s32 H locs hf hw => ?_)
      refine g_iast C shM_sep hw 2 rfl b31 dX3_movesAll_35 (fun s35 H locs e35 hw => ?_)
      replace hf := hf s35 e35
      refine lv_iinc (v := (x3 + 1)) (lv' := [(3, .int (x3 + 1)), (0, .ref (ad 0))]) C.1 C.2.1 dX3_movesAll_36 hl (k := 1) rfl rfl (Nat.le_of_ble_eq_true rfl) rfl (fun ls hl => ?_)
      refine lv_goto (tgt := 15) C.1 C.2.1 dX3_movesAll_39 (by decide) ?_
      exact hK15 _ _ _ _ _ hf hw (lv_sub hl [1, 0] rfl)
  have P15 : ∀ (n : Nat) (σ : St) (x3 : Int32) (ls : Array Slot) (H : Heap) (locs : List Loc), LL2 (m_movesAll_p15 Q) n σ x3 → gH D ct shM ad s σ H locs → lv_has ls 4 [(0, .ref (ad 0)), (3, .int x3)] → W p l e rm_m_movesAll s m args below meth c H locs 0 0 QQ (F0 m 15 ls []) := by
    intro  n
    induction n with
    | zero => intro σ x3 ls H locs hf; exact False.elim hf
    | succ n ih => intro σ x3 ls H locs hf hw hl; exact B15  (LL2 _ n) (fun σ H locs x3 ls hf hw hl => ih σ x3 ls H locs hf hw hl) σ H locs x3 ls hf hw hl
  unfold m_movesAll at hf
  obtain ⟨H, hH⟩ : ∃ q, q = s.heap := ⟨_, rfl⟩
  obtain ⟨locs, hL⟩ : ∃ q : List Loc, q = [] := ⟨_, rfl⟩
  rw [← hH, ← hL] at hw ⊢
  refine lv_aload_n C.1 C.2.1 dX3_movesAll_0 rfl (lv_at hl 0 rfl) ?_
  refine lv_bipush (v := 24) C.1 C.2.1 dX3_movesAll_1 rfl ?_
  refine lv_iload_n C.1 C.2.1 dX3_movesAll_3 rfl (lv_at hl 1 rfl) ?_
  refine lv_imul C.1 C.2.1 dX3_movesAll_4 ?_
  refine mp_pastAt C hw dX3_movesAll_5 (fun s5 H locs e5 hw => ?_)
  replace hf := hf s5 e5
  refine lv_aload_n C.1 C.2.1 dX3_movesAll_8 rfl (lv_at hl 0 rfl) ?_
  refine lv_iload_n C.1 C.2.1 dX3_movesAll_9 rfl (lv_at hl 2 rfl) ?_
  obtain ⟨h10, hf⟩ := hf
  refine mp_takesBack C hw h10 dX3_movesAll_10 (fun s10 H locs e10 hw => ?_)
  replace hf := hf s10 e10
  refine lv_iconst (v := 2) C.1 C.2.1 dX3_movesAll_13 rfl ?_
  refine lv_istore_n (lv' := [(3, .int 2), (0, .ref (ad 0)), (1, .int x1), (2, .int x2)]) C.1 C.2.1 dX3_movesAll_14 rfl hl (Nat.le_of_ble_eq_true rfl) rfl (fun ls hl => ?_)
  obtain ⟨n, hf⟩ := hf
  exact P15  n _ _ _ _ _ hf hw (lv_sub hl [1, 0] rfl)
theorem km_movesAll {p : Program} {l : Launch} {e : Env} {R : Room} {s : State} {m : MethodId} {args : Array Value} {below : List Frame} {meth : Method} {c : Code} {H : Heap} {locs : List Loc} {Z : State → Prop} {cc : ByteArray} {nL pc : Nat} {ls : Array Slot} {rest : List Value} {D : va_G} {ct : Ct} {ad : Nat → Nat} {σ : St} {x1 : Int32} {x2 : Int32} {Qp : Unit → St → Prop} (C : CallFix p m c cc nL s args lw_all RX3) (hw : gH D ct shM ad s σ H locs) (hsz : ls.size = nL) (hrm : (rest.map fun v => v.category).sum ≤ 8) (hR : rm_m_movesAll.frames + 1 ≤ R.frames ∧ 8 + (4 + 11) + rm_m_movesAll.locals ≤ R.locals) (hdg : decode cc pc = .ok (.invokevirtual 389, 3)) (hf : m_movesAll σ x1 x2 Qp) (kk : ∀ (r : Unit) (σ1 : St) (H1 : Heap) (locs1 : List Loc), Qp r σ1 → gH D ct shM ad s σ1 H1 locs1 → W p l e R s m args below meth c H1 locs1 0 0 Z (F0 m (pc + 3) ls (rest))) : W p l e R s m args below meth c H locs 0 0 Z (F0 m pc ls (.int x2 :: .int x1 :: .ref (ad 0) :: rest)) :=
  g_callV (As := [.int x1, .int x2]) (rest := rest) C hw rfl rfl (met_m_movesAll l D ct ad hw.2.1 σ x1 x2 Qp hf) (cwV 2 C.2.2.2.2 (lw_V q1802 q1804 qs138 q207 q1805) rfl rfl rfl (by decide +kernel) hR) rfl hsz rfl hrm ⟨Nat.zero_le _, Nat.zero_le _⟩ hdg kk
def m_isBelow (σ : St) (x1 : Int32) (x2 : Int32) (x3 : Int32) (x4 : Int32) (Q : Int32 → Prop) : Prop :=
  (((fm_isOn σ x4) = 0 → Q 0) ∧ (¬ (fm_isOn σ x4) = 0 → (vp_in x4 12 ∧ (vp_in ((4 * x2) + x3) 48 ∧ (((gI σ 3 x4) = (gI σ 5 ((4 * x2) + x3)) → ((x1 = 0 → Q 1) ∧ (¬ x1 = 0 → (m_isForbidden σ x2 x3 x4 (fun r38 => ((r38 = 0 → Q 1) ∧ (¬ r38 = 0 → Q 0))))))) ∧ (¬ (gI σ 3 x4) = (gI σ 5 ((4 * x2) + x3)) → Q 0))))))
abbrev rm_m_isBelow : Room := { frames := 2, cells := 0, slots := 0, locals := 46 }
set_option maxHeartbeats 4000000 in
theorem met_m_isBelow (l : Launch) (D : va_G) (ct : Ct) (ad : Nat → Nat) (hJ : gJ shM ad ct) (σ : St) (x1 : Int32) (x2 : Int32) (x3 : Int32) (x4 : Int32) (Q : Int32 → Prop) (hf : m_isBelow σ x1 x2 x3 x4 Q) : Met l yX3_isBelow (ws_ yX3_isBelow cX3_isBelow 5 (some .boolean)) rm_m_isBelow (va_Pc [.ref (ad 0), .int x1, .int x2, .int x3, .int x4] (gP D ct shM ad σ)) (gR rvI Q) 0 0 (fun _ => False) := by
  refine g_metRZ hJ (by decide) (Nat.le_of_ble_eq_true rfl) ?_
  intro p e s m args below meth c QQ ls H C hw hl hret
  replace hl : lv_has ls 5 [(0, .ref (ad 0)), (1, .int x1), (2, .int x2), (3, .int x3), (4, .int x4)] := hl
  unfold m_isBelow at hf
  refine lv_aload_n C.1 C.2.1 dX3_isBelow_0 rfl (lv_at hl 0 rfl) ?_
  refine lv_iload C.1 C.2.1 dX3_isBelow_1 (lv_at hl 4 rfl) ?_
  refine km_isOn C hw hl.1 (Nat.le_of_ble_eq_true rfl) ⟨Nat.le_of_ble_eq_true rfl, Nat.le_of_ble_eq_true rfl⟩ dX3_isBelow_3 ?_
  refine lv_if_eq (tgt := 48) C.1 C.2.1 dX3_isBelow_6 (by decide) (fun h6 => ?_) (fun h6 => ?_)
  · replace hf := hf.1 h6
    refine lv_iconst (v := 0) C.1 C.2.1 dX3_isBelow_48 rfl ?_
    exact hret _ _ _ hf (Or.inl rfl) dX3_isBelow_49
  · replace hf := hf.2 h6
    refine lv_aload_n C.1 C.2.1 dX3_isBelow_9 rfl (lv_at hl 0 rfl) ?_
    refine mg_left C hw dX3_isBelow_10 ?_
    refine lv_iload C.1 C.2.1 dX3_isBelow_13 (lv_at hl 4 rfl) ?_
    obtain ⟨b15, hf⟩ := hf
    refine g_iald C hw 3 rfl b15 dX3_isBelow_15 ?_
    refine lv_aload_n C.1 C.2.1 dX3_isBelow_16 rfl (lv_at hl 0 rfl) ?_
    refine mg_sym C hw dX3_isBelow_17 ?_
    refine lv_iconst (v := 4) C.1 C.2.1 dX3_isBelow_20 rfl ?_
    refine lv_iload_n C.1 C.2.1 dX3_isBelow_21 rfl (lv_at hl 2 rfl) ?_
    refine lv_imul C.1 C.2.1 dX3_isBelow_22 ?_
    refine lv_iload_n C.1 C.2.1 dX3_isBelow_23 rfl (lv_at hl 3 rfl) ?_
    refine lv_iadd C.1 C.2.1 dX3_isBelow_24 ?_
    obtain ⟨b25, hf⟩ := hf
    refine g_iald C hw 5 rfl b25 dX3_isBelow_25 ?_
    refine lv_icmp_ne (tgt := 48) C.1 C.2.1 dX3_isBelow_26 (by decide) (fun h26 => ?_) (fun h26 => ?_)
    · replace hf := hf.2 h26
      refine lv_iconst (v := 0) C.1 C.2.1 dX3_isBelow_48 rfl ?_
      exact hret _ _ _ hf (Or.inl rfl) dX3_isBelow_49
    · replace hf := hf.1 h26
      refine lv_iload_n C.1 C.2.1 dX3_isBelow_29 rfl (lv_at hl 1 rfl) ?_
      refine lv_if_eq (tgt := 44) C.1 C.2.1 dX3_isBelow_30 (by decide) (fun h30 => ?_) (fun h30 => ?_)
      · replace hf := hf.1 h30
        refine lv_iconst (v := 1) C.1 C.2.1 dX3_isBelow_44 rfl ?_
        refine lv_goto (tgt := 49) C.1 C.2.1 dX3_isBelow_45 (by decide) ?_
        exact hret _ _ _ hf (Or.inr rfl) dX3_isBelow_49
      · replace hf := hf.2 h30
        refine lv_aload_n C.1 C.2.1 dX3_isBelow_33 rfl (lv_at hl 0 rfl) ?_
        refine lv_iload_n C.1 C.2.1 dX3_isBelow_34 rfl (lv_at hl 2 rfl) ?_
        refine lv_iload_n C.1 C.2.1 dX3_isBelow_35 rfl (lv_at hl 3 rfl) ?_
        refine lv_iload C.1 C.2.1 dX3_isBelow_36 (lv_at hl 4 rfl) ?_
        refine km_isForbidden C hw hl.1 (Nat.le_of_ble_eq_true rfl) ⟨Nat.le_of_ble_eq_true rfl, Nat.le_of_ble_eq_true rfl⟩ dX3_isBelow_38 hf (fun r38 hf => ?_)
        refine lv_if_ne (tgt := 48) C.1 C.2.1 dX3_isBelow_41 (by decide) (fun h41 => ?_) (fun h41 => ?_)
        · replace hf := hf.2 h41
          refine lv_iconst (v := 0) C.1 C.2.1 dX3_isBelow_48 rfl ?_
          exact hret _ _ _ hf (Or.inl rfl) dX3_isBelow_49
        · replace hf := hf.1 h41
          refine lv_iconst (v := 1) C.1 C.2.1 dX3_isBelow_44 rfl ?_
          refine lv_goto (tgt := 49) C.1 C.2.1 dX3_isBelow_45 (by decide) ?_
          exact hret _ _ _ hf (Or.inr rfl) dX3_isBelow_49
theorem km_isBelow {p : Program} {l : Launch} {e : Env} {R : Room} {s : State} {m : MethodId} {args : Array Value} {below : List Frame} {meth : Method} {c : Code} {H : Heap} {locs : List Loc} {Z : State → Prop} {cc : ByteArray} {nL pc : Nat} {ls : Array Slot} {rest : List Value} {D : va_G} {ct : Ct} {ad : Nat → Nat} {σ : St} {x1 : Int32} {x2 : Int32} {x3 : Int32} {x4 : Int32} {Qp : Int32 → Prop} (C : CallFix p m c cc nL s args lw_all RX3) (hw : gH D ct shM ad s σ H locs) (hsz : ls.size = nL) (hrm : (rest.map fun v => v.category).sum ≤ 8) (hR : rm_m_isBelow.frames + 1 ≤ R.frames ∧ 8 + (5 + 11) + rm_m_isBelow.locals ≤ R.locals) (hdg : decode cc pc = .ok (.invokevirtual 424, 3)) (hf : m_isBelow σ x1 x2 x3 x4 Qp) (kk : ∀ (r : Int32), Qp r → W p l e R s m args below meth c H locs 0 0 Z (F0 m (pc + 3) ls (.int r :: rest))) : W p l e R s m args below meth c H locs 0 0 Z (F0 m pc ls (.int x4 :: .int x3 :: .int x2 :: .int x1 :: .ref (ad 0) :: rest)) :=
  g_callVR (As := [.int x1, .int x2, .int x3, .int x4]) (rest := rest) C hw rfl rfl (met_m_isBelow l D ct ad hw.2.1 σ x1 x2 x3 x4 Qp hf) (cwV 4 C.2.2.2.2 (lw_V q1895 q1897 qs152 q207 q1898) rfl rfl rfl (by decide +kernel) hR) rfl hsz rfl hrm ⟨Nat.zero_le _, Nat.zero_le _⟩ hdg kk
def m_wakesFrom_p6 (x1 : Int32) (x2 : Int32) (x3 : Int32) (Q : Int32 → St → Prop) (K6 : St → Int32 → Int32 → Prop) (σ : St) (x4 : Int32) (x5 : Int32) : Prop :=
  ((52 ≤ x5 → (zB x4 ∧ Q x4 σ)) ∧ (¬ 52 ≤ x5 → (vp_in ((52 * x2) + x5) 4680 ∧ (((gI σ 35 ((52 * x2) + x5)) = (-1) → K6 σ x4 (x5 + 1)) ∧ (¬ (gI σ 35 ((52 * x2) + x5)) = (-1) → (vp_in ((90 * x3) + (gI σ 35 ((52 * x2) + x5))) 1170 ∧ (((gI σ 46 ((90 * x3) + (gI σ 35 ((52 * x2) + x5)))) = 0 → (m_isMadeOf σ x5 x1 x3 (fun r53 => ((r53 = 0 → K6 σ x4 (x5 + 1)) ∧ (¬ r53 = 0 → (∀ s71 : St, s71 = s_A σ 46 (Int32.toNatClampNeg ((90 * x3) + (gI σ 35 ((52 * x2) + x5)))) 1 → K6 s71 1 (x5 + 1))))))) ∧ (¬ (gI σ 46 ((90 * x3) + (gI σ 35 ((52 * x2) + x5)))) = 0 → K6 σ x4 (x5 + 1)))))))))
def m_wakesFrom (σ : St) (x1 : Int32) (x2 : Int32) (x3 : Int32) (Q : Int32 → St → Prop) : Prop :=
  (Lp3 (m_wakesFrom_p6 x1 x2 x3 Q) σ 0 0)
abbrev rm_m_wakesFrom : Room := { frames := 2, cells := 0, slots := 0, locals := 46 }
set_option maxHeartbeats 4000000 in
theorem met_m_wakesFrom (l : Launch) (D : va_G) (ct : Ct) (ad : Nat → Nat) (hJ : gJ shM ad ct) (σ : St) (x1 : Int32) (x2 : Int32) (x3 : Int32) (Q : Int32 → St → Prop) (hf : m_wakesFrom σ x1 x2 x3 Q) : Met l yX3_wakesFrom (ws_ yX3_wakesFrom cX3_wakesFrom 7 (some .boolean)) rm_m_wakesFrom (va_Pc [.ref (ad 0), .int x1, .int x2, .int x3] (gP D ct shM ad σ)) (gQ rvI D ct shM ad Q) 0 0 (gA shM ad) := by
  refine g_metZ hJ (by decide) (Nat.le_of_ble_eq_true rfl) ?_
  intro p e s m args below meth c QQ ls C hw hl hret
  replace hl : lv_has ls 7 [(0, .ref (ad 0)), (1, .int x1), (2, .int x2), (3, .int x3)] := hl
  have B6 : ∀ (x1 : Int32) (x2 : Int32) (x3 : Int32) (K6 : St → Int32 → Int32 → Prop) (_ : ∀ (σ : St) (H : Heap) (locs : List Loc) (x4 : Int32) (x5 : Int32) (ls : Array Slot), K6 σ x4 x5 → gH D ct shM ad s σ H locs → lv_has ls 7 [(0, .ref (ad 0)), (1, .int x1), (2, .int x2), (3, .int x3), (4, .int x4), (5, .int x5)] → W p l e rm_m_wakesFrom s m args below meth c H locs 0 0 QQ (F0 m 6 ls [])) (σ : St) (H : Heap) (locs : List Loc) (x4 : Int32) (x5 : Int32) (ls : Array Slot), m_wakesFrom_p6 x1 x2 x3 Q K6 σ x4 x5 → gH D ct shM ad s σ H locs → lv_has ls 7 [(0, .ref (ad 0)), (1, .int x1), (2, .int x2), (3, .int x3), (4, .int x4), (5, .int x5)] → W p l e rm_m_wakesFrom s m args below meth c H locs 0 0 QQ (F0 m 6 ls []) := by
    intro x1 x2 x3 K6 hK6 σ H locs x4 x5 ls hf hw hl
    unfold m_wakesFrom_p6 at hf
    refine lv_iload C.1 C.2.1 dX3_wakesFrom_6 (lv_at hl 5 rfl) ?_
    refine lv_bipush (v := 52) C.1 C.2.1 dX3_wakesFrom_8 rfl ?_
    refine lv_icmp_ge (tgt := 81) C.1 C.2.1 dX3_wakesFrom_10 (by decide) (fun h10 => ?_) (fun h10 => ?_)
    · replace hf := hf.1 h10
      refine lv_iload C.1 C.2.1 dX3_wakesFrom_81 (lv_at hl 4 rfl) ?_
      obtain ⟨hz, hf⟩ := hf
      exact hret _ _ _ _ _ _ hf hw hz dX3_wakesFrom_83
    · replace hf := hf.2 h10
      refine lv_aload_n C.1 C.2.1 dX3_wakesFrom_13 rfl (lv_at hl 0 rfl) ?_
      refine mg_goTo C hw dX3_wakesFrom_14 ?_
      refine lv_bipush (v := 52) C.1 C.2.1 dX3_wakesFrom_17 rfl ?_
      refine lv_iload_n C.1 C.2.1 dX3_wakesFrom_19 rfl (lv_at hl 2 rfl) ?_
      refine lv_imul C.1 C.2.1 dX3_wakesFrom_20 ?_
      refine lv_iload C.1 C.2.1 dX3_wakesFrom_21 (lv_at hl 5 rfl) ?_
      refine lv_iadd C.1 C.2.1 dX3_wakesFrom_23 ?_
      obtain ⟨b24, hf⟩ := hf
      refine g_iald C hw 35 rfl b24 dX3_wakesFrom_24 ?_
      refine lv_istore (lv' := [(6, .int (gI σ 35 ((52 * x2) + x5))), (0, .ref (ad 0)), (1, .int x1), (2, .int x2), (3, .int x3), (4, .int x4), (5, .int x5)]) C.1 C.2.1 dX3_wakesFrom_25 hl (Nat.le_of_ble_eq_true rfl) rfl (fun ls hl => ?_)
      refine lv_iload C.1 C.2.1 dX3_wakesFrom_27 (lv_at hl 0 rfl) ?_
      refine lv_iconst (v := (-1)) C.1 C.2.1 dX3_wakesFrom_29 rfl ?_
      refine lv_icmp_eq (tgt := 75) C.1 C.2.1 dX3_wakesFrom_30 (by decide) (fun h30 => ?_) (fun h30 => ?_)
      · replace hf := hf.1 h30
        refine lv_iinc (v := (x5 + 1)) (lv' := [(5, .int (x5 + 1)), (6, .int (gI σ 35 ((52 * x2) + x5))), (0, .ref (ad 0)), (1, .int x1), (2, .int x2), (3, .int x3), (4, .int x4)]) C.1 C.2.1 dX3_wakesFrom_75 hl (k := 6) rfl rfl (Nat.le_of_ble_eq_true rfl) rfl (fun ls hl => ?_)
        refine lv_goto (tgt := 6) C.1 C.2.1 dX3_wakesFrom_78 (by decide) ?_
        exact hK6 _ _ _ _ _ _ hf hw (lv_sub hl [2, 3, 4, 5, 6, 0] rfl)
      · replace hf := hf.2 h30
        refine lv_aload_n C.1 C.2.1 dX3_wakesFrom_33 rfl (lv_at hl 1 rfl) ?_
        refine mg_isAlive C hw dX3_wakesFrom_34 ?_
        refine lv_bipush (v := 90) C.1 C.2.1 dX3_wakesFrom_37 rfl ?_
        refine lv_iload_n C.1 C.2.1 dX3_wakesFrom_39 rfl (lv_at hl 4 rfl) ?_
        refine lv_imul C.1 C.2.1 dX3_wakesFrom_40 ?_
        refine lv_iload C.1 C.2.1 dX3_wakesFrom_41 (lv_at hl 0 rfl) ?_
        refine lv_iadd C.1 C.2.1 dX3_wakesFrom_43 ?_
        obtain ⟨b44, hf⟩ := hf
        refine g_zald C hw 46 rfl b44 dX3_wakesFrom_44 ?_
        refine lv_if_ne (tgt := 75) C.1 C.2.1 dX3_wakesFrom_45 (by decide) (fun h45 => ?_) (fun h45 => ?_)
        · replace hf := hf.2 h45
          refine lv_iinc (v := (x5 + 1)) (lv' := [(5, .int (x5 + 1)), (6, .int (gI σ 35 ((52 * x2) + x5))), (0, .ref (ad 0)), (1, .int x1), (2, .int x2), (3, .int x3), (4, .int x4)]) C.1 C.2.1 dX3_wakesFrom_75 hl (k := 6) rfl rfl (Nat.le_of_ble_eq_true rfl) rfl (fun ls hl => ?_)
          refine lv_goto (tgt := 6) C.1 C.2.1 dX3_wakesFrom_78 (by decide) ?_
          exact hK6 _ _ _ _ _ _ hf hw (lv_sub hl [2, 3, 4, 5, 6, 0] rfl)
        · replace hf := hf.1 h45
          refine lv_aload_n C.1 C.2.1 dX3_wakesFrom_48 rfl (lv_at hl 1 rfl) ?_
          refine lv_iload C.1 C.2.1 dX3_wakesFrom_49 (lv_at hl 6 rfl) ?_
          refine lv_iload_n C.1 C.2.1 dX3_wakesFrom_51 rfl (lv_at hl 2 rfl) ?_
          refine lv_iload_n C.1 C.2.1 dX3_wakesFrom_52 rfl (lv_at hl 4 rfl) ?_
          refine km_isMadeOf C hw hl.1 (Nat.le_of_ble_eq_true rfl) ⟨Nat.le_of_ble_eq_true rfl, Nat.le_of_ble_eq_true rfl⟩ dX3_wakesFrom_53 hf (fun r53 hf => ?_)
          refine lv_if_eq (tgt := 75) C.1 C.2.1 dX3_wakesFrom_56 (by decide) (fun h56 => ?_) (fun h56 => ?_)
          · replace hf := hf.1 h56
            refine lv_iinc (v := (x5 + 1)) (lv' := [(5, .int (x5 + 1)), (6, .int (gI σ 35 ((52 * x2) + x5))), (0, .ref (ad 0)), (1, .int x1), (2, .int x2), (3, .int x3), (4, .int x4)]) C.1 C.2.1 dX3_wakesFrom_75 hl (k := 6) rfl rfl (Nat.le_of_ble_eq_true rfl) rfl (fun ls hl => ?_)
            refine lv_goto (tgt := 6) C.1 C.2.1 dX3_wakesFrom_78 (by decide) ?_
            exact hK6 _ _ _ _ _ _ hf hw (lv_sub hl [2, 3, 4, 5, 6, 0] rfl)
          · replace hf := hf.2 h56
            refine lv_aload_n C.1 C.2.1 dX3_wakesFrom_59 rfl (lv_at hl 1 rfl) ?_
            refine mg_isAlive C hw dX3_wakesFrom_60 ?_
            refine lv_bipush (v := 90) C.1 C.2.1 dX3_wakesFrom_63 rfl ?_
            refine lv_iload_n C.1 C.2.1 dX3_wakesFrom_65 rfl (lv_at hl 4 rfl) ?_
            refine lv_imul C.1 C.2.1 dX3_wakesFrom_66 ?_
            refine lv_iload C.1 C.2.1 dX3_wakesFrom_67 (lv_at hl 0 rfl) ?_
            refine lv_iadd C.1 C.2.1 dX3_wakesFrom_69 ?_
            refine lv_iconst (v := 1) C.1 C.2.1 dX3_wakesFrom_70 rfl ?_
            refine g_zast C shM_sep hw 46 rfl (Or.inr rfl) b44 dX3_wakesFrom_71 (fun s71 H locs e71 hw => ?_)
            replace hf := hf s71 e71
            refine lv_iconst (v := 1) C.1 C.2.1 dX3_wakesFrom_72 rfl ?_
            refine lv_istore (lv' := [(4, .int 1), (6, .int (gI σ 35 ((52 * x2) + x5))), (0, .ref (ad 0)), (1, .int x1), (2, .int x2), (3, .int x3), (5, .int x5)]) C.1 C.2.1 dX3_wakesFrom_73 hl (Nat.le_of_ble_eq_true rfl) rfl (fun ls hl => ?_)
            refine lv_iinc (v := (x5 + 1)) (lv' := [(5, .int (x5 + 1)), (4, .int 1), (6, .int (gI σ 35 ((52 * x2) + x5))), (0, .ref (ad 0)), (1, .int x1), (2, .int x2), (3, .int x3)]) C.1 C.2.1 dX3_wakesFrom_75 hl (k := 6) rfl rfl (Nat.le_of_ble_eq_true rfl) rfl (fun ls hl => ?_)
            refine lv_goto (tgt := 6) C.1 C.2.1 dX3_wakesFrom_78 (by decide) ?_
            exact hK6 _ _ _ _ _ _ hf hw (lv_sub hl [3, 4, 5, 6, 1, 0] rfl)
  have P6 : ∀ (x1 : Int32) (x2 : Int32) (x3 : Int32) (n : Nat) (σ : St) (x4 : Int32) (x5 : Int32) (ls : Array Slot) (H : Heap) (locs : List Loc), LL3 (m_wakesFrom_p6 x1 x2 x3 Q) n σ x4 x5 → gH D ct shM ad s σ H locs → lv_has ls 7 [(0, .ref (ad 0)), (1, .int x1), (2, .int x2), (3, .int x3), (4, .int x4), (5, .int x5)] → W p l e rm_m_wakesFrom s m args below meth c H locs 0 0 QQ (F0 m 6 ls []) := by
    intro x1 x2 x3 n
    induction n with
    | zero => intro σ x4 x5 ls H locs hf; exact False.elim hf
    | succ n ih => intro σ x4 x5 ls H locs hf hw hl; exact B6 x1 x2 x3 (LL3 _ n) (fun σ H locs x4 x5 ls hf hw hl => ih σ x4 x5 ls H locs hf hw hl) σ H locs x4 x5 ls hf hw hl
  unfold m_wakesFrom at hf
  obtain ⟨H, hH⟩ : ∃ q, q = s.heap := ⟨_, rfl⟩
  obtain ⟨locs, hL⟩ : ∃ q : List Loc, q = [] := ⟨_, rfl⟩
  rw [← hH, ← hL] at hw ⊢
  refine lv_iconst (v := 0) C.1 C.2.1 dX3_wakesFrom_0 rfl ?_
  refine lv_istore (lv' := [(4, .int 0), (0, .ref (ad 0)), (1, .int x1), (2, .int x2), (3, .int x3)]) C.1 C.2.1 dX3_wakesFrom_1 hl (Nat.le_of_ble_eq_true rfl) rfl (fun ls hl => ?_)
  refine lv_iconst (v := 0) C.1 C.2.1 dX3_wakesFrom_3 rfl ?_
  refine lv_istore (lv' := [(5, .int 0), (4, .int 0), (0, .ref (ad 0)), (1, .int x1), (2, .int x2), (3, .int x3)]) C.1 C.2.1 dX3_wakesFrom_4 hl (Nat.le_of_ble_eq_true rfl) rfl (fun ls hl => ?_)
  obtain ⟨n, hf⟩ := hf
  exact P6 _ _ _ n _ _ _ _ _ _ hf hw (lv_sub hl [2, 3, 4, 5, 1, 0] rfl)
theorem km_wakesFrom {p : Program} {l : Launch} {e : Env} {R : Room} {s : State} {m : MethodId} {args : Array Value} {below : List Frame} {meth : Method} {c : Code} {H : Heap} {locs : List Loc} {Z : State → Prop} {cc : ByteArray} {nL pc : Nat} {ls : Array Slot} {rest : List Value} {D : va_G} {ct : Ct} {ad : Nat → Nat} {σ : St} {x1 : Int32} {x2 : Int32} {x3 : Int32} {Qp : Int32 → St → Prop} (C : CallFix p m c cc nL s args lw_all RX3) (hw : gH D ct shM ad s σ H locs) (hsz : ls.size = nL) (hrm : (rest.map fun v => v.category).sum ≤ 8) (hR : rm_m_wakesFrom.frames + 1 ≤ R.frames ∧ 8 + (7 + 11) + rm_m_wakesFrom.locals ≤ R.locals) (hdg : decode cc pc = .ok (.invokevirtual 449, 3)) (hf : m_wakesFrom σ x1 x2 x3 Qp) (kk : ∀ (r : Int32) (σ1 : St) (H1 : Heap) (locs1 : List Loc), Qp r σ1 → gH D ct shM ad s σ1 H1 locs1 → W p l e R s m args below meth c H1 locs1 0 0 Z (F0 m (pc + 3) ls (.int r :: rest))) : W p l e R s m args below meth c H locs 0 0 Z (F0 m pc ls (.int x3 :: .int x2 :: .int x1 :: .ref (ad 0) :: rest)) :=
  g_callV (As := [.int x1, .int x2, .int x3]) (rest := rest) C hw rfl rfl (met_m_wakesFrom l D ct ad hw.2.1 σ x1 x2 x3 Qp hf) (cwV 3 C.2.2.2.2 (lw_V q1931 q1933 qs159 q207 q1934) rfl rfl rfl (by decide +kernel) hR) rfl hsz rfl hrm ⟨Nat.zero_le _, Nat.zero_le _⟩ hdg kk
def m_linksTo_p48 (σ : St) (x1 : Int32) (x2 : Int32) (x3 : Int32) (x4 : Int32) (x6 : Int32) (Q : Int32 → Prop) (K6 : Int32 → Int32 → Prop) (v0 : Int32) : Prop :=
  (m_isMadeOf σ x6 x1 x3 (fun r53 => ((r53 = 0 → K6 (v0 + 0) (x6 + 1)) ∧ (¬ r53 = 0 → K6 (v0 + 1) (x6 + 1)))))
def m_linksTo_p6 (σ : St) (x1 : Int32) (x2 : Int32) (x3 : Int32) (x4 : Int32) (Q : Int32 → Prop) (K6 : Int32 → Int32 → Prop) (x5 : Int32) (x6 : Int32) : Prop :=
  ((52 ≤ x6 → Q x5) ∧ (¬ 52 ≤ x6 → (vp_in ((52 * x2) + x6) 4680 ∧ (((gI σ 35 ((52 * x2) + x6)) = (-1) → K6 (x5 + 0) (x6 + 1)) ∧ (¬ (gI σ 35 ((52 * x2) + x6)) = (-1) → ((x4 = (-1) → (m_linksTo_p48 σ x1 x2 x3 x4 x6 Q K6 x5)) ∧ (¬ x4 = (-1) → (((gI σ 35 ((52 * x2) + x6)) = x4 → (m_linksTo_p48 σ x1 x2 x3 x4 x6 Q K6 x5)) ∧ (¬ (gI σ 35 ((52 * x2) + x6)) = x4 → K6 (x5 + 0) (x6 + 1))))))))))
def m_linksTo (σ : St) (x1 : Int32) (x2 : Int32) (x3 : Int32) (x4 : Int32) (Q : Int32 → Prop) : Prop :=
  (Lp2 (m_linksTo_p6 σ x1 x2 x3 x4 Q) 0 0)
abbrev rm_m_linksTo : Room := { frames := 2, cells := 0, slots := 0, locals := 46 }
set_option maxHeartbeats 4000000 in
theorem met_m_linksTo (l : Launch) (D : va_G) (ct : Ct) (ad : Nat → Nat) (hJ : gJ shM ad ct) (σ : St) (x1 : Int32) (x2 : Int32) (x3 : Int32) (x4 : Int32) (Q : Int32 → Prop) (hf : m_linksTo σ x1 x2 x3 x4 Q) : Met l yX3_linksTo (ws_ yX3_linksTo cX3_linksTo 8 (some .int)) rm_m_linksTo (va_Pc [.ref (ad 0), .int x1, .int x2, .int x3, .int x4] (gP D ct shM ad σ)) (gR rvI Q) 0 0 (fun _ => False) := by
  refine g_metRI hJ (by decide) (Nat.le_of_ble_eq_true rfl) ?_
  intro p e s m args below meth c QQ ls H C hw hl hret
  replace hl : lv_has ls 8 [(0, .ref (ad 0)), (1, .int x1), (2, .int x2), (3, .int x3), (4, .int x4)] := hl
  have J48 : ∀ (x1 : Int32) (x2 : Int32) (x3 : Int32) (x4 : Int32) (x6 : Int32) (v0 : Int32) (K6 : Int32 → Int32 → Prop) (_ : ∀ (x5 : Int32) (x6 : Int32) (ls : Array Slot), K6 x5 x6 → lv_has ls 8 [(0, .ref (ad 0)), (1, .int x1), (2, .int x2), (3, .int x3), (4, .int x4), (5, .int x5), (6, .int x6)] → W p l e rm_m_linksTo s m args below meth c H [] 0 0 QQ (F0 m 6 ls [])) (ls : Array Slot), m_linksTo_p48 σ x1 x2 x3 x4 x6 Q K6 v0 → lv_has ls 8 [(0, .ref (ad 0)), (1, .int x1), (2, .int x2), (3, .int x3), (4, .int x4), (6, .int x6)] → W p l e rm_m_linksTo s m args below meth c H [] 0 0 QQ (F0 m 48 ls [.int v0]) := by
    intro x1 x2 x3 x4 x6 v0 K6 hK6 ls hf hl
    unfold m_linksTo_p48 at hf
    refine lv_aload_n C.1 C.2.1 dX3_linksTo_48 rfl (lv_at hl 0 rfl) ?_
    refine lv_iload C.1 C.2.1 dX3_linksTo_49 (lv_at hl 5 rfl) ?_
    refine lv_iload_n C.1 C.2.1 dX3_linksTo_51 rfl (lv_at hl 1 rfl) ?_
    refine lv_iload_n C.1 C.2.1 dX3_linksTo_52 rfl (lv_at hl 3 rfl) ?_
    refine km_isMadeOf C hw hl.1 (Nat.le_of_ble_eq_true rfl) ⟨Nat.le_of_ble_eq_true rfl, Nat.le_of_ble_eq_true rfl⟩ dX3_linksTo_53 hf (fun r53 hf => ?_)
    refine lv_if_eq (tgt := 63) C.1 C.2.1 dX3_linksTo_56 (by decide) (fun h56 => ?_) (fun h56 => ?_)
    · replace hf := hf.1 h56
      refine lv_iconst (v := 0) C.1 C.2.1 dX3_linksTo_63 rfl ?_
      refine lv_iadd C.1 C.2.1 dX3_linksTo_64 ?_
      refine lv_istore (lv' := [(5, .int (v0 + 0)), (0, .ref (ad 0)), (1, .int x1), (2, .int x2), (3, .int x3), (4, .int x4), (6, .int x6)]) C.1 C.2.1 dX3_linksTo_65 hl (Nat.le_of_ble_eq_true rfl) rfl (fun ls hl => ?_)
      refine lv_iinc (v := (x6 + 1)) (lv' := [(6, .int (x6 + 1)), (5, .int (v0 + 0)), (0, .ref (ad 0)), (1, .int x1), (2, .int x2), (3, .int x3), (4, .int x4)]) C.1 C.2.1 dX3_linksTo_67 hl (k := 6) rfl rfl (Nat.le_of_ble_eq_true rfl) rfl (fun ls hl => ?_)
      refine lv_goto (tgt := 6) C.1 C.2.1 dX3_linksTo_70 (by decide) ?_
      exact hK6 _ _ _ hf (lv_sub hl [2, 3, 4, 5, 6, 1, 0] rfl)
    · replace hf := hf.2 h56
      refine lv_iconst (v := 1) C.1 C.2.1 dX3_linksTo_59 rfl ?_
      refine lv_goto (tgt := 64) C.1 C.2.1 dX3_linksTo_60 (by decide) ?_
      refine lv_iadd C.1 C.2.1 dX3_linksTo_64 ?_
      refine lv_istore (lv' := [(5, .int (v0 + 1)), (0, .ref (ad 0)), (1, .int x1), (2, .int x2), (3, .int x3), (4, .int x4), (6, .int x6)]) C.1 C.2.1 dX3_linksTo_65 hl (Nat.le_of_ble_eq_true rfl) rfl (fun ls hl => ?_)
      refine lv_iinc (v := (x6 + 1)) (lv' := [(6, .int (x6 + 1)), (5, .int (v0 + 1)), (0, .ref (ad 0)), (1, .int x1), (2, .int x2), (3, .int x3), (4, .int x4)]) C.1 C.2.1 dX3_linksTo_67 hl (k := 6) rfl rfl (Nat.le_of_ble_eq_true rfl) rfl (fun ls hl => ?_)
      refine lv_goto (tgt := 6) C.1 C.2.1 dX3_linksTo_70 (by decide) ?_
      exact hK6 _ _ _ hf (lv_sub hl [2, 3, 4, 5, 6, 1, 0] rfl)
  have B6 : ∀ (x1 : Int32) (x2 : Int32) (x3 : Int32) (x4 : Int32) (K6 : Int32 → Int32 → Prop) (_ : ∀ (x5 : Int32) (x6 : Int32) (ls : Array Slot), K6 x5 x6 → lv_has ls 8 [(0, .ref (ad 0)), (1, .int x1), (2, .int x2), (3, .int x3), (4, .int x4), (5, .int x5), (6, .int x6)] → W p l e rm_m_linksTo s m args below meth c H [] 0 0 QQ (F0 m 6 ls [])) (x5 : Int32) (x6 : Int32) (ls : Array Slot), m_linksTo_p6 σ x1 x2 x3 x4 Q K6 x5 x6 → lv_has ls 8 [(0, .ref (ad 0)), (1, .int x1), (2, .int x2), (3, .int x3), (4, .int x4), (5, .int x5), (6, .int x6)] → W p l e rm_m_linksTo s m args below meth c H [] 0 0 QQ (F0 m 6 ls []) := by
    intro x1 x2 x3 x4 K6 hK6 x5 x6 ls hf hl
    unfold m_linksTo_p6 at hf
    refine lv_iload C.1 C.2.1 dX3_linksTo_6 (lv_at hl 6 rfl) ?_
    refine lv_bipush (v := 52) C.1 C.2.1 dX3_linksTo_8 rfl ?_
    refine lv_icmp_ge (tgt := 73) C.1 C.2.1 dX3_linksTo_10 (by decide) (fun h10 => ?_) (fun h10 => ?_)
    · replace hf := hf.1 h10
      refine lv_iload C.1 C.2.1 dX3_linksTo_73 (lv_at hl 5 rfl) ?_
      exact hret _ _ _ hf dX3_linksTo_75
    · replace hf := hf.2 h10
      refine lv_aload_n C.1 C.2.1 dX3_linksTo_13 rfl (lv_at hl 0 rfl) ?_
      refine mg_goTo C hw dX3_linksTo_14 ?_
      refine lv_bipush (v := 52) C.1 C.2.1 dX3_linksTo_17 rfl ?_
      refine lv_iload_n C.1 C.2.1 dX3_linksTo_19 rfl (lv_at hl 2 rfl) ?_
      refine lv_imul C.1 C.2.1 dX3_linksTo_20 ?_
      refine lv_iload C.1 C.2.1 dX3_linksTo_21 (lv_at hl 6 rfl) ?_
      refine lv_iadd C.1 C.2.1 dX3_linksTo_23 ?_
      obtain ⟨b24, hf⟩ := hf
      refine g_iald C hw 35 rfl b24 dX3_linksTo_24 ?_
      refine lv_istore (lv' := [(7, .int (gI σ 35 ((52 * x2) + x6))), (0, .ref (ad 0)), (1, .int x1), (2, .int x2), (3, .int x3), (4, .int x4), (5, .int x5), (6, .int x6)]) C.1 C.2.1 dX3_linksTo_25 hl (Nat.le_of_ble_eq_true rfl) rfl (fun ls hl => ?_)
      refine lv_iload C.1 C.2.1 dX3_linksTo_27 (lv_at hl 6 rfl) ?_
      refine lv_iload C.1 C.2.1 dX3_linksTo_29 (lv_at hl 0 rfl) ?_
      refine lv_iconst (v := (-1)) C.1 C.2.1 dX3_linksTo_31 rfl ?_
      refine lv_icmp_eq (tgt := 63) C.1 C.2.1 dX3_linksTo_32 (by decide) (fun h32 => ?_) (fun h32 => ?_)
      · replace hf := hf.1 h32
        refine lv_iconst (v := 0) C.1 C.2.1 dX3_linksTo_63 rfl ?_
        refine lv_iadd C.1 C.2.1 dX3_linksTo_64 ?_
        refine lv_istore (lv' := [(5, .int (x5 + 0)), (7, .int (gI σ 35 ((52 * x2) + x6))), (0, .ref (ad 0)), (1, .int x1), (2, .int x2), (3, .int x3), (4, .int x4), (6, .int x6)]) C.1 C.2.1 dX3_linksTo_65 hl (Nat.le_of_ble_eq_true rfl) rfl (fun ls hl => ?_)
        refine lv_iinc (v := (x6 + 1)) (lv' := [(6, .int (x6 + 1)), (5, .int (x5 + 0)), (7, .int (gI σ 35 ((52 * x2) + x6))), (0, .ref (ad 0)), (1, .int x1), (2, .int x2), (3, .int x3), (4, .int x4)]) C.1 C.2.1 dX3_linksTo_67 hl (k := 7) rfl rfl (Nat.le_of_ble_eq_true rfl) rfl (fun ls hl => ?_)
        refine lv_goto (tgt := 6) C.1 C.2.1 dX3_linksTo_70 (by decide) ?_
        exact hK6 _ _ _ hf (lv_sub hl [3, 4, 5, 6, 7, 1, 0] rfl)
      · replace hf := hf.2 h32
        refine lv_iload C.1 C.2.1 dX3_linksTo_35 (lv_at hl 5 rfl) ?_
        refine lv_iconst (v := (-1)) C.1 C.2.1 dX3_linksTo_37 rfl ?_
        refine lv_icmp_eq (tgt := 48) C.1 C.2.1 dX3_linksTo_38 (by decide) (fun h38 => ?_) (fun h38 => ?_)
        · replace hf := hf.1 h38
          exact J48 _ _ _ _ _ _ _ hK6 _ hf (lv_sub hl [1, 2, 3, 4, 5, 7] rfl)
        · replace hf := hf.2 h38
          refine lv_iload C.1 C.2.1 dX3_linksTo_41 (lv_at hl 0 rfl) ?_
          refine lv_iload C.1 C.2.1 dX3_linksTo_43 (lv_at hl 5 rfl) ?_
          refine lv_icmp_ne (tgt := 63) C.1 C.2.1 dX3_linksTo_45 (by decide) (fun h45 => ?_) (fun h45 => ?_)
          · replace hf := hf.2 h45
            refine lv_iconst (v := 0) C.1 C.2.1 dX3_linksTo_63 rfl ?_
            refine lv_iadd C.1 C.2.1 dX3_linksTo_64 ?_
            refine lv_istore (lv' := [(5, .int (x5 + 0)), (7, .int (gI σ 35 ((52 * x2) + x6))), (0, .ref (ad 0)), (1, .int x1), (2, .int x2), (3, .int x3), (4, .int x4), (6, .int x6)]) C.1 C.2.1 dX3_linksTo_65 hl (Nat.le_of_ble_eq_true rfl) rfl (fun ls hl => ?_)
            refine lv_iinc (v := (x6 + 1)) (lv' := [(6, .int (x6 + 1)), (5, .int (x5 + 0)), (7, .int (gI σ 35 ((52 * x2) + x6))), (0, .ref (ad 0)), (1, .int x1), (2, .int x2), (3, .int x3), (4, .int x4)]) C.1 C.2.1 dX3_linksTo_67 hl (k := 7) rfl rfl (Nat.le_of_ble_eq_true rfl) rfl (fun ls hl => ?_)
            refine lv_goto (tgt := 6) C.1 C.2.1 dX3_linksTo_70 (by decide) ?_
            exact hK6 _ _ _ hf (lv_sub hl [3, 4, 5, 6, 7, 1, 0] rfl)
          · replace hf := hf.1 h45
            exact J48 _ _ _ _ _ _ _ hK6 _ hf (lv_sub hl [1, 2, 3, 4, 5, 7] rfl)
  have P6 : ∀ (x1 : Int32) (x2 : Int32) (x3 : Int32) (x4 : Int32) (n : Nat) (x5 : Int32) (x6 : Int32) (ls : Array Slot), LL2 (m_linksTo_p6 σ x1 x2 x3 x4 Q) n x5 x6 → lv_has ls 8 [(0, .ref (ad 0)), (1, .int x1), (2, .int x2), (3, .int x3), (4, .int x4), (5, .int x5), (6, .int x6)] → W p l e rm_m_linksTo s m args below meth c H [] 0 0 QQ (F0 m 6 ls []) := by
    intro x1 x2 x3 x4 n
    induction n with
    | zero => intro x5 x6 ls hf; exact False.elim hf
    | succ n ih => intro x5 x6 ls hf hl; exact B6 x1 x2 x3 x4 (LL2 _ n) ih x5 x6 ls hf hl
  unfold m_linksTo at hf
  refine lv_iconst (v := 0) C.1 C.2.1 dX3_linksTo_0 rfl ?_
  refine lv_istore (lv' := [(5, .int 0), (0, .ref (ad 0)), (1, .int x1), (2, .int x2), (3, .int x3), (4, .int x4)]) C.1 C.2.1 dX3_linksTo_1 hl (Nat.le_of_ble_eq_true rfl) rfl (fun ls hl => ?_)
  refine lv_iconst (v := 0) C.1 C.2.1 dX3_linksTo_3 rfl ?_
  refine lv_istore (lv' := [(6, .int 0), (5, .int 0), (0, .ref (ad 0)), (1, .int x1), (2, .int x2), (3, .int x3), (4, .int x4)]) C.1 C.2.1 dX3_linksTo_4 hl (Nat.le_of_ble_eq_true rfl) rfl (fun ls hl => ?_)
  obtain ⟨n, hf⟩ := hf
  exact P6 _ _ _ _ n _ _ _ hf (lv_sub hl [2, 3, 4, 5, 6, 1, 0] rfl)
theorem km_linksTo {p : Program} {l : Launch} {e : Env} {R : Room} {s : State} {m : MethodId} {args : Array Value} {below : List Frame} {meth : Method} {c : Code} {H : Heap} {locs : List Loc} {Z : State → Prop} {cc : ByteArray} {nL pc : Nat} {ls : Array Slot} {rest : List Value} {D : va_G} {ct : Ct} {ad : Nat → Nat} {σ : St} {x1 : Int32} {x2 : Int32} {x3 : Int32} {x4 : Int32} {Qp : Int32 → Prop} (C : CallFix p m c cc nL s args lw_all RX3) (hw : gH D ct shM ad s σ H locs) (hsz : ls.size = nL) (hrm : (rest.map fun v => v.category).sum ≤ 8) (hR : rm_m_linksTo.frames + 1 ≤ R.frames ∧ 8 + (8 + 11) + rm_m_linksTo.locals ≤ R.locals) (hdg : decode cc pc = .ok (.invokevirtual 461, 3)) (hf : m_linksTo σ x1 x2 x3 x4 Qp) (kk : ∀ (r : Int32), Qp r → W p l e R s m args below meth c H locs 0 0 Z (F0 m (pc + 3) ls (.int r :: rest))) : W p l e R s m args below meth c H locs 0 0 Z (F0 m pc ls (.int x4 :: .int x3 :: .int x2 :: .int x1 :: .ref (ad 0) :: rest)) :=
  g_callVR (As := [.int x1, .int x2, .int x3, .int x4]) (rest := rest) C hw rfl rfl (met_m_linksTo l D ct ad hw.2.1 σ x1 x2 x3 x4 Qp hf) (cwV 4 C.2.2.2.2 (lw_V q1939 q1941 qs160 q207 q1942) rfl rfl rfl (by decide +kernel) hR) rfl hsz rfl hrm ⟨Nat.zero_le _, Nat.zero_le _⟩ hdg kk
def m_mendsTo_p151 (σ : St) (x3 : Int32) (x4 : Int32) (x5 : Int32) (x6 : Int32) (x7 : Int32) (Q : Int32 → Prop) (K100 : Int32 → Int32 → Prop) (v0 : Int32) : Prop :=
  ((x6 ≤ v0 → K100 x6 (x7 + 1)) ∧ (¬ x6 ≤ v0 → K100 v0 (x7 + 1)))
def m_mendsTo_p148 (σ : St) (x3 : Int32) (x4 : Int32) (x5 : Int32) (x6 : Int32) (x7 : Int32) (Q : Int32 → Prop) (K100 : Int32 → Int32 → Prop) : Prop :=
  (m_mendsTo_p151 σ x3 x4 x5 x6 x7 Q K100 2000000000)
def m_mendsTo_p100 (σ : St) (x3 : Int32) (x4 : Int32) (x5 : Int32) (Q : Int32 → Prop) (K100 : Int32 → Int32 → Prop) (x6 : Int32) (x7 : Int32) : Prop :=
  (((gI σ 2 0) ≤ x7 → Q x6) ∧ (¬ (gI σ 2 0) ≤ x7 → (((fm_isOn σ x7) = 0 → (m_mendsTo_p148 σ x3 x4 x5 x6 x7 Q K100)) ∧ (¬ (fm_isOn σ x7) = 0 → (vp_in x7 12 ∧ (((gI σ 3 x7) = x5 → (vp_in (fm_spot x7 x3 x4) 2028 ∧ (m_mendsTo_p151 σ x3 x4 x5 x6 x7 Q K100 (gI σ 65 (fm_spot x7 x3 x4))))) ∧ (¬ (gI σ 3 x7) = x5 → (m_mendsTo_p148 σ x3 x4 x5 x6 x7 Q K100))))))))
def m_mendsTo_p31 (σ : St) (x3 : Int32) (x4 : Int32) (x5 : Int32) (Q : Int32 → Prop) (K31 : Int32 → Int32 → Prop) (x7 : Int32) (x8 : Int32) : Prop :=
  ((x4 ≤ x8 → ((x4 = x3 → Q 1) ∧ (¬ x4 = x3 → ((x7 = 0 → Q (x4 - x3)) ∧ (¬ x7 = 0 → Q ((x4 - x3) - 1)))))) ∧ (¬ x4 ≤ x8 → ((x7 = 0 → (vp_in x8 12 ∧ (((gI σ 8 x8) = x5 → K31 1 (x8 + 1)) ∧ (¬ (gI σ 8 x8) = x5 → K31 0 (x8 + 1))))) ∧ (¬ x7 = 0 → K31 1 (x8 + 1)))))
def m_mendsTo (σ : St) (x1 : Int32) (x2 : Int32) (x3 : Int32) (x4 : Int32) (Q : Int32 → Prop) : Prop :=
  (vp_in ((4 * x1) + x2) 48 ∧ (((fm_isCapital (gI σ 5 ((4 * x1) + x2))) = 0 → (Lp2 (m_mendsTo_p31 σ x3 x4 (gI σ 5 ((4 * x1) + x2)) Q) 0 x3)) ∧ (¬ (fm_isCapital (gI σ 5 ((4 * x1) + x2))) = 0 → (Lp2 (m_mendsTo_p100 σ x3 x4 (gI σ 5 ((4 * x1) + x2)) Q) 2000000000 0))))
abbrev rm_m_mendsTo : Room := { frames := 2, cells := 0, slots := 0, locals := 42 }
set_option maxHeartbeats 4000000 in
theorem met_m_mendsTo (l : Launch) (D : va_G) (ct : Ct) (ad : Nat → Nat) (hJ : gJ shM ad ct) (σ : St) (x1 : Int32) (x2 : Int32) (x3 : Int32) (x4 : Int32) (Q : Int32 → Prop) (hf : m_mendsTo σ x1 x2 x3 x4 Q) : Met l yX3_mendsTo (ws_ yX3_mendsTo cX3_mendsTo 9 (some .int)) rm_m_mendsTo (va_Pc [.ref (ad 0), .int x1, .int x2, .int x3, .int x4] (gP D ct shM ad σ)) (gR rvI Q) 0 0 (fun _ => False) := by
  refine g_metRI hJ (by decide) (Nat.le_of_ble_eq_true rfl) ?_
  intro p e s m args below meth c QQ ls H C hw hl hret
  replace hl : lv_has ls 9 [(0, .ref (ad 0)), (1, .int x1), (2, .int x2), (3, .int x3), (4, .int x4)] := hl
  have J151 : ∀ (x3 : Int32) (x4 : Int32) (x5 : Int32) (x6 : Int32) (x7 : Int32) (v0 : Int32) (K100 : Int32 → Int32 → Prop) (_ : ∀ (x6 : Int32) (x7 : Int32) (ls : Array Slot), K100 x6 x7 → lv_has ls 9 [(0, .ref (ad 0)), (3, .int x3), (4, .int x4), (5, .int x5), (6, .int x6), (7, .int x7)] → W p l e rm_m_mendsTo s m args below meth c H [] 0 0 QQ (F0 m 100 ls [])) (ls : Array Slot), m_mendsTo_p151 σ x3 x4 x5 x6 x7 Q K100 v0 → lv_has ls 9 [(0, .ref (ad 0)), (3, .int x3), (4, .int x4), (5, .int x5), (6, .int x6), (7, .int x7)] → W p l e rm_m_mendsTo s m args below meth c H [] 0 0 QQ (F0 m 151 ls [.int v0]) := by
    intro x3 x4 x5 x6 x7 v0 K100 hK100 ls hf hl
    unfold m_mendsTo_p151 at hf
    refine lv_istore (lv' := [(8, .int v0), (0, .ref (ad 0)), (3, .int x3), (4, .int x4), (5, .int x5), (6, .int x6), (7, .int x7)]) C.1 C.2.1 dX3_mendsTo_151 hl (Nat.le_of_ble_eq_true rfl) rfl (fun ls hl => ?_)
    refine lv_iload C.1 C.2.1 dX3_mendsTo_153 (lv_at hl 0 rfl) ?_
    refine lv_iload C.1 C.2.1 dX3_mendsTo_155 (lv_at hl 5 rfl) ?_
    refine lv_icmp_ge (tgt := 165) C.1 C.2.1 dX3_mendsTo_157 (by decide) (fun h157 => ?_) (fun h157 => ?_)
    · replace hf := hf.1 h157
      refine lv_iload C.1 C.2.1 dX3_mendsTo_165 (lv_at hl 5 rfl) ?_
      refine lv_istore (lv' := [(6, .int x6), (8, .int v0), (0, .ref (ad 0)), (3, .int x3), (4, .int x4), (5, .int x5), (7, .int x7)]) C.1 C.2.1 dX3_mendsTo_167 hl (Nat.le_of_ble_eq_true rfl) rfl (fun ls hl => ?_)
      refine lv_iinc (v := (x7 + 1)) (lv' := [(7, .int (x7 + 1)), (6, .int x6), (8, .int v0), (0, .ref (ad 0)), (3, .int x3), (4, .int x4), (5, .int x5)]) C.1 C.2.1 dX3_mendsTo_169 hl (k := 6) rfl rfl (Nat.le_of_ble_eq_true rfl) rfl (fun ls hl => ?_)
      refine lv_goto (tgt := 100) C.1 C.2.1 dX3_mendsTo_172 (by decide) ?_
      exact hK100 _ _ _ hf (lv_sub hl [3, 4, 5, 6, 1, 0] rfl)
    · replace hf := hf.2 h157
      refine lv_iload C.1 C.2.1 dX3_mendsTo_160 (lv_at hl 0 rfl) ?_
      refine lv_goto (tgt := 167) C.1 C.2.1 dX3_mendsTo_162 (by decide) ?_
      refine lv_istore (lv' := [(6, .int v0), (8, .int v0), (0, .ref (ad 0)), (3, .int x3), (4, .int x4), (5, .int x5), (7, .int x7)]) C.1 C.2.1 dX3_mendsTo_167 hl (Nat.le_of_ble_eq_true rfl) rfl (fun ls hl => ?_)
      refine lv_iinc (v := (x7 + 1)) (lv' := [(7, .int (x7 + 1)), (6, .int v0), (8, .int v0), (0, .ref (ad 0)), (3, .int x3), (4, .int x4), (5, .int x5)]) C.1 C.2.1 dX3_mendsTo_169 hl (k := 6) rfl rfl (Nat.le_of_ble_eq_true rfl) rfl (fun ls hl => ?_)
      refine lv_goto (tgt := 100) C.1 C.2.1 dX3_mendsTo_172 (by decide) ?_
      exact hK100 _ _ _ hf (lv_sub hl [3, 4, 5, 6, 1, 0] rfl)
  have J148 : ∀ (x3 : Int32) (x4 : Int32) (x5 : Int32) (x6 : Int32) (x7 : Int32) (K100 : Int32 → Int32 → Prop) (_ : ∀ (x6 : Int32) (x7 : Int32) (ls : Array Slot), K100 x6 x7 → lv_has ls 9 [(0, .ref (ad 0)), (3, .int x3), (4, .int x4), (5, .int x5), (6, .int x6), (7, .int x7)] → W p l e rm_m_mendsTo s m args below meth c H [] 0 0 QQ (F0 m 100 ls [])) (ls : Array Slot), m_mendsTo_p148 σ x3 x4 x5 x6 x7 Q K100 → lv_has ls 9 [(0, .ref (ad 0)), (3, .int x3), (4, .int x4), (5, .int x5), (6, .int x6), (7, .int x7)] → W p l e rm_m_mendsTo s m args below meth c H [] 0 0 QQ (F0 m 148 ls []) := by
    intro x3 x4 x5 x6 x7 K100 hK100 ls hf hl
    unfold m_mendsTo_p148 at hf
    refine lv_ldcw C.1 C.2.1 C.2.2.2.1 (C.2.2.2.2 _ q1760) dX3_mendsTo_148 ?_
    exact J151 _ _ _ _ _ _ _ hK100 _ hf (lv_sub hl [0, 1, 2, 3, 4, 5] rfl)
  have B100 : ∀ (x3 : Int32) (x4 : Int32) (x5 : Int32) (K100 : Int32 → Int32 → Prop) (_ : ∀ (x6 : Int32) (x7 : Int32) (ls : Array Slot), K100 x6 x7 → lv_has ls 9 [(0, .ref (ad 0)), (3, .int x3), (4, .int x4), (5, .int x5), (6, .int x6), (7, .int x7)] → W p l e rm_m_mendsTo s m args below meth c H [] 0 0 QQ (F0 m 100 ls [])) (x6 : Int32) (x7 : Int32) (ls : Array Slot), m_mendsTo_p100 σ x3 x4 x5 Q K100 x6 x7 → lv_has ls 9 [(0, .ref (ad 0)), (3, .int x3), (4, .int x4), (5, .int x5), (6, .int x6), (7, .int x7)] → W p l e rm_m_mendsTo s m args below meth c H [] 0 0 QQ (F0 m 100 ls []) := by
    intro x3 x4 x5 K100 hK100 x6 x7 ls hf hl
    unfold m_mendsTo_p100 at hf
    refine lv_iload C.1 C.2.1 dX3_mendsTo_100 (lv_at hl 5 rfl) ?_
    refine lv_aload_n C.1 C.2.1 dX3_mendsTo_102 rfl (lv_at hl 0 rfl) ?_
    refine mg_scalar C hw dX3_mendsTo_103 ?_
    refine lv_iconst (v := 0) C.1 C.2.1 dX3_mendsTo_106 rfl ?_
    refine g_iald C hw 2 rfl (vpD rfl) dX3_mendsTo_107 ?_
    refine lv_icmp_ge (tgt := 175) C.1 C.2.1 dX3_mendsTo_108 (by decide) (fun h108 => ?_) (fun h108 => ?_)
    · replace hf := hf.1 h108
      refine lv_iload C.1 C.2.1 dX3_mendsTo_175 (lv_at hl 4 rfl) ?_
      exact hret _ _ _ hf dX3_mendsTo_177
    · replace hf := hf.2 h108
      refine lv_aload_n C.1 C.2.1 dX3_mendsTo_111 rfl (lv_at hl 0 rfl) ?_
      refine lv_iload C.1 C.2.1 dX3_mendsTo_112 (lv_at hl 5 rfl) ?_
      refine km_isOn C hw hl.1 (Nat.le_of_ble_eq_true rfl) ⟨Nat.le_of_ble_eq_true rfl, Nat.le_of_ble_eq_true rfl⟩ dX3_mendsTo_114 ?_
      refine lv_if_eq (tgt := 148) C.1 C.2.1 dX3_mendsTo_117 (by decide) (fun h117 => ?_) (fun h117 => ?_)
      · replace hf := hf.1 h117
        exact J148 _ _ _ _ _ _ hK100 _ hf (lv_sub hl [0, 1, 2, 3, 4, 5] rfl)
      · replace hf := hf.2 h117
        refine lv_aload_n C.1 C.2.1 dX3_mendsTo_120 rfl (lv_at hl 0 rfl) ?_
        refine mg_left C hw dX3_mendsTo_121 ?_
        refine lv_iload C.1 C.2.1 dX3_mendsTo_124 (lv_at hl 5 rfl) ?_
        obtain ⟨b126, hf⟩ := hf
        refine g_iald C hw 3 rfl b126 dX3_mendsTo_126 ?_
        refine lv_iload C.1 C.2.1 dX3_mendsTo_127 (lv_at hl 3 rfl) ?_
        refine lv_icmp_ne (tgt := 148) C.1 C.2.1 dX3_mendsTo_129 (by decide) (fun h129 => ?_) (fun h129 => ?_)
        · replace hf := hf.2 h129
          exact J148 _ _ _ _ _ _ hK100 _ hf (lv_sub hl [0, 1, 2, 3, 4, 5] rfl)
        · replace hf := hf.1 h129
          refine lv_aload_n C.1 C.2.1 dX3_mendsTo_132 rfl (lv_at hl 0 rfl) ?_
          refine mg_mended C hw dX3_mendsTo_133 ?_
          refine lv_iload C.1 C.2.1 dX3_mendsTo_136 (lv_at hl 5 rfl) ?_
          refine lv_iload_n C.1 C.2.1 dX3_mendsTo_138 rfl (lv_at hl 1 rfl) ?_
          refine lv_iload C.1 C.2.1 dX3_mendsTo_139 (lv_at hl 2 rfl) ?_
          refine km_spot C hl.1 (Nat.le_of_ble_eq_true rfl) ⟨Nat.le_of_ble_eq_true rfl, Nat.le_of_ble_eq_true rfl⟩ dX3_mendsTo_141 ?_
          obtain ⟨b144, hf⟩ := hf
          refine g_iald C hw 65 rfl b144 dX3_mendsTo_144 ?_
          refine lv_goto (tgt := 151) C.1 C.2.1 dX3_mendsTo_145 (by decide) ?_
          exact J151 _ _ _ _ _ _ _ hK100 _ hf (lv_sub hl [0, 1, 2, 3, 4, 5] rfl)
  have P100 : ∀ (x3 : Int32) (x4 : Int32) (x5 : Int32) (n : Nat) (x6 : Int32) (x7 : Int32) (ls : Array Slot), LL2 (m_mendsTo_p100 σ x3 x4 x5 Q) n x6 x7 → lv_has ls 9 [(0, .ref (ad 0)), (3, .int x3), (4, .int x4), (5, .int x5), (6, .int x6), (7, .int x7)] → W p l e rm_m_mendsTo s m args below meth c H [] 0 0 QQ (F0 m 100 ls []) := by
    intro x3 x4 x5 n
    induction n with
    | zero => intro x6 x7 ls hf; exact False.elim hf
    | succ n ih => intro x6 x7 ls hf hl; exact B100 x3 x4 x5 (LL2 _ n) ih x6 x7 ls hf hl
  have B31 : ∀ (x3 : Int32) (x4 : Int32) (x5 : Int32) (K31 : Int32 → Int32 → Prop) (_ : ∀ (x7 : Int32) (x8 : Int32) (ls : Array Slot), K31 x7 x8 → lv_has ls 9 [(0, .ref (ad 0)), (3, .int x3), (4, .int x4), (5, .int x5), (7, .int x7), (8, .int x8)] → W p l e rm_m_mendsTo s m args below meth c H [] 0 0 QQ (F0 m 31 ls [])) (x7 : Int32) (x8 : Int32) (ls : Array Slot), m_mendsTo_p31 σ x3 x4 x5 Q K31 x7 x8 → lv_has ls 9 [(0, .ref (ad 0)), (3, .int x3), (4, .int x4), (5, .int x5), (7, .int x7), (8, .int x8)] → W p l e rm_m_mendsTo s m args below meth c H [] 0 0 QQ (F0 m 31 ls []) := by
    intro x3 x4 x5 K31 hK31 x7 x8 ls hf hl
    unfold m_mendsTo_p31 at hf
    refine lv_iload C.1 C.2.1 dX3_mendsTo_31 (lv_at hl 5 rfl) ?_
    refine lv_iload C.1 C.2.1 dX3_mendsTo_33 (lv_at hl 2 rfl) ?_
    refine lv_icmp_ge (tgt := 68) C.1 C.2.1 dX3_mendsTo_35 (by decide) (fun h35 => ?_) (fun h35 => ?_)
    · replace hf := hf.1 h35
      refine lv_iload C.1 C.2.1 dX3_mendsTo_68 (lv_at hl 2 rfl) ?_
      refine lv_iload_n C.1 C.2.1 dX3_mendsTo_70 rfl (lv_at hl 1 rfl) ?_
      refine lv_icmp_ne (tgt := 78) C.1 C.2.1 dX3_mendsTo_71 (by decide) (fun h71 => ?_) (fun h71 => ?_)
      · replace hf := hf.2 h71
        refine lv_iload C.1 C.2.1 dX3_mendsTo_78 (lv_at hl 4 rfl) ?_
        refine lv_if_eq (tgt := 92) C.1 C.2.1 dX3_mendsTo_80 (by decide) (fun h80 => ?_) (fun h80 => ?_)
        · replace hf := hf.1 h80
          refine lv_iload C.1 C.2.1 dX3_mendsTo_92 (lv_at hl 2 rfl) ?_
          refine lv_iload_n C.1 C.2.1 dX3_mendsTo_94 rfl (lv_at hl 1 rfl) ?_
          refine lv_isub C.1 C.2.1 dX3_mendsTo_95 ?_
          exact hret _ _ _ hf dX3_mendsTo_96
        · replace hf := hf.2 h80
          refine lv_iload C.1 C.2.1 dX3_mendsTo_83 (lv_at hl 2 rfl) ?_
          refine lv_iload_n C.1 C.2.1 dX3_mendsTo_85 rfl (lv_at hl 1 rfl) ?_
          refine lv_isub C.1 C.2.1 dX3_mendsTo_86 ?_
          refine lv_iconst (v := 1) C.1 C.2.1 dX3_mendsTo_87 rfl ?_
          refine lv_isub C.1 C.2.1 dX3_mendsTo_88 ?_
          refine lv_goto (tgt := 96) C.1 C.2.1 dX3_mendsTo_89 (by decide) ?_
          exact hret _ _ _ hf dX3_mendsTo_96
      · replace hf := hf.1 h71
        refine lv_iconst (v := 1) C.1 C.2.1 dX3_mendsTo_74 rfl ?_
        refine lv_goto (tgt := 96) C.1 C.2.1 dX3_mendsTo_75 (by decide) ?_
        exact hret _ _ _ hf dX3_mendsTo_96
    · replace hf := hf.2 h35
      refine lv_iload C.1 C.2.1 dX3_mendsTo_38 (lv_at hl 4 rfl) ?_
      refine lv_if_ne (tgt := 55) C.1 C.2.1 dX3_mendsTo_40 (by decide) (fun h40 => ?_) (fun h40 => ?_)
      · replace hf := hf.2 h40
        refine lv_iconst (v := 1) C.1 C.2.1 dX3_mendsTo_55 rfl ?_
        refine lv_goto (tgt := 60) C.1 C.2.1 dX3_mendsTo_56 (by decide) ?_
        refine lv_istore (lv' := [(7, .int 1), (0, .ref (ad 0)), (3, .int x3), (4, .int x4), (5, .int x5), (8, .int x8)]) C.1 C.2.1 dX3_mendsTo_60 hl (Nat.le_of_ble_eq_true rfl) rfl (fun ls hl => ?_)
        refine lv_iinc (v := (x8 + 1)) (lv' := [(8, .int (x8 + 1)), (7, .int 1), (0, .ref (ad 0)), (3, .int x3), (4, .int x4), (5, .int x5)]) C.1 C.2.1 dX3_mendsTo_62 hl (k := 5) rfl rfl (Nat.le_of_ble_eq_true rfl) rfl (fun ls hl => ?_)
        refine lv_goto (tgt := 31) C.1 C.2.1 dX3_mendsTo_65 (by decide) ?_
        exact hK31 _ _ _ hf (lv_sub hl [2, 3, 4, 5, 1, 0] rfl)
      · replace hf := hf.1 h40
        refine lv_aload_n C.1 C.2.1 dX3_mendsTo_43 rfl (lv_at hl 0 rfl) ?_
        refine mg_text C hw dX3_mendsTo_44 ?_
        refine lv_iload C.1 C.2.1 dX3_mendsTo_47 (lv_at hl 5 rfl) ?_
        obtain ⟨b49, hf⟩ := hf
        refine g_iald C hw 8 rfl b49 dX3_mendsTo_49 ?_
        refine lv_iload C.1 C.2.1 dX3_mendsTo_50 (lv_at hl 3 rfl) ?_
        refine lv_icmp_ne (tgt := 59) C.1 C.2.1 dX3_mendsTo_52 (by decide) (fun h52 => ?_) (fun h52 => ?_)
        · replace hf := hf.2 h52
          refine lv_iconst (v := 0) C.1 C.2.1 dX3_mendsTo_59 rfl ?_
          refine lv_istore (lv' := [(7, .int 0), (0, .ref (ad 0)), (3, .int x3), (4, .int x4), (5, .int x5), (8, .int x8)]) C.1 C.2.1 dX3_mendsTo_60 hl (Nat.le_of_ble_eq_true rfl) rfl (fun ls hl => ?_)
          refine lv_iinc (v := (x8 + 1)) (lv' := [(8, .int (x8 + 1)), (7, .int 0), (0, .ref (ad 0)), (3, .int x3), (4, .int x4), (5, .int x5)]) C.1 C.2.1 dX3_mendsTo_62 hl (k := 5) rfl rfl (Nat.le_of_ble_eq_true rfl) rfl (fun ls hl => ?_)
          refine lv_goto (tgt := 31) C.1 C.2.1 dX3_mendsTo_65 (by decide) ?_
          exact hK31 _ _ _ hf (lv_sub hl [2, 3, 4, 5, 1, 0] rfl)
        · replace hf := hf.1 h52
          refine lv_iconst (v := 1) C.1 C.2.1 dX3_mendsTo_55 rfl ?_
          refine lv_goto (tgt := 60) C.1 C.2.1 dX3_mendsTo_56 (by decide) ?_
          refine lv_istore (lv' := [(7, .int 1), (0, .ref (ad 0)), (3, .int x3), (4, .int x4), (5, .int x5), (8, .int x8)]) C.1 C.2.1 dX3_mendsTo_60 hl (Nat.le_of_ble_eq_true rfl) rfl (fun ls hl => ?_)
          refine lv_iinc (v := (x8 + 1)) (lv' := [(8, .int (x8 + 1)), (7, .int 1), (0, .ref (ad 0)), (3, .int x3), (4, .int x4), (5, .int x5)]) C.1 C.2.1 dX3_mendsTo_62 hl (k := 5) rfl rfl (Nat.le_of_ble_eq_true rfl) rfl (fun ls hl => ?_)
          refine lv_goto (tgt := 31) C.1 C.2.1 dX3_mendsTo_65 (by decide) ?_
          exact hK31 _ _ _ hf (lv_sub hl [2, 3, 4, 5, 1, 0] rfl)
  have P31 : ∀ (x3 : Int32) (x4 : Int32) (x5 : Int32) (n : Nat) (x7 : Int32) (x8 : Int32) (ls : Array Slot), LL2 (m_mendsTo_p31 σ x3 x4 x5 Q) n x7 x8 → lv_has ls 9 [(0, .ref (ad 0)), (3, .int x3), (4, .int x4), (5, .int x5), (7, .int x7), (8, .int x8)] → W p l e rm_m_mendsTo s m args below meth c H [] 0 0 QQ (F0 m 31 ls []) := by
    intro x3 x4 x5 n
    induction n with
    | zero => intro x7 x8 ls hf; exact False.elim hf
    | succ n ih => intro x7 x8 ls hf hl; exact B31 x3 x4 x5 (LL2 _ n) ih x7 x8 ls hf hl
  unfold m_mendsTo at hf
  refine lv_aload_n C.1 C.2.1 dX3_mendsTo_0 rfl (lv_at hl 0 rfl) ?_
  refine mg_sym C hw dX3_mendsTo_1 ?_
  refine lv_iconst (v := 4) C.1 C.2.1 dX3_mendsTo_4 rfl ?_
  refine lv_iload_n C.1 C.2.1 dX3_mendsTo_5 rfl (lv_at hl 1 rfl) ?_
  refine lv_imul C.1 C.2.1 dX3_mendsTo_6 ?_
  refine lv_iload_n C.1 C.2.1 dX3_mendsTo_7 rfl (lv_at hl 2 rfl) ?_
  refine lv_iadd C.1 C.2.1 dX3_mendsTo_8 ?_
  obtain ⟨b9, hf⟩ := hf
  refine g_iald C hw 5 rfl b9 dX3_mendsTo_9 ?_
  refine lv_istore (lv' := [(5, .int (gI σ 5 ((4 * x1) + x2))), (0, .ref (ad 0)), (1, .int x1), (2, .int x2), (3, .int x3), (4, .int x4)]) C.1 C.2.1 dX3_mendsTo_10 hl (Nat.le_of_ble_eq_true rfl) rfl (fun ls hl => ?_)
  refine lv_ldcw C.1 C.2.1 C.2.2.2.1 (C.2.2.2.2 _ q1760) dX3_mendsTo_12 ?_
  refine lv_istore (lv' := [(6, .int 2000000000), (5, .int (gI σ 5 ((4 * x1) + x2))), (0, .ref (ad 0)), (1, .int x1), (2, .int x2), (3, .int x3), (4, .int x4)]) C.1 C.2.1 dX3_mendsTo_15 hl (Nat.le_of_ble_eq_true rfl) rfl (fun ls hl => ?_)
  refine lv_iload C.1 C.2.1 dX3_mendsTo_17 (lv_at hl 1 rfl) ?_
  refine km_isCapital C hl.1 (Nat.le_of_ble_eq_true rfl) ⟨Nat.le_of_ble_eq_true rfl, Nat.le_of_ble_eq_true rfl⟩ dX3_mendsTo_19 ?_
  refine lv_if_ne (tgt := 97) C.1 C.2.1 dX3_mendsTo_22 (by decide) (fun h22 => ?_) (fun h22 => ?_)
  · replace hf := hf.2 h22
    refine lv_iconst (v := 0) C.1 C.2.1 dX3_mendsTo_97 rfl ?_
    refine lv_istore (lv' := [(7, .int 0), (6, .int 2000000000), (5, .int (gI σ 5 ((4 * x1) + x2))), (0, .ref (ad 0)), (1, .int x1), (2, .int x2), (3, .int x3), (4, .int x4)]) C.1 C.2.1 dX3_mendsTo_98 hl (Nat.le_of_ble_eq_true rfl) rfl (fun ls hl => ?_)
    obtain ⟨n, hf⟩ := hf
    exact P100 _ _ _ n _ _ _ hf (lv_sub hl [3, 6, 7, 2, 1, 0] rfl)
  · replace hf := hf.1 h22
    refine lv_iconst (v := 0) C.1 C.2.1 dX3_mendsTo_25 rfl ?_
    refine lv_istore (lv' := [(7, .int 0), (6, .int 2000000000), (5, .int (gI σ 5 ((4 * x1) + x2))), (0, .ref (ad 0)), (1, .int x1), (2, .int x2), (3, .int x3), (4, .int x4)]) C.1 C.2.1 dX3_mendsTo_26 hl (Nat.le_of_ble_eq_true rfl) rfl (fun ls hl => ?_)
    refine lv_iload_n C.1 C.2.1 dX3_mendsTo_28 rfl (lv_at hl 6 rfl) ?_
    refine lv_istore (lv' := [(8, .int x3), (7, .int 0), (6, .int 2000000000), (5, .int (gI σ 5 ((4 * x1) + x2))), (0, .ref (ad 0)), (1, .int x1), (2, .int x2), (3, .int x3), (4, .int x4)]) C.1 C.2.1 dX3_mendsTo_29 hl (Nat.le_of_ble_eq_true rfl) rfl (fun ls hl => ?_)
    obtain ⟨n, hf⟩ := hf
    exact P31 _ _ _ n _ _ _ hf (lv_sub hl [4, 7, 8, 3, 1, 0] rfl)
theorem km_mendsTo {p : Program} {l : Launch} {e : Env} {R : Room} {s : State} {m : MethodId} {args : Array Value} {below : List Frame} {meth : Method} {c : Code} {H : Heap} {locs : List Loc} {Z : State → Prop} {cc : ByteArray} {nL pc : Nat} {ls : Array Slot} {rest : List Value} {D : va_G} {ct : Ct} {ad : Nat → Nat} {σ : St} {x1 : Int32} {x2 : Int32} {x3 : Int32} {x4 : Int32} {Qp : Int32 → Prop} (C : CallFix p m c cc nL s args lw_all RX3) (hw : gH D ct shM ad s σ H locs) (hsz : ls.size = nL) (hrm : (rest.map fun v => v.category).sum ≤ 8) (hR : rm_m_mendsTo.frames + 1 ≤ R.frames ∧ 8 + (9 + 11) + rm_m_mendsTo.locals ≤ R.locals) (hdg : decode cc pc = .ok (.invokevirtual 580, 3)) (hf : m_mendsTo σ x1 x2 x3 x4 Qp) (kk : ∀ (r : Int32), Qp r → W p l e R s m args below meth c H locs 0 0 Z (F0 m (pc + 3) ls (.int r :: rest))) : W p l e R s m args below meth c H locs 0 0 Z (F0 m pc ls (.int x4 :: .int x3 :: .int x2 :: .int x1 :: .ref (ad 0) :: rest)) :=
  g_callVR (As := [.int x1, .int x2, .int x3, .int x4]) (rest := rest) C hw rfl rfl (met_m_mendsTo l D ct ad hw.2.1 σ x1 x2 x3 x4 Qp hf) (cwV 4 C.2.2.2.2 (lw_V q2094 q2096 qs190 q207 q2097) rfl rfl rfl (by decide +kernel) hR) rfl hsz rfl hrm ⟨Nat.zero_le _, Nat.zero_le _⟩ hdg kk
def m_rulesOf_p4 (σ : St) (x1 : Int32) (Q : Int32 → Prop) (K4 : Int32 → Int32 → Prop) (x2 : Int32) (x3 : Int32) : Prop :=
  (((gI σ 2 0) ≤ x3 → Q x2) ∧ (¬ (gI σ 2 0) ≤ x3 → (((fm_isOn σ x3) = 0 → K4 (x2 + 0) (x3 + 1)) ∧ (¬ (fm_isOn σ x3) = 0 → (vp_in x3 12 ∧ (((gI σ 3 x3) = x1 → K4 (x2 + 1) (x3 + 1)) ∧ (¬ (gI σ 3 x3) = x1 → K4 (x2 + 0) (x3 + 1))))))))
def m_rulesOf (σ : St) (x1 : Int32) (Q : Int32 → Prop) : Prop :=
  (Lp2 (m_rulesOf_p4 σ x1 Q) 0 0)
abbrev rm_m_rulesOf : Room := { frames := 2, cells := 0, slots := 0, locals := 42 }
set_option maxHeartbeats 4000000 in
theorem met_m_rulesOf (l : Launch) (D : va_G) (ct : Ct) (ad : Nat → Nat) (hJ : gJ shM ad ct) (σ : St) (x1 : Int32) (Q : Int32 → Prop) (hf : m_rulesOf σ x1 Q) : Met l yX3_rulesOf (ws_ yX3_rulesOf cX3_rulesOf 4 (some .int)) rm_m_rulesOf (va_Pc [.ref (ad 0), .int x1] (gP D ct shM ad σ)) (gR rvI Q) 0 0 (fun _ => False) := by
  refine g_metRI hJ (by decide) (Nat.le_of_ble_eq_true rfl) ?_
  intro p e s m args below meth c QQ ls H C hw hl hret
  replace hl : lv_has ls 4 [(0, .ref (ad 0)), (1, .int x1)] := hl
  have B4 : ∀ (x1 : Int32) (K4 : Int32 → Int32 → Prop) (_ : ∀ (x2 : Int32) (x3 : Int32) (ls : Array Slot), K4 x2 x3 → lv_has ls 4 [(0, .ref (ad 0)), (1, .int x1), (2, .int x2), (3, .int x3)] → W p l e rm_m_rulesOf s m args below meth c H [] 0 0 QQ (F0 m 4 ls [])) (x2 : Int32) (x3 : Int32) (ls : Array Slot), m_rulesOf_p4 σ x1 Q K4 x2 x3 → lv_has ls 4 [(0, .ref (ad 0)), (1, .int x1), (2, .int x2), (3, .int x3)] → W p l e rm_m_rulesOf s m args below meth c H [] 0 0 QQ (F0 m 4 ls []) := by
    intro x1 K4 hK4 x2 x3 ls hf hl
    unfold m_rulesOf_p4 at hf
    refine lv_iload_n C.1 C.2.1 dX3_rulesOf_4 rfl (lv_at hl 3 rfl) ?_
    refine lv_aload_n C.1 C.2.1 dX3_rulesOf_5 rfl (lv_at hl 0 rfl) ?_
    refine mg_scalar C hw dX3_rulesOf_6 ?_
    refine lv_iconst (v := 0) C.1 C.2.1 dX3_rulesOf_9 rfl ?_
    refine g_iald C hw 2 rfl (vpD rfl) dX3_rulesOf_10 ?_
    refine lv_icmp_ge (tgt := 46) C.1 C.2.1 dX3_rulesOf_11 (by decide) (fun h11 => ?_) (fun h11 => ?_)
    · replace hf := hf.1 h11
      refine lv_iload_n C.1 C.2.1 dX3_rulesOf_46 rfl (lv_at hl 2 rfl) ?_
      exact hret _ _ _ hf dX3_rulesOf_47
    · replace hf := hf.2 h11
      refine lv_iload_n C.1 C.2.1 dX3_rulesOf_14 rfl (lv_at hl 2 rfl) ?_
      refine lv_aload_n C.1 C.2.1 dX3_rulesOf_15 rfl (lv_at hl 0 rfl) ?_
      refine lv_iload_n C.1 C.2.1 dX3_rulesOf_16 rfl (lv_at hl 3 rfl) ?_
      refine km_isOn C hw hl.1 (Nat.le_of_ble_eq_true rfl) ⟨Nat.le_of_ble_eq_true rfl, Nat.le_of_ble_eq_true rfl⟩ dX3_rulesOf_17 ?_
      refine lv_if_eq (tgt := 37) C.1 C.2.1 dX3_rulesOf_20 (by decide) (fun h20 => ?_) (fun h20 => ?_)
      · replace hf := hf.1 h20
        refine lv_iconst (v := 0) C.1 C.2.1 dX3_rulesOf_37 rfl ?_
        refine lv_iadd C.1 C.2.1 dX3_rulesOf_38 ?_
        refine lv_istore_n (lv' := [(2, .int (x2 + 0)), (0, .ref (ad 0)), (1, .int x1), (3, .int x3)]) C.1 C.2.1 dX3_rulesOf_39 rfl hl (Nat.le_of_ble_eq_true rfl) rfl (fun ls hl => ?_)
        refine lv_iinc (v := (x3 + 1)) (lv' := [(3, .int (x3 + 1)), (2, .int (x2 + 0)), (0, .ref (ad 0)), (1, .int x1)]) C.1 C.2.1 dX3_rulesOf_40 hl (k := 3) rfl rfl (Nat.le_of_ble_eq_true rfl) rfl (fun ls hl => ?_)
        refine lv_goto (tgt := 4) C.1 C.2.1 dX3_rulesOf_43 (by decide) ?_
        exact hK4 _ _ _ hf (lv_sub hl [2, 3, 1, 0] rfl)
      · replace hf := hf.2 h20
        refine lv_aload_n C.1 C.2.1 dX3_rulesOf_23 rfl (lv_at hl 0 rfl) ?_
        refine mg_left C hw dX3_rulesOf_24 ?_
        refine lv_iload_n C.1 C.2.1 dX3_rulesOf_27 rfl (lv_at hl 3 rfl) ?_
        obtain ⟨b28, hf⟩ := hf
        refine g_iald C hw 3 rfl b28 dX3_rulesOf_28 ?_
        refine lv_iload_n C.1 C.2.1 dX3_rulesOf_29 rfl (lv_at hl 1 rfl) ?_
        refine lv_icmp_ne (tgt := 37) C.1 C.2.1 dX3_rulesOf_30 (by decide) (fun h30 => ?_) (fun h30 => ?_)
        · replace hf := hf.2 h30
          refine lv_iconst (v := 0) C.1 C.2.1 dX3_rulesOf_37 rfl ?_
          refine lv_iadd C.1 C.2.1 dX3_rulesOf_38 ?_
          refine lv_istore_n (lv' := [(2, .int (x2 + 0)), (0, .ref (ad 0)), (1, .int x1), (3, .int x3)]) C.1 C.2.1 dX3_rulesOf_39 rfl hl (Nat.le_of_ble_eq_true rfl) rfl (fun ls hl => ?_)
          refine lv_iinc (v := (x3 + 1)) (lv' := [(3, .int (x3 + 1)), (2, .int (x2 + 0)), (0, .ref (ad 0)), (1, .int x1)]) C.1 C.2.1 dX3_rulesOf_40 hl (k := 3) rfl rfl (Nat.le_of_ble_eq_true rfl) rfl (fun ls hl => ?_)
          refine lv_goto (tgt := 4) C.1 C.2.1 dX3_rulesOf_43 (by decide) ?_
          exact hK4 _ _ _ hf (lv_sub hl [2, 3, 1, 0] rfl)
        · replace hf := hf.1 h30
          refine lv_iconst (v := 1) C.1 C.2.1 dX3_rulesOf_33 rfl ?_
          refine lv_goto (tgt := 38) C.1 C.2.1 dX3_rulesOf_34 (by decide) ?_
          refine lv_iadd C.1 C.2.1 dX3_rulesOf_38 ?_
          refine lv_istore_n (lv' := [(2, .int (x2 + 1)), (0, .ref (ad 0)), (1, .int x1), (3, .int x3)]) C.1 C.2.1 dX3_rulesOf_39 rfl hl (Nat.le_of_ble_eq_true rfl) rfl (fun ls hl => ?_)
          refine lv_iinc (v := (x3 + 1)) (lv' := [(3, .int (x3 + 1)), (2, .int (x2 + 1)), (0, .ref (ad 0)), (1, .int x1)]) C.1 C.2.1 dX3_rulesOf_40 hl (k := 3) rfl rfl (Nat.le_of_ble_eq_true rfl) rfl (fun ls hl => ?_)
          refine lv_goto (tgt := 4) C.1 C.2.1 dX3_rulesOf_43 (by decide) ?_
          exact hK4 _ _ _ hf (lv_sub hl [2, 3, 1, 0] rfl)
  have P4 : ∀ (x1 : Int32) (n : Nat) (x2 : Int32) (x3 : Int32) (ls : Array Slot), LL2 (m_rulesOf_p4 σ x1 Q) n x2 x3 → lv_has ls 4 [(0, .ref (ad 0)), (1, .int x1), (2, .int x2), (3, .int x3)] → W p l e rm_m_rulesOf s m args below meth c H [] 0 0 QQ (F0 m 4 ls []) := by
    intro x1 n
    induction n with
    | zero => intro x2 x3 ls hf; exact False.elim hf
    | succ n ih => intro x2 x3 ls hf hl; exact B4 x1 (LL2 _ n) ih x2 x3 ls hf hl
  unfold m_rulesOf at hf
  refine lv_iconst (v := 0) C.1 C.2.1 dX3_rulesOf_0 rfl ?_
  refine lv_istore_n (lv' := [(2, .int 0), (0, .ref (ad 0)), (1, .int x1)]) C.1 C.2.1 dX3_rulesOf_1 rfl hl (Nat.le_of_ble_eq_true rfl) rfl (fun ls hl => ?_)
  refine lv_iconst (v := 0) C.1 C.2.1 dX3_rulesOf_2 rfl ?_
  refine lv_istore_n (lv' := [(3, .int 0), (2, .int 0), (0, .ref (ad 0)), (1, .int x1)]) C.1 C.2.1 dX3_rulesOf_3 rfl hl (Nat.le_of_ble_eq_true rfl) rfl (fun ls hl => ?_)
  obtain ⟨n, hf⟩ := hf
  exact P4 _ n _ _ _ hf (lv_sub hl [2, 3, 1, 0] rfl)
theorem km_rulesOf {p : Program} {l : Launch} {e : Env} {R : Room} {s : State} {m : MethodId} {args : Array Value} {below : List Frame} {meth : Method} {c : Code} {H : Heap} {locs : List Loc} {Z : State → Prop} {cc : ByteArray} {nL pc : Nat} {ls : Array Slot} {rest : List Value} {D : va_G} {ct : Ct} {ad : Nat → Nat} {σ : St} {x1 : Int32} {Qp : Int32 → Prop} (C : CallFix p m c cc nL s args lw_all RX3) (hw : gH D ct shM ad s σ H locs) (hsz : ls.size = nL) (hrm : (rest.map fun v => v.category).sum ≤ 8) (hR : rm_m_rulesOf.frames + 1 ≤ R.frames ∧ 8 + (4 + 11) + rm_m_rulesOf.locals ≤ R.locals) (hdg : decode cc pc = .ok (.invokevirtual 600, 3)) (hf : m_rulesOf σ x1 Qp) (kk : ∀ (r : Int32), Qp r → W p l e R s m args below meth c H locs 0 0 Z (F0 m (pc + 3) ls (.int r :: rest))) : W p l e R s m args below meth c H locs 0 0 Z (F0 m pc ls (.int x1 :: .ref (ad 0) :: rest)) :=
  g_callVR (As := [.int x1]) (rest := rest) C hw rfl rfl (met_m_rulesOf l D ct ad hw.2.1 σ x1 Qp hf) (cwV 1 C.2.2.2.2 (lw_V q2117 q2119 qs193 q207 q2120) rfl rfl rfl (by decide +kernel) hR) rfl hsz rfl hrm ⟨Nat.zero_le _, Nat.zero_le _⟩ hdg kk
def m_ruleOf_p5 (σ : St) (x1 : Int32) (Q : Int32 → Prop) (K5 : Int32 → Int32 → Prop) (x3 : Int32) (x4 : Int32) : Prop :=
  (((gI σ 2 0) ≤ x4 → Q (-1)) ∧ (¬ (gI σ 2 0) ≤ x4 → (((fm_isOn σ x4) = 0 → K5 x3 (x4 + 1)) ∧ (¬ (fm_isOn σ x4) = 0 → (vp_in x4 12 ∧ (((gI σ 3 x4) = x1 → ((x3 = 0 → Q x4) ∧ (¬ x3 = 0 → K5 (x3 + (-1)) (x4 + 1)))) ∧ (¬ (gI σ 3 x4) = x1 → K5 x3 (x4 + 1))))))))
def m_ruleOf (σ : St) (x1 : Int32) (x2 : Int32) (Q : Int32 → Prop) : Prop :=
  (Lp2 (m_ruleOf_p5 σ x1 Q) x2 0)
abbrev rm_m_ruleOf : Room := { frames := 2, cells := 0, slots := 0, locals := 42 }
set_option maxHeartbeats 4000000 in
theorem met_m_ruleOf (l : Launch) (D : va_G) (ct : Ct) (ad : Nat → Nat) (hJ : gJ shM ad ct) (σ : St) (x1 : Int32) (x2 : Int32) (Q : Int32 → Prop) (hf : m_ruleOf σ x1 x2 Q) : Met l yX3_ruleOf (ws_ yX3_ruleOf cX3_ruleOf 5 (some .int)) rm_m_ruleOf (va_Pc [.ref (ad 0), .int x1, .int x2] (gP D ct shM ad σ)) (gR rvI Q) 0 0 (fun _ => False) := by
  refine g_metRI hJ (by decide) (Nat.le_of_ble_eq_true rfl) ?_
  intro p e s m args below meth c QQ ls H C hw hl hret
  replace hl : lv_has ls 5 [(0, .ref (ad 0)), (1, .int x1), (2, .int x2)] := hl
  have B5 : ∀ (x1 : Int32) (K5 : Int32 → Int32 → Prop) (_ : ∀ (x3 : Int32) (x4 : Int32) (ls : Array Slot), K5 x3 x4 → lv_has ls 5 [(0, .ref (ad 0)), (1, .int x1), (3, .int x3), (4, .int x4)] → W p l e rm_m_ruleOf s m args below meth c H [] 0 0 QQ (F0 m 5 ls [])) (x3 : Int32) (x4 : Int32) (ls : Array Slot), m_ruleOf_p5 σ x1 Q K5 x3 x4 → lv_has ls 5 [(0, .ref (ad 0)), (1, .int x1), (3, .int x3), (4, .int x4)] → W p l e rm_m_ruleOf s m args below meth c H [] 0 0 QQ (F0 m 5 ls []) := by
    intro x1 K5 hK5 x3 x4 ls hf hl
    unfold m_ruleOf_p5 at hf
    refine lv_iload C.1 C.2.1 dX3_ruleOf_5 (lv_at hl 3 rfl) ?_
    refine lv_aload_n C.1 C.2.1 dX3_ruleOf_7 rfl (lv_at hl 0 rfl) ?_
    refine mg_scalar C hw dX3_ruleOf_8 ?_
    refine lv_iconst (v := 0) C.1 C.2.1 dX3_ruleOf_11 rfl ?_
    refine g_iald C hw 2 rfl (vpD rfl) dX3_ruleOf_12 ?_
    refine lv_icmp_ge (tgt := 52) C.1 C.2.1 dX3_ruleOf_13 (by decide) (fun h13 => ?_) (fun h13 => ?_)
    · replace hf := hf.1 h13
      refine lv_iconst (v := (-1)) C.1 C.2.1 dX3_ruleOf_52 rfl ?_
      exact hret _ _ _ hf dX3_ruleOf_53
    · replace hf := hf.2 h13
      refine lv_aload_n C.1 C.2.1 dX3_ruleOf_16 rfl (lv_at hl 0 rfl) ?_
      refine lv_iload C.1 C.2.1 dX3_ruleOf_17 (lv_at hl 3 rfl) ?_
      refine km_isOn C hw hl.1 (Nat.le_of_ble_eq_true rfl) ⟨Nat.le_of_ble_eq_true rfl, Nat.le_of_ble_eq_true rfl⟩ dX3_ruleOf_19 ?_
      refine lv_if_eq (tgt := 46) C.1 C.2.1 dX3_ruleOf_22 (by decide) (fun h22 => ?_) (fun h22 => ?_)
      · replace hf := hf.1 h22
        refine lv_iinc (v := (x4 + 1)) (lv' := [(4, .int (x4 + 1)), (0, .ref (ad 0)), (1, .int x1), (3, .int x3)]) C.1 C.2.1 dX3_ruleOf_46 hl (k := 3) rfl rfl (Nat.le_of_ble_eq_true rfl) rfl (fun ls hl => ?_)
        refine lv_goto (tgt := 5) C.1 C.2.1 dX3_ruleOf_49 (by decide) ?_
        exact hK5 _ _ _ hf (lv_sub hl [1, 2, 3, 0] rfl)
      · replace hf := hf.2 h22
        refine lv_aload_n C.1 C.2.1 dX3_ruleOf_25 rfl (lv_at hl 0 rfl) ?_
        refine mg_left C hw dX3_ruleOf_26 ?_
        refine lv_iload C.1 C.2.1 dX3_ruleOf_29 (lv_at hl 3 rfl) ?_
        obtain ⟨b31, hf⟩ := hf
        refine g_iald C hw 3 rfl b31 dX3_ruleOf_31 ?_
        refine lv_iload_n C.1 C.2.1 dX3_ruleOf_32 rfl (lv_at hl 1 rfl) ?_
        refine lv_icmp_ne (tgt := 46) C.1 C.2.1 dX3_ruleOf_33 (by decide) (fun h33 => ?_) (fun h33 => ?_)
        · replace hf := hf.2 h33
          refine lv_iinc (v := (x4 + 1)) (lv' := [(4, .int (x4 + 1)), (0, .ref (ad 0)), (1, .int x1), (3, .int x3)]) C.1 C.2.1 dX3_ruleOf_46 hl (k := 3) rfl rfl (Nat.le_of_ble_eq_true rfl) rfl (fun ls hl => ?_)
          refine lv_goto (tgt := 5) C.1 C.2.1 dX3_ruleOf_49 (by decide) ?_
          exact hK5 _ _ _ hf (lv_sub hl [1, 2, 3, 0] rfl)
        · replace hf := hf.1 h33
          refine lv_iload_n C.1 C.2.1 dX3_ruleOf_36 rfl (lv_at hl 2 rfl) ?_
          refine lv_if_ne (tgt := 43) C.1 C.2.1 dX3_ruleOf_37 (by decide) (fun h37 => ?_) (fun h37 => ?_)
          · replace hf := hf.2 h37
            refine lv_iinc (v := (x3 + (-1))) (lv' := [(3, .int (x3 + (-1))), (0, .ref (ad 0)), (1, .int x1), (4, .int x4)]) C.1 C.2.1 dX3_ruleOf_43 hl (k := 2) rfl rfl (Nat.le_of_ble_eq_true rfl) rfl (fun ls hl => ?_)
            refine lv_iinc (v := (x4 + 1)) (lv' := [(4, .int (x4 + 1)), (3, .int (x3 + (-1))), (0, .ref (ad 0)), (1, .int x1)]) C.1 C.2.1 dX3_ruleOf_46 hl (k := 3) rfl rfl (Nat.le_of_ble_eq_true rfl) rfl (fun ls hl => ?_)
            refine lv_goto (tgt := 5) C.1 C.2.1 dX3_ruleOf_49 (by decide) ?_
            exact hK5 _ _ _ hf (lv_sub hl [2, 3, 1, 0] rfl)
          · replace hf := hf.1 h37
            refine lv_iload C.1 C.2.1 dX3_ruleOf_40 (lv_at hl 3 rfl) ?_
            exact hret _ _ _ hf dX3_ruleOf_42
  have P5 : ∀ (x1 : Int32) (n : Nat) (x3 : Int32) (x4 : Int32) (ls : Array Slot), LL2 (m_ruleOf_p5 σ x1 Q) n x3 x4 → lv_has ls 5 [(0, .ref (ad 0)), (1, .int x1), (3, .int x3), (4, .int x4)] → W p l e rm_m_ruleOf s m args below meth c H [] 0 0 QQ (F0 m 5 ls []) := by
    intro x1 n
    induction n with
    | zero => intro x3 x4 ls hf; exact False.elim hf
    | succ n ih => intro x3 x4 ls hf hl; exact B5 x1 (LL2 _ n) ih x3 x4 ls hf hl
  unfold m_ruleOf at hf
  refine lv_iload_n C.1 C.2.1 dX3_ruleOf_0 rfl (lv_at hl 2 rfl) ?_
  refine lv_istore_n (lv' := [(3, .int x2), (0, .ref (ad 0)), (1, .int x1), (2, .int x2)]) C.1 C.2.1 dX3_ruleOf_1 rfl hl (Nat.le_of_ble_eq_true rfl) rfl (fun ls hl => ?_)
  refine lv_iconst (v := 0) C.1 C.2.1 dX3_ruleOf_2 rfl ?_
  refine lv_istore (lv' := [(4, .int 0), (3, .int x2), (0, .ref (ad 0)), (1, .int x1), (2, .int x2)]) C.1 C.2.1 dX3_ruleOf_3 hl (Nat.le_of_ble_eq_true rfl) rfl (fun ls hl => ?_)
  obtain ⟨n, hf⟩ := hf
  exact P5 _ n _ _ _ hf (lv_sub hl [2, 3, 1, 0] rfl)
theorem km_ruleOf {p : Program} {l : Launch} {e : Env} {R : Room} {s : State} {m : MethodId} {args : Array Value} {below : List Frame} {meth : Method} {c : Code} {H : Heap} {locs : List Loc} {Z : State → Prop} {cc : ByteArray} {nL pc : Nat} {ls : Array Slot} {rest : List Value} {D : va_G} {ct : Ct} {ad : Nat → Nat} {σ : St} {x1 : Int32} {x2 : Int32} {Qp : Int32 → Prop} (C : CallFix p m c cc nL s args lw_all RX3) (hw : gH D ct shM ad s σ H locs) (hsz : ls.size = nL) (hrm : (rest.map fun v => v.category).sum ≤ 8) (hR : rm_m_ruleOf.frames + 1 ≤ R.frames ∧ 8 + (5 + 11) + rm_m_ruleOf.locals ≤ R.locals) (hdg : decode cc pc = .ok (.invokevirtual 606, 3)) (hf : m_ruleOf σ x1 x2 Qp) (kk : ∀ (r : Int32), Qp r → W p l e R s m args below meth c H locs 0 0 Z (F0 m (pc + 3) ls (.int r :: rest))) : W p l e R s m args below meth c H locs 0 0 Z (F0 m pc ls (.int x2 :: .int x1 :: .ref (ad 0) :: rest)) :=
  g_callVR (As := [.int x1, .int x2]) (rest := rest) C hw rfl rfl (met_m_ruleOf l D ct ad hw.2.1 σ x1 x2 Qp hf) (cwV 2 C.2.2.2.2 (lw_V q2128 q2130 qs195 q207 q2131) rfl rfl rfl (by decide +kernel) hR) rfl hsz rfl hrm ⟨Nat.zero_le _, Nat.zero_le _⟩ hdg kk
def m_image (σ : St) (x1 : Int32) (Q : Int32 → St → Prop) : Prop :=
  (((fm_in (Int32.toInt64 x1) 0 3) = 0 → Q (-1) σ) ∧ (¬ (fm_in (Int32.toInt64 x1) 0 3) = 0 → (vp_in x1 4 ∧ (∀ s20 : St, s20 = s_A σ 70 (Int32.toNatClampNeg x1) 1 → (m_carriesAll s20 x1 0 (fun _ s24 => Q (gI s24 2 2) s24))))))
abbrev rm_m_image : Room := { frames := 2, cells := 0, slots := 0, locals := 44 }
set_option maxHeartbeats 4000000 in
theorem met_m_image (l : Launch) (D : va_G) (ct : Ct) (ad : Nat → Nat) (hJ : gJ shM ad ct) (σ : St) (x1 : Int32) (Q : Int32 → St → Prop) (hf : m_image σ x1 Q) : Met l yX3_image (ws_ yX3_image cX3_image 2 (some .int)) rm_m_image (va_Pc [.ref (ad 0), .int x1] (gP D ct shM ad σ)) (gQ rvI D ct shM ad Q) 0 0 (gA shM ad) := by
  refine g_metI hJ (by decide) (Nat.le_of_ble_eq_true rfl) ?_
  intro p e s m args below meth c QQ ls C hw hl hret
  replace hl : lv_has ls 2 [(0, .ref (ad 0)), (1, .int x1)] := hl
  unfold m_image at hf
  obtain ⟨H, hH⟩ : ∃ q, q = s.heap := ⟨_, rfl⟩
  obtain ⟨locs, hL⟩ : ∃ q : List Loc, q = [] := ⟨_, rfl⟩
  rw [← hH, ← hL] at hw ⊢
  refine lv_iload_n C.1 C.2.1 dX3_image_0 rfl (lv_at hl 1 rfl) ?_
  refine lv_i2l C.1 C.2.1 dX3_image_1 rfl ?_
  refine lv_lconst (v := 0) C.1 C.2.1 dX3_image_2 rfl ?_
  refine lv_ldc2 C.1 C.2.1 C.2.2.2.1 (C.2.2.2.2 _ q2028) dX3_image_3 ?_
  refine km_in C hl.1 (Nat.le_of_ble_eq_true rfl) ⟨Nat.le_of_ble_eq_true rfl, Nat.le_of_ble_eq_true rfl⟩ dX3_image_6 ?_
  refine lv_if_ne (tgt := 14) C.1 C.2.1 dX3_image_9 (by decide) (fun h9 => ?_) (fun h9 => ?_)
  · replace hf := hf.2 h9
    refine lv_aload_n C.1 C.2.1 dX3_image_14 rfl (lv_at hl 0 rfl) ?_
    refine mg_isKept C hw dX3_image_15 ?_
    refine lv_iload_n C.1 C.2.1 dX3_image_18 rfl (lv_at hl 1 rfl) ?_
    refine lv_iconst (v := 1) C.1 C.2.1 dX3_image_19 rfl ?_
    obtain ⟨b20, hf⟩ := hf
    refine g_zast C shM_sep hw 70 rfl (Or.inr rfl) b20 dX3_image_20 (fun s20 H locs e20 hw => ?_)
    replace hf := hf s20 e20
    refine lv_aload_n C.1 C.2.1 dX3_image_21 rfl (lv_at hl 0 rfl) ?_
    refine lv_iload_n C.1 C.2.1 dX3_image_22 rfl (lv_at hl 1 rfl) ?_
    refine lv_iconst (v := 0) C.1 C.2.1 dX3_image_23 rfl ?_
    refine km_carriesAll C hw hl.1 (Nat.le_of_ble_eq_true rfl) ⟨Nat.le_of_ble_eq_true rfl, Nat.le_of_ble_eq_true rfl⟩ dX3_image_24 hf (fun _ s24 H locs hf hw => ?_)
    refine lv_aload_n C.1 C.2.1 dX3_image_27 rfl (lv_at hl 0 rfl) ?_
    refine mg_scalar C hw dX3_image_28 ?_
    refine lv_iconst (v := 2) C.1 C.2.1 dX3_image_31 rfl ?_
    refine g_iald C hw 2 rfl (vpD rfl) dX3_image_32 ?_
    exact hret _ _ _ _ _ _ hf hw dX3_image_33
  · replace hf := hf.1 h9
    refine lv_iconst (v := (-1)) C.1 C.2.1 dX3_image_12 rfl ?_
    exact hret _ _ _ _ _ _ hf hw dX3_image_13
def m_back (σ : St) (x1 : Int32) (Q : Int32 → St → Prop) : Prop :=
  (((fm_in (Int32.toInt64 x1) 0 3) = 0 → Q (-1) σ) ∧ (¬ (fm_in (Int32.toInt64 x1) 0 3) = 0 → (vp_in x1 4 ∧ (((gI σ 70 x1) = 0 → Q (-1) σ) ∧ (¬ (gI σ 70 x1) = 0 → (m_carriesAll σ x1 1 (fun _ s26 => (∀ s31 : St, s31 = s_I s26 37 0 → Q (gI s31 2 2) s31))))))))
abbrev rm_m_back : Room := { frames := 2, cells := 0, slots := 0, locals := 44 }
set_option maxHeartbeats 4000000 in
theorem met_m_back (l : Launch) (D : va_G) (ct : Ct) (ad : Nat → Nat) (hJ : gJ shM ad ct) (σ : St) (x1 : Int32) (Q : Int32 → St → Prop) (hf : m_back σ x1 Q) : Met l yX3_back (ws_ yX3_back cX3_back 2 (some .int)) rm_m_back (va_Pc [.ref (ad 0), .int x1] (gP D ct shM ad σ)) (gQ rvI D ct shM ad Q) 0 0 (gA shM ad) := by
  refine g_metI hJ (by decide) (Nat.le_of_ble_eq_true rfl) ?_
  intro p e s m args below meth c QQ ls C hw hl hret
  replace hl : lv_has ls 2 [(0, .ref (ad 0)), (1, .int x1)] := hl
  unfold m_back at hf
  obtain ⟨H, hH⟩ : ∃ q, q = s.heap := ⟨_, rfl⟩
  obtain ⟨locs, hL⟩ : ∃ q : List Loc, q = [] := ⟨_, rfl⟩
  rw [← hH, ← hL] at hw ⊢
  refine lv_iload_n C.1 C.2.1 dX3_back_0 rfl (lv_at hl 1 rfl) ?_
  refine lv_i2l C.1 C.2.1 dX3_back_1 rfl ?_
  refine lv_lconst (v := 0) C.1 C.2.1 dX3_back_2 rfl ?_
  refine lv_ldc2 C.1 C.2.1 C.2.2.2.1 (C.2.2.2.2 _ q2028) dX3_back_3 ?_
  refine km_in C hl.1 (Nat.le_of_ble_eq_true rfl) ⟨Nat.le_of_ble_eq_true rfl, Nat.le_of_ble_eq_true rfl⟩ dX3_back_6 ?_
  refine lv_if_eq (tgt := 21) C.1 C.2.1 dX3_back_9 (by decide) (fun h9 => ?_) (fun h9 => ?_)
  · replace hf := hf.1 h9
    refine lv_iconst (v := (-1)) C.1 C.2.1 dX3_back_21 rfl ?_
    exact hret _ _ _ _ _ _ hf hw dX3_back_22
  · replace hf := hf.2 h9
    refine lv_aload_n C.1 C.2.1 dX3_back_12 rfl (lv_at hl 0 rfl) ?_
    refine mg_isKept C hw dX3_back_13 ?_
    refine lv_iload_n C.1 C.2.1 dX3_back_16 rfl (lv_at hl 1 rfl) ?_
    obtain ⟨b17, hf⟩ := hf
    refine g_zald C hw 70 rfl b17 dX3_back_17 ?_
    refine lv_if_ne (tgt := 23) C.1 C.2.1 dX3_back_18 (by decide) (fun h18 => ?_) (fun h18 => ?_)
    · replace hf := hf.2 h18
      refine lv_aload_n C.1 C.2.1 dX3_back_23 rfl (lv_at hl 0 rfl) ?_
      refine lv_iload_n C.1 C.2.1 dX3_back_24 rfl (lv_at hl 1 rfl) ?_
      refine lv_iconst (v := 1) C.1 C.2.1 dX3_back_25 rfl ?_
      refine km_carriesAll C hw hl.1 (Nat.le_of_ble_eq_true rfl) ⟨Nat.le_of_ble_eq_true rfl, Nat.le_of_ble_eq_true rfl⟩ dX3_back_26 hf (fun _ s26 H locs hf hw => ?_)
      refine lv_aload_n C.1 C.2.1 dX3_back_29 rfl (lv_at hl 0 rfl) ?_
      refine lv_iconst (v := 0) C.1 C.2.1 dX3_back_30 rfl ?_
      refine mp_isLaid C hw dX3_back_31 (fun s31 H locs e31 hw => ?_)
      replace hf := hf s31 e31
      refine lv_aload_n C.1 C.2.1 dX3_back_34 rfl (lv_at hl 0 rfl) ?_
      refine mg_scalar C hw dX3_back_35 ?_
      refine lv_iconst (v := 2) C.1 C.2.1 dX3_back_38 rfl ?_
      refine g_iald C hw 2 rfl (vpD rfl) dX3_back_39 ?_
      exact hret _ _ _ _ _ _ hf hw dX3_back_40
    · replace hf := hf.1 h18
      refine lv_iconst (v := (-1)) C.1 C.2.1 dX3_back_21 rfl ?_
      exact hret _ _ _ _ _ _ hf hw dX3_back_22
def m_readsAll_p67 (x2 : Int32) (Q : Unit → St → Prop) (K50 : St → Int32 → Prop) (K67 : St → Int32 → Prop) (σ : St) (x3 : Int32) : Prop :=
  (vp_in x2 12 ∧ (((gI σ 11 x2) ≤ x3 → K50 σ (x2 + 1)) ∧ (¬ (gI σ 11 x2) ≤ x3 → (((σ.1 19) = 0 → (vp_in ((4 * x2) + x3) 48 ∧ (((fm_isCapital (gI σ 12 ((4 * x2) + x3))) = 0 → K67 σ (x3 + 1)) ∧ (¬ (fm_isCapital (gI σ 12 ((4 * x2) + x3))) = 0 → (m_isNewLeft σ (gI σ 12 ((4 * x2) + x3)) (σ.1 16) (fun r111 => ((r111 = 0 → (vp_in ((4 * x2) + x3) 48 ∧ (m_fails σ 2 (gI σ 15 ((4 * x2) + x3)) (fun _ s129 => K67 s129 (x3 + 1))))) ∧ (¬ r111 = 0 → K67 σ (x3 + 1))))))))) ∧ (¬ (σ.1 19) = 0 → K50 σ (x2 + 1))))))
def m_readsAll_p50 (Q : Unit → St → Prop) (K50 : St → Int32 → Prop) (σ : St) (x2 : Int32) : Prop :=
  (((σ.1 16) ≤ x2 → Q () σ) ∧ (¬ (σ.1 16) ≤ x2 → (((σ.1 19) = 0 → (Lp2 (m_readsAll_p67 x2 Q K50) σ 0)) ∧ (¬ (σ.1 19) = 0 → Q () σ))))
def m_readsAll_p36 (σ : St) (Q : Unit → St → Prop) (K17 : St → Int32 → Prop) : Prop :=
  (m_readsRank σ (fun _ s37 => (m_isMore s37 (fun r41 s41 => K17 s41 r41))))
def m_readsAll_p17 (Q : Unit → St → Prop) (K17 : St → Int32 → Prop) (σ : St) (x1 : Int32) : Prop :=
  ((x1 = 0 → (Lp2 (m_readsAll_p50 Q) σ 0)) ∧ (¬ x1 = 0 → (m_readsLeft σ (fun _ s22 => (((s22.1 19) = 0 → (m_readsRight s22 (fun _ s33 => (m_readsAll_p36 s33 Q K17)))) ∧ (¬ (s22.1 19) = 0 → (m_readsAll_p36 s22 Q K17)))))))
def m_readsAll (σ : St) (Q : Unit → St → Prop) : Prop :=
  (∀ s2 : St, s2 = s_I σ 18 0 → (∀ s7 : St, s7 = s_I s2 19 0 → (∀ s12 : St, s12 = s_I s7 16 0 → (Lp2 (m_readsAll_p17 Q) s12 1))))
abbrev rm_m_readsAll : Room := { frames := 3, cells := 0, slots := 0, locals := 67 }
set_option maxHeartbeats 4000000 in
theorem met_m_readsAll (l : Launch) (D : va_G) (ct : Ct) (ad : Nat → Nat) (hJ : gJ shM ad ct) (σ : St) (Q : Unit → St → Prop) (hf : m_readsAll σ Q) : Met l yX3_readsAll (ws_ yX3_readsAll cX3_readsAll 5 (none)) rm_m_readsAll (va_Pc [.ref (ad 0)] (gP D ct shM ad σ)) (gQ rvV D ct shM ad Q) 0 0 (gA shM ad) := by
  refine g_metV hJ (by decide) (Nat.le_of_ble_eq_true rfl) ?_
  intro p e s m args below meth c QQ ls C hw hl hret
  replace hl : lv_has ls 5 [(0, .ref (ad 0))] := hl
  have B67 : ∀ (x2 : Int32) (K50 : St → Int32 → Prop) (_ : ∀ (σ : St) (H : Heap) (locs : List Loc) (x2 : Int32) (ls : Array Slot), K50 σ x2 → gH D ct shM ad s σ H locs → lv_has ls 5 [(0, .ref (ad 0)), (2, .int x2)] → W p l e rm_m_readsAll s m args below meth c H locs 0 0 QQ (F0 m 50 ls [])) (K67 : St → Int32 → Prop) (_ : ∀ (σ : St) (H : Heap) (locs : List Loc) (x3 : Int32) (ls : Array Slot), K67 σ x3 → gH D ct shM ad s σ H locs → lv_has ls 5 [(0, .ref (ad 0)), (2, .int x2), (3, .int x3)] → W p l e rm_m_readsAll s m args below meth c H locs 0 0 QQ (F0 m 67 ls [])) (σ : St) (H : Heap) (locs : List Loc) (x3 : Int32) (ls : Array Slot), m_readsAll_p67 x2 Q K50 K67 σ x3 → gH D ct shM ad s σ H locs → lv_has ls 5 [(0, .ref (ad 0)), (2, .int x2), (3, .int x3)] → W p l e rm_m_readsAll s m args below meth c H locs 0 0 QQ (F0 m 67 ls []) := by
    intro x2 K50 hK50 K67 hK67 σ H locs x3 ls hf hw hl
    unfold m_readsAll_p67 at hf
    refine lv_iload_n C.1 C.2.1 dX3_readsAll_67 rfl (lv_at hl 2 rfl) ?_
    refine lv_aload_n C.1 C.2.1 dX3_readsAll_68 rfl (lv_at hl 0 rfl) ?_
    refine mg_newSize C hw dX3_readsAll_69 ?_
    refine lv_iload_n C.1 C.2.1 dX3_readsAll_72 rfl (lv_at hl 1 rfl) ?_
    obtain ⟨b73, hf⟩ := hf
    refine g_iald C hw 11 rfl b73 dX3_readsAll_73 ?_
    refine lv_icmp_ge (tgt := 138) C.1 C.2.1 dX3_readsAll_74 (by decide) (fun h74 => ?_) (fun h74 => ?_)
    · replace hf := hf.1 h74
      refine lv_iinc (v := (x2 + 1)) (lv' := [(2, .int (x2 + 1)), (0, .ref (ad 0)), (3, .int x3)]) C.1 C.2.1 dX3_readsAll_138 hl (k := 1) rfl rfl (Nat.le_of_ble_eq_true rfl) rfl (fun ls hl => ?_)
      refine lv_goto (tgt := 50) C.1 C.2.1 dX3_readsAll_141 (by decide) ?_
      exact hK50 _ _ _ _ _ hf hw (lv_sub hl [1, 0] rfl)
    · replace hf := hf.2 h74
      refine lv_aload_n C.1 C.2.1 dX3_readsAll_77 rfl (lv_at hl 0 rfl) ?_
      refine mg_fault C hw dX3_readsAll_78 ?_
      refine lv_if_ne (tgt := 138) C.1 C.2.1 dX3_readsAll_81 (by decide) (fun h81 => ?_) (fun h81 => ?_)
      · replace hf := hf.2 h81
        refine lv_iinc (v := (x2 + 1)) (lv' := [(2, .int (x2 + 1)), (0, .ref (ad 0)), (3, .int x3)]) C.1 C.2.1 dX3_readsAll_138 hl (k := 1) rfl rfl (Nat.le_of_ble_eq_true rfl) rfl (fun ls hl => ?_)
        refine lv_goto (tgt := 50) C.1 C.2.1 dX3_readsAll_141 (by decide) ?_
        exact hK50 _ _ _ _ _ hf hw (lv_sub hl [1, 0] rfl)
      · replace hf := hf.1 h81
        refine lv_aload_n C.1 C.2.1 dX3_readsAll_84 rfl (lv_at hl 0 rfl) ?_
        refine mg_newSym C hw dX3_readsAll_85 ?_
        refine lv_iconst (v := 4) C.1 C.2.1 dX3_readsAll_88 rfl ?_
        refine lv_iload_n C.1 C.2.1 dX3_readsAll_89 rfl (lv_at hl 1 rfl) ?_
        refine lv_imul C.1 C.2.1 dX3_readsAll_90 ?_
        refine lv_iload_n C.1 C.2.1 dX3_readsAll_91 rfl (lv_at hl 2 rfl) ?_
        refine lv_iadd C.1 C.2.1 dX3_readsAll_92 ?_
        obtain ⟨b93, hf⟩ := hf
        refine g_iald C hw 12 rfl b93 dX3_readsAll_93 ?_
        refine lv_istore (lv' := [(4, .int (gI σ 12 ((4 * x2) + x3))), (0, .ref (ad 0)), (2, .int x2), (3, .int x3)]) C.1 C.2.1 dX3_readsAll_94 hl (Nat.le_of_ble_eq_true rfl) rfl (fun ls hl => ?_)
        refine lv_iload C.1 C.2.1 dX3_readsAll_96 (lv_at hl 0 rfl) ?_
        refine km_isCapital C hl.1 (Nat.le_of_ble_eq_true rfl) ⟨Nat.le_of_ble_eq_true rfl, Nat.le_of_ble_eq_true rfl⟩ dX3_readsAll_98 ?_
        refine lv_if_eq (tgt := 132) C.1 C.2.1 dX3_readsAll_101 (by decide) (fun h101 => ?_) (fun h101 => ?_)
        · replace hf := hf.1 h101
          refine lv_iinc (v := (x3 + 1)) (lv' := [(3, .int (x3 + 1)), (4, .int (gI σ 12 ((4 * x2) + x3))), (0, .ref (ad 0)), (2, .int x2)]) C.1 C.2.1 dX3_readsAll_132 hl (k := 3) rfl rfl (Nat.le_of_ble_eq_true rfl) rfl (fun ls hl => ?_)
          refine lv_goto (tgt := 67) C.1 C.2.1 dX3_readsAll_135 (by decide) ?_
          exact hK67 _ _ _ _ _ hf hw (lv_sub hl [2, 3, 0] rfl)
        · replace hf := hf.2 h101
          refine lv_aload_n C.1 C.2.1 dX3_readsAll_104 rfl (lv_at hl 1 rfl) ?_
          refine lv_iload C.1 C.2.1 dX3_readsAll_105 (lv_at hl 0 rfl) ?_
          refine lv_aload_n C.1 C.2.1 dX3_readsAll_107 rfl (lv_at hl 1 rfl) ?_
          refine mg_newMany C hw dX3_readsAll_108 ?_
          refine km_isNewLeft C hw hl.1 (Nat.le_of_ble_eq_true rfl) ⟨Nat.le_of_ble_eq_true rfl, Nat.le_of_ble_eq_true rfl⟩ dX3_readsAll_111 hf (fun r111 hf => ?_)
          refine lv_if_ne (tgt := 132) C.1 C.2.1 dX3_readsAll_114 (by decide) (fun h114 => ?_) (fun h114 => ?_)
          · replace hf := hf.2 h114
            refine lv_iinc (v := (x3 + 1)) (lv' := [(3, .int (x3 + 1)), (4, .int (gI σ 12 ((4 * x2) + x3))), (0, .ref (ad 0)), (2, .int x2)]) C.1 C.2.1 dX3_readsAll_132 hl (k := 3) rfl rfl (Nat.le_of_ble_eq_true rfl) rfl (fun ls hl => ?_)
            refine lv_goto (tgt := 67) C.1 C.2.1 dX3_readsAll_135 (by decide) ?_
            exact hK67 _ _ _ _ _ hf hw (lv_sub hl [2, 3, 0] rfl)
          · replace hf := hf.1 h114
            refine lv_aload_n C.1 C.2.1 dX3_readsAll_117 rfl (lv_at hl 1 rfl) ?_
            refine lv_iconst (v := 2) C.1 C.2.1 dX3_readsAll_118 rfl ?_
            refine lv_aload_n C.1 C.2.1 dX3_readsAll_119 rfl (lv_at hl 1 rfl) ?_
            refine mg_symAt C hw dX3_readsAll_120 ?_
            refine lv_iconst (v := 4) C.1 C.2.1 dX3_readsAll_123 rfl ?_
            refine lv_iload_n C.1 C.2.1 dX3_readsAll_124 rfl (lv_at hl 2 rfl) ?_
            refine lv_imul C.1 C.2.1 dX3_readsAll_125 ?_
            refine lv_iload_n C.1 C.2.1 dX3_readsAll_126 rfl (lv_at hl 3 rfl) ?_
            refine lv_iadd C.1 C.2.1 dX3_readsAll_127 ?_
            obtain ⟨b128, hf⟩ := hf
            refine g_iald C hw 15 rfl b128 dX3_readsAll_128 ?_
            refine km_fails C hw hl.1 (Nat.le_of_ble_eq_true rfl) ⟨Nat.le_of_ble_eq_true rfl, Nat.le_of_ble_eq_true rfl⟩ dX3_readsAll_129 hf (fun _ s129 H locs hf hw => ?_)
            refine lv_iinc (v := (x3 + 1)) (lv' := [(3, .int (x3 + 1)), (4, .int (gI σ 12 ((4 * x2) + x3))), (0, .ref (ad 0)), (2, .int x2)]) C.1 C.2.1 dX3_readsAll_132 hl (k := 3) rfl rfl (Nat.le_of_ble_eq_true rfl) rfl (fun ls hl => ?_)
            refine lv_goto (tgt := 67) C.1 C.2.1 dX3_readsAll_135 (by decide) ?_
            exact hK67 _ _ _ _ _ hf hw (lv_sub hl [2, 3, 0] rfl)
  have P67 : ∀ (x2 : Int32) (K50 : St → Int32 → Prop) (_ : ∀ (σ : St) (H : Heap) (locs : List Loc) (x2 : Int32) (ls : Array Slot), K50 σ x2 → gH D ct shM ad s σ H locs → lv_has ls 5 [(0, .ref (ad 0)), (2, .int x2)] → W p l e rm_m_readsAll s m args below meth c H locs 0 0 QQ (F0 m 50 ls [])) (n : Nat) (σ : St) (x3 : Int32) (ls : Array Slot) (H : Heap) (locs : List Loc), LL2 (m_readsAll_p67 x2 Q K50) n σ x3 → gH D ct shM ad s σ H locs → lv_has ls 5 [(0, .ref (ad 0)), (2, .int x2), (3, .int x3)] → W p l e rm_m_readsAll s m args below meth c H locs 0 0 QQ (F0 m 67 ls []) := by
    intro x2 K50 hK50 n
    induction n with
    | zero => intro σ x3 ls H locs hf; exact False.elim hf
    | succ n ih => intro σ x3 ls H locs hf hw hl; exact B67 x2 K50 hK50 (LL2 _ n) (fun σ H locs x3 ls hf hw hl => ih σ x3 ls H locs hf hw hl) σ H locs x3 ls hf hw hl
  have B50 : ∀ (K50 : St → Int32 → Prop) (_ : ∀ (σ : St) (H : Heap) (locs : List Loc) (x2 : Int32) (ls : Array Slot), K50 σ x2 → gH D ct shM ad s σ H locs → lv_has ls 5 [(0, .ref (ad 0)), (2, .int x2)] → W p l e rm_m_readsAll s m args below meth c H locs 0 0 QQ (F0 m 50 ls [])) (σ : St) (H : Heap) (locs : List Loc) (x2 : Int32) (ls : Array Slot), m_readsAll_p50 Q K50 σ x2 → gH D ct shM ad s σ H locs → lv_has ls 5 [(0, .ref (ad 0)), (2, .int x2)] → W p l e rm_m_readsAll s m args below meth c H locs 0 0 QQ (F0 m 50 ls []) := by
    intro K50 hK50 σ H locs x2 ls hf hw hl
    unfold m_readsAll_p50 at hf
    refine lv_iload_n C.1 C.2.1 dX3_readsAll_50 rfl (lv_at hl 1 rfl) ?_
    refine lv_aload_n C.1 C.2.1 dX3_readsAll_51 rfl (lv_at hl 0 rfl) ?_
    refine mg_newMany C hw dX3_readsAll_52 ?_
    refine lv_icmp_ge (tgt := 144) C.1 C.2.1 dX3_readsAll_55 (by decide) (fun h55 => ?_) (fun h55 => ?_)
    · replace hf := hf.1 h55
      exact hret _ _ _ _ _ _ hf hw dX3_readsAll_144
    · replace hf := hf.2 h55
      refine lv_aload_n C.1 C.2.1 dX3_readsAll_58 rfl (lv_at hl 0 rfl) ?_
      refine mg_fault C hw dX3_readsAll_59 ?_
      refine lv_if_ne (tgt := 144) C.1 C.2.1 dX3_readsAll_62 (by decide) (fun h62 => ?_) (fun h62 => ?_)
      · replace hf := hf.2 h62
        exact hret _ _ _ _ _ _ hf hw dX3_readsAll_144
      · replace hf := hf.1 h62
        refine lv_iconst (v := 0) C.1 C.2.1 dX3_readsAll_65 rfl ?_
        refine lv_istore_n (lv' := [(3, .int 0), (0, .ref (ad 0)), (2, .int x2)]) C.1 C.2.1 dX3_readsAll_66 rfl hl (Nat.le_of_ble_eq_true rfl) rfl (fun ls hl => ?_)
        obtain ⟨n, hf⟩ := hf
        exact P67 _ _ hK50 n _ _ _ _ _ hf hw (lv_sub hl [1, 2, 0] rfl)
  have P50 : ∀ (n : Nat) (σ : St) (x2 : Int32) (ls : Array Slot) (H : Heap) (locs : List Loc), LL2 (m_readsAll_p50 Q) n σ x2 → gH D ct shM ad s σ H locs → lv_has ls 5 [(0, .ref (ad 0)), (2, .int x2)] → W p l e rm_m_readsAll s m args below meth c H locs 0 0 QQ (F0 m 50 ls []) := by
    intro  n
    induction n with
    | zero => intro σ x2 ls H locs hf; exact False.elim hf
    | succ n ih => intro σ x2 ls H locs hf hw hl; exact B50  (LL2 _ n) (fun σ H locs x2 ls hf hw hl => ih σ x2 ls H locs hf hw hl) σ H locs x2 ls hf hw hl
  have J36 : ∀ (σ : St) (H : Heap) (locs : List Loc) (K17 : St → Int32 → Prop) (_ : ∀ (σ : St) (H : Heap) (locs : List Loc) (x1 : Int32) (ls : Array Slot), K17 σ x1 → gH D ct shM ad s σ H locs → lv_has ls 5 [(0, .ref (ad 0)), (1, .int x1)] → W p l e rm_m_readsAll s m args below meth c H locs 0 0 QQ (F0 m 17 ls [])) (ls : Array Slot), m_readsAll_p36 σ Q K17 → gH D ct shM ad s σ H locs → lv_has ls 5 [(0, .ref (ad 0))] → W p l e rm_m_readsAll s m args below meth c H locs 0 0 QQ (F0 m 36 ls []) := by
    intro σ H locs K17 hK17 ls hf hw hl
    unfold m_readsAll_p36 at hf
    refine lv_aload_n C.1 C.2.1 dX3_readsAll_36 rfl (lv_at hl 0 rfl) ?_
    refine km_readsRank C hw hl.1 (Nat.le_of_ble_eq_true rfl) ⟨Nat.le_of_ble_eq_true rfl, Nat.le_of_ble_eq_true rfl⟩ dX3_readsAll_37 hf (fun _ s37 H locs hf hw => ?_)
    refine lv_aload_n C.1 C.2.1 dX3_readsAll_40 rfl (lv_at hl 0 rfl) ?_
    refine km_isMore C hw hl.1 (Nat.le_of_ble_eq_true rfl) ⟨Nat.le_of_ble_eq_true rfl, Nat.le_of_ble_eq_true rfl⟩ dX3_readsAll_41 hf (fun r41 s41 H locs hf hw => ?_)
    refine lv_istore_n (lv' := [(1, .int r41), (0, .ref (ad 0))]) C.1 C.2.1 dX3_readsAll_44 rfl hl (Nat.le_of_ble_eq_true rfl) rfl (fun ls hl => ?_)
    refine lv_goto (tgt := 17) C.1 C.2.1 dX3_readsAll_45 (by decide) ?_
    exact hK17 _ _ _ _ _ hf hw (lv_sub hl [1, 0] rfl)
  have B17 : ∀ (K17 : St → Int32 → Prop) (_ : ∀ (σ : St) (H : Heap) (locs : List Loc) (x1 : Int32) (ls : Array Slot), K17 σ x1 → gH D ct shM ad s σ H locs → lv_has ls 5 [(0, .ref (ad 0)), (1, .int x1)] → W p l e rm_m_readsAll s m args below meth c H locs 0 0 QQ (F0 m 17 ls [])) (σ : St) (H : Heap) (locs : List Loc) (x1 : Int32) (ls : Array Slot), m_readsAll_p17 Q K17 σ x1 → gH D ct shM ad s σ H locs → lv_has ls 5 [(0, .ref (ad 0)), (1, .int x1)] → W p l e rm_m_readsAll s m args below meth c H locs 0 0 QQ (F0 m 17 ls []) := by
    intro K17 hK17 σ H locs x1 ls hf hw hl
    unfold m_readsAll_p17 at hf
    refine lv_iload_n C.1 C.2.1 dX3_readsAll_17 rfl (lv_at hl 1 rfl) ?_
    refine lv_if_eq (tgt := 48) C.1 C.2.1 dX3_readsAll_18 (by decide) (fun h18 => ?_) (fun h18 => ?_)
    · replace hf := hf.1 h18
      refine lv_iconst (v := 0) C.1 C.2.1 dX3_readsAll_48 rfl ?_
      refine lv_istore_n (lv' := [(2, .int 0), (0, .ref (ad 0)), (1, .int x1)]) C.1 C.2.1 dX3_readsAll_49 rfl hl (Nat.le_of_ble_eq_true rfl) rfl (fun ls hl => ?_)
      obtain ⟨n, hf⟩ := hf
      exact P50  n _ _ _ _ _ hf hw (lv_sub hl [1, 0] rfl)
    · replace hf := hf.2 h18
      refine lv_aload_n C.1 C.2.1 dX3_readsAll_21 rfl (lv_at hl 0 rfl) ?_
      refine km_readsLeft C hw hl.1 (Nat.le_of_ble_eq_true rfl) ⟨Nat.le_of_ble_eq_true rfl, Nat.le_of_ble_eq_true rfl⟩ dX3_readsAll_22 hf (fun _ s22 H locs hf hw => ?_)
      refine lv_aload_n C.1 C.2.1 dX3_readsAll_25 rfl (lv_at hl 0 rfl) ?_
      refine mg_fault C hw dX3_readsAll_26 ?_
      refine lv_if_ne (tgt := 36) C.1 C.2.1 dX3_readsAll_29 (by decide) (fun h29 => ?_) (fun h29 => ?_)
      · replace hf := hf.2 h29
        exact J36 _ _ _ _ hK17 _ hf hw (lv_sub hl [0] rfl)
      · replace hf := hf.1 h29
        refine lv_aload_n C.1 C.2.1 dX3_readsAll_32 rfl (lv_at hl 0 rfl) ?_
        refine km_readsRight C hw hl.1 (Nat.le_of_ble_eq_true rfl) ⟨Nat.le_of_ble_eq_true rfl, Nat.le_of_ble_eq_true rfl⟩ dX3_readsAll_33 hf (fun _ s33 H locs hf hw => ?_)
        exact J36 _ _ _ _ hK17 _ hf hw (lv_sub hl [0] rfl)
  have P17 : ∀ (n : Nat) (σ : St) (x1 : Int32) (ls : Array Slot) (H : Heap) (locs : List Loc), LL2 (m_readsAll_p17 Q) n σ x1 → gH D ct shM ad s σ H locs → lv_has ls 5 [(0, .ref (ad 0)), (1, .int x1)] → W p l e rm_m_readsAll s m args below meth c H locs 0 0 QQ (F0 m 17 ls []) := by
    intro  n
    induction n with
    | zero => intro σ x1 ls H locs hf; exact False.elim hf
    | succ n ih => intro σ x1 ls H locs hf hw hl; exact B17  (LL2 _ n) (fun σ H locs x1 ls hf hw hl => ih σ x1 ls H locs hf hw hl) σ H locs x1 ls hf hw hl
  unfold m_readsAll at hf
  obtain ⟨H, hH⟩ : ∃ q, q = s.heap := ⟨_, rfl⟩
  obtain ⟨locs, hL⟩ : ∃ q : List Loc, q = [] := ⟨_, rfl⟩
  rw [← hH, ← hL] at hw ⊢
  refine lv_aload_n C.1 C.2.1 dX3_readsAll_0 rfl (lv_at hl 0 rfl) ?_
  refine lv_iconst (v := 0) C.1 C.2.1 dX3_readsAll_1 rfl ?_
  refine mp_p C hw dX3_readsAll_2 (fun s2 H locs e2 hw => ?_)
  replace hf := hf s2 e2
  refine lv_aload_n C.1 C.2.1 dX3_readsAll_5 rfl (lv_at hl 0 rfl) ?_
  refine lv_iconst (v := 0) C.1 C.2.1 dX3_readsAll_6 rfl ?_
  refine mp_fault C hw dX3_readsAll_7 (fun s7 H locs e7 hw => ?_)
  replace hf := hf s7 e7
  refine lv_aload_n C.1 C.2.1 dX3_readsAll_10 rfl (lv_at hl 0 rfl) ?_
  refine lv_iconst (v := 0) C.1 C.2.1 dX3_readsAll_11 rfl ?_
  refine mp_newMany C hw dX3_readsAll_12 (fun s12 H locs e12 hw => ?_)
  replace hf := hf s12 e12
  refine lv_iconst (v := 1) C.1 C.2.1 dX3_readsAll_15 rfl ?_
  refine lv_istore_n (lv' := [(1, .int 1), (0, .ref (ad 0))]) C.1 C.2.1 dX3_readsAll_16 rfl hl (Nat.le_of_ble_eq_true rfl) rfl (fun ls hl => ?_)
  obtain ⟨n, hf⟩ := hf
  exact P17  n _ _ _ _ _ hf hw (lv_sub hl [1, 0] rfl)
theorem km_readsAll {p : Program} {l : Launch} {e : Env} {R : Room} {s : State} {m : MethodId} {args : Array Value} {below : List Frame} {meth : Method} {c : Code} {H : Heap} {locs : List Loc} {Z : State → Prop} {cc : ByteArray} {nL pc : Nat} {ls : Array Slot} {rest : List Value} {D : va_G} {ct : Ct} {ad : Nat → Nat} {σ : St} {Qp : Unit → St → Prop} (C : CallFix p m c cc nL s args lw_all RX3) (hw : gH D ct shM ad s σ H locs) (hsz : ls.size = nL) (hrm : (rest.map fun v => v.category).sum ≤ 8) (hR : rm_m_readsAll.frames + 1 ≤ R.frames ∧ 8 + (5 + 11) + rm_m_readsAll.locals ≤ R.locals) (hdg : decode cc pc = .ok (.invokevirtual 236, 3)) (hf : m_readsAll σ Qp) (kk : ∀ (r : Unit) (σ1 : St) (H1 : Heap) (locs1 : List Loc), Qp r σ1 → gH D ct shM ad s σ1 H1 locs1 → W p l e R s m args below meth c H1 locs1 0 0 Z (F0 m (pc + 3) ls (rest))) : W p l e R s m args below meth c H locs 0 0 Z (F0 m pc ls (.ref (ad 0) :: rest)) :=
  g_callV (As := []) (rest := rest) C hw rfl rfl (met_m_readsAll l D ct ad hw.2.1 σ Qp hf) (cwV 0 C.2.2.2.2 (lw_V q1562 q1564 qs100 q207 q1565) rfl rfl rfl (by decide +kernel) hR) rfl hsz rfl hrm ⟨Nat.zero_le _, Nat.zero_le _⟩ hdg kk
def m_growsEmpty_p4 (σ : St) (Q : Int32 → Prop) (K4 : Int32 → Int32 → Prop) (x2 : Int32) (x3 : Int32) : Prop :=
  (((gI σ 2 0) ≤ x3 → Q x2) ∧ (¬ (gI σ 2 0) ≤ x3 → (((fm_isOn σ x3) = 0 → K4 (x2 ||| 0) (x3 + 1)) ∧ (¬ (fm_isOn σ x3) = 0 → (vp_in x3 12 ∧ (m_areIn σ x2 x3 0 (gI σ 4 x3) (-1) (fun r34 => ((r34 = 0 → K4 (x2 ||| 0) (x3 + 1)) ∧ (¬ r34 = 0 → (vp_in x3 12 ∧ K4 (x2 ||| (fm_bitOf (gI σ 3 x3))) (x3 + 1)))))))))))
def m_growsEmpty (σ : St) (x1 : Int32) (Q : Int32 → Prop) : Prop :=
  (Lp2 (m_growsEmpty_p4 σ Q) x1 0)
abbrev rm_m_growsEmpty : Room := { frames := 3, cells := 0, slots := 0, locals := 67 }
set_option maxHeartbeats 4000000 in
theorem met_m_growsEmpty (l : Launch) (D : va_G) (ct : Ct) (ad : Nat → Nat) (hJ : gJ shM ad ct) (σ : St) (x1 : Int32) (Q : Int32 → Prop) (hf : m_growsEmpty σ x1 Q) : Met l yX3_growsEmpty (ws_ yX3_growsEmpty cX3_growsEmpty 4 (some .int)) rm_m_growsEmpty (va_Pc [.ref (ad 0), .int x1] (gP D ct shM ad σ)) (gR rvI Q) 0 0 (fun _ => False) := by
  refine g_metRI hJ (by decide) (Nat.le_of_ble_eq_true rfl) ?_
  intro p e s m args below meth c QQ ls H C hw hl hret
  replace hl : lv_has ls 4 [(0, .ref (ad 0)), (1, .int x1)] := hl
  have B4 : ∀ (K4 : Int32 → Int32 → Prop) (_ : ∀ (x2 : Int32) (x3 : Int32) (ls : Array Slot), K4 x2 x3 → lv_has ls 4 [(0, .ref (ad 0)), (2, .int x2), (3, .int x3)] → W p l e rm_m_growsEmpty s m args below meth c H [] 0 0 QQ (F0 m 4 ls [])) (x2 : Int32) (x3 : Int32) (ls : Array Slot), m_growsEmpty_p4 σ Q K4 x2 x3 → lv_has ls 4 [(0, .ref (ad 0)), (2, .int x2), (3, .int x3)] → W p l e rm_m_growsEmpty s m args below meth c H [] 0 0 QQ (F0 m 4 ls []) := by
    intro K4 hK4 x2 x3 ls hf hl
    unfold m_growsEmpty_p4 at hf
    refine lv_iload_n C.1 C.2.1 dX3_growsEmpty_4 rfl (lv_at hl 2 rfl) ?_
    refine lv_aload_n C.1 C.2.1 dX3_growsEmpty_5 rfl (lv_at hl 0 rfl) ?_
    refine mg_scalar C hw dX3_growsEmpty_6 ?_
    refine lv_iconst (v := 0) C.1 C.2.1 dX3_growsEmpty_9 rfl ?_
    refine g_iald C hw 2 rfl (vpD rfl) dX3_growsEmpty_10 ?_
    refine lv_icmp_ge (tgt := 61) C.1 C.2.1 dX3_growsEmpty_11 (by decide) (fun h11 => ?_) (fun h11 => ?_)
    · replace hf := hf.1 h11
      refine lv_iload_n C.1 C.2.1 dX3_growsEmpty_61 rfl (lv_at hl 1 rfl) ?_
      exact hret _ _ _ hf dX3_growsEmpty_62
    · replace hf := hf.2 h11
      refine lv_iload_n C.1 C.2.1 dX3_growsEmpty_14 rfl (lv_at hl 1 rfl) ?_
      refine lv_aload_n C.1 C.2.1 dX3_growsEmpty_15 rfl (lv_at hl 0 rfl) ?_
      refine lv_iload_n C.1 C.2.1 dX3_growsEmpty_16 rfl (lv_at hl 2 rfl) ?_
      refine km_isOn C hw hl.1 (Nat.le_of_ble_eq_true rfl) ⟨Nat.le_of_ble_eq_true rfl, Nat.le_of_ble_eq_true rfl⟩ dX3_growsEmpty_17 ?_
      refine lv_if_eq (tgt := 52) C.1 C.2.1 dX3_growsEmpty_20 (by decide) (fun h20 => ?_) (fun h20 => ?_)
      · replace hf := hf.1 h20
        refine lv_iconst (v := 0) C.1 C.2.1 dX3_growsEmpty_52 rfl ?_
        refine lv_ior C.1 C.2.1 dX3_growsEmpty_53 ?_
        refine lv_istore_n (lv' := [(2, .int (x2 ||| 0)), (0, .ref (ad 0)), (3, .int x3)]) C.1 C.2.1 dX3_growsEmpty_54 rfl hl (Nat.le_of_ble_eq_true rfl) rfl (fun ls hl => ?_)
        refine lv_iinc (v := (x3 + 1)) (lv' := [(3, .int (x3 + 1)), (2, .int (x2 ||| 0)), (0, .ref (ad 0))]) C.1 C.2.1 dX3_growsEmpty_55 hl (k := 2) rfl rfl (Nat.le_of_ble_eq_true rfl) rfl (fun ls hl => ?_)
        refine lv_goto (tgt := 4) C.1 C.2.1 dX3_growsEmpty_58 (by decide) ?_
        exact hK4 _ _ _ hf (lv_sub hl [2, 1, 0] rfl)
      · replace hf := hf.2 h20
        refine lv_aload_n C.1 C.2.1 dX3_growsEmpty_23 rfl (lv_at hl 0 rfl) ?_
        refine lv_iload_n C.1 C.2.1 dX3_growsEmpty_24 rfl (lv_at hl 1 rfl) ?_
        refine lv_iload_n C.1 C.2.1 dX3_growsEmpty_25 rfl (lv_at hl 2 rfl) ?_
        refine lv_iconst (v := 0) C.1 C.2.1 dX3_growsEmpty_26 rfl ?_
        refine lv_aload_n C.1 C.2.1 dX3_growsEmpty_27 rfl (lv_at hl 0 rfl) ?_
        refine mg_size C hw dX3_growsEmpty_28 ?_
        refine lv_iload_n C.1 C.2.1 dX3_growsEmpty_31 rfl (lv_at hl 2 rfl) ?_
        obtain ⟨b32, hf⟩ := hf
        refine g_iald C hw 4 rfl b32 dX3_growsEmpty_32 ?_
        refine lv_iconst (v := (-1)) C.1 C.2.1 dX3_growsEmpty_33 rfl ?_
        refine km_areIn C hw hl.1 (Nat.le_of_ble_eq_true rfl) ⟨Nat.le_of_ble_eq_true rfl, Nat.le_of_ble_eq_true rfl⟩ dX3_growsEmpty_34 hf (fun r34 hf => ?_)
        refine lv_if_eq (tgt := 52) C.1 C.2.1 dX3_growsEmpty_37 (by decide) (fun h37 => ?_) (fun h37 => ?_)
        · replace hf := hf.1 h37
          refine lv_iconst (v := 0) C.1 C.2.1 dX3_growsEmpty_52 rfl ?_
          refine lv_ior C.1 C.2.1 dX3_growsEmpty_53 ?_
          refine lv_istore_n (lv' := [(2, .int (x2 ||| 0)), (0, .ref (ad 0)), (3, .int x3)]) C.1 C.2.1 dX3_growsEmpty_54 rfl hl (Nat.le_of_ble_eq_true rfl) rfl (fun ls hl => ?_)
          refine lv_iinc (v := (x3 + 1)) (lv' := [(3, .int (x3 + 1)), (2, .int (x2 ||| 0)), (0, .ref (ad 0))]) C.1 C.2.1 dX3_growsEmpty_55 hl (k := 2) rfl rfl (Nat.le_of_ble_eq_true rfl) rfl (fun ls hl => ?_)
          refine lv_goto (tgt := 4) C.1 C.2.1 dX3_growsEmpty_58 (by decide) ?_
          exact hK4 _ _ _ hf (lv_sub hl [2, 1, 0] rfl)
        · replace hf := hf.2 h37
          refine lv_aload_n C.1 C.2.1 dX3_growsEmpty_40 rfl (lv_at hl 0 rfl) ?_
          refine mg_left C hw dX3_growsEmpty_41 ?_
          refine lv_iload_n C.1 C.2.1 dX3_growsEmpty_44 rfl (lv_at hl 2 rfl) ?_
          obtain ⟨b45, hf⟩ := hf
          refine g_iald C hw 3 rfl b45 dX3_growsEmpty_45 ?_
          refine km_bitOf C hl.1 (Nat.le_of_ble_eq_true rfl) ⟨Nat.le_of_ble_eq_true rfl, Nat.le_of_ble_eq_true rfl⟩ dX3_growsEmpty_46 ?_
          refine lv_goto (tgt := 53) C.1 C.2.1 dX3_growsEmpty_49 (by decide) ?_
          refine lv_ior C.1 C.2.1 dX3_growsEmpty_53 ?_
          refine lv_istore_n (lv' := [(2, .int (x2 ||| (fm_bitOf (gI σ 3 x3)))), (0, .ref (ad 0)), (3, .int x3)]) C.1 C.2.1 dX3_growsEmpty_54 rfl hl (Nat.le_of_ble_eq_true rfl) rfl (fun ls hl => ?_)
          refine lv_iinc (v := (x3 + 1)) (lv' := [(3, .int (x3 + 1)), (2, .int (x2 ||| (fm_bitOf (gI σ 3 x3)))), (0, .ref (ad 0))]) C.1 C.2.1 dX3_growsEmpty_55 hl (k := 2) rfl rfl (Nat.le_of_ble_eq_true rfl) rfl (fun ls hl => ?_)
          refine lv_goto (tgt := 4) C.1 C.2.1 dX3_growsEmpty_58 (by decide) ?_
          exact hK4 _ _ _ hf (lv_sub hl [2, 1, 0] rfl)
  have P4 : ∀ (n : Nat) (x2 : Int32) (x3 : Int32) (ls : Array Slot), LL2 (m_growsEmpty_p4 σ Q) n x2 x3 → lv_has ls 4 [(0, .ref (ad 0)), (2, .int x2), (3, .int x3)] → W p l e rm_m_growsEmpty s m args below meth c H [] 0 0 QQ (F0 m 4 ls []) := by
    intro  n
    induction n with
    | zero => intro x2 x3 ls hf; exact False.elim hf
    | succ n ih => intro x2 x3 ls hf hl; exact B4  (LL2 _ n) ih x2 x3 ls hf hl
  unfold m_growsEmpty at hf
  refine lv_iload_n C.1 C.2.1 dX3_growsEmpty_0 rfl (lv_at hl 1 rfl) ?_
  refine lv_istore_n (lv' := [(2, .int x1), (0, .ref (ad 0)), (1, .int x1)]) C.1 C.2.1 dX3_growsEmpty_1 rfl hl (Nat.le_of_ble_eq_true rfl) rfl (fun ls hl => ?_)
  refine lv_iconst (v := 0) C.1 C.2.1 dX3_growsEmpty_2 rfl ?_
  refine lv_istore_n (lv' := [(3, .int 0), (2, .int x1), (0, .ref (ad 0)), (1, .int x1)]) C.1 C.2.1 dX3_growsEmpty_3 rfl hl (Nat.le_of_ble_eq_true rfl) rfl (fun ls hl => ?_)
  obtain ⟨n, hf⟩ := hf
  exact P4  n _ _ _ hf (lv_sub hl [2, 1, 0] rfl)
theorem km_growsEmpty {p : Program} {l : Launch} {e : Env} {R : Room} {s : State} {m : MethodId} {args : Array Value} {below : List Frame} {meth : Method} {c : Code} {H : Heap} {locs : List Loc} {Z : State → Prop} {cc : ByteArray} {nL pc : Nat} {ls : Array Slot} {rest : List Value} {D : va_G} {ct : Ct} {ad : Nat → Nat} {σ : St} {x1 : Int32} {Qp : Int32 → Prop} (C : CallFix p m c cc nL s args lw_all RX3) (hw : gH D ct shM ad s σ H locs) (hsz : ls.size = nL) (hrm : (rest.map fun v => v.category).sum ≤ 8) (hR : rm_m_growsEmpty.frames + 1 ≤ R.frames ∧ 8 + (4 + 11) + rm_m_growsEmpty.locals ≤ R.locals) (hdg : decode cc pc = .ok (.invokevirtual 285, 3)) (hf : m_growsEmpty σ x1 Qp) (kk : ∀ (r : Int32), Qp r → W p l e R s m args below meth c H locs 0 0 Z (F0 m (pc + 3) ls (.int r :: rest))) : W p l e R s m args below meth c H locs 0 0 Z (F0 m pc ls (.int x1 :: .ref (ad 0) :: rest)) :=
  g_callVR (As := [.int x1]) (rest := rest) C hw rfl rfl (met_m_growsEmpty l D ct ad hw.2.1 σ x1 Qp hf) (cwV 1 C.2.2.2.2 (lw_V q1695 q1697 qs122 q207 q1698) rfl rfl rfl (by decide +kernel) hR) rfl hsz rfl hrm ⟨Nat.zero_le _, Nat.zero_le _⟩ hdg kk
def m_growsEnding_p4 (σ : St) (Q : Int32 → Prop) (K4 : Int32 → Int32 → Prop) (x2 : Int32) (x3 : Int32) : Prop :=
  (((gI σ 2 0) ≤ x3 → Q x2) ∧ (¬ (gI σ 2 0) ≤ x3 → (((fm_isOn σ x3) = 0 → K4 (x2 ||| 0) (x3 + 1)) ∧ (¬ (fm_isOn σ x3) = 0 → (m_areCapitalsIn σ x2 x3 (fun r26 => ((r26 = 0 → K4 (x2 ||| 0) (x3 + 1)) ∧ (¬ r26 = 0 → (vp_in x3 12 ∧ K4 (x2 ||| (fm_bitOf (gI σ 3 x3))) (x3 + 1))))))))))
def m_growsEnding (σ : St) (x1 : Int32) (Q : Int32 → Prop) : Prop :=
  (Lp2 (m_growsEnding_p4 σ Q) x1 0)
abbrev rm_m_growsEnding : Room := { frames := 3, cells := 0, slots := 0, locals := 64 }
set_option maxHeartbeats 4000000 in
theorem met_m_growsEnding (l : Launch) (D : va_G) (ct : Ct) (ad : Nat → Nat) (hJ : gJ shM ad ct) (σ : St) (x1 : Int32) (Q : Int32 → Prop) (hf : m_growsEnding σ x1 Q) : Met l yX3_growsEnding (ws_ yX3_growsEnding cX3_growsEnding 4 (some .int)) rm_m_growsEnding (va_Pc [.ref (ad 0), .int x1] (gP D ct shM ad σ)) (gR rvI Q) 0 0 (fun _ => False) := by
  refine g_metRI hJ (by decide) (Nat.le_of_ble_eq_true rfl) ?_
  intro p e s m args below meth c QQ ls H C hw hl hret
  replace hl : lv_has ls 4 [(0, .ref (ad 0)), (1, .int x1)] := hl
  have B4 : ∀ (K4 : Int32 → Int32 → Prop) (_ : ∀ (x2 : Int32) (x3 : Int32) (ls : Array Slot), K4 x2 x3 → lv_has ls 4 [(0, .ref (ad 0)), (2, .int x2), (3, .int x3)] → W p l e rm_m_growsEnding s m args below meth c H [] 0 0 QQ (F0 m 4 ls [])) (x2 : Int32) (x3 : Int32) (ls : Array Slot), m_growsEnding_p4 σ Q K4 x2 x3 → lv_has ls 4 [(0, .ref (ad 0)), (2, .int x2), (3, .int x3)] → W p l e rm_m_growsEnding s m args below meth c H [] 0 0 QQ (F0 m 4 ls []) := by
    intro K4 hK4 x2 x3 ls hf hl
    unfold m_growsEnding_p4 at hf
    refine lv_iload_n C.1 C.2.1 dX3_growsEnding_4 rfl (lv_at hl 2 rfl) ?_
    refine lv_aload_n C.1 C.2.1 dX3_growsEnding_5 rfl (lv_at hl 0 rfl) ?_
    refine mg_scalar C hw dX3_growsEnding_6 ?_
    refine lv_iconst (v := 0) C.1 C.2.1 dX3_growsEnding_9 rfl ?_
    refine g_iald C hw 2 rfl (vpD rfl) dX3_growsEnding_10 ?_
    refine lv_icmp_ge (tgt := 53) C.1 C.2.1 dX3_growsEnding_11 (by decide) (fun h11 => ?_) (fun h11 => ?_)
    · replace hf := hf.1 h11
      refine lv_iload_n C.1 C.2.1 dX3_growsEnding_53 rfl (lv_at hl 1 rfl) ?_
      exact hret _ _ _ hf dX3_growsEnding_54
    · replace hf := hf.2 h11
      refine lv_iload_n C.1 C.2.1 dX3_growsEnding_14 rfl (lv_at hl 1 rfl) ?_
      refine lv_aload_n C.1 C.2.1 dX3_growsEnding_15 rfl (lv_at hl 0 rfl) ?_
      refine lv_iload_n C.1 C.2.1 dX3_growsEnding_16 rfl (lv_at hl 2 rfl) ?_
      refine km_isOn C hw hl.1 (Nat.le_of_ble_eq_true rfl) ⟨Nat.le_of_ble_eq_true rfl, Nat.le_of_ble_eq_true rfl⟩ dX3_growsEnding_17 ?_
      refine lv_if_eq (tgt := 44) C.1 C.2.1 dX3_growsEnding_20 (by decide) (fun h20 => ?_) (fun h20 => ?_)
      · replace hf := hf.1 h20
        refine lv_iconst (v := 0) C.1 C.2.1 dX3_growsEnding_44 rfl ?_
        refine lv_ior C.1 C.2.1 dX3_growsEnding_45 ?_
        refine lv_istore_n (lv' := [(2, .int (x2 ||| 0)), (0, .ref (ad 0)), (3, .int x3)]) C.1 C.2.1 dX3_growsEnding_46 rfl hl (Nat.le_of_ble_eq_true rfl) rfl (fun ls hl => ?_)
        refine lv_iinc (v := (x3 + 1)) (lv' := [(3, .int (x3 + 1)), (2, .int (x2 ||| 0)), (0, .ref (ad 0))]) C.1 C.2.1 dX3_growsEnding_47 hl (k := 2) rfl rfl (Nat.le_of_ble_eq_true rfl) rfl (fun ls hl => ?_)
        refine lv_goto (tgt := 4) C.1 C.2.1 dX3_growsEnding_50 (by decide) ?_
        exact hK4 _ _ _ hf (lv_sub hl [2, 1, 0] rfl)
      · replace hf := hf.2 h20
        refine lv_aload_n C.1 C.2.1 dX3_growsEnding_23 rfl (lv_at hl 0 rfl) ?_
        refine lv_iload_n C.1 C.2.1 dX3_growsEnding_24 rfl (lv_at hl 1 rfl) ?_
        refine lv_iload_n C.1 C.2.1 dX3_growsEnding_25 rfl (lv_at hl 2 rfl) ?_
        refine km_areCapitalsIn C hw hl.1 (Nat.le_of_ble_eq_true rfl) ⟨Nat.le_of_ble_eq_true rfl, Nat.le_of_ble_eq_true rfl⟩ dX3_growsEnding_26 hf (fun r26 hf => ?_)
        refine lv_if_eq (tgt := 44) C.1 C.2.1 dX3_growsEnding_29 (by decide) (fun h29 => ?_) (fun h29 => ?_)
        · replace hf := hf.1 h29
          refine lv_iconst (v := 0) C.1 C.2.1 dX3_growsEnding_44 rfl ?_
          refine lv_ior C.1 C.2.1 dX3_growsEnding_45 ?_
          refine lv_istore_n (lv' := [(2, .int (x2 ||| 0)), (0, .ref (ad 0)), (3, .int x3)]) C.1 C.2.1 dX3_growsEnding_46 rfl hl (Nat.le_of_ble_eq_true rfl) rfl (fun ls hl => ?_)
          refine lv_iinc (v := (x3 + 1)) (lv' := [(3, .int (x3 + 1)), (2, .int (x2 ||| 0)), (0, .ref (ad 0))]) C.1 C.2.1 dX3_growsEnding_47 hl (k := 2) rfl rfl (Nat.le_of_ble_eq_true rfl) rfl (fun ls hl => ?_)
          refine lv_goto (tgt := 4) C.1 C.2.1 dX3_growsEnding_50 (by decide) ?_
          exact hK4 _ _ _ hf (lv_sub hl [2, 1, 0] rfl)
        · replace hf := hf.2 h29
          refine lv_aload_n C.1 C.2.1 dX3_growsEnding_32 rfl (lv_at hl 0 rfl) ?_
          refine mg_left C hw dX3_growsEnding_33 ?_
          refine lv_iload_n C.1 C.2.1 dX3_growsEnding_36 rfl (lv_at hl 2 rfl) ?_
          obtain ⟨b37, hf⟩ := hf
          refine g_iald C hw 3 rfl b37 dX3_growsEnding_37 ?_
          refine km_bitOf C hl.1 (Nat.le_of_ble_eq_true rfl) ⟨Nat.le_of_ble_eq_true rfl, Nat.le_of_ble_eq_true rfl⟩ dX3_growsEnding_38 ?_
          refine lv_goto (tgt := 45) C.1 C.2.1 dX3_growsEnding_41 (by decide) ?_
          refine lv_ior C.1 C.2.1 dX3_growsEnding_45 ?_
          refine lv_istore_n (lv' := [(2, .int (x2 ||| (fm_bitOf (gI σ 3 x3)))), (0, .ref (ad 0)), (3, .int x3)]) C.1 C.2.1 dX3_growsEnding_46 rfl hl (Nat.le_of_ble_eq_true rfl) rfl (fun ls hl => ?_)
          refine lv_iinc (v := (x3 + 1)) (lv' := [(3, .int (x3 + 1)), (2, .int (x2 ||| (fm_bitOf (gI σ 3 x3)))), (0, .ref (ad 0))]) C.1 C.2.1 dX3_growsEnding_47 hl (k := 2) rfl rfl (Nat.le_of_ble_eq_true rfl) rfl (fun ls hl => ?_)
          refine lv_goto (tgt := 4) C.1 C.2.1 dX3_growsEnding_50 (by decide) ?_
          exact hK4 _ _ _ hf (lv_sub hl [2, 1, 0] rfl)
  have P4 : ∀ (n : Nat) (x2 : Int32) (x3 : Int32) (ls : Array Slot), LL2 (m_growsEnding_p4 σ Q) n x2 x3 → lv_has ls 4 [(0, .ref (ad 0)), (2, .int x2), (3, .int x3)] → W p l e rm_m_growsEnding s m args below meth c H [] 0 0 QQ (F0 m 4 ls []) := by
    intro  n
    induction n with
    | zero => intro x2 x3 ls hf; exact False.elim hf
    | succ n ih => intro x2 x3 ls hf hl; exact B4  (LL2 _ n) ih x2 x3 ls hf hl
  unfold m_growsEnding at hf
  refine lv_iload_n C.1 C.2.1 dX3_growsEnding_0 rfl (lv_at hl 1 rfl) ?_
  refine lv_istore_n (lv' := [(2, .int x1), (0, .ref (ad 0)), (1, .int x1)]) C.1 C.2.1 dX3_growsEnding_1 rfl hl (Nat.le_of_ble_eq_true rfl) rfl (fun ls hl => ?_)
  refine lv_iconst (v := 0) C.1 C.2.1 dX3_growsEnding_2 rfl ?_
  refine lv_istore_n (lv' := [(3, .int 0), (2, .int x1), (0, .ref (ad 0)), (1, .int x1)]) C.1 C.2.1 dX3_growsEnding_3 rfl hl (Nat.le_of_ble_eq_true rfl) rfl (fun ls hl => ?_)
  obtain ⟨n, hf⟩ := hf
  exact P4  n _ _ _ hf (lv_sub hl [2, 1, 0] rfl)
theorem km_growsEnding {p : Program} {l : Launch} {e : Env} {R : Room} {s : State} {m : MethodId} {args : Array Value} {below : List Frame} {meth : Method} {c : Code} {H : Heap} {locs : List Loc} {Z : State → Prop} {cc : ByteArray} {nL pc : Nat} {ls : Array Slot} {rest : List Value} {D : va_G} {ct : Ct} {ad : Nat → Nat} {σ : St} {x1 : Int32} {Qp : Int32 → Prop} (C : CallFix p m c cc nL s args lw_all RX3) (hw : gH D ct shM ad s σ H locs) (hsz : ls.size = nL) (hrm : (rest.map fun v => v.category).sum ≤ 8) (hR : rm_m_growsEnding.frames + 1 ≤ R.frames ∧ 8 + (4 + 11) + rm_m_growsEnding.locals ≤ R.locals) (hdg : decode cc pc = .ok (.invokevirtual 288, 3)) (hf : m_growsEnding σ x1 Qp) (kk : ∀ (r : Int32), Qp r → W p l e R s m args below meth c H locs 0 0 Z (F0 m (pc + 3) ls (.int r :: rest))) : W p l e R s m args below meth c H locs 0 0 Z (F0 m pc ls (.int x1 :: .ref (ad 0) :: rest)) :=
  g_callVR (As := [.int x1]) (rest := rest) C hw rfl rfl (met_m_growsEnding l D ct ad hw.2.1 σ x1 Qp hf) (cwV 1 C.2.2.2.2 (lw_V q1703 q1705 qs124 q207 q1706) rfl rfl rfl (by decide +kernel) hR) rfl hsz rfl hrm ⟨Nat.zero_le _, Nat.zero_le _⟩ hdg kk
def m_stepsOf_p79 (σ : St) (x1 : Int32) (x2 : Int32) (x3 : Int32) (x4 : Int32) (x5 : Int32) (Q : Int32 → Prop) (K5 : Int32 → Int32 → Prop) (K19 : Int32 → Int32 → Prop) (v0 : Int32) (v1 : Int32) (v2 : Int32) (v3 : Int32) : Prop :=
  (m_areIn σ v3 v2 v1 v0 x5 (fun r81 => ((r81 = 0 → K19 (x3 ||| 0) (x5 + 1)) ∧ (¬ r81 = 0 → (vp_in ((4 * x4) + x5) 48 ∧ K19 (x3 ||| (fm_bitOf (gI σ 5 ((4 * x4) + x5)))) (x5 + 1))))))
def m_stepsOf_p19 (σ : St) (x1 : Int32) (x2 : Int32) (x4 : Int32) (Q : Int32 → Prop) (K5 : Int32 → Int32 → Prop) (K19 : Int32 → Int32 → Prop) (x3 : Int32) (x5 : Int32) : Prop :=
  (vp_in x4 12 ∧ (((gI σ 4 x4) ≤ x5 → K5 x3 (x4 + 1)) ∧ (¬ (gI σ 4 x4) ≤ x5 → (((fm_isOn σ x4) = 0 → K5 x3 (x4 + 1)) ∧ (¬ (fm_isOn σ x4) = 0 → (vp_in x4 12 ∧ ((((fm_bitOf (gI σ 3 x4)) &&& x1) = 0 → K5 x3 (x4 + 1)) ∧ (¬ ((fm_bitOf (gI σ 3 x4)) &&& x1) = 0 → ((x2 = 0 → (m_stepsOf_p79 σ x1 x2 x3 x4 x5 Q K5 K19 x5 0 x4 (σ.1 27))) ∧ (¬ x2 = 0 → (m_stepsOf_p79 σ x1 x2 x3 x4 x5 Q K5 K19 (gI σ 4 x4) 0 x4 (σ.1 27))))))))))))
def m_stepsOf_p5 (σ : St) (x1 : Int32) (x2 : Int32) (Q : Int32 → Prop) (K5 : Int32 → Int32 → Prop) (x3 : Int32) (x4 : Int32) : Prop :=
  (((gI σ 2 0) ≤ x4 → Q x3) ∧ (¬ (gI σ 2 0) ≤ x4 → (Lp2 (m_stepsOf_p19 σ x1 x2 x4 Q K5) x3 0)))
def m_stepsOf (σ : St) (x1 : Int32) (x2 : Int32) (Q : Int32 → Prop) : Prop :=
  (Lp2 (m_stepsOf_p5 σ x1 x2 Q) 0 0)
abbrev rm_m_stepsOf : Room := { frames := 3, cells := 0, slots := 0, locals := 67 }
set_option maxHeartbeats 4000000 in
theorem met_m_stepsOf (l : Launch) (D : va_G) (ct : Ct) (ad : Nat → Nat) (hJ : gJ shM ad ct) (σ : St) (x1 : Int32) (x2 : Int32) (Q : Int32 → Prop) (hf : m_stepsOf σ x1 x2 Q) : Met l yX3_stepsOf (ws_ yX3_stepsOf cX3_stepsOf 7 (some .int)) rm_m_stepsOf (va_Pc [.ref (ad 0), .int x1, .int x2] (gP D ct shM ad σ)) (gR rvI Q) 0 0 (fun _ => False) := by
  refine g_metRI hJ (by decide) (Nat.le_of_ble_eq_true rfl) ?_
  intro p e s m args below meth c QQ ls H C hw hl hret
  replace hl : lv_has ls 7 [(0, .ref (ad 0)), (1, .int x1), (2, .int x2)] := hl
  have J79 : ∀ (x1 : Int32) (x2 : Int32) (x3 : Int32) (x4 : Int32) (x5 : Int32) (v0 : Int32) (v1 : Int32) (v2 : Int32) (v3 : Int32) (K5 : Int32 → Int32 → Prop) (_ : ∀ (x3 : Int32) (x4 : Int32) (ls : Array Slot), K5 x3 x4 → lv_has ls 7 [(0, .ref (ad 0)), (1, .int x1), (2, .int x2), (3, .int x3), (4, .int x4)] → W p l e rm_m_stepsOf s m args below meth c H [] 0 0 QQ (F0 m 5 ls [])) (K19 : Int32 → Int32 → Prop) (_ : ∀ (x3 : Int32) (x5 : Int32) (ls : Array Slot), K19 x3 x5 → lv_has ls 7 [(0, .ref (ad 0)), (1, .int x1), (2, .int x2), (3, .int x3), (4, .int x4), (5, .int x5)] → W p l e rm_m_stepsOf s m args below meth c H [] 0 0 QQ (F0 m 19 ls [])) (ls : Array Slot), m_stepsOf_p79 σ x1 x2 x3 x4 x5 Q K5 K19 v0 v1 v2 v3 → lv_has ls 7 [(0, .ref (ad 0)), (1, .int x1), (2, .int x2), (3, .int x3), (4, .int x4), (5, .int x5)] → W p l e rm_m_stepsOf s m args below meth c H [] 0 0 QQ (F0 m 79 ls [.int v0, .int v1, .int v2, .int v3, .ref (ad 0)]) := by
    intro x1 x2 x3 x4 x5 v0 v1 v2 v3 K5 hK5 K19 hK19 ls hf hl
    unfold m_stepsOf_p79 at hf
    refine lv_iload C.1 C.2.1 dX3_stepsOf_79 (lv_at hl 5 rfl) ?_
    refine km_areIn C hw hl.1 (Nat.le_of_ble_eq_true rfl) ⟨Nat.le_of_ble_eq_true rfl, Nat.le_of_ble_eq_true rfl⟩ dX3_stepsOf_81 hf (fun r81 hf => ?_)
    refine lv_istore (lv' := [(6, .int r81), (0, .ref (ad 0)), (1, .int x1), (2, .int x2), (3, .int x3), (4, .int x4), (5, .int x5)]) C.1 C.2.1 dX3_stepsOf_84 hl (Nat.le_of_ble_eq_true rfl) rfl (fun ls hl => ?_)
    refine lv_iload_n C.1 C.2.1 dX3_stepsOf_86 rfl (lv_at hl 4 rfl) ?_
    refine lv_iload C.1 C.2.1 dX3_stepsOf_87 (lv_at hl 0 rfl) ?_
    refine lv_if_eq (tgt := 110) C.1 C.2.1 dX3_stepsOf_89 (by decide) (fun h89 => ?_) (fun h89 => ?_)
    · replace hf := hf.1 h89
      refine lv_iconst (v := 0) C.1 C.2.1 dX3_stepsOf_110 rfl ?_
      refine lv_ior C.1 C.2.1 dX3_stepsOf_111 ?_
      refine lv_istore_n (lv' := [(3, .int (x3 ||| 0)), (6, .int r81), (0, .ref (ad 0)), (1, .int x1), (2, .int x2), (4, .int x4), (5, .int x5)]) C.1 C.2.1 dX3_stepsOf_112 rfl hl (Nat.le_of_ble_eq_true rfl) rfl (fun ls hl => ?_)
      refine lv_iinc (v := (x5 + 1)) (lv' := [(5, .int (x5 + 1)), (3, .int (x3 ||| 0)), (6, .int r81), (0, .ref (ad 0)), (1, .int x1), (2, .int x2), (4, .int x4)]) C.1 C.2.1 dX3_stepsOf_113 hl (k := 6) rfl rfl (Nat.le_of_ble_eq_true rfl) rfl (fun ls hl => ?_)
      refine lv_goto (tgt := 19) C.1 C.2.1 dX3_stepsOf_116 (by decide) ?_
      exact hK19 _ _ _ hf (lv_sub hl [3, 4, 5, 1, 6, 0] rfl)
    · replace hf := hf.2 h89
      refine lv_aload_n C.1 C.2.1 dX3_stepsOf_92 rfl (lv_at hl 1 rfl) ?_
      refine mg_sym C hw dX3_stepsOf_93 ?_
      refine lv_iconst (v := 4) C.1 C.2.1 dX3_stepsOf_96 rfl ?_
      refine lv_iload C.1 C.2.1 dX3_stepsOf_97 (lv_at hl 5 rfl) ?_
      refine lv_imul C.1 C.2.1 dX3_stepsOf_99 ?_
      refine lv_iload C.1 C.2.1 dX3_stepsOf_100 (lv_at hl 6 rfl) ?_
      refine lv_iadd C.1 C.2.1 dX3_stepsOf_102 ?_
      obtain ⟨b103, hf⟩ := hf
      refine g_iald C hw 5 rfl b103 dX3_stepsOf_103 ?_
      refine km_bitOf C hl.1 (Nat.le_of_ble_eq_true rfl) ⟨Nat.le_of_ble_eq_true rfl, Nat.le_of_ble_eq_true rfl⟩ dX3_stepsOf_104 ?_
      refine lv_goto (tgt := 111) C.1 C.2.1 dX3_stepsOf_107 (by decide) ?_
      refine lv_ior C.1 C.2.1 dX3_stepsOf_111 ?_
      refine lv_istore_n (lv' := [(3, .int (x3 ||| (fm_bitOf (gI σ 5 ((4 * x4) + x5))))), (6, .int r81), (0, .ref (ad 0)), (1, .int x1), (2, .int x2), (4, .int x4), (5, .int x5)]) C.1 C.2.1 dX3_stepsOf_112 rfl hl (Nat.le_of_ble_eq_true rfl) rfl (fun ls hl => ?_)
      refine lv_iinc (v := (x5 + 1)) (lv' := [(5, .int (x5 + 1)), (3, .int (x3 ||| (fm_bitOf (gI σ 5 ((4 * x4) + x5))))), (6, .int r81), (0, .ref (ad 0)), (1, .int x1), (2, .int x2), (4, .int x4)]) C.1 C.2.1 dX3_stepsOf_113 hl (k := 6) rfl rfl (Nat.le_of_ble_eq_true rfl) rfl (fun ls hl => ?_)
      refine lv_goto (tgt := 19) C.1 C.2.1 dX3_stepsOf_116 (by decide) ?_
      exact hK19 _ _ _ hf (lv_sub hl [3, 4, 5, 1, 6, 0] rfl)
  have B19 : ∀ (x1 : Int32) (x2 : Int32) (x4 : Int32) (K5 : Int32 → Int32 → Prop) (_ : ∀ (x3 : Int32) (x4 : Int32) (ls : Array Slot), K5 x3 x4 → lv_has ls 7 [(0, .ref (ad 0)), (1, .int x1), (2, .int x2), (3, .int x3), (4, .int x4)] → W p l e rm_m_stepsOf s m args below meth c H [] 0 0 QQ (F0 m 5 ls [])) (K19 : Int32 → Int32 → Prop) (_ : ∀ (x3 : Int32) (x5 : Int32) (ls : Array Slot), K19 x3 x5 → lv_has ls 7 [(0, .ref (ad 0)), (1, .int x1), (2, .int x2), (3, .int x3), (4, .int x4), (5, .int x5)] → W p l e rm_m_stepsOf s m args below meth c H [] 0 0 QQ (F0 m 19 ls [])) (x3 : Int32) (x5 : Int32) (ls : Array Slot), m_stepsOf_p19 σ x1 x2 x4 Q K5 K19 x3 x5 → lv_has ls 7 [(0, .ref (ad 0)), (1, .int x1), (2, .int x2), (3, .int x3), (4, .int x4), (5, .int x5)] → W p l e rm_m_stepsOf s m args below meth c H [] 0 0 QQ (F0 m 19 ls []) := by
    intro x1 x2 x4 K5 hK5 K19 hK19 x3 x5 ls hf hl
    unfold m_stepsOf_p19 at hf
    refine lv_iload C.1 C.2.1 dX3_stepsOf_19 (lv_at hl 5 rfl) ?_
    refine lv_aload_n C.1 C.2.1 dX3_stepsOf_21 rfl (lv_at hl 0 rfl) ?_
    refine mg_size C hw dX3_stepsOf_22 ?_
    refine lv_iload C.1 C.2.1 dX3_stepsOf_25 (lv_at hl 4 rfl) ?_
    obtain ⟨b27, hf⟩ := hf
    refine g_iald C hw 4 rfl b27 dX3_stepsOf_27 ?_
    refine lv_icmp_ge (tgt := 119) C.1 C.2.1 dX3_stepsOf_28 (by decide) (fun h28 => ?_) (fun h28 => ?_)
    · replace hf := hf.1 h28
      refine lv_iinc (v := (x4 + 1)) (lv' := [(4, .int (x4 + 1)), (0, .ref (ad 0)), (1, .int x1), (2, .int x2), (3, .int x3), (5, .int x5)]) C.1 C.2.1 dX3_stepsOf_119 hl (k := 4) rfl rfl (Nat.le_of_ble_eq_true rfl) rfl (fun ls hl => ?_)
      refine lv_goto (tgt := 5) C.1 C.2.1 dX3_stepsOf_122 (by decide) ?_
      exact hK5 _ _ _ hf (lv_sub hl [1, 2, 3, 4, 0] rfl)
    · replace hf := hf.2 h28
      refine lv_aload_n C.1 C.2.1 dX3_stepsOf_31 rfl (lv_at hl 0 rfl) ?_
      refine lv_iload C.1 C.2.1 dX3_stepsOf_32 (lv_at hl 4 rfl) ?_
      refine km_isOn C hw hl.1 (Nat.le_of_ble_eq_true rfl) ⟨Nat.le_of_ble_eq_true rfl, Nat.le_of_ble_eq_true rfl⟩ dX3_stepsOf_34 ?_
      refine lv_if_eq (tgt := 119) C.1 C.2.1 dX3_stepsOf_37 (by decide) (fun h37 => ?_) (fun h37 => ?_)
      · replace hf := hf.1 h37
        refine lv_iinc (v := (x4 + 1)) (lv' := [(4, .int (x4 + 1)), (0, .ref (ad 0)), (1, .int x1), (2, .int x2), (3, .int x3), (5, .int x5)]) C.1 C.2.1 dX3_stepsOf_119 hl (k := 4) rfl rfl (Nat.le_of_ble_eq_true rfl) rfl (fun ls hl => ?_)
        refine lv_goto (tgt := 5) C.1 C.2.1 dX3_stepsOf_122 (by decide) ?_
        exact hK5 _ _ _ hf (lv_sub hl [1, 2, 3, 4, 0] rfl)
      · replace hf := hf.2 h37
        refine lv_aload_n C.1 C.2.1 dX3_stepsOf_40 rfl (lv_at hl 0 rfl) ?_
        refine mg_left C hw dX3_stepsOf_41 ?_
        refine lv_iload C.1 C.2.1 dX3_stepsOf_44 (lv_at hl 4 rfl) ?_
        obtain ⟨b46, hf⟩ := hf
        refine g_iald C hw 3 rfl b46 dX3_stepsOf_46 ?_
        refine km_bitOf C hl.1 (Nat.le_of_ble_eq_true rfl) ⟨Nat.le_of_ble_eq_true rfl, Nat.le_of_ble_eq_true rfl⟩ dX3_stepsOf_47 ?_
        refine lv_iload_n C.1 C.2.1 dX3_stepsOf_50 rfl (lv_at hl 1 rfl) ?_
        refine lv_iand C.1 C.2.1 dX3_stepsOf_51 ?_
        refine lv_if_eq (tgt := 119) C.1 C.2.1 dX3_stepsOf_52 (by decide) (fun h52 => ?_) (fun h52 => ?_)
        · replace hf := hf.1 h52
          refine lv_iinc (v := (x4 + 1)) (lv' := [(4, .int (x4 + 1)), (0, .ref (ad 0)), (1, .int x1), (2, .int x2), (3, .int x3), (5, .int x5)]) C.1 C.2.1 dX3_stepsOf_119 hl (k := 4) rfl rfl (Nat.le_of_ble_eq_true rfl) rfl (fun ls hl => ?_)
          refine lv_goto (tgt := 5) C.1 C.2.1 dX3_stepsOf_122 (by decide) ?_
          exact hK5 _ _ _ hf (lv_sub hl [1, 2, 3, 4, 0] rfl)
        · replace hf := hf.2 h52
          refine lv_aload_n C.1 C.2.1 dX3_stepsOf_55 rfl (lv_at hl 0 rfl) ?_
          refine lv_aload_n C.1 C.2.1 dX3_stepsOf_56 rfl (lv_at hl 0 rfl) ?_
          refine mg_empties C hw dX3_stepsOf_57 ?_
          refine lv_iload C.1 C.2.1 dX3_stepsOf_60 (lv_at hl 4 rfl) ?_
          refine lv_iconst (v := 0) C.1 C.2.1 dX3_stepsOf_62 rfl ?_
          refine lv_iload_n C.1 C.2.1 dX3_stepsOf_63 rfl (lv_at hl 2 rfl) ?_
          refine lv_if_eq (tgt := 77) C.1 C.2.1 dX3_stepsOf_64 (by decide) (fun h64 => ?_) (fun h64 => ?_)
          · replace hf := hf.1 h64
            refine lv_iload C.1 C.2.1 dX3_stepsOf_77 (lv_at hl 5 rfl) ?_
            exact J79 _ _ _ _ _ _ _ _ _ _ hK5 _ hK19 _ hf (lv_sub hl [0, 1, 2, 3, 4, 5] rfl)
          · replace hf := hf.2 h64
            refine lv_aload_n C.1 C.2.1 dX3_stepsOf_67 rfl (lv_at hl 0 rfl) ?_
            refine mg_size C hw dX3_stepsOf_68 ?_
            refine lv_iload C.1 C.2.1 dX3_stepsOf_71 (lv_at hl 4 rfl) ?_
            refine g_iald C hw 4 rfl b27 dX3_stepsOf_73 ?_
            refine lv_goto (tgt := 79) C.1 C.2.1 dX3_stepsOf_74 (by decide) ?_
            exact J79 _ _ _ _ _ _ _ _ _ _ hK5 _ hK19 _ hf (lv_sub hl [0, 1, 2, 3, 4, 5] rfl)
  have P19 : ∀ (x1 : Int32) (x2 : Int32) (x4 : Int32) (K5 : Int32 → Int32 → Prop) (_ : ∀ (x3 : Int32) (x4 : Int32) (ls : Array Slot), K5 x3 x4 → lv_has ls 7 [(0, .ref (ad 0)), (1, .int x1), (2, .int x2), (3, .int x3), (4, .int x4)] → W p l e rm_m_stepsOf s m args below meth c H [] 0 0 QQ (F0 m 5 ls [])) (n : Nat) (x3 : Int32) (x5 : Int32) (ls : Array Slot), LL2 (m_stepsOf_p19 σ x1 x2 x4 Q K5) n x3 x5 → lv_has ls 7 [(0, .ref (ad 0)), (1, .int x1), (2, .int x2), (3, .int x3), (4, .int x4), (5, .int x5)] → W p l e rm_m_stepsOf s m args below meth c H [] 0 0 QQ (F0 m 19 ls []) := by
    intro x1 x2 x4 K5 hK5 n
    induction n with
    | zero => intro x3 x5 ls hf; exact False.elim hf
    | succ n ih => intro x3 x5 ls hf hl; exact B19 x1 x2 x4 K5 hK5 (LL2 _ n) ih x3 x5 ls hf hl
  have B5 : ∀ (x1 : Int32) (x2 : Int32) (K5 : Int32 → Int32 → Prop) (_ : ∀ (x3 : Int32) (x4 : Int32) (ls : Array Slot), K5 x3 x4 → lv_has ls 7 [(0, .ref (ad 0)), (1, .int x1), (2, .int x2), (3, .int x3), (4, .int x4)] → W p l e rm_m_stepsOf s m args below meth c H [] 0 0 QQ (F0 m 5 ls [])) (x3 : Int32) (x4 : Int32) (ls : Array Slot), m_stepsOf_p5 σ x1 x2 Q K5 x3 x4 → lv_has ls 7 [(0, .ref (ad 0)), (1, .int x1), (2, .int x2), (3, .int x3), (4, .int x4)] → W p l e rm_m_stepsOf s m args below meth c H [] 0 0 QQ (F0 m 5 ls []) := by
    intro x1 x2 K5 hK5 x3 x4 ls hf hl
    unfold m_stepsOf_p5 at hf
    refine lv_iload C.1 C.2.1 dX3_stepsOf_5 (lv_at hl 4 rfl) ?_
    refine lv_aload_n C.1 C.2.1 dX3_stepsOf_7 rfl (lv_at hl 0 rfl) ?_
    refine mg_scalar C hw dX3_stepsOf_8 ?_
    refine lv_iconst (v := 0) C.1 C.2.1 dX3_stepsOf_11 rfl ?_
    refine g_iald C hw 2 rfl (vpD rfl) dX3_stepsOf_12 ?_
    refine lv_icmp_ge (tgt := 125) C.1 C.2.1 dX3_stepsOf_13 (by decide) (fun h13 => ?_) (fun h13 => ?_)
    · replace hf := hf.1 h13
      refine lv_iload_n C.1 C.2.1 dX3_stepsOf_125 rfl (lv_at hl 3 rfl) ?_
      exact hret _ _ _ hf dX3_stepsOf_126
    · replace hf := hf.2 h13
      refine lv_iconst (v := 0) C.1 C.2.1 dX3_stepsOf_16 rfl ?_
      refine lv_istore (lv' := [(5, .int 0), (0, .ref (ad 0)), (1, .int x1), (2, .int x2), (3, .int x3), (4, .int x4)]) C.1 C.2.1 dX3_stepsOf_17 hl (Nat.le_of_ble_eq_true rfl) rfl (fun ls hl => ?_)
      obtain ⟨n, hf⟩ := hf
      exact P19 _ _ _ _ hK5 n _ _ _ hf (lv_sub hl [1, 2, 3, 4, 5, 0] rfl)
  have P5 : ∀ (x1 : Int32) (x2 : Int32) (n : Nat) (x3 : Int32) (x4 : Int32) (ls : Array Slot), LL2 (m_stepsOf_p5 σ x1 x2 Q) n x3 x4 → lv_has ls 7 [(0, .ref (ad 0)), (1, .int x1), (2, .int x2), (3, .int x3), (4, .int x4)] → W p l e rm_m_stepsOf s m args below meth c H [] 0 0 QQ (F0 m 5 ls []) := by
    intro x1 x2 n
    induction n with
    | zero => intro x3 x4 ls hf; exact False.elim hf
    | succ n ih => intro x3 x4 ls hf hl; exact B5 x1 x2 (LL2 _ n) ih x3 x4 ls hf hl
  unfold m_stepsOf at hf
  refine lv_iconst (v := 0) C.1 C.2.1 dX3_stepsOf_0 rfl ?_
  refine lv_istore_n (lv' := [(3, .int 0), (0, .ref (ad 0)), (1, .int x1), (2, .int x2)]) C.1 C.2.1 dX3_stepsOf_1 rfl hl (Nat.le_of_ble_eq_true rfl) rfl (fun ls hl => ?_)
  refine lv_iconst (v := 0) C.1 C.2.1 dX3_stepsOf_2 rfl ?_
  refine lv_istore (lv' := [(4, .int 0), (3, .int 0), (0, .ref (ad 0)), (1, .int x1), (2, .int x2)]) C.1 C.2.1 dX3_stepsOf_3 hl (Nat.le_of_ble_eq_true rfl) rfl (fun ls hl => ?_)
  obtain ⟨n, hf⟩ := hf
  exact P5 _ _ n _ _ _ hf (lv_sub hl [2, 3, 4, 1, 0] rfl)
theorem km_stepsOf {p : Program} {l : Launch} {e : Env} {R : Room} {s : State} {m : MethodId} {args : Array Value} {below : List Frame} {meth : Method} {c : Code} {H : Heap} {locs : List Loc} {Z : State → Prop} {cc : ByteArray} {nL pc : Nat} {ls : Array Slot} {rest : List Value} {D : va_G} {ct : Ct} {ad : Nat → Nat} {σ : St} {x1 : Int32} {x2 : Int32} {Qp : Int32 → Prop} (C : CallFix p m c cc nL s args lw_all RX3) (hw : gH D ct shM ad s σ H locs) (hsz : ls.size = nL) (hrm : (rest.map fun v => v.category).sum ≤ 8) (hR : rm_m_stepsOf.frames + 1 ≤ R.frames ∧ 8 + (7 + 11) + rm_m_stepsOf.locals ≤ R.locals) (hdg : decode cc pc = .ok (.invokevirtual 294, 3)) (hf : m_stepsOf σ x1 x2 Qp) (kk : ∀ (r : Int32), Qp r → W p l e R s m args below meth c H locs 0 0 Z (F0 m (pc + 3) ls (.int r :: rest))) : W p l e R s m args below meth c H locs 0 0 Z (F0 m pc ls (.int x2 :: .int x1 :: .ref (ad 0) :: rest)) :=
  g_callVR (As := [.int x1, .int x2]) (rest := rest) C hw rfl rfl (met_m_stepsOf l D ct ad hw.2.1 σ x1 x2 Qp hf) (cwV 2 C.2.2.2.2 (lw_V q1719 q1721 qs128 q207 q1722) rfl rfl rfl (by decide +kernel) hR) rfl hsz rfl hrm ⟨Nat.zero_le _, Nat.zero_le _⟩ hdg kk
def m_followsIn_p100 (σ : St) (x1 : Int32) (x2 : Int32) (Q : Unit → St → Prop) (K2 : St → Int32 → Prop) (v0 : Int32) (v1 : Int32) (v2 : Int32) : Prop :=
  (vp_in v2 26 ∧ (∀ s101 : St, s101 = s_A σ 32 (Int32.toNatClampNeg v2) (v1 ||| v0) → K2 s101 (x2 + 1)))
def m_followsIn_p2 (x1 : Int32) (Q : Unit → St → Prop) (K2 : St → Int32 → Prop) (σ : St) (x2 : Int32) : Prop :=
  (vp_in x1 12 ∧ (((gI σ 4 x1) ≤ x2 → Q () σ) ∧ (¬ (gI σ 4 x1) ≤ x2 → (vp_in ((4 * x1) + x2) 48 ∧ (((fm_isCapital (gI σ 5 ((4 * x1) + x2))) = 0 → K2 σ (x2 + 1)) ∧ (¬ (fm_isCapital (gI σ 5 ((4 * x1) + x2))) = 0 → (vp_in ((gI σ 5 ((4 * x1) + x2)) - 26) 26 ∧ (m_firstBehind σ x1 (x2 + 1) (fun r45 => (∀ s49 : St, s49 = s_A σ 32 (Int32.toNatClampNeg ((gI σ 5 ((4 * x1) + x2)) - 26)) ((gI σ 32 ((gI σ 5 ((4 * x1) + x2)) - 26)) ||| r45) → (m_areIn s49 (s49.1 27) x1 (x2 + 1) (gI s49 4 x1) (-1) (fun r76 => ((r76 = 0 → (m_followsIn_p100 s49 x1 x2 Q K2 0 (gI s49 32 ((gI σ 5 ((4 * x1) + x2)) - 26)) ((gI σ 5 ((4 * x1) + x2)) - 26))) ∧ (¬ r76 = 0 → (vp_in x1 12 ∧ (vp_in ((gI s49 3 x1) - 26) 26 ∧ (m_followsIn_p100 s49 x1 x2 Q K2 (gI s49 32 ((gI s49 3 x1) - 26)) (gI s49 32 ((gI σ 5 ((4 * x1) + x2)) - 26)) ((gI σ 5 ((4 * x1) + x2)) - 26))))))))))))))))))
def m_followsIn (σ : St) (x1 : Int32) (Q : Unit → St → Prop) : Prop :=
  (Lp2 (m_followsIn_p2 x1 Q) σ 0)
abbrev rm_m_followsIn : Room := { frames := 3, cells := 0, slots := 0, locals := 67 }
set_option maxHeartbeats 4000000 in
theorem met_m_followsIn (l : Launch) (D : va_G) (ct : Ct) (ad : Nat → Nat) (hJ : gJ shM ad ct) (σ : St) (x1 : Int32) (Q : Unit → St → Prop) (hf : m_followsIn σ x1 Q) : Met l yX3_followsIn (ws_ yX3_followsIn cX3_followsIn 4 (none)) rm_m_followsIn (va_Pc [.ref (ad 0), .int x1] (gP D ct shM ad σ)) (gQ rvV D ct shM ad Q) 0 0 (gA shM ad) := by
  refine g_metV hJ (by decide) (Nat.le_of_ble_eq_true rfl) ?_
  intro p e s m args below meth c QQ ls C hw hl hret
  replace hl : lv_has ls 4 [(0, .ref (ad 0)), (1, .int x1)] := hl
  have J100 : ∀ (σ : St) (H : Heap) (locs : List Loc) (x1 : Int32) (x2 : Int32) (v0 : Int32) (v1 : Int32) (v2 : Int32) (K2 : St → Int32 → Prop) (_ : ∀ (σ : St) (H : Heap) (locs : List Loc) (x2 : Int32) (ls : Array Slot), K2 σ x2 → gH D ct shM ad s σ H locs → lv_has ls 4 [(0, .ref (ad 0)), (1, .int x1), (2, .int x2)] → W p l e rm_m_followsIn s m args below meth c H locs 0 0 QQ (F0 m 2 ls [])) (ls : Array Slot), m_followsIn_p100 σ x1 x2 Q K2 v0 v1 v2 → gH D ct shM ad s σ H locs → lv_has ls 4 [(0, .ref (ad 0)), (1, .int x1), (2, .int x2)] → W p l e rm_m_followsIn s m args below meth c H locs 0 0 QQ (F0 m 100 ls [.int v0, .int v1, .int v2, .ref (ad 32)]) := by
    intro σ H locs x1 x2 v0 v1 v2 K2 hK2 ls hf hw hl
    unfold m_followsIn_p100 at hf
    refine lv_ior C.1 C.2.1 dX3_followsIn_100 ?_
    obtain ⟨b101, hf⟩ := hf
    refine g_iast C shM_sep hw 32 rfl b101 dX3_followsIn_101 (fun s101 H locs e101 hw => ?_)
    replace hf := hf s101 e101
    refine lv_iinc (v := (x2 + 1)) (lv' := [(2, .int (x2 + 1)), (0, .ref (ad 0)), (1, .int x1)]) C.1 C.2.1 dX3_followsIn_102 hl (k := 2) rfl rfl (Nat.le_of_ble_eq_true rfl) rfl (fun ls hl => ?_)
    refine lv_goto (tgt := 2) C.1 C.2.1 dX3_followsIn_105 (by decide) ?_
    exact hK2 _ _ _ _ _ hf hw (lv_sub hl [1, 2, 0] rfl)
  have B2 : ∀ (x1 : Int32) (K2 : St → Int32 → Prop) (_ : ∀ (σ : St) (H : Heap) (locs : List Loc) (x2 : Int32) (ls : Array Slot), K2 σ x2 → gH D ct shM ad s σ H locs → lv_has ls 4 [(0, .ref (ad 0)), (1, .int x1), (2, .int x2)] → W p l e rm_m_followsIn s m args below meth c H locs 0 0 QQ (F0 m 2 ls [])) (σ : St) (H : Heap) (locs : List Loc) (x2 : Int32) (ls : Array Slot), m_followsIn_p2 x1 Q K2 σ x2 → gH D ct shM ad s σ H locs → lv_has ls 4 [(0, .ref (ad 0)), (1, .int x1), (2, .int x2)] → W p l e rm_m_followsIn s m args below meth c H locs 0 0 QQ (F0 m 2 ls []) := by
    intro x1 K2 hK2 σ H locs x2 ls hf hw hl
    unfold m_followsIn_p2 at hf
    refine lv_iload_n C.1 C.2.1 dX3_followsIn_2 rfl (lv_at hl 2 rfl) ?_
    refine lv_aload_n C.1 C.2.1 dX3_followsIn_3 rfl (lv_at hl 0 rfl) ?_
    refine mg_size C hw dX3_followsIn_4 ?_
    refine lv_iload_n C.1 C.2.1 dX3_followsIn_7 rfl (lv_at hl 1 rfl) ?_
    obtain ⟨b8, hf⟩ := hf
    refine g_iald C hw 4 rfl b8 dX3_followsIn_8 ?_
    refine lv_icmp_ge (tgt := 108) C.1 C.2.1 dX3_followsIn_9 (by decide) (fun h9 => ?_) (fun h9 => ?_)
    · replace hf := hf.1 h9
      exact hret _ _ _ _ _ _ hf hw dX3_followsIn_108
    · replace hf := hf.2 h9
      refine lv_aload_n C.1 C.2.1 dX3_followsIn_12 rfl (lv_at hl 0 rfl) ?_
      refine mg_sym C hw dX3_followsIn_13 ?_
      refine lv_iconst (v := 4) C.1 C.2.1 dX3_followsIn_16 rfl ?_
      refine lv_iload_n C.1 C.2.1 dX3_followsIn_17 rfl (lv_at hl 1 rfl) ?_
      refine lv_imul C.1 C.2.1 dX3_followsIn_18 ?_
      refine lv_iload_n C.1 C.2.1 dX3_followsIn_19 rfl (lv_at hl 2 rfl) ?_
      refine lv_iadd C.1 C.2.1 dX3_followsIn_20 ?_
      obtain ⟨b21, hf⟩ := hf
      refine g_iald C hw 5 rfl b21 dX3_followsIn_21 ?_
      refine lv_istore_n (lv' := [(3, .int (gI σ 5 ((4 * x1) + x2))), (0, .ref (ad 0)), (1, .int x1), (2, .int x2)]) C.1 C.2.1 dX3_followsIn_22 rfl hl (Nat.le_of_ble_eq_true rfl) rfl (fun ls hl => ?_)
      refine lv_iload_n C.1 C.2.1 dX3_followsIn_23 rfl (lv_at hl 0 rfl) ?_
      refine km_isCapital C hl.1 (Nat.le_of_ble_eq_true rfl) ⟨Nat.le_of_ble_eq_true rfl, Nat.le_of_ble_eq_true rfl⟩ dX3_followsIn_24 ?_
      refine lv_if_eq (tgt := 102) C.1 C.2.1 dX3_followsIn_27 (by decide) (fun h27 => ?_) (fun h27 => ?_)
      · replace hf := hf.1 h27
        refine lv_iinc (v := (x2 + 1)) (lv' := [(2, .int (x2 + 1)), (3, .int (gI σ 5 ((4 * x1) + x2))), (0, .ref (ad 0)), (1, .int x1)]) C.1 C.2.1 dX3_followsIn_102 hl (k := 3) rfl rfl (Nat.le_of_ble_eq_true rfl) rfl (fun ls hl => ?_)
        refine lv_goto (tgt := 2) C.1 C.2.1 dX3_followsIn_105 (by decide) ?_
        exact hK2 _ _ _ _ _ hf hw (lv_sub hl [2, 3, 0] rfl)
      · replace hf := hf.2 h27
        refine lv_aload_n C.1 C.2.1 dX3_followsIn_30 rfl (lv_at hl 1 rfl) ?_
        refine mg_follow C hw dX3_followsIn_31 ?_
        refine lv_iload_n C.1 C.2.1 dX3_followsIn_34 rfl (lv_at hl 0 rfl) ?_
        refine lv_bipush (v := 26) C.1 C.2.1 dX3_followsIn_35 rfl ?_
        refine lv_isub C.1 C.2.1 dX3_followsIn_37 ?_
        refine lv_dup2_11 C.1 C.2.1 dX3_followsIn_38 rfl rfl ?_
        obtain ⟨b39, hf⟩ := hf
        refine g_iald C hw 32 rfl b39 dX3_followsIn_39 ?_
        refine lv_aload_n C.1 C.2.1 dX3_followsIn_40 rfl (lv_at hl 1 rfl) ?_
        refine lv_iload_n C.1 C.2.1 dX3_followsIn_41 rfl (lv_at hl 2 rfl) ?_
        refine lv_iload_n C.1 C.2.1 dX3_followsIn_42 rfl (lv_at hl 3 rfl) ?_
        refine lv_iconst (v := 1) C.1 C.2.1 dX3_followsIn_43 rfl ?_
        refine lv_iadd C.1 C.2.1 dX3_followsIn_44 ?_
        refine km_firstBehind C hw hl.1 (Nat.le_of_ble_eq_true rfl) ⟨Nat.le_of_ble_eq_true rfl, Nat.le_of_ble_eq_true rfl⟩ dX3_followsIn_45 hf (fun r45 hf => ?_)
        refine lv_ior C.1 C.2.1 dX3_followsIn_48 ?_
        refine g_iast C shM_sep hw 32 rfl b39 dX3_followsIn_49 (fun s49 H locs e49 hw => ?_)
        replace hf := hf s49 e49
        refine lv_aload_n C.1 C.2.1 dX3_followsIn_50 rfl (lv_at hl 1 rfl) ?_
        refine mg_follow C hw dX3_followsIn_51 ?_
        refine lv_iload_n C.1 C.2.1 dX3_followsIn_54 rfl (lv_at hl 0 rfl) ?_
        refine lv_bipush (v := 26) C.1 C.2.1 dX3_followsIn_55 rfl ?_
        refine lv_isub C.1 C.2.1 dX3_followsIn_57 ?_
        refine lv_dup2_11 C.1 C.2.1 dX3_followsIn_58 rfl rfl ?_
        refine g_iald C hw 32 rfl b39 dX3_followsIn_59 ?_
        refine lv_aload_n C.1 C.2.1 dX3_followsIn_60 rfl (lv_at hl 1 rfl) ?_
        refine lv_aload_n C.1 C.2.1 dX3_followsIn_61 rfl (lv_at hl 1 rfl) ?_
        refine mg_empties C hw dX3_followsIn_62 ?_
        refine lv_iload_n C.1 C.2.1 dX3_followsIn_65 rfl (lv_at hl 2 rfl) ?_
        refine lv_iload_n C.1 C.2.1 dX3_followsIn_66 rfl (lv_at hl 3 rfl) ?_
        refine lv_iconst (v := 1) C.1 C.2.1 dX3_followsIn_67 rfl ?_
        refine lv_iadd C.1 C.2.1 dX3_followsIn_68 ?_
        refine lv_aload_n C.1 C.2.1 dX3_followsIn_69 rfl (lv_at hl 1 rfl) ?_
        refine mg_size C hw dX3_followsIn_70 ?_
        refine lv_iload_n C.1 C.2.1 dX3_followsIn_73 rfl (lv_at hl 2 rfl) ?_
        refine g_iald C hw 4 rfl b8 dX3_followsIn_74 ?_
        refine lv_iconst (v := (-1)) C.1 C.2.1 dX3_followsIn_75 rfl ?_
        refine km_areIn C hw hl.1 (Nat.le_of_ble_eq_true rfl) ⟨Nat.le_of_ble_eq_true rfl, Nat.le_of_ble_eq_true rfl⟩ dX3_followsIn_76 hf (fun r76 hf => ?_)
        refine lv_if_eq (tgt := 99) C.1 C.2.1 dX3_followsIn_79 (by decide) (fun h79 => ?_) (fun h79 => ?_)
        · replace hf := hf.1 h79
          refine lv_iconst (v := 0) C.1 C.2.1 dX3_followsIn_99 rfl ?_
          exact J100 _ _ _ _ _ _ _ _ _ hK2 _ hf hw (lv_sub hl [1, 2, 3] rfl)
        · replace hf := hf.2 h79
          refine lv_aload_n C.1 C.2.1 dX3_followsIn_82 rfl (lv_at hl 1 rfl) ?_
          refine mg_follow C hw dX3_followsIn_83 ?_
          refine lv_aload_n C.1 C.2.1 dX3_followsIn_86 rfl (lv_at hl 1 rfl) ?_
          refine mg_left C hw dX3_followsIn_87 ?_
          refine lv_iload_n C.1 C.2.1 dX3_followsIn_90 rfl (lv_at hl 2 rfl) ?_
          obtain ⟨b91, hf⟩ := hf
          refine g_iald C hw 3 rfl b91 dX3_followsIn_91 ?_
          refine lv_bipush (v := 26) C.1 C.2.1 dX3_followsIn_92 rfl ?_
          refine lv_isub C.1 C.2.1 dX3_followsIn_94 ?_
          obtain ⟨b95, hf⟩ := hf
          refine g_iald C hw 32 rfl b95 dX3_followsIn_95 ?_
          refine lv_goto (tgt := 100) C.1 C.2.1 dX3_followsIn_96 (by decide) ?_
          exact J100 _ _ _ _ _ _ _ _ _ hK2 _ hf hw (lv_sub hl [1, 2, 3] rfl)
  have P2 : ∀ (x1 : Int32) (n : Nat) (σ : St) (x2 : Int32) (ls : Array Slot) (H : Heap) (locs : List Loc), LL2 (m_followsIn_p2 x1 Q) n σ x2 → gH D ct shM ad s σ H locs → lv_has ls 4 [(0, .ref (ad 0)), (1, .int x1), (2, .int x2)] → W p l e rm_m_followsIn s m args below meth c H locs 0 0 QQ (F0 m 2 ls []) := by
    intro x1 n
    induction n with
    | zero => intro σ x2 ls H locs hf; exact False.elim hf
    | succ n ih => intro σ x2 ls H locs hf hw hl; exact B2 x1 (LL2 _ n) (fun σ H locs x2 ls hf hw hl => ih σ x2 ls H locs hf hw hl) σ H locs x2 ls hf hw hl
  unfold m_followsIn at hf
  obtain ⟨H, hH⟩ : ∃ q, q = s.heap := ⟨_, rfl⟩
  obtain ⟨locs, hL⟩ : ∃ q : List Loc, q = [] := ⟨_, rfl⟩
  rw [← hH, ← hL] at hw ⊢
  refine lv_iconst (v := 0) C.1 C.2.1 dX3_followsIn_0 rfl ?_
  refine lv_istore_n (lv' := [(2, .int 0), (0, .ref (ad 0)), (1, .int x1)]) C.1 C.2.1 dX3_followsIn_1 rfl hl (Nat.le_of_ble_eq_true rfl) rfl (fun ls hl => ?_)
  obtain ⟨n, hf⟩ := hf
  exact P2 _ n _ _ _ _ _ hf hw (lv_sub hl [1, 2, 0] rfl)
theorem km_followsIn {p : Program} {l : Launch} {e : Env} {R : Room} {s : State} {m : MethodId} {args : Array Value} {below : List Frame} {meth : Method} {c : Code} {H : Heap} {locs : List Loc} {Z : State → Prop} {cc : ByteArray} {nL pc : Nat} {ls : Array Slot} {rest : List Value} {D : va_G} {ct : Ct} {ad : Nat → Nat} {σ : St} {x1 : Int32} {Qp : Unit → St → Prop} (C : CallFix p m c cc nL s args lw_all RX3) (hw : gH D ct shM ad s σ H locs) (hsz : ls.size = nL) (hrm : (rest.map fun v => v.category).sum ≤ 8) (hR : rm_m_followsIn.frames + 1 ≤ R.frames ∧ 8 + (4 + 11) + rm_m_followsIn.locals ≤ R.locals) (hdg : decode cc pc = .ok (.invokevirtual 319, 3)) (hf : m_followsIn σ x1 Qp) (kk : ∀ (r : Unit) (σ1 : St) (H1 : Heap) (locs1 : List Loc), Qp r σ1 → gH D ct shM ad s σ1 H1 locs1 → W p l e R s m args below meth c H1 locs1 0 0 Z (F0 m (pc + 3) ls (rest))) : W p l e R s m args below meth c H locs 0 0 Z (F0 m pc ls (.int x1 :: .ref (ad 0) :: rest)) :=
  g_callV (As := [.int x1]) (rest := rest) C hw rfl rfl (met_m_followsIn l D ct ad hw.2.1 σ x1 Qp hf) (cwV 1 C.2.2.2.2 (lw_V q1752 q1754 qs134 q207 q1755) rfl rfl rfl (by decide +kernel) hR) rfl hsz rfl hrm ⟨Nat.zero_le _, Nat.zero_le _⟩ hdg kk
