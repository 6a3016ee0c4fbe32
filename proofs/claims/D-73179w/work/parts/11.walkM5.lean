set_option maxRecDepth 100000
def m_mendsMore_p120 (σ : St) (x1 : Int32) (x2 : Int32) (x3 : Int32) (x4 : Int32) (Q : Int32 → St → Prop) (K4 : St → Int32 → Int32 → Prop) (K19 : St → Int32 → Int32 → Prop) (v0 : Int32) (v1 : Int32) : Prop :=
  (vp_in v1 2028 ∧ (∀ s120 : St, s120 = s_A σ 65 (Int32.toNatClampNeg v1) v0 → K19 s120 x2 (x4 + 1)))
def m_mendsMore_p89 (σ : St) (x1 : Int32) (x3 : Int32) (x4 : Int32) (x5 : Int32) (x6 : Int32) (Q : Int32 → St → Prop) (K4 : St → Int32 → Int32 → Prop) (K19 : St → Int32 → Int32 → Prop) (v0 : Int32) : Prop :=
  (vp_in x5 2028 ∧ (((gI σ 65 x5) ≤ x6 → (m_mendsMore_p120 σ x1 v0 x3 x4 Q K4 K19 (gI σ 65 x5) x5)) ∧ (¬ (gI σ 65 x5) ≤ x6 → (m_mendsMore_p120 σ x1 v0 x3 x4 Q K4 K19 x6 x5))))
def m_mendsMore_p84 (σ : St) (x1 : Int32) (x3 : Int32) (x4 : Int32) (x5 : Int32) (x6 : Int32) (Q : Int32 → St → Prop) (K4 : St → Int32 → Int32 → Prop) (K19 : St → Int32 → Int32 → Prop) : Prop :=
  (m_mendsMore_p89 σ x1 x3 x4 x5 x6 Q K4 K19 1)
def m_mendsMore_p66 (σ : St) (x1 : Int32) (x2 : Int32) (x3 : Int32) (x4 : Int32) (x5 : Int32) (Q : Int32 → St → Prop) (K4 : St → Int32 → Int32 → Prop) (K19 : St → Int32 → Int32 → Prop) (v0 : Int32) : Prop :=
  ((x2 = 0 → (vp_in x5 2028 ∧ (((gI σ 65 x5) ≤ v0 → (m_mendsMore_p89 σ x1 x3 x4 x5 v0 Q K4 K19 0)) ∧ (¬ (gI σ 65 x5) ≤ v0 → (m_mendsMore_p84 σ x1 x3 x4 x5 v0 Q K4 K19))))) ∧ (¬ x2 = 0 → (m_mendsMore_p84 σ x1 x3 x4 x5 v0 Q K4 K19)))
def m_mendsMore_p19 (x1 : Int32) (x3 : Int32) (Q : Int32 → St → Prop) (K4 : St → Int32 → Int32 → Prop) (K19 : St → Int32 → Int32 → Prop) (σ : St) (x2 : Int32) (x4 : Int32) : Prop :=
  (((gI σ 2 0) ≤ x4 → K4 σ x2 (x3 + 1)) ∧ (¬ (gI σ 2 0) ≤ x4 → (((fm_isOn σ x4) = 0 → (m_mendsMore_p66 σ x1 x2 x3 x4 (fm_spot x4 x3 (x3 + x1)) Q K4 K19 2000000000)) ∧ (¬ (fm_isOn σ x4) = 0 → (m_mendsBy σ x4 x3 (x3 + x1) (fun r57 s57 => (m_mendsMore_p66 s57 x1 x2 x3 x4 (fm_spot x4 x3 (x3 + x1)) Q K4 K19 r57)))))))
def m_mendsMore_p4 (x1 : Int32) (Q : Int32 → St → Prop) (K4 : St → Int32 → Int32 → Prop) (σ : St) (x2 : Int32) (x3 : Int32) : Prop :=
  (((gI σ 2 2) < (x3 + x1) → (zB x2 ∧ Q x2 σ)) ∧ (¬ (gI σ 2 2) < (x3 + x1) → (Lp3 (m_mendsMore_p19 x1 x3 Q K4) σ x2 0)))
def m_mendsMore (σ : St) (x1 : Int32) (Q : Int32 → St → Prop) : Prop :=
  (Lp3 (m_mendsMore_p4 x1 Q) σ 0 0)
abbrev rm_m_mendsMore : Room := { frames := 4, cells := 0, slots := 0, locals := 99 }
set_option maxHeartbeats 4000000 in
theorem met_m_mendsMore (l : Launch) (D : va_G) (ct : Ct) (ad : Nat → Nat) (hJ : gJ shM ad ct) (σ : St) (x1 : Int32) (Q : Int32 → St → Prop) (hf : m_mendsMore σ x1 Q) : Met l yX3_mendsMore (ws_ yX3_mendsMore cX3_mendsMore 7 (some .boolean)) rm_m_mendsMore (va_Pc [.ref (ad 0), .int x1] (gP D ct shM ad σ)) (gQ rvI D ct shM ad Q) 0 0 (gA shM ad) := by
  refine g_metZ hJ (by decide) (Nat.le_of_ble_eq_true rfl) ?_
  intro p e s m args below meth c QQ ls C hw hl hret
  replace hl : lv_has ls 7 [(0, .ref (ad 0)), (1, .int x1)] := hl
  have J120 : ∀ (σ : St) (H : Heap) (locs : List Loc) (x1 : Int32) (x2 : Int32) (x3 : Int32) (x4 : Int32) (v0 : Int32) (v1 : Int32) (K4 : St → Int32 → Int32 → Prop) (_ : ∀ (σ : St) (H : Heap) (locs : List Loc) (x2 : Int32) (x3 : Int32) (ls : Array Slot), K4 σ x2 x3 → gH D ct shM ad s σ H locs → lv_has ls 7 [(0, .ref (ad 0)), (1, .int x1), (2, .int x2), (3, .int x3)] → W p l e rm_m_mendsMore s m args below meth c H locs 0 0 QQ (F0 m 4 ls [])) (K19 : St → Int32 → Int32 → Prop) (_ : ∀ (σ : St) (H : Heap) (locs : List Loc) (x2 : Int32) (x4 : Int32) (ls : Array Slot), K19 σ x2 x4 → gH D ct shM ad s σ H locs → lv_has ls 7 [(0, .ref (ad 0)), (1, .int x1), (2, .int x2), (3, .int x3), (4, .int x4)] → W p l e rm_m_mendsMore s m args below meth c H locs 0 0 QQ (F0 m 19 ls [])) (ls : Array Slot), m_mendsMore_p120 σ x1 x2 x3 x4 Q K4 K19 v0 v1 → gH D ct shM ad s σ H locs → lv_has ls 7 [(0, .ref (ad 0)), (1, .int x1), (2, .int x2), (3, .int x3), (4, .int x4)] → W p l e rm_m_mendsMore s m args below meth c H locs 0 0 QQ (F0 m 120 ls [.int v0, .int v1, .ref (ad 65)]) := by
    intro σ H locs x1 x2 x3 x4 v0 v1 K4 hK4 K19 hK19 ls hf hw hl
    unfold m_mendsMore_p120 at hf
    obtain ⟨b120, hf⟩ := hf
    refine g_iast C shM_sep hw 65 rfl b120 dX3_mendsMore_120 (fun s120 H locs e120 hw => ?_)
    replace hf := hf s120 e120
    refine lv_iinc (v := (x4 + 1)) (lv' := [(4, .int (x4 + 1)), (0, .ref (ad 0)), (1, .int x1), (2, .int x2), (3, .int x3)]) C.1 C.2.1 dX3_mendsMore_121 hl (k := 4) rfl rfl (Nat.le_of_ble_eq_true rfl) rfl (fun ls hl => ?_)
    refine lv_goto (tgt := 19) C.1 C.2.1 dX3_mendsMore_124 (by decide) ?_
    exact hK19 _ _ _ _ _ _ hf hw (lv_sub hl [1, 2, 3, 4, 0] rfl)
  have J89 : ∀ (σ : St) (H : Heap) (locs : List Loc) (x1 : Int32) (x3 : Int32) (x4 : Int32) (x5 : Int32) (x6 : Int32) (v0 : Int32) (K4 : St → Int32 → Int32 → Prop) (_ : ∀ (σ : St) (H : Heap) (locs : List Loc) (x2 : Int32) (x3 : Int32) (ls : Array Slot), K4 σ x2 x3 → gH D ct shM ad s σ H locs → lv_has ls 7 [(0, .ref (ad 0)), (1, .int x1), (2, .int x2), (3, .int x3)] → W p l e rm_m_mendsMore s m args below meth c H locs 0 0 QQ (F0 m 4 ls [])) (K19 : St → Int32 → Int32 → Prop) (_ : ∀ (σ : St) (H : Heap) (locs : List Loc) (x2 : Int32) (x4 : Int32) (ls : Array Slot), K19 σ x2 x4 → gH D ct shM ad s σ H locs → lv_has ls 7 [(0, .ref (ad 0)), (1, .int x1), (2, .int x2), (3, .int x3), (4, .int x4)] → W p l e rm_m_mendsMore s m args below meth c H locs 0 0 QQ (F0 m 19 ls [])) (ls : Array Slot), m_mendsMore_p89 σ x1 x3 x4 x5 x6 Q K4 K19 v0 → gH D ct shM ad s σ H locs → lv_has ls 7 [(0, .ref (ad 0)), (1, .int x1), (3, .int x3), (4, .int x4), (5, .int x5), (6, .int x6)] → W p l e rm_m_mendsMore s m args below meth c H locs 0 0 QQ (F0 m 89 ls [.int v0]) := by
    intro σ H locs x1 x3 x4 x5 x6 v0 K4 hK4 K19 hK19 ls hf hw hl
    unfold m_mendsMore_p89 at hf
    refine lv_istore_n (lv' := [(2, .int v0), (0, .ref (ad 0)), (1, .int x1), (3, .int x3), (4, .int x4), (5, .int x5), (6, .int x6)]) C.1 C.2.1 dX3_mendsMore_89 rfl hl (Nat.le_of_ble_eq_true rfl) rfl (fun ls hl => ?_)
    refine lv_aload_n C.1 C.2.1 dX3_mendsMore_90 rfl (lv_at hl 1 rfl) ?_
    refine mg_mended C hw dX3_mendsMore_91 ?_
    refine lv_iload C.1 C.2.1 dX3_mendsMore_94 (lv_at hl 5 rfl) ?_
    refine lv_iload C.1 C.2.1 dX3_mendsMore_96 (lv_at hl 6 rfl) ?_
    refine lv_aload_n C.1 C.2.1 dX3_mendsMore_98 rfl (lv_at hl 1 rfl) ?_
    refine mg_mended C hw dX3_mendsMore_99 ?_
    refine lv_iload C.1 C.2.1 dX3_mendsMore_102 (lv_at hl 5 rfl) ?_
    obtain ⟨b104, hf⟩ := hf
    refine g_iald C hw 65 rfl b104 dX3_mendsMore_104 ?_
    refine lv_icmp_ge (tgt := 113) C.1 C.2.1 dX3_mendsMore_105 (by decide) (fun h105 => ?_) (fun h105 => ?_)
    · replace hf := hf.1 h105
      refine lv_aload_n C.1 C.2.1 dX3_mendsMore_113 rfl (lv_at hl 1 rfl) ?_
      refine mg_mended C hw dX3_mendsMore_114 ?_
      refine lv_iload C.1 C.2.1 dX3_mendsMore_117 (lv_at hl 5 rfl) ?_
      refine g_iald C hw 65 rfl b104 dX3_mendsMore_119 ?_
      exact J120 _ _ _ _ _ _ _ _ _ _ hK4 _ hK19 _ hf hw (lv_sub hl [1, 2, 0, 3, 4] rfl)
    · replace hf := hf.2 h105
      refine lv_iload C.1 C.2.1 dX3_mendsMore_108 (lv_at hl 6 rfl) ?_
      refine lv_goto (tgt := 120) C.1 C.2.1 dX3_mendsMore_110 (by decide) ?_
      exact J120 _ _ _ _ _ _ _ _ _ _ hK4 _ hK19 _ hf hw (lv_sub hl [1, 2, 0, 3, 4] rfl)
  have J84 : ∀ (σ : St) (H : Heap) (locs : List Loc) (x1 : Int32) (x3 : Int32) (x4 : Int32) (x5 : Int32) (x6 : Int32) (K4 : St → Int32 → Int32 → Prop) (_ : ∀ (σ : St) (H : Heap) (locs : List Loc) (x2 : Int32) (x3 : Int32) (ls : Array Slot), K4 σ x2 x3 → gH D ct shM ad s σ H locs → lv_has ls 7 [(0, .ref (ad 0)), (1, .int x1), (2, .int x2), (3, .int x3)] → W p l e rm_m_mendsMore s m args below meth c H locs 0 0 QQ (F0 m 4 ls [])) (K19 : St → Int32 → Int32 → Prop) (_ : ∀ (σ : St) (H : Heap) (locs : List Loc) (x2 : Int32) (x4 : Int32) (ls : Array Slot), K19 σ x2 x4 → gH D ct shM ad s σ H locs → lv_has ls 7 [(0, .ref (ad 0)), (1, .int x1), (2, .int x2), (3, .int x3), (4, .int x4)] → W p l e rm_m_mendsMore s m args below meth c H locs 0 0 QQ (F0 m 19 ls [])) (ls : Array Slot), m_mendsMore_p84 σ x1 x3 x4 x5 x6 Q K4 K19 → gH D ct shM ad s σ H locs → lv_has ls 7 [(0, .ref (ad 0)), (1, .int x1), (3, .int x3), (4, .int x4), (5, .int x5), (6, .int x6)] → W p l e rm_m_mendsMore s m args below meth c H locs 0 0 QQ (F0 m 84 ls []) := by
    intro σ H locs x1 x3 x4 x5 x6 K4 hK4 K19 hK19 ls hf hw hl
    unfold m_mendsMore_p84 at hf
    refine lv_iconst (v := 1) C.1 C.2.1 dX3_mendsMore_84 rfl ?_
    refine lv_goto (tgt := 89) C.1 C.2.1 dX3_mendsMore_85 (by decide) ?_
    exact J89 _ _ _ _ _ _ _ _ _ _ hK4 _ hK19 _ hf hw (lv_sub hl [0, 1, 2, 3, 4, 5] rfl)
  have J66 : ∀ (σ : St) (H : Heap) (locs : List Loc) (x1 : Int32) (x2 : Int32) (x3 : Int32) (x4 : Int32) (x5 : Int32) (v0 : Int32) (K4 : St → Int32 → Int32 → Prop) (_ : ∀ (σ : St) (H : Heap) (locs : List Loc) (x2 : Int32) (x3 : Int32) (ls : Array Slot), K4 σ x2 x3 → gH D ct shM ad s σ H locs → lv_has ls 7 [(0, .ref (ad 0)), (1, .int x1), (2, .int x2), (3, .int x3)] → W p l e rm_m_mendsMore s m args below meth c H locs 0 0 QQ (F0 m 4 ls [])) (K19 : St → Int32 → Int32 → Prop) (_ : ∀ (σ : St) (H : Heap) (locs : List Loc) (x2 : Int32) (x4 : Int32) (ls : Array Slot), K19 σ x2 x4 → gH D ct shM ad s σ H locs → lv_has ls 7 [(0, .ref (ad 0)), (1, .int x1), (2, .int x2), (3, .int x3), (4, .int x4)] → W p l e rm_m_mendsMore s m args below meth c H locs 0 0 QQ (F0 m 19 ls [])) (ls : Array Slot), m_mendsMore_p66 σ x1 x2 x3 x4 x5 Q K4 K19 v0 → gH D ct shM ad s σ H locs → lv_has ls 7 [(0, .ref (ad 0)), (1, .int x1), (2, .int x2), (3, .int x3), (4, .int x4), (5, .int x5)] → W p l e rm_m_mendsMore s m args below meth c H locs 0 0 QQ (F0 m 66 ls [.int v0]) := by
    intro σ H locs x1 x2 x3 x4 x5 v0 K4 hK4 K19 hK19 ls hf hw hl
    unfold m_mendsMore_p66 at hf
    refine lv_istore (lv' := [(6, .int v0), (0, .ref (ad 0)), (1, .int x1), (2, .int x2), (3, .int x3), (4, .int x4), (5, .int x5)]) C.1 C.2.1 dX3_mendsMore_66 hl (Nat.le_of_ble_eq_true rfl) rfl (fun ls hl => ?_)
    refine lv_iload_n C.1 C.2.1 dX3_mendsMore_68 rfl (lv_at hl 3 rfl) ?_
    refine lv_if_ne (tgt := 84) C.1 C.2.1 dX3_mendsMore_69 (by decide) (fun h69 => ?_) (fun h69 => ?_)
    · replace hf := hf.2 h69
      exact J84 _ _ _ _ _ _ _ _ _ hK4 _ hK19 _ hf hw (lv_sub hl [1, 2, 4, 5, 6, 0] rfl)
    · replace hf := hf.1 h69
      refine lv_iload C.1 C.2.1 dX3_mendsMore_72 (lv_at hl 0 rfl) ?_
      refine lv_aload_n C.1 C.2.1 dX3_mendsMore_74 rfl (lv_at hl 1 rfl) ?_
      refine mg_mended C hw dX3_mendsMore_75 ?_
      refine lv_iload C.1 C.2.1 dX3_mendsMore_78 (lv_at hl 6 rfl) ?_
      obtain ⟨b80, hf⟩ := hf
      refine g_iald C hw 65 rfl b80 dX3_mendsMore_80 ?_
      refine lv_icmp_ge (tgt := 88) C.1 C.2.1 dX3_mendsMore_81 (by decide) (fun h81 => ?_) (fun h81 => ?_)
      · replace hf := hf.1 h81
        refine lv_iconst (v := 0) C.1 C.2.1 dX3_mendsMore_88 rfl ?_
        exact J89 _ _ _ _ _ _ _ _ _ _ hK4 _ hK19 _ hf hw (lv_sub hl [1, 2, 4, 5, 6, 0] rfl)
      · replace hf := hf.2 h81
        exact J84 _ _ _ _ _ _ _ _ _ hK4 _ hK19 _ hf hw (lv_sub hl [1, 2, 4, 5, 6, 0] rfl)
  have B19 : ∀ (x1 : Int32) (x3 : Int32) (K4 : St → Int32 → Int32 → Prop) (_ : ∀ (σ : St) (H : Heap) (locs : List Loc) (x2 : Int32) (x3 : Int32) (ls : Array Slot), K4 σ x2 x3 → gH D ct shM ad s σ H locs → lv_has ls 7 [(0, .ref (ad 0)), (1, .int x1), (2, .int x2), (3, .int x3)] → W p l e rm_m_mendsMore s m args below meth c H locs 0 0 QQ (F0 m 4 ls [])) (K19 : St → Int32 → Int32 → Prop) (_ : ∀ (σ : St) (H : Heap) (locs : List Loc) (x2 : Int32) (x4 : Int32) (ls : Array Slot), K19 σ x2 x4 → gH D ct shM ad s σ H locs → lv_has ls 7 [(0, .ref (ad 0)), (1, .int x1), (2, .int x2), (3, .int x3), (4, .int x4)] → W p l e rm_m_mendsMore s m args below meth c H locs 0 0 QQ (F0 m 19 ls [])) (σ : St) (H : Heap) (locs : List Loc) (x2 : Int32) (x4 : Int32) (ls : Array Slot), m_mendsMore_p19 x1 x3 Q K4 K19 σ x2 x4 → gH D ct shM ad s σ H locs → lv_has ls 7 [(0, .ref (ad 0)), (1, .int x1), (2, .int x2), (3, .int x3), (4, .int x4)] → W p l e rm_m_mendsMore s m args below meth c H locs 0 0 QQ (F0 m 19 ls []) := by
    intro x1 x3 K4 hK4 K19 hK19 σ H locs x2 x4 ls hf hw hl
    unfold m_mendsMore_p19 at hf
    refine lv_iload C.1 C.2.1 dX3_mendsMore_19 (lv_at hl 4 rfl) ?_
    refine lv_aload_n C.1 C.2.1 dX3_mendsMore_21 rfl (lv_at hl 0 rfl) ?_
    refine mg_scalar C hw dX3_mendsMore_22 ?_
    refine lv_iconst (v := 0) C.1 C.2.1 dX3_mendsMore_25 rfl ?_
    refine g_iald C hw 2 rfl (vpD rfl) dX3_mendsMore_26 ?_
    refine lv_icmp_ge (tgt := 127) C.1 C.2.1 dX3_mendsMore_27 (by decide) (fun h27 => ?_) (fun h27 => ?_)
    · replace hf := hf.1 h27
      refine lv_iinc (v := (x3 + 1)) (lv' := [(3, .int (x3 + 1)), (0, .ref (ad 0)), (1, .int x1), (2, .int x2), (4, .int x4)]) C.1 C.2.1 dX3_mendsMore_127 hl (k := 3) rfl rfl (Nat.le_of_ble_eq_true rfl) rfl (fun ls hl => ?_)
      refine lv_goto (tgt := 4) C.1 C.2.1 dX3_mendsMore_130 (by decide) ?_
      exact hK4 _ _ _ _ _ _ hf hw (lv_sub hl [1, 2, 3, 0] rfl)
    · replace hf := hf.2 h27
      refine lv_iload C.1 C.2.1 dX3_mendsMore_30 (lv_at hl 4 rfl) ?_
      refine lv_iload_n C.1 C.2.1 dX3_mendsMore_32 rfl (lv_at hl 3 rfl) ?_
      refine lv_iload_n C.1 C.2.1 dX3_mendsMore_33 rfl (lv_at hl 3 rfl) ?_
      refine lv_iload_n C.1 C.2.1 dX3_mendsMore_34 rfl (lv_at hl 1 rfl) ?_
      refine lv_iadd C.1 C.2.1 dX3_mendsMore_35 ?_
      refine km_spot C hl.1 (Nat.le_of_ble_eq_true rfl) ⟨Nat.le_of_ble_eq_true rfl, Nat.le_of_ble_eq_true rfl⟩ dX3_mendsMore_36 ?_
      refine lv_istore (lv' := [(5, .int (fm_spot x4 x3 (x3 + x1))), (0, .ref (ad 0)), (1, .int x1), (2, .int x2), (3, .int x3), (4, .int x4)]) C.1 C.2.1 dX3_mendsMore_39 hl (Nat.le_of_ble_eq_true rfl) rfl (fun ls hl => ?_)
      refine lv_aload_n C.1 C.2.1 dX3_mendsMore_41 rfl (lv_at hl 1 rfl) ?_
      refine lv_iload C.1 C.2.1 dX3_mendsMore_42 (lv_at hl 5 rfl) ?_
      refine km_isOn C hw hl.1 (Nat.le_of_ble_eq_true rfl) ⟨Nat.le_of_ble_eq_true rfl, Nat.le_of_ble_eq_true rfl⟩ dX3_mendsMore_44 ?_
      refine lv_if_eq (tgt := 63) C.1 C.2.1 dX3_mendsMore_47 (by decide) (fun h47 => ?_) (fun h47 => ?_)
      · replace hf := hf.1 h47
        refine lv_ldcw C.1 C.2.1 C.2.2.2.1 (C.2.2.2.2 _ q1760) dX3_mendsMore_63 ?_
        exact J66 _ _ _ _ _ _ _ _ _ _ hK4 _ hK19 _ hf hw (lv_sub hl [1, 2, 3, 4, 5, 0] rfl)
      · replace hf := hf.2 h47
        refine lv_aload_n C.1 C.2.1 dX3_mendsMore_50 rfl (lv_at hl 1 rfl) ?_
        refine lv_iload C.1 C.2.1 dX3_mendsMore_51 (lv_at hl 5 rfl) ?_
        refine lv_iload_n C.1 C.2.1 dX3_mendsMore_53 rfl (lv_at hl 4 rfl) ?_
        refine lv_iload_n C.1 C.2.1 dX3_mendsMore_54 rfl (lv_at hl 4 rfl) ?_
        refine lv_iload_n C.1 C.2.1 dX3_mendsMore_55 rfl (lv_at hl 2 rfl) ?_
        refine lv_iadd C.1 C.2.1 dX3_mendsMore_56 ?_
        refine km_mendsBy C hw hl.1 (Nat.le_of_ble_eq_true rfl) ⟨Nat.le_of_ble_eq_true rfl, Nat.le_of_ble_eq_true rfl⟩ dX3_mendsMore_57 hf (fun r57 s57 H locs hf hw => ?_)
        refine lv_goto (tgt := 66) C.1 C.2.1 dX3_mendsMore_60 (by decide) ?_
        exact J66 _ _ _ _ _ _ _ _ _ _ hK4 _ hK19 _ hf hw (lv_sub hl [1, 2, 3, 4, 5, 0] rfl)
  have P19 : ∀ (x1 : Int32) (x3 : Int32) (K4 : St → Int32 → Int32 → Prop) (_ : ∀ (σ : St) (H : Heap) (locs : List Loc) (x2 : Int32) (x3 : Int32) (ls : Array Slot), K4 σ x2 x3 → gH D ct shM ad s σ H locs → lv_has ls 7 [(0, .ref (ad 0)), (1, .int x1), (2, .int x2), (3, .int x3)] → W p l e rm_m_mendsMore s m args below meth c H locs 0 0 QQ (F0 m 4 ls [])) (n : Nat) (σ : St) (x2 : Int32) (x4 : Int32) (ls : Array Slot) (H : Heap) (locs : List Loc), LL3 (m_mendsMore_p19 x1 x3 Q K4) n σ x2 x4 → gH D ct shM ad s σ H locs → lv_has ls 7 [(0, .ref (ad 0)), (1, .int x1), (2, .int x2), (3, .int x3), (4, .int x4)] → W p l e rm_m_mendsMore s m args below meth c H locs 0 0 QQ (F0 m 19 ls []) := by
    intro x1 x3 K4 hK4 n
    induction n with
    | zero => intro σ x2 x4 ls H locs hf; exact False.elim hf
    | succ n ih => intro σ x2 x4 ls H locs hf hw hl; exact B19 x1 x3 K4 hK4 (LL3 _ n) (fun σ H locs x2 x4 ls hf hw hl => ih σ x2 x4 ls H locs hf hw hl) σ H locs x2 x4 ls hf hw hl
  have B4 : ∀ (x1 : Int32) (K4 : St → Int32 → Int32 → Prop) (_ : ∀ (σ : St) (H : Heap) (locs : List Loc) (x2 : Int32) (x3 : Int32) (ls : Array Slot), K4 σ x2 x3 → gH D ct shM ad s σ H locs → lv_has ls 7 [(0, .ref (ad 0)), (1, .int x1), (2, .int x2), (3, .int x3)] → W p l e rm_m_mendsMore s m args below meth c H locs 0 0 QQ (F0 m 4 ls [])) (σ : St) (H : Heap) (locs : List Loc) (x2 : Int32) (x3 : Int32) (ls : Array Slot), m_mendsMore_p4 x1 Q K4 σ x2 x3 → gH D ct shM ad s σ H locs → lv_has ls 7 [(0, .ref (ad 0)), (1, .int x1), (2, .int x2), (3, .int x3)] → W p l e rm_m_mendsMore s m args below meth c H locs 0 0 QQ (F0 m 4 ls []) := by
    intro x1 K4 hK4 σ H locs x2 x3 ls hf hw hl
    unfold m_mendsMore_p4 at hf
    refine lv_iload_n C.1 C.2.1 dX3_mendsMore_4 rfl (lv_at hl 3 rfl) ?_
    refine lv_iload_n C.1 C.2.1 dX3_mendsMore_5 rfl (lv_at hl 1 rfl) ?_
    refine lv_iadd C.1 C.2.1 dX3_mendsMore_6 ?_
    refine lv_aload_n C.1 C.2.1 dX3_mendsMore_7 rfl (lv_at hl 0 rfl) ?_
    refine mg_scalar C hw dX3_mendsMore_8 ?_
    refine lv_iconst (v := 2) C.1 C.2.1 dX3_mendsMore_11 rfl ?_
    refine g_iald C hw 2 rfl (vpD rfl) dX3_mendsMore_12 ?_
    refine lv_icmp_gt (tgt := 133) C.1 C.2.1 dX3_mendsMore_13 (by decide) (fun h13 => ?_) (fun h13 => ?_)
    · replace hf := hf.1 h13
      refine lv_iload_n C.1 C.2.1 dX3_mendsMore_133 rfl (lv_at hl 2 rfl) ?_
      obtain ⟨hz, hf⟩ := hf
      exact hret _ _ _ _ _ _ hf hw hz dX3_mendsMore_134
    · replace hf := hf.2 h13
      refine lv_iconst (v := 0) C.1 C.2.1 dX3_mendsMore_16 rfl ?_
      refine lv_istore (lv' := [(4, .int 0), (0, .ref (ad 0)), (1, .int x1), (2, .int x2), (3, .int x3)]) C.1 C.2.1 dX3_mendsMore_17 hl (Nat.le_of_ble_eq_true rfl) rfl (fun ls hl => ?_)
      obtain ⟨n, hf⟩ := hf
      exact P19 _ _ _ hK4 n _ _ _ _ _ _ hf hw (lv_sub hl [1, 2, 3, 4, 0] rfl)
  have P4 : ∀ (x1 : Int32) (n : Nat) (σ : St) (x2 : Int32) (x3 : Int32) (ls : Array Slot) (H : Heap) (locs : List Loc), LL3 (m_mendsMore_p4 x1 Q) n σ x2 x3 → gH D ct shM ad s σ H locs → lv_has ls 7 [(0, .ref (ad 0)), (1, .int x1), (2, .int x2), (3, .int x3)] → W p l e rm_m_mendsMore s m args below meth c H locs 0 0 QQ (F0 m 4 ls []) := by
    intro x1 n
    induction n with
    | zero => intro σ x2 x3 ls H locs hf; exact False.elim hf
    | succ n ih => intro σ x2 x3 ls H locs hf hw hl; exact B4 x1 (LL3 _ n) (fun σ H locs x2 x3 ls hf hw hl => ih σ x2 x3 ls H locs hf hw hl) σ H locs x2 x3 ls hf hw hl
  unfold m_mendsMore at hf
  obtain ⟨H, hH⟩ : ∃ q, q = s.heap := ⟨_, rfl⟩
  obtain ⟨locs, hL⟩ : ∃ q : List Loc, q = [] := ⟨_, rfl⟩
  rw [← hH, ← hL] at hw ⊢
  refine lv_iconst (v := 0) C.1 C.2.1 dX3_mendsMore_0 rfl ?_
  refine lv_istore_n (lv' := [(2, .int 0), (0, .ref (ad 0)), (1, .int x1)]) C.1 C.2.1 dX3_mendsMore_1 rfl hl (Nat.le_of_ble_eq_true rfl) rfl (fun ls hl => ?_)
  refine lv_iconst (v := 0) C.1 C.2.1 dX3_mendsMore_2 rfl ?_
  refine lv_istore_n (lv' := [(3, .int 0), (2, .int 0), (0, .ref (ad 0)), (1, .int x1)]) C.1 C.2.1 dX3_mendsMore_3 rfl hl (Nat.le_of_ble_eq_true rfl) rfl (fun ls hl => ?_)
  obtain ⟨n, hf⟩ := hf
  exact P4 _ n _ _ _ _ _ _ hf hw (lv_sub hl [2, 3, 1, 0] rfl)
theorem km_mendsMore {p : Program} {l : Launch} {e : Env} {R : Room} {s : State} {m : MethodId} {args : Array Value} {below : List Frame} {meth : Method} {c : Code} {H : Heap} {locs : List Loc} {Z : State → Prop} {cc : ByteArray} {nL pc : Nat} {ls : Array Slot} {rest : List Value} {D : va_G} {ct : Ct} {ad : Nat → Nat} {σ : St} {x1 : Int32} {Qp : Int32 → St → Prop} (C : CallFix p m c cc nL s args lw_all RX3) (hw : gH D ct shM ad s σ H locs) (hsz : ls.size = nL) (hrm : (rest.map fun v => v.category).sum ≤ 8) (hR : rm_m_mendsMore.frames + 1 ≤ R.frames ∧ 8 + (7 + 11) + rm_m_mendsMore.locals ≤ R.locals) (hdg : decode cc pc = .ok (.invokevirtual 586, 3)) (hf : m_mendsMore σ x1 Qp) (kk : ∀ (r : Int32) (σ1 : St) (H1 : Heap) (locs1 : List Loc), Qp r σ1 → gH D ct shM ad s σ1 H1 locs1 → W p l e R s m args below meth c H1 locs1 0 0 Z (F0 m (pc + 3) ls (.int r :: rest))) : W p l e R s m args below meth c H locs 0 0 Z (F0 m pc ls (.int x1 :: .ref (ad 0) :: rest)) :=
  g_callV (As := [.int x1]) (rest := rest) C hw rfl rfl (met_m_mendsMore l D ct ad hw.2.1 σ x1 Qp hf) (cwV 1 C.2.2.2.2 (lw_V q2086 q2088 qs188 q207 q2089) rfl rfl rfl (by decide +kernel) hR) rfl hsz rfl hrm ⟨Nat.zero_le _, Nat.zero_le _⟩ hdg kk
def m_spoken_p50 (x1 : Int32) (x2 : Int32) (x3 : Int32) (Q : Int32 → St → Prop) (K50 : St → Int32 → Int32 → Prop) (σ : St) (x4 : Int32) (x5 : Int32) : Prop :=
  ((x1 ≤ x5 → (∀ s75 : St, s75 = s_A σ 2 (Int32.toNatClampNeg 6) x3 → ((x4 = 0 → Q (-2) s75) ∧ (¬ x4 = 0 → ((x2 = (-1) → Q (s75.1 68) s75) ∧ (¬ x2 = (-1) → (((s75.1 68) ≤ x2 → Q (-1) s75) ∧ (¬ (s75.1 68) ≤ x2 → (vp_in x2 28 ∧ Q (gI s75 67 x2) s75))))))))) ∧ (¬ x1 ≤ x5 → (m_speaks σ (fun r57 s57 => K50 s57 r57 (x5 + 1)))))
def m_spoken (σ : St) (x1 : Int32) (x2 : Int32) (Q : Int32 → St → Prop) : Prop :=
  (((fm_isGrammar σ) = 0 → Q (-3) σ) ∧ (¬ (fm_isGrammar σ) = 0 → (((fm_in (Int32.toInt64 x1) 1 10) = 0 → Q (-3) σ) ∧ (¬ (fm_in (Int32.toInt64 x1) 1 10) = 0 → (((fm_in (Int32.toInt64 x2) (-1) 23) = 0 → Q (-3) σ) ∧ (¬ (fm_in (Int32.toInt64 x2) (-1) 23) = 0 → (Lp3 (m_spoken_p50 x1 x2 (gI σ 2 6) Q) σ 0 0)))))))
abbrev rm_m_spoken : Room := { frames := 4, cells := 0, slots := 0, locals := 89 }
set_option maxHeartbeats 4000000 in
theorem met_m_spoken (l : Launch) (D : va_G) (ct : Ct) (ad : Nat → Nat) (hJ : gJ shM ad ct) (σ : St) (x1 : Int32) (x2 : Int32) (Q : Int32 → St → Prop) (hf : m_spoken σ x1 x2 Q) : Met l yX3_spoken (ws_ yX3_spoken cX3_spoken 6 (some .int)) rm_m_spoken (va_Pc [.ref (ad 0), .int x1, .int x2] (gP D ct shM ad σ)) (gQ rvI D ct shM ad Q) 0 0 (gA shM ad) := by
  refine g_metI hJ (by decide) (Nat.le_of_ble_eq_true rfl) ?_
  intro p e s m args below meth c QQ ls C hw hl hret
  replace hl : lv_has ls 6 [(0, .ref (ad 0)), (1, .int x1), (2, .int x2)] := hl
  have B50 : ∀ (x1 : Int32) (x2 : Int32) (x3 : Int32) (K50 : St → Int32 → Int32 → Prop) (_ : ∀ (σ : St) (H : Heap) (locs : List Loc) (x4 : Int32) (x5 : Int32) (ls : Array Slot), K50 σ x4 x5 → gH D ct shM ad s σ H locs → lv_has ls 6 [(0, .ref (ad 0)), (1, .int x1), (2, .int x2), (3, .int x3), (4, .int x4), (5, .int x5)] → W p l e rm_m_spoken s m args below meth c H locs 0 0 QQ (F0 m 50 ls [])) (σ : St) (H : Heap) (locs : List Loc) (x4 : Int32) (x5 : Int32) (ls : Array Slot), m_spoken_p50 x1 x2 x3 Q K50 σ x4 x5 → gH D ct shM ad s σ H locs → lv_has ls 6 [(0, .ref (ad 0)), (1, .int x1), (2, .int x2), (3, .int x3), (4, .int x4), (5, .int x5)] → W p l e rm_m_spoken s m args below meth c H locs 0 0 QQ (F0 m 50 ls []) := by
    intro x1 x2 x3 K50 hK50 σ H locs x4 x5 ls hf hw hl
    unfold m_spoken_p50 at hf
    refine lv_iload C.1 C.2.1 dX3_spoken_50 (lv_at hl 5 rfl) ?_
    refine lv_iload_n C.1 C.2.1 dX3_spoken_52 rfl (lv_at hl 1 rfl) ?_
    refine lv_icmp_ge (tgt := 68) C.1 C.2.1 dX3_spoken_53 (by decide) (fun h53 => ?_) (fun h53 => ?_)
    · replace hf := hf.1 h53
      refine lv_aload_n C.1 C.2.1 dX3_spoken_68 rfl (lv_at hl 0 rfl) ?_
      refine mg_scalar C hw dX3_spoken_69 ?_
      refine lv_bipush (v := 6) C.1 C.2.1 dX3_spoken_72 rfl ?_
      refine lv_iload_n C.1 C.2.1 dX3_spoken_74 rfl (lv_at hl 3 rfl) ?_
      refine g_iast C shM_sep hw 2 rfl (vpD rfl) dX3_spoken_75 (fun s75 H locs e75 hw => ?_)
      replace hf := hf s75 e75
      refine lv_iload C.1 C.2.1 dX3_spoken_76 (lv_at hl 4 rfl) ?_
      refine lv_if_ne (tgt := 84) C.1 C.2.1 dX3_spoken_78 (by decide) (fun h78 => ?_) (fun h78 => ?_)
      · replace hf := hf.2 h78
        refine lv_iload_n C.1 C.2.1 dX3_spoken_84 rfl (lv_at hl 2 rfl) ?_
        refine lv_iconst (v := (-1)) C.1 C.2.1 dX3_spoken_85 rfl ?_
        refine lv_icmp_ne (tgt := 96) C.1 C.2.1 dX3_spoken_86 (by decide) (fun h86 => ?_) (fun h86 => ?_)
        · replace hf := hf.2 h86
          refine lv_iload_n C.1 C.2.1 dX3_spoken_96 rfl (lv_at hl 2 rfl) ?_
          refine lv_aload_n C.1 C.2.1 dX3_spoken_97 rfl (lv_at hl 0 rfl) ?_
          refine mg_rowMany C hw dX3_spoken_98 ?_
          refine lv_icmp_ge (tgt := 113) C.1 C.2.1 dX3_spoken_101 (by decide) (fun h101 => ?_) (fun h101 => ?_)
          · replace hf := hf.1 h101
            refine lv_iconst (v := (-1)) C.1 C.2.1 dX3_spoken_113 rfl ?_
            exact hret _ _ _ _ _ _ hf hw dX3_spoken_114
          · replace hf := hf.2 h101
            refine lv_aload_n C.1 C.2.1 dX3_spoken_104 rfl (lv_at hl 0 rfl) ?_
            refine mg_row C hw dX3_spoken_105 ?_
            refine lv_iload_n C.1 C.2.1 dX3_spoken_108 rfl (lv_at hl 2 rfl) ?_
            obtain ⟨b109, hf⟩ := hf
            refine g_iald C hw 67 rfl b109 dX3_spoken_109 ?_
            refine lv_goto (tgt := 114) C.1 C.2.1 dX3_spoken_110 (by decide) ?_
            exact hret _ _ _ _ _ _ hf hw dX3_spoken_114
        · replace hf := hf.1 h86
          refine lv_aload_n C.1 C.2.1 dX3_spoken_89 rfl (lv_at hl 0 rfl) ?_
          refine mg_rowMany C hw dX3_spoken_90 ?_
          refine lv_goto (tgt := 114) C.1 C.2.1 dX3_spoken_93 (by decide) ?_
          exact hret _ _ _ _ _ _ hf hw dX3_spoken_114
      · replace hf := hf.1 h78
        refine lv_bipush (v := (-2)) C.1 C.2.1 dX3_spoken_81 rfl ?_
        exact hret _ _ _ _ _ _ hf hw dX3_spoken_83
    · replace hf := hf.2 h53
      refine lv_aload_n C.1 C.2.1 dX3_spoken_56 rfl (lv_at hl 0 rfl) ?_
      refine km_speaks C hw hl.1 (Nat.le_of_ble_eq_true rfl) ⟨Nat.le_of_ble_eq_true rfl, Nat.le_of_ble_eq_true rfl⟩ dX3_spoken_57 hf (fun r57 s57 H locs hf hw => ?_)
      refine lv_istore (lv' := [(4, .int r57), (0, .ref (ad 0)), (1, .int x1), (2, .int x2), (3, .int x3), (5, .int x5)]) C.1 C.2.1 dX3_spoken_60 hl (Nat.le_of_ble_eq_true rfl) rfl (fun ls hl => ?_)
      refine lv_iinc (v := (x5 + 1)) (lv' := [(5, .int (x5 + 1)), (4, .int r57), (0, .ref (ad 0)), (1, .int x1), (2, .int x2), (3, .int x3)]) C.1 C.2.1 dX3_spoken_62 hl (k := 5) rfl rfl (Nat.le_of_ble_eq_true rfl) rfl (fun ls hl => ?_)
      refine lv_goto (tgt := 50) C.1 C.2.1 dX3_spoken_65 (by decide) ?_
      exact hK50 _ _ _ _ _ _ hf hw (lv_sub hl [2, 3, 4, 5, 1, 0] rfl)
  have P50 : ∀ (x1 : Int32) (x2 : Int32) (x3 : Int32) (n : Nat) (σ : St) (x4 : Int32) (x5 : Int32) (ls : Array Slot) (H : Heap) (locs : List Loc), LL3 (m_spoken_p50 x1 x2 x3 Q) n σ x4 x5 → gH D ct shM ad s σ H locs → lv_has ls 6 [(0, .ref (ad 0)), (1, .int x1), (2, .int x2), (3, .int x3), (4, .int x4), (5, .int x5)] → W p l e rm_m_spoken s m args below meth c H locs 0 0 QQ (F0 m 50 ls []) := by
    intro x1 x2 x3 n
    induction n with
    | zero => intro σ x4 x5 ls H locs hf; exact False.elim hf
    | succ n ih => intro σ x4 x5 ls H locs hf hw hl; exact B50 x1 x2 x3 (LL3 _ n) (fun σ H locs x4 x5 ls hf hw hl => ih σ x4 x5 ls H locs hf hw hl) σ H locs x4 x5 ls hf hw hl
  unfold m_spoken at hf
  obtain ⟨H, hH⟩ : ∃ q, q = s.heap := ⟨_, rfl⟩
  obtain ⟨locs, hL⟩ : ∃ q : List Loc, q = [] := ⟨_, rfl⟩
  rw [← hH, ← hL] at hw ⊢
  refine lv_aload_n C.1 C.2.1 dX3_spoken_0 rfl (lv_at hl 0 rfl) ?_
  refine km_isGrammar C hw hl.1 (Nat.le_of_ble_eq_true rfl) ⟨Nat.le_of_ble_eq_true rfl, Nat.le_of_ble_eq_true rfl⟩ dX3_spoken_1 ?_
  refine lv_if_eq (tgt := 33) C.1 C.2.1 dX3_spoken_4 (by decide) (fun h4 => ?_) (fun h4 => ?_)
  · replace hf := hf.1 h4
    refine lv_bipush (v := (-3)) C.1 C.2.1 dX3_spoken_33 rfl ?_
    exact hret _ _ _ _ _ _ hf hw dX3_spoken_35
  · replace hf := hf.2 h4
    refine lv_iload_n C.1 C.2.1 dX3_spoken_7 rfl (lv_at hl 1 rfl) ?_
    refine lv_i2l C.1 C.2.1 dX3_spoken_8 rfl ?_
    refine lv_lconst (v := 1) C.1 C.2.1 dX3_spoken_9 rfl ?_
    refine lv_ldc2 C.1 C.2.1 C.2.2.2.1 (C.2.2.2.2 _ q2106) dX3_spoken_10 ?_
    refine km_in C hl.1 (Nat.le_of_ble_eq_true rfl) ⟨Nat.le_of_ble_eq_true rfl, Nat.le_of_ble_eq_true rfl⟩ dX3_spoken_13 ?_
    refine lv_if_eq (tgt := 33) C.1 C.2.1 dX3_spoken_16 (by decide) (fun h16 => ?_) (fun h16 => ?_)
    · replace hf := hf.1 h16
      refine lv_bipush (v := (-3)) C.1 C.2.1 dX3_spoken_33 rfl ?_
      exact hret _ _ _ _ _ _ hf hw dX3_spoken_35
    · replace hf := hf.2 h16
      refine lv_iload_n C.1 C.2.1 dX3_spoken_19 rfl (lv_at hl 2 rfl) ?_
      refine lv_i2l C.1 C.2.1 dX3_spoken_20 rfl ?_
      refine lv_ldc2 C.1 C.2.1 C.2.2.2.1 (C.2.2.2.2 _ q2107) dX3_spoken_21 ?_
      refine lv_ldc2 C.1 C.2.1 C.2.2.2.1 (C.2.2.2.2 _ q2108) dX3_spoken_24 ?_
      refine km_in C hl.1 (Nat.le_of_ble_eq_true rfl) ⟨Nat.le_of_ble_eq_true rfl, Nat.le_of_ble_eq_true rfl⟩ dX3_spoken_27 ?_
      refine lv_if_ne (tgt := 36) C.1 C.2.1 dX3_spoken_30 (by decide) (fun h30 => ?_) (fun h30 => ?_)
      · replace hf := hf.2 h30
        refine lv_aload_n C.1 C.2.1 dX3_spoken_36 rfl (lv_at hl 0 rfl) ?_
        refine mg_scalar C hw dX3_spoken_37 ?_
        refine lv_bipush (v := 6) C.1 C.2.1 dX3_spoken_40 rfl ?_
        refine g_iald C hw 2 rfl (vpD rfl) dX3_spoken_42 ?_
        refine lv_istore_n (lv' := [(3, .int (gI σ 2 6)), (0, .ref (ad 0)), (1, .int x1), (2, .int x2)]) C.1 C.2.1 dX3_spoken_43 rfl hl (Nat.le_of_ble_eq_true rfl) rfl (fun ls hl => ?_)
        refine lv_iconst (v := 0) C.1 C.2.1 dX3_spoken_44 rfl ?_
        refine lv_istore (lv' := [(4, .int 0), (3, .int (gI σ 2 6)), (0, .ref (ad 0)), (1, .int x1), (2, .int x2)]) C.1 C.2.1 dX3_spoken_45 hl (Nat.le_of_ble_eq_true rfl) rfl (fun ls hl => ?_)
        refine lv_iconst (v := 0) C.1 C.2.1 dX3_spoken_47 rfl ?_
        refine lv_istore (lv' := [(5, .int 0), (4, .int 0), (3, .int (gI σ 2 6)), (0, .ref (ad 0)), (1, .int x1), (2, .int x2)]) C.1 C.2.1 dX3_spoken_48 hl (Nat.le_of_ble_eq_true rfl) rfl (fun ls hl => ?_)
        obtain ⟨n, hf⟩ := hf
        exact P50 _ _ _ n _ _ _ _ _ _ hf hw (lv_sub hl [3, 4, 5, 2, 1, 0] rfl)
      · replace hf := hf.1 h30
        refine lv_bipush (v := (-3)) C.1 C.2.1 dX3_spoken_33 rfl ?_
        exact hret _ _ _ _ _ _ hf hw dX3_spoken_35
def m_facts (σ : St) (x1 : Int32) (Q : Int32 → St → Prop) : Prop :=
  (((fm_isGrammar σ) = 0 → Q (-1) σ) ∧ (¬ (fm_isGrammar σ) = 0 → (m_laysFacts σ (fun _ s10 => ((x1 = 0 → Q (s10.1 27) s10) ∧ (¬ x1 = 0 → ((x1 = 1 → Q (s10.1 28) s10) ∧ (¬ x1 = 1 → ((x1 = 2 → Q (s10.1 29) s10) ∧ (¬ x1 = 2 → ((x1 = 3 → (m_againBy s10 1 (fun r69 => Q r69 s10))) ∧ (¬ x1 = 3 → ((x1 = 4 → (m_againBy s10 0 (fun r75 => Q r75 s10))) ∧ (¬ x1 = 4 → ((x1 = 5 → Q (s10.1 30) s10) ∧ (¬ x1 = 5 → Q (-1) s10))))))))))))))))
abbrev rm_m_facts : Room := { frames := 5, cells := 0, slots := 0, locals := 118 }
set_option maxHeartbeats 4000000 in
theorem met_m_facts (l : Launch) (D : va_G) (ct : Ct) (ad : Nat → Nat) (hJ : gJ shM ad ct) (σ : St) (x1 : Int32) (Q : Int32 → St → Prop) (hf : m_facts σ x1 Q) : Met l yX3_facts (ws_ yX3_facts cX3_facts 2 (some .int)) rm_m_facts (va_Pc [.ref (ad 0), .int x1] (gP D ct shM ad σ)) (gQ rvI D ct shM ad Q) 0 0 (gA shM ad) := by
  refine g_metI hJ (by decide) (Nat.le_of_ble_eq_true rfl) ?_
  intro p e s m args below meth c QQ ls C hw hl hret
  replace hl : lv_has ls 2 [(0, .ref (ad 0)), (1, .int x1)] := hl
  unfold m_facts at hf
  obtain ⟨H, hH⟩ : ∃ q, q = s.heap := ⟨_, rfl⟩
  obtain ⟨locs, hL⟩ : ∃ q : List Loc, q = [] := ⟨_, rfl⟩
  rw [← hH, ← hL] at hw ⊢
  refine lv_aload_n C.1 C.2.1 dX3_facts_0 rfl (lv_at hl 0 rfl) ?_
  refine km_isGrammar C hw hl.1 (Nat.le_of_ble_eq_true rfl) ⟨Nat.le_of_ble_eq_true rfl, Nat.le_of_ble_eq_true rfl⟩ dX3_facts_1 ?_
  refine lv_if_ne (tgt := 9) C.1 C.2.1 dX3_facts_4 (by decide) (fun h4 => ?_) (fun h4 => ?_)
  · replace hf := hf.2 h4
    refine lv_aload_n C.1 C.2.1 dX3_facts_9 rfl (lv_at hl 0 rfl) ?_
    refine km_laysFacts C hw hl.1 (Nat.le_of_ble_eq_true rfl) ⟨Nat.le_of_ble_eq_true rfl, Nat.le_of_ble_eq_true rfl⟩ dX3_facts_10 hf (fun _ s10 H locs hf hw => ?_)
    refine lv_iload_n C.1 C.2.1 dX3_facts_13 rfl (lv_at hl 1 rfl) ?_
    by_cases h14_0 : x1 = 0
    · replace hf := hf.1 h14_0
      refine lv_tableIn (tgt := 52) C.1 C.2.1 dX3_facts_14 (by rw [h14_0]; decide) (by rw [h14_0]; decide) (by rw [h14_0]; rfl) (by decide) ?_
      refine lv_aload_n C.1 C.2.1 dX3_facts_52 rfl (lv_at hl 0 rfl) ?_
      refine mg_empties C hw dX3_facts_53 ?_
      exact hret _ _ _ _ _ _ hf hw dX3_facts_56
    · replace hf := hf.2 h14_0
      by_cases h14_1 : x1 = 1
      · replace hf := hf.1 h14_1
        refine lv_tableIn (tgt := 57) C.1 C.2.1 dX3_facts_14 (by rw [h14_1]; decide) (by rw [h14_1]; decide) (by rw [h14_1]; rfl) (by decide) ?_
        refine lv_aload_n C.1 C.2.1 dX3_facts_57 rfl (lv_at hl 0 rfl) ?_
        refine mg_ending C hw dX3_facts_58 ?_
        exact hret _ _ _ _ _ _ hf hw dX3_facts_61
      · replace hf := hf.2 h14_1
        by_cases h14_2 : x1 = 2
        · replace hf := hf.1 h14_2
          refine lv_tableIn (tgt := 62) C.1 C.2.1 dX3_facts_14 (by rw [h14_2]; decide) (by rw [h14_2]; decide) (by rw [h14_2]; rfl) (by decide) ?_
          refine lv_aload_n C.1 C.2.1 dX3_facts_62 rfl (lv_at hl 0 rfl) ?_
          refine mg_reached C hw dX3_facts_63 ?_
          exact hret _ _ _ _ _ _ hf hw dX3_facts_66
        · replace hf := hf.2 h14_2
          by_cases h14_3 : x1 = 3
          · replace hf := hf.1 h14_3
            refine lv_tableIn (tgt := 67) C.1 C.2.1 dX3_facts_14 (by rw [h14_3]; decide) (by rw [h14_3]; decide) (by rw [h14_3]; rfl) (by decide) ?_
            refine lv_aload_n C.1 C.2.1 dX3_facts_67 rfl (lv_at hl 0 rfl) ?_
            refine lv_iconst (v := 1) C.1 C.2.1 dX3_facts_68 rfl ?_
            refine km_againBy C hw hl.1 (Nat.le_of_ble_eq_true rfl) ⟨Nat.le_of_ble_eq_true rfl, Nat.le_of_ble_eq_true rfl⟩ dX3_facts_69 hf (fun r69 hf => ?_)
            exact hret _ _ _ _ _ _ hf hw dX3_facts_72
          · replace hf := hf.2 h14_3
            by_cases h14_4 : x1 = 4
            · replace hf := hf.1 h14_4
              refine lv_tableIn (tgt := 73) C.1 C.2.1 dX3_facts_14 (by rw [h14_4]; decide) (by rw [h14_4]; decide) (by rw [h14_4]; rfl) (by decide) ?_
              refine lv_aload_n C.1 C.2.1 dX3_facts_73 rfl (lv_at hl 0 rfl) ?_
              refine lv_iconst (v := 0) C.1 C.2.1 dX3_facts_74 rfl ?_
              refine km_againBy C hw hl.1 (Nat.le_of_ble_eq_true rfl) ⟨Nat.le_of_ble_eq_true rfl, Nat.le_of_ble_eq_true rfl⟩ dX3_facts_75 hf (fun r75 hf => ?_)
              exact hret _ _ _ _ _ _ hf hw dX3_facts_78
            · replace hf := hf.2 h14_4
              by_cases h14_5 : x1 = 5
              · replace hf := hf.1 h14_5
                refine lv_tableIn (tgt := 79) C.1 C.2.1 dX3_facts_14 (by rw [h14_5]; decide) (by rw [h14_5]; decide) (by rw [h14_5]; rfl) (by decide) ?_
                refine lv_aload_n C.1 C.2.1 dX3_facts_79 rfl (lv_at hl 0 rfl) ?_
                refine mg_all C hw dX3_facts_80 ?_
                exact hret _ _ _ _ _ _ hf hw dX3_facts_83
              · replace hf := hf.2 h14_5
                refine lv_tableOut (tgt := 84) C.1 C.2.1 dX3_facts_14 (tb_out_0_5 h14_0 h14_1 h14_2 h14_3 h14_4 h14_5) (by decide) ?_
                refine lv_iconst (v := (-1)) C.1 C.2.1 dX3_facts_84 rfl ?_
                exact hret _ _ _ _ _ _ hf hw dX3_facts_85
  · replace hf := hf.1 h4
    refine lv_iconst (v := (-1)) C.1 C.2.1 dX3_facts_7 rfl ?_
    exact hret _ _ _ _ _ _ hf hw dX3_facts_8
def m_laysFirst_p77 (σ : St) (x1 : Int32) (x2 : Int32) (Q : Unit → St → Prop) (K27 : St → Int32 → Prop) (K34 : St → Int32 → Prop) (v0 : Int32) (v1 : Int32) (v2 : Int32) : Prop :=
  (vp_in v2 26 ∧ (∀ s78 : St, s78 = s_A σ 31 (Int32.toNatClampNeg v2) (v1 ||| v0) → K34 s78 (x2 + 1)))
def m_laysFirst_p34 (x1 : Int32) (Q : Unit → St → Prop) (K27 : St → Int32 → Prop) (K34 : St → Int32 → Prop) (σ : St) (x2 : Int32) : Prop :=
  (((gI σ 2 0) ≤ x2 → K27 σ (x1 + 1)) ∧ (¬ (gI σ 2 0) ≤ x2 → (vp_in x2 12 ∧ (vp_in ((gI σ 3 x2) - 26) 26 ∧ (((fm_isOn σ x2) = 0 → (m_laysFirst_p77 σ x1 x2 Q K27 K34 0 (gI σ 31 ((gI σ 3 x2) - 26)) ((gI σ 3 x2) - 26))) ∧ (¬ (fm_isOn σ x2) = 0 → (m_firstBehind σ x2 0 (fun r70 => (m_laysFirst_p77 σ x1 x2 Q K27 K34 r70 (gI σ 31 ((gI σ 3 x2) - 26)) ((gI σ 3 x2) - 26))))))))))
def m_laysFirst_p27 (Q : Unit → St → Prop) (K27 : St → Int32 → Prop) (σ : St) (x1 : Int32) : Prop :=
  ((5 < x1 → Q () σ) ∧ (¬ 5 < x1 → (Lp2 (m_laysFirst_p34 x1 Q K27) σ 0)))
def m_laysFirst_p6 (Q : Unit → St → Prop) (K6 : St → Int32 → Prop) (σ : St) (x1 : Int32) : Prop :=
  ((26 ≤ x1 → (Lp2 (m_laysFirst_p27 Q) σ 0)) ∧ (¬ 26 ≤ x1 → (vp_in x1 26 ∧ (∀ s18 : St, s18 = s_A σ 31 (Int32.toNatClampNeg x1) 0 → K6 s18 (x1 + 1)))))
def m_laysFirst (σ : St) (Q : Unit → St → Prop) : Prop :=
  (m_laysFacts σ (fun _ s1 => (Lp2 (m_laysFirst_p6 Q) s1 0)))
abbrev rm_m_laysFirst : Room := { frames := 5, cells := 0, slots := 0, locals := 111 }
set_option maxHeartbeats 4000000 in
theorem met_m_laysFirst (l : Launch) (D : va_G) (ct : Ct) (ad : Nat → Nat) (hJ : gJ shM ad ct) (σ : St) (Q : Unit → St → Prop) (hf : m_laysFirst σ Q) : Met l yX3_laysFirst (ws_ yX3_laysFirst cX3_laysFirst 3 (none)) rm_m_laysFirst (va_Pc [.ref (ad 0)] (gP D ct shM ad σ)) (gQ rvV D ct shM ad Q) 0 0 (gA shM ad) := by
  refine g_metV hJ (by decide) (Nat.le_of_ble_eq_true rfl) ?_
  intro p e s m args below meth c QQ ls C hw hl hret
  replace hl : lv_has ls 3 [(0, .ref (ad 0))] := hl
  have J77 : ∀ (σ : St) (H : Heap) (locs : List Loc) (x1 : Int32) (x2 : Int32) (v0 : Int32) (v1 : Int32) (v2 : Int32) (K27 : St → Int32 → Prop) (_ : ∀ (σ : St) (H : Heap) (locs : List Loc) (x1 : Int32) (ls : Array Slot), K27 σ x1 → gH D ct shM ad s σ H locs → lv_has ls 3 [(0, .ref (ad 0)), (1, .int x1)] → W p l e rm_m_laysFirst s m args below meth c H locs 0 0 QQ (F0 m 27 ls [])) (K34 : St → Int32 → Prop) (_ : ∀ (σ : St) (H : Heap) (locs : List Loc) (x2 : Int32) (ls : Array Slot), K34 σ x2 → gH D ct shM ad s σ H locs → lv_has ls 3 [(0, .ref (ad 0)), (1, .int x1), (2, .int x2)] → W p l e rm_m_laysFirst s m args below meth c H locs 0 0 QQ (F0 m 34 ls [])) (ls : Array Slot), m_laysFirst_p77 σ x1 x2 Q K27 K34 v0 v1 v2 → gH D ct shM ad s σ H locs → lv_has ls 3 [(0, .ref (ad 0)), (1, .int x1), (2, .int x2)] → W p l e rm_m_laysFirst s m args below meth c H locs 0 0 QQ (F0 m 77 ls [.int v0, .int v1, .int v2, .ref (ad 31)]) := by
    intro σ H locs x1 x2 v0 v1 v2 K27 hK27 K34 hK34 ls hf hw hl
    unfold m_laysFirst_p77 at hf
    refine lv_ior C.1 C.2.1 dX3_laysFirst_77 ?_
    obtain ⟨b78, hf⟩ := hf
    refine g_iast C shM_sep hw 31 rfl b78 dX3_laysFirst_78 (fun s78 H locs e78 hw => ?_)
    replace hf := hf s78 e78
    refine lv_iinc (v := (x2 + 1)) (lv' := [(2, .int (x2 + 1)), (0, .ref (ad 0)), (1, .int x1)]) C.1 C.2.1 dX3_laysFirst_79 hl (k := 2) rfl rfl (Nat.le_of_ble_eq_true rfl) rfl (fun ls hl => ?_)
    refine lv_goto (tgt := 34) C.1 C.2.1 dX3_laysFirst_82 (by decide) ?_
    exact hK34 _ _ _ _ _ hf hw (lv_sub hl [1, 2, 0] rfl)
  have B34 : ∀ (x1 : Int32) (K27 : St → Int32 → Prop) (_ : ∀ (σ : St) (H : Heap) (locs : List Loc) (x1 : Int32) (ls : Array Slot), K27 σ x1 → gH D ct shM ad s σ H locs → lv_has ls 3 [(0, .ref (ad 0)), (1, .int x1)] → W p l e rm_m_laysFirst s m args below meth c H locs 0 0 QQ (F0 m 27 ls [])) (K34 : St → Int32 → Prop) (_ : ∀ (σ : St) (H : Heap) (locs : List Loc) (x2 : Int32) (ls : Array Slot), K34 σ x2 → gH D ct shM ad s σ H locs → lv_has ls 3 [(0, .ref (ad 0)), (1, .int x1), (2, .int x2)] → W p l e rm_m_laysFirst s m args below meth c H locs 0 0 QQ (F0 m 34 ls [])) (σ : St) (H : Heap) (locs : List Loc) (x2 : Int32) (ls : Array Slot), m_laysFirst_p34 x1 Q K27 K34 σ x2 → gH D ct shM ad s σ H locs → lv_has ls 3 [(0, .ref (ad 0)), (1, .int x1), (2, .int x2)] → W p l e rm_m_laysFirst s m args below meth c H locs 0 0 QQ (F0 m 34 ls []) := by
    intro x1 K27 hK27 K34 hK34 σ H locs x2 ls hf hw hl
    unfold m_laysFirst_p34 at hf
    refine lv_iload_n C.1 C.2.1 dX3_laysFirst_34 rfl (lv_at hl 2 rfl) ?_
    refine lv_aload_n C.1 C.2.1 dX3_laysFirst_35 rfl (lv_at hl 0 rfl) ?_
    refine mg_scalar C hw dX3_laysFirst_36 ?_
    refine lv_iconst (v := 0) C.1 C.2.1 dX3_laysFirst_39 rfl ?_
    refine g_iald C hw 2 rfl (vpD rfl) dX3_laysFirst_40 ?_
    refine lv_icmp_ge (tgt := 85) C.1 C.2.1 dX3_laysFirst_41 (by decide) (fun h41 => ?_) (fun h41 => ?_)
    · replace hf := hf.1 h41
      refine lv_iinc (v := (x1 + 1)) (lv' := [(1, .int (x1 + 1)), (0, .ref (ad 0)), (2, .int x2)]) C.1 C.2.1 dX3_laysFirst_85 hl (k := 1) rfl rfl (Nat.le_of_ble_eq_true rfl) rfl (fun ls hl => ?_)
      refine lv_goto (tgt := 27) C.1 C.2.1 dX3_laysFirst_88 (by decide) ?_
      exact hK27 _ _ _ _ _ hf hw (lv_sub hl [1, 0] rfl)
    · replace hf := hf.2 h41
      refine lv_aload_n C.1 C.2.1 dX3_laysFirst_44 rfl (lv_at hl 0 rfl) ?_
      refine mg_first C hw dX3_laysFirst_45 ?_
      refine lv_aload_n C.1 C.2.1 dX3_laysFirst_48 rfl (lv_at hl 0 rfl) ?_
      refine mg_left C hw dX3_laysFirst_49 ?_
      refine lv_iload_n C.1 C.2.1 dX3_laysFirst_52 rfl (lv_at hl 2 rfl) ?_
      obtain ⟨b53, hf⟩ := hf
      refine g_iald C hw 3 rfl b53 dX3_laysFirst_53 ?_
      refine lv_bipush (v := 26) C.1 C.2.1 dX3_laysFirst_54 rfl ?_
      refine lv_isub C.1 C.2.1 dX3_laysFirst_56 ?_
      refine lv_dup2_11 C.1 C.2.1 dX3_laysFirst_57 rfl rfl ?_
      obtain ⟨b58, hf⟩ := hf
      refine g_iald C hw 31 rfl b58 dX3_laysFirst_58 ?_
      refine lv_aload_n C.1 C.2.1 dX3_laysFirst_59 rfl (lv_at hl 0 rfl) ?_
      refine lv_iload_n C.1 C.2.1 dX3_laysFirst_60 rfl (lv_at hl 2 rfl) ?_
      refine km_isOn C hw hl.1 (Nat.le_of_ble_eq_true rfl) ⟨Nat.le_of_ble_eq_true rfl, Nat.le_of_ble_eq_true rfl⟩ dX3_laysFirst_61 ?_
      refine lv_if_eq (tgt := 76) C.1 C.2.1 dX3_laysFirst_64 (by decide) (fun h64 => ?_) (fun h64 => ?_)
      · replace hf := hf.1 h64
        refine lv_iconst (v := 0) C.1 C.2.1 dX3_laysFirst_76 rfl ?_
        exact J77 _ _ _ _ _ _ _ _ _ hK27 _ hK34 _ hf hw (lv_sub hl [0, 1, 2] rfl)
      · replace hf := hf.2 h64
        refine lv_aload_n C.1 C.2.1 dX3_laysFirst_67 rfl (lv_at hl 0 rfl) ?_
        refine lv_iload_n C.1 C.2.1 dX3_laysFirst_68 rfl (lv_at hl 2 rfl) ?_
        refine lv_iconst (v := 0) C.1 C.2.1 dX3_laysFirst_69 rfl ?_
        refine km_firstBehind C hw hl.1 (Nat.le_of_ble_eq_true rfl) ⟨Nat.le_of_ble_eq_true rfl, Nat.le_of_ble_eq_true rfl⟩ dX3_laysFirst_70 hf (fun r70 hf => ?_)
        refine lv_goto (tgt := 77) C.1 C.2.1 dX3_laysFirst_73 (by decide) ?_
        exact J77 _ _ _ _ _ _ _ _ _ hK27 _ hK34 _ hf hw (lv_sub hl [0, 1, 2] rfl)
  have P34 : ∀ (x1 : Int32) (K27 : St → Int32 → Prop) (_ : ∀ (σ : St) (H : Heap) (locs : List Loc) (x1 : Int32) (ls : Array Slot), K27 σ x1 → gH D ct shM ad s σ H locs → lv_has ls 3 [(0, .ref (ad 0)), (1, .int x1)] → W p l e rm_m_laysFirst s m args below meth c H locs 0 0 QQ (F0 m 27 ls [])) (n : Nat) (σ : St) (x2 : Int32) (ls : Array Slot) (H : Heap) (locs : List Loc), LL2 (m_laysFirst_p34 x1 Q K27) n σ x2 → gH D ct shM ad s σ H locs → lv_has ls 3 [(0, .ref (ad 0)), (1, .int x1), (2, .int x2)] → W p l e rm_m_laysFirst s m args below meth c H locs 0 0 QQ (F0 m 34 ls []) := by
    intro x1 K27 hK27 n
    induction n with
    | zero => intro σ x2 ls H locs hf; exact False.elim hf
    | succ n ih => intro σ x2 ls H locs hf hw hl; exact B34 x1 K27 hK27 (LL2 _ n) (fun σ H locs x2 ls hf hw hl => ih σ x2 ls H locs hf hw hl) σ H locs x2 ls hf hw hl
  have B27 : ∀ (K27 : St → Int32 → Prop) (_ : ∀ (σ : St) (H : Heap) (locs : List Loc) (x1 : Int32) (ls : Array Slot), K27 σ x1 → gH D ct shM ad s σ H locs → lv_has ls 3 [(0, .ref (ad 0)), (1, .int x1)] → W p l e rm_m_laysFirst s m args below meth c H locs 0 0 QQ (F0 m 27 ls [])) (σ : St) (H : Heap) (locs : List Loc) (x1 : Int32) (ls : Array Slot), m_laysFirst_p27 Q K27 σ x1 → gH D ct shM ad s σ H locs → lv_has ls 3 [(0, .ref (ad 0)), (1, .int x1)] → W p l e rm_m_laysFirst s m args below meth c H locs 0 0 QQ (F0 m 27 ls []) := by
    intro K27 hK27 σ H locs x1 ls hf hw hl
    unfold m_laysFirst_p27 at hf
    refine lv_iload_n C.1 C.2.1 dX3_laysFirst_27 rfl (lv_at hl 1 rfl) ?_
    refine lv_iconst (v := 5) C.1 C.2.1 dX3_laysFirst_28 rfl ?_
    refine lv_icmp_gt (tgt := 91) C.1 C.2.1 dX3_laysFirst_29 (by decide) (fun h29 => ?_) (fun h29 => ?_)
    · replace hf := hf.1 h29
      exact hret _ _ _ _ _ _ hf hw dX3_laysFirst_91
    · replace hf := hf.2 h29
      refine lv_iconst (v := 0) C.1 C.2.1 dX3_laysFirst_32 rfl ?_
      refine lv_istore_n (lv' := [(2, .int 0), (0, .ref (ad 0)), (1, .int x1)]) C.1 C.2.1 dX3_laysFirst_33 rfl hl (Nat.le_of_ble_eq_true rfl) rfl (fun ls hl => ?_)
      obtain ⟨n, hf⟩ := hf
      exact P34 _ _ hK27 n _ _ _ _ _ hf hw (lv_sub hl [1, 2, 0] rfl)
  have P27 : ∀ (n : Nat) (σ : St) (x1 : Int32) (ls : Array Slot) (H : Heap) (locs : List Loc), LL2 (m_laysFirst_p27 Q) n σ x1 → gH D ct shM ad s σ H locs → lv_has ls 3 [(0, .ref (ad 0)), (1, .int x1)] → W p l e rm_m_laysFirst s m args below meth c H locs 0 0 QQ (F0 m 27 ls []) := by
    intro  n
    induction n with
    | zero => intro σ x1 ls H locs hf; exact False.elim hf
    | succ n ih => intro σ x1 ls H locs hf hw hl; exact B27  (LL2 _ n) (fun σ H locs x1 ls hf hw hl => ih σ x1 ls H locs hf hw hl) σ H locs x1 ls hf hw hl
  have B6 : ∀ (K6 : St → Int32 → Prop) (_ : ∀ (σ : St) (H : Heap) (locs : List Loc) (x1 : Int32) (ls : Array Slot), K6 σ x1 → gH D ct shM ad s σ H locs → lv_has ls 3 [(0, .ref (ad 0)), (1, .int x1)] → W p l e rm_m_laysFirst s m args below meth c H locs 0 0 QQ (F0 m 6 ls [])) (σ : St) (H : Heap) (locs : List Loc) (x1 : Int32) (ls : Array Slot), m_laysFirst_p6 Q K6 σ x1 → gH D ct shM ad s σ H locs → lv_has ls 3 [(0, .ref (ad 0)), (1, .int x1)] → W p l e rm_m_laysFirst s m args below meth c H locs 0 0 QQ (F0 m 6 ls []) := by
    intro K6 hK6 σ H locs x1 ls hf hw hl
    unfold m_laysFirst_p6 at hf
    refine lv_iload_n C.1 C.2.1 dX3_laysFirst_6 rfl (lv_at hl 1 rfl) ?_
    refine lv_bipush (v := 26) C.1 C.2.1 dX3_laysFirst_7 rfl ?_
    refine lv_icmp_ge (tgt := 25) C.1 C.2.1 dX3_laysFirst_9 (by decide) (fun h9 => ?_) (fun h9 => ?_)
    · replace hf := hf.1 h9
      refine lv_iconst (v := 0) C.1 C.2.1 dX3_laysFirst_25 rfl ?_
      refine lv_istore_n (lv' := [(1, .int 0), (0, .ref (ad 0))]) C.1 C.2.1 dX3_laysFirst_26 rfl hl (Nat.le_of_ble_eq_true rfl) rfl (fun ls hl => ?_)
      obtain ⟨n, hf⟩ := hf
      exact P27  n _ _ _ _ _ hf hw (lv_sub hl [1, 0] rfl)
    · replace hf := hf.2 h9
      refine lv_aload_n C.1 C.2.1 dX3_laysFirst_12 rfl (lv_at hl 0 rfl) ?_
      refine mg_first C hw dX3_laysFirst_13 ?_
      refine lv_iload_n C.1 C.2.1 dX3_laysFirst_16 rfl (lv_at hl 1 rfl) ?_
      refine lv_iconst (v := 0) C.1 C.2.1 dX3_laysFirst_17 rfl ?_
      obtain ⟨b18, hf⟩ := hf
      refine g_iast C shM_sep hw 31 rfl b18 dX3_laysFirst_18 (fun s18 H locs e18 hw => ?_)
      replace hf := hf s18 e18
      refine lv_iinc (v := (x1 + 1)) (lv' := [(1, .int (x1 + 1)), (0, .ref (ad 0))]) C.1 C.2.1 dX3_laysFirst_19 hl (k := 1) rfl rfl (Nat.le_of_ble_eq_true rfl) rfl (fun ls hl => ?_)
      refine lv_goto (tgt := 6) C.1 C.2.1 dX3_laysFirst_22 (by decide) ?_
      exact hK6 _ _ _ _ _ hf hw (lv_sub hl [1, 0] rfl)
  have P6 : ∀ (n : Nat) (σ : St) (x1 : Int32) (ls : Array Slot) (H : Heap) (locs : List Loc), LL2 (m_laysFirst_p6 Q) n σ x1 → gH D ct shM ad s σ H locs → lv_has ls 3 [(0, .ref (ad 0)), (1, .int x1)] → W p l e rm_m_laysFirst s m args below meth c H locs 0 0 QQ (F0 m 6 ls []) := by
    intro  n
    induction n with
    | zero => intro σ x1 ls H locs hf; exact False.elim hf
    | succ n ih => intro σ x1 ls H locs hf hw hl; exact B6  (LL2 _ n) (fun σ H locs x1 ls hf hw hl => ih σ x1 ls H locs hf hw hl) σ H locs x1 ls hf hw hl
  unfold m_laysFirst at hf
  obtain ⟨H, hH⟩ : ∃ q, q = s.heap := ⟨_, rfl⟩
  obtain ⟨locs, hL⟩ : ∃ q : List Loc, q = [] := ⟨_, rfl⟩
  rw [← hH, ← hL] at hw ⊢
  refine lv_aload_n C.1 C.2.1 dX3_laysFirst_0 rfl (lv_at hl 0 rfl) ?_
  refine km_laysFacts C hw hl.1 (Nat.le_of_ble_eq_true rfl) ⟨Nat.le_of_ble_eq_true rfl, Nat.le_of_ble_eq_true rfl⟩ dX3_laysFirst_1 hf (fun _ s1 H locs hf hw => ?_)
  refine lv_iconst (v := 0) C.1 C.2.1 dX3_laysFirst_4 rfl ?_
  refine lv_istore_n (lv' := [(1, .int 0), (0, .ref (ad 0))]) C.1 C.2.1 dX3_laysFirst_5 rfl hl (Nat.le_of_ble_eq_true rfl) rfl (fun ls hl => ?_)
  obtain ⟨n, hf⟩ := hf
  exact P6  n _ _ _ _ _ hf hw (lv_sub hl [1, 0] rfl)
theorem km_laysFirst {p : Program} {l : Launch} {e : Env} {R : Room} {s : State} {m : MethodId} {args : Array Value} {below : List Frame} {meth : Method} {c : Code} {H : Heap} {locs : List Loc} {Z : State → Prop} {cc : ByteArray} {nL pc : Nat} {ls : Array Slot} {rest : List Value} {D : va_G} {ct : Ct} {ad : Nat → Nat} {σ : St} {Qp : Unit → St → Prop} (C : CallFix p m c cc nL s args lw_all RX3) (hw : gH D ct shM ad s σ H locs) (hsz : ls.size = nL) (hrm : (rest.map fun v => v.category).sum ≤ 8) (hR : rm_m_laysFirst.frames + 1 ≤ R.frames ∧ 8 + (3 + 11) + rm_m_laysFirst.locals ≤ R.locals) (hdg : decode cc pc = .ok (.invokevirtual 315, 3)) (hf : m_laysFirst σ Qp) (kk : ∀ (r : Unit) (σ1 : St) (H1 : Heap) (locs1 : List Loc), Qp r σ1 → gH D ct shM ad s σ1 H1 locs1 → W p l e R s m args below meth c H1 locs1 0 0 Z (F0 m (pc + 3) ls (rest))) : W p l e R s m args below meth c H locs 0 0 Z (F0 m pc ls (.ref (ad 0) :: rest)) :=
  g_callV (As := []) (rest := rest) C hw rfl rfl (met_m_laysFirst l D ct ad hw.2.1 σ Qp hf) (cwV 0 C.2.2.2.2 (lw_V q1731 q1733 qs130 q207 q1734) rfl rfl rfl (by decide +kernel) hR) rfl hsz rfl hrm ⟨Nat.zero_le _, Nat.zero_le _⟩ hdg kk
def m_laysGo_p80 (σ : St) (x1 : Int32) (x2 : Int32) (x5 : Int32) (Q : Int32 → St → Prop) : Prop :=
  (vp_in ((52 * x1) + x2) 4680 ∧ (∀ s92 : St, s92 = s_A σ 35 (Int32.toNatClampNeg ((52 * x1) + x2)) x5 → Q 1 s92))
def m_laysGo (σ : St) (x1 : Int32) (x2 : Int32) (Q : Int32 → St → Prop) : Prop :=
  (vp_in x1 90 ∧ (m_moved σ (gL σ 34 x1) x2 (fun r8 => (vp_in ((52 * x1) + x2) 4680 ∧ (∀ s23 : St, s23 = s_A σ 35 (Int32.toNatClampNeg ((52 * x1) + x2)) (-1) → ((r8 = 0 → Q 1 s23) ∧ (¬ r8 = 0 → (m_numberOf s23 r8 (fun r34 => ((r34 = (-1) → (((s23.1 36) = 90 → Q 0 s23) ∧ (¬ (s23.1 36) = 90 → (vp_in (s23.1 36) 90 ∧ (∀ s69 : St, s69 = s_L s23 34 (Int32.toNatClampNeg (s23.1 36)) r8 → (∀ s77 : St, s77 = s_I s69 36 ((s69.1 36) + 1) → (m_laysGo_p80 s77 x1 x2 (s23.1 36) Q))))))) ∧ (¬ r34 = (-1) → (m_laysGo_p80 s23 x1 x2 r34 Q))))))))))))
abbrev rm_m_laysGo : Room := { frames := 5, cells := 0, slots := 0, locals := 122 }
set_option maxHeartbeats 4000000 in
theorem met_m_laysGo (l : Launch) (D : va_G) (ct : Ct) (ad : Nat → Nat) (hJ : gJ shM ad ct) (σ : St) (x1 : Int32) (x2 : Int32) (Q : Int32 → St → Prop) (hf : m_laysGo σ x1 x2 Q) : Met l yX3_laysGo (ws_ yX3_laysGo cX3_laysGo 6 (some .boolean)) rm_m_laysGo (va_Pc [.ref (ad 0), .int x1, .int x2] (gP D ct shM ad σ)) (gQ rvI D ct shM ad Q) 0 0 (gA shM ad) := by
  refine g_metZ hJ (by decide) (Nat.le_of_ble_eq_true rfl) ?_
  intro p e s m args below meth c QQ ls C hw hl hret
  replace hl : lv_has ls 6 [(0, .ref (ad 0)), (1, .int x1), (2, .int x2)] := hl
  have J80 : ∀ (σ : St) (H : Heap) (locs : List Loc) (x1 : Int32) (x2 : Int32) (x5 : Int32) (ls : Array Slot), m_laysGo_p80 σ x1 x2 x5 Q → gH D ct shM ad s σ H locs → lv_has ls 6 [(0, .ref (ad 0)), (1, .int x1), (2, .int x2), (5, .int x5)] → W p l e rm_m_laysGo s m args below meth c H locs 0 0 QQ (F0 m 80 ls []) := by
    intro σ H locs x1 x2 x5 ls hf hw hl
    unfold m_laysGo_p80 at hf
    refine lv_aload_n C.1 C.2.1 dX3_laysGo_80 rfl (lv_at hl 0 rfl) ?_
    refine mg_goTo C hw dX3_laysGo_81 ?_
    refine lv_bipush (v := 52) C.1 C.2.1 dX3_laysGo_84 rfl ?_
    refine lv_iload_n C.1 C.2.1 dX3_laysGo_86 rfl (lv_at hl 1 rfl) ?_
    refine lv_imul C.1 C.2.1 dX3_laysGo_87 ?_
    refine lv_iload_n C.1 C.2.1 dX3_laysGo_88 rfl (lv_at hl 2 rfl) ?_
    refine lv_iadd C.1 C.2.1 dX3_laysGo_89 ?_
    refine lv_iload C.1 C.2.1 dX3_laysGo_90 (lv_at hl 3 rfl) ?_
    obtain ⟨b92, hf⟩ := hf
    refine g_iast C shM_sep hw 35 rfl b92 dX3_laysGo_92 (fun s92 H locs e92 hw => ?_)
    replace hf := hf s92 e92
    refine lv_iconst (v := 1) C.1 C.2.1 dX3_laysGo_93 rfl ?_
    exact hret _ _ _ _ _ _ hf hw (Or.inr rfl) dX3_laysGo_94
  unfold m_laysGo at hf
  obtain ⟨H, hH⟩ : ∃ q, q = s.heap := ⟨_, rfl⟩
  obtain ⟨locs, hL⟩ : ∃ q : List Loc, q = [] := ⟨_, rfl⟩
  rw [← hH, ← hL] at hw ⊢
  refine lv_aload_n C.1 C.2.1 dX3_laysGo_0 rfl (lv_at hl 0 rfl) ?_
  refine lv_aload_n C.1 C.2.1 dX3_laysGo_1 rfl (lv_at hl 0 rfl) ?_
  refine mg_stateOf C hw dX3_laysGo_2 ?_
  refine lv_iload_n C.1 C.2.1 dX3_laysGo_5 rfl (lv_at hl 1 rfl) ?_
  obtain ⟨b6, hf⟩ := hf
  refine g_lald C hw 34 rfl b6 dX3_laysGo_6 ?_
  refine lv_iload_n C.1 C.2.1 dX3_laysGo_7 rfl (lv_at hl 2 rfl) ?_
  refine km_moved C hw hl.1 (Nat.le_of_ble_eq_true rfl) ⟨Nat.le_of_ble_eq_true rfl, Nat.le_of_ble_eq_true rfl⟩ dX3_laysGo_8 hf (fun r8 hf => ?_)
  refine lv_lstore_n (lv' := [(3, .long r8), (0, .ref (ad 0)), (1, .int x1), (2, .int x2)]) C.1 C.2.1 dX3_laysGo_11 rfl hl (Nat.le_of_ble_eq_true rfl) rfl (fun ls hl => ?_)
  refine lv_aload_n C.1 C.2.1 dX3_laysGo_12 rfl (lv_at hl 1 rfl) ?_
  refine mg_goTo C hw dX3_laysGo_13 ?_
  refine lv_bipush (v := 52) C.1 C.2.1 dX3_laysGo_16 rfl ?_
  refine lv_iload_n C.1 C.2.1 dX3_laysGo_18 rfl (lv_at hl 2 rfl) ?_
  refine lv_imul C.1 C.2.1 dX3_laysGo_19 ?_
  refine lv_iload_n C.1 C.2.1 dX3_laysGo_20 rfl (lv_at hl 3 rfl) ?_
  refine lv_iadd C.1 C.2.1 dX3_laysGo_21 ?_
  refine lv_iconst (v := (-1)) C.1 C.2.1 dX3_laysGo_22 rfl ?_
  obtain ⟨b23, hf⟩ := hf
  refine g_iast C shM_sep hw 35 rfl b23 dX3_laysGo_23 (fun s23 H locs e23 hw => ?_)
  replace hf := hf s23 e23
  refine lv_lload_n C.1 C.2.1 dX3_laysGo_24 rfl (lv_at hl 0 rfl) ?_
  refine lv_lconst (v := 0) C.1 C.2.1 dX3_laysGo_25 rfl ?_
  refine W.lcmp C.1 C.2.1 dX3_laysGo_26 ?_
  refine lv_if_ne (tgt := 32) C.1 C.2.1 dX3_laysGo_27 (by decide) (fun h27 => ?_) (fun h27 => ?_)
  · replace hf := hf.2 (fun q => h27 ((lg_cmp_eq _ _).mpr q))
    refine lv_aload_n C.1 C.2.1 dX3_laysGo_32 rfl (lv_at hl 1 rfl) ?_
    refine lv_lload_n C.1 C.2.1 dX3_laysGo_33 rfl (lv_at hl 0 rfl) ?_
    refine km_numberOf C hw hl.1 (Nat.le_of_ble_eq_true rfl) ⟨Nat.le_of_ble_eq_true rfl, Nat.le_of_ble_eq_true rfl⟩ dX3_laysGo_34 hf (fun r34 hf => ?_)
    refine lv_istore (lv' := [(5, .int r34), (3, .long r8), (0, .ref (ad 0)), (1, .int x1), (2, .int x2)]) C.1 C.2.1 dX3_laysGo_37 hl (Nat.le_of_ble_eq_true rfl) rfl (fun ls hl => ?_)
    refine lv_iload C.1 C.2.1 dX3_laysGo_39 (lv_at hl 0 rfl) ?_
    refine lv_iconst (v := (-1)) C.1 C.2.1 dX3_laysGo_41 rfl ?_
    refine lv_icmp_ne (tgt := 80) C.1 C.2.1 dX3_laysGo_42 (by decide) (fun h42 => ?_) (fun h42 => ?_)
    · replace hf := hf.2 h42
      exact J80 _ _ _ _ _ _ _ hf hw (lv_sub hl [2, 3, 4, 0] rfl)
    · replace hf := hf.1 h42
      refine lv_aload_n C.1 C.2.1 dX3_laysGo_45 rfl (lv_at hl 2 rfl) ?_
      refine mg_manyStates C hw dX3_laysGo_46 ?_
      refine lv_bipush (v := 90) C.1 C.2.1 dX3_laysGo_49 rfl ?_
      refine lv_icmp_ne (tgt := 56) C.1 C.2.1 dX3_laysGo_51 (by decide) (fun h51 => ?_) (fun h51 => ?_)
      · replace hf := hf.2 h51
        refine lv_aload_n C.1 C.2.1 dX3_laysGo_56 rfl (lv_at hl 2 rfl) ?_
        refine mg_manyStates C hw dX3_laysGo_57 ?_
        refine lv_istore (lv' := [(5, .int (s23.1 36)), (3, .long r8), (0, .ref (ad 0)), (1, .int x1), (2, .int x2)]) C.1 C.2.1 dX3_laysGo_60 hl (Nat.le_of_ble_eq_true rfl) rfl (fun ls hl => ?_)
        refine lv_aload_n C.1 C.2.1 dX3_laysGo_62 rfl (lv_at hl 2 rfl) ?_
        refine mg_stateOf C hw dX3_laysGo_63 ?_
        refine lv_iload C.1 C.2.1 dX3_laysGo_66 (lv_at hl 0 rfl) ?_
        refine lv_lload_n C.1 C.2.1 dX3_laysGo_68 rfl (lv_at hl 1 rfl) ?_
        obtain ⟨b69, hf⟩ := hf
        refine g_last C shM_sep hw 34 rfl b69 dX3_laysGo_69 (fun s69 H locs e69 hw => ?_)
        replace hf := hf s69 e69
        refine lv_aload_n C.1 C.2.1 dX3_laysGo_70 rfl (lv_at hl 2 rfl) ?_
        refine lv_dup C.1 C.2.1 dX3_laysGo_71 rfl ?_
        refine mg_manyStates C hw dX3_laysGo_72 ?_
        refine lv_iconst (v := 1) C.1 C.2.1 dX3_laysGo_75 rfl ?_
        refine lv_iadd C.1 C.2.1 dX3_laysGo_76 ?_
        refine mp_manyStates C hw dX3_laysGo_77 (fun s77 H locs e77 hw => ?_)
        replace hf := hf s77 e77
        exact J80 _ _ _ _ _ _ _ hf hw (lv_sub hl [2, 3, 4, 0] rfl)
      · replace hf := hf.1 h51
        refine lv_iconst (v := 0) C.1 C.2.1 dX3_laysGo_54 rfl ?_
        exact hret _ _ _ _ _ _ hf hw (Or.inl rfl) dX3_laysGo_55
  · replace hf := hf.1 ((lg_cmp_eq _ _).mp h27)
    refine lv_iconst (v := 1) C.1 C.2.1 dX3_laysGo_30 rfl ?_
    exact hret _ _ _ _ _ _ hf hw (Or.inr rfl) dX3_laysGo_31
theorem km_laysGo {p : Program} {l : Launch} {e : Env} {R : Room} {s : State} {m : MethodId} {args : Array Value} {below : List Frame} {meth : Method} {c : Code} {H : Heap} {locs : List Loc} {Z : State → Prop} {cc : ByteArray} {nL pc : Nat} {ls : Array Slot} {rest : List Value} {D : va_G} {ct : Ct} {ad : Nat → Nat} {σ : St} {x1 : Int32} {x2 : Int32} {Qp : Int32 → St → Prop} (C : CallFix p m c cc nL s args lw_all RX3) (hw : gH D ct shM ad s σ H locs) (hsz : ls.size = nL) (hrm : (rest.map fun v => v.category).sum ≤ 8) (hR : rm_m_laysGo.frames + 1 ≤ R.frames ∧ 8 + (6 + 11) + rm_m_laysGo.locals ≤ R.locals) (hdg : decode cc pc = .ok (.invokevirtual 362, 3)) (hf : m_laysGo σ x1 x2 Qp) (kk : ∀ (r : Int32) (σ1 : St) (H1 : Heap) (locs1 : List Loc), Qp r σ1 → gH D ct shM ad s σ1 H1 locs1 → W p l e R s m args below meth c H1 locs1 0 0 Z (F0 m (pc + 3) ls (.int r :: rest))) : W p l e R s m args below meth c H locs 0 0 Z (F0 m pc ls (.int x2 :: .int x1 :: .ref (ad 0) :: rest)) :=
  g_callV (As := [.int x1, .int x2]) (rest := rest) C hw rfl rfl (met_m_laysGo l D ct ad hw.2.1 σ x1 x2 Qp hf) (cwV 2 C.2.2.2.2 (lw_V q1652 q1654 qs115 q207 q1655) rfl rfl rfl (by decide +kernel) hR) rfl hsz rfl hrm ⟨Nat.zero_le _, Nat.zero_le _⟩ hdg kk
def m_makesOne (σ : St) (x1 : Int32) (x2 : Int32) (x3 : Int32) (x4 : Int32) (Q : Int32 → St → Prop) : Prop :=
  (vp_in ((2028 * x1) + (fm_spot x2 x3 x4)) 4056 ∧ (((gI σ 43 ((2028 * x1) + (fm_spot x2 x3 x4))) = 0 → (((fm_isOn σ x2) = 0 → Q 0 σ) ∧ (¬ (fm_isOn σ x2) = 0 → (m_laysAhead σ x1 x2 x3 x4 (fun _ s41 => (vp_in x2 12 ∧ (vp_in ((13 * (gI s41 4 x2)) + x4) 65 ∧ (zB (gI s41 44 ((13 * (gI s41 4 x2)) + x4)) ∧ (∀ s67 : St, s67 = s_A s41 43 (Int32.toNatClampNeg ((2028 * x1) + (fm_spot x2 x3 x4))) (gI s41 44 ((13 * (gI s41 4 x2)) + x4)) → (zB (gI s67 43 ((2028 * x1) + (fm_spot x2 x3 x4))) ∧ Q (gI s67 43 ((2028 * x1) + (fm_spot x2 x3 x4))) s67)))))))))) ∧ (¬ (gI σ 43 ((2028 * x1) + (fm_spot x2 x3 x4))) = 0 → Q 0 σ)))
abbrev rm_m_makesOne : Room := { frames := 5, cells := 0, slots := 0, locals := 124 }
set_option maxHeartbeats 4000000 in
theorem met_m_makesOne (l : Launch) (D : va_G) (ct : Ct) (ad : Nat → Nat) (hJ : gJ shM ad ct) (σ : St) (x1 : Int32) (x2 : Int32) (x3 : Int32) (x4 : Int32) (Q : Int32 → St → Prop) (hf : m_makesOne σ x1 x2 x3 x4 Q) : Met l yX3_makesOne (ws_ yX3_makesOne cX3_makesOne 6 (some .boolean)) rm_m_makesOne (va_Pc [.ref (ad 0), .int x1, .int x2, .int x3, .int x4] (gP D ct shM ad σ)) (gQ rvI D ct shM ad Q) 0 0 (gA shM ad) := by
  refine g_metZ hJ (by decide) (Nat.le_of_ble_eq_true rfl) ?_
  intro p e s m args below meth c QQ ls C hw hl hret
  replace hl : lv_has ls 6 [(0, .ref (ad 0)), (1, .int x1), (2, .int x2), (3, .int x3), (4, .int x4)] := hl
  unfold m_makesOne at hf
  obtain ⟨H, hH⟩ : ∃ q, q = s.heap := ⟨_, rfl⟩
  obtain ⟨locs, hL⟩ : ∃ q : List Loc, q = [] := ⟨_, rfl⟩
  rw [← hH, ← hL] at hw ⊢
  refine lv_sipush (v := 2028) C.1 C.2.1 dX3_makesOne_0 rfl ?_
  refine lv_iload_n C.1 C.2.1 dX3_makesOne_3 rfl (lv_at hl 1 rfl) ?_
  refine lv_imul C.1 C.2.1 dX3_makesOne_4 ?_
  refine lv_iload_n C.1 C.2.1 dX3_makesOne_5 rfl (lv_at hl 2 rfl) ?_
  refine lv_iload_n C.1 C.2.1 dX3_makesOne_6 rfl (lv_at hl 3 rfl) ?_
  refine lv_iload C.1 C.2.1 dX3_makesOne_7 (lv_at hl 4 rfl) ?_
  refine km_spot C hl.1 (Nat.le_of_ble_eq_true rfl) ⟨Nat.le_of_ble_eq_true rfl, Nat.le_of_ble_eq_true rfl⟩ dX3_makesOne_9 ?_
  refine lv_iadd C.1 C.2.1 dX3_makesOne_12 ?_
  refine lv_istore (lv' := [(5, .int ((2028 * x1) + (fm_spot x2 x3 x4))), (0, .ref (ad 0)), (1, .int x1), (2, .int x2), (3, .int x3), (4, .int x4)]) C.1 C.2.1 dX3_makesOne_13 hl (Nat.le_of_ble_eq_true rfl) rfl (fun ls hl => ?_)
  refine lv_aload_n C.1 C.2.1 dX3_makesOne_15 rfl (lv_at hl 1 rfl) ?_
  refine mg_made C hw dX3_makesOne_16 ?_
  refine lv_iload C.1 C.2.1 dX3_makesOne_19 (lv_at hl 0 rfl) ?_
  obtain ⟨b21, hf⟩ := hf
  refine g_zald C hw 43 rfl b21 dX3_makesOne_21 ?_
  refine lv_if_ne (tgt := 33) C.1 C.2.1 dX3_makesOne_22 (by decide) (fun h22 => ?_) (fun h22 => ?_)
  · replace hf := hf.2 h22
    refine lv_iconst (v := 0) C.1 C.2.1 dX3_makesOne_33 rfl ?_
    exact hret _ _ _ _ _ _ hf hw (Or.inl rfl) dX3_makesOne_34
  · replace hf := hf.1 h22
    refine lv_aload_n C.1 C.2.1 dX3_makesOne_25 rfl (lv_at hl 1 rfl) ?_
    refine lv_iload_n C.1 C.2.1 dX3_makesOne_26 rfl (lv_at hl 3 rfl) ?_
    refine km_isOn C hw hl.1 (Nat.le_of_ble_eq_true rfl) ⟨Nat.le_of_ble_eq_true rfl, Nat.le_of_ble_eq_true rfl⟩ dX3_makesOne_27 ?_
    refine lv_if_ne (tgt := 35) C.1 C.2.1 dX3_makesOne_30 (by decide) (fun h30 => ?_) (fun h30 => ?_)
    · replace hf := hf.2 h30
      refine lv_aload_n C.1 C.2.1 dX3_makesOne_35 rfl (lv_at hl 1 rfl) ?_
      refine lv_iload_n C.1 C.2.1 dX3_makesOne_36 rfl (lv_at hl 2 rfl) ?_
      refine lv_iload_n C.1 C.2.1 dX3_makesOne_37 rfl (lv_at hl 3 rfl) ?_
      refine lv_iload_n C.1 C.2.1 dX3_makesOne_38 rfl (lv_at hl 4 rfl) ?_
      refine lv_iload C.1 C.2.1 dX3_makesOne_39 (lv_at hl 5 rfl) ?_
      refine km_laysAhead C hw hl.1 (Nat.le_of_ble_eq_true rfl) ⟨Nat.le_of_ble_eq_true rfl, Nat.le_of_ble_eq_true rfl⟩ dX3_makesOne_41 hf (fun _ s41 H locs hf hw => ?_)
      refine lv_aload_n C.1 C.2.1 dX3_makesOne_44 rfl (lv_at hl 1 rfl) ?_
      refine mg_made C hw dX3_makesOne_45 ?_
      refine lv_iload C.1 C.2.1 dX3_makesOne_48 (lv_at hl 0 rfl) ?_
      refine lv_aload_n C.1 C.2.1 dX3_makesOne_50 rfl (lv_at hl 1 rfl) ?_
      refine mg_ahead C hw dX3_makesOne_51 ?_
      refine lv_bipush (v := 13) C.1 C.2.1 dX3_makesOne_54 rfl ?_
      refine lv_aload_n C.1 C.2.1 dX3_makesOne_56 rfl (lv_at hl 1 rfl) ?_
      refine mg_size C hw dX3_makesOne_57 ?_
      refine lv_iload_n C.1 C.2.1 dX3_makesOne_60 rfl (lv_at hl 3 rfl) ?_
      obtain ⟨b61, hf⟩ := hf
      refine g_iald C hw 4 rfl b61 dX3_makesOne_61 ?_
      refine lv_imul C.1 C.2.1 dX3_makesOne_62 ?_
      refine lv_iload C.1 C.2.1 dX3_makesOne_63 (lv_at hl 5 rfl) ?_
      refine lv_iadd C.1 C.2.1 dX3_makesOne_65 ?_
      obtain ⟨b66, hf⟩ := hf
      refine g_zald C hw 44 rfl b66 dX3_makesOne_66 ?_
      obtain ⟨hz67, hf⟩ := hf
      refine g_zast C shM_sep hw 43 rfl hz67 b21 dX3_makesOne_67 (fun s67 H locs e67 hw => ?_)
      replace hf := hf s67 e67
      refine lv_aload_n C.1 C.2.1 dX3_makesOne_68 rfl (lv_at hl 1 rfl) ?_
      refine mg_made C hw dX3_makesOne_69 ?_
      refine lv_iload C.1 C.2.1 dX3_makesOne_72 (lv_at hl 0 rfl) ?_
      refine g_zald C hw 43 rfl b21 dX3_makesOne_74 ?_
      obtain ⟨hz, hf⟩ := hf
      exact hret _ _ _ _ _ _ hf hw hz dX3_makesOne_75
    · replace hf := hf.1 h30
      refine lv_iconst (v := 0) C.1 C.2.1 dX3_makesOne_33 rfl ?_
      exact hret _ _ _ _ _ _ hf hw (Or.inl rfl) dX3_makesOne_34
theorem km_makesOne {p : Program} {l : Launch} {e : Env} {R : Room} {s : State} {m : MethodId} {args : Array Value} {below : List Frame} {meth : Method} {c : Code} {H : Heap} {locs : List Loc} {Z : State → Prop} {cc : ByteArray} {nL pc : Nat} {ls : Array Slot} {rest : List Value} {D : va_G} {ct : Ct} {ad : Nat → Nat} {σ : St} {x1 : Int32} {x2 : Int32} {x3 : Int32} {x4 : Int32} {Qp : Int32 → St → Prop} (C : CallFix p m c cc nL s args lw_all RX3) (hw : gH D ct shM ad s σ H locs) (hsz : ls.size = nL) (hrm : (rest.map fun v => v.category).sum ≤ 8) (hR : rm_m_makesOne.frames + 1 ≤ R.frames ∧ 8 + (6 + 11) + rm_m_makesOne.locals ≤ R.locals) (hdg : decode cc pc = .ok (.invokevirtual 434, 3)) (hf : m_makesOne σ x1 x2 x3 x4 Qp) (kk : ∀ (r : Int32) (σ1 : St) (H1 : Heap) (locs1 : List Loc), Qp r σ1 → gH D ct shM ad s σ1 H1 locs1 → W p l e R s m args below meth c H1 locs1 0 0 Z (F0 m (pc + 3) ls (.int r :: rest))) : W p l e R s m args below meth c H locs 0 0 Z (F0 m pc ls (.int x4 :: .int x3 :: .int x2 :: .int x1 :: .ref (ad 0) :: rest)) :=
  g_callV (As := [.int x1, .int x2, .int x3, .int x4]) (rest := rest) C hw rfl rfl (met_m_makesOne l D ct ad hw.2.1 σ x1 x2 x3 x4 Qp hf) (cwV 4 C.2.2.2.2 (lw_V q1872 q1874 qs147 q207 q1875) rfl rfl rfl (by decide +kernel) hR) rfl hsz rfl hrm ⟨Nat.zero_le _, Nat.zero_le _⟩ hdg kk
def m_laysRings_p127 (x1 : Int32) (x2 : Int32) (Q : Unit → St → Prop) (K127 : St → Int32 → Prop) (σ : St) (x3 : Int32) : Prop :=
  (((gI σ 2 0) ≤ x3 → Q () σ) ∧ (¬ (gI σ 2 0) ≤ x3 → (vp_in x3 12 ∧ (vp_in (fm_spot x3 x1 x2) 2028 ∧ (zB (fm_has (gI σ 51 x3) x3) ∧ (∀ s157 : St, s157 = s_A σ 47 (Int32.toNatClampNeg (fm_spot x3 x1 x2)) (fm_has (gI σ 51 x3) x3) → K127 s157 (x3 + 1)))))))
def m_laysRings_p111 (σ : St) (x1 : Int32) (x2 : Int32) (x3 : Int32) (x4 : Int32) (Q : Unit → St → Prop) (K55 : St → Int32 → Prop) (K68 : St → Int32 → Prop) (v0 : Int32) (v1 : Int32) (v2 : Int32) : Prop :=
  (vp_in v2 12 ∧ (∀ s112 : St, s112 = s_A σ 51 (Int32.toNatClampNeg v2) (v1 ||| v0) → K68 s112 (x4 + 1)))
def m_laysRings_p68 (x1 : Int32) (x2 : Int32) (x3 : Int32) (Q : Unit → St → Prop) (K55 : St → Int32 → Prop) (K68 : St → Int32 → Prop) (σ : St) (x4 : Int32) : Prop :=
  (((gI σ 2 0) ≤ x4 → K55 σ (x3 + 1)) ∧ (¬ (gI σ 2 0) ≤ x4 → (vp_in x4 12 ∧ (((fm_has (gI σ 51 x4) x3) = 0 → (m_laysRings_p111 σ x1 x2 x3 x4 Q K55 K68 0 (gI σ 51 x4) x4)) ∧ (¬ (fm_has (gI σ 51 x4) x3) = 0 → (vp_in x3 12 ∧ (m_laysRings_p111 σ x1 x2 x3 x4 Q K55 K68 (gI σ 51 x3) (gI σ 51 x4) x4)))))))
def m_laysRings_p55 (x1 : Int32) (x2 : Int32) (Q : Unit → St → Prop) (K55 : St → Int32 → Prop) (σ : St) (x3 : Int32) : Prop :=
  (((gI σ 2 0) ≤ x3 → (Lp2 (m_laysRings_p127 x1 x2 Q) σ 0)) ∧ (¬ (gI σ 2 0) ≤ x3 → (Lp2 (m_laysRings_p68 x1 x2 x3 Q K55) σ 0)))
def m_laysRings_p46 (σ : St) (x1 : Int32) (x2 : Int32) (x3 : Int32) (Q : Unit → St → Prop) (K2 : St → Int32 → Prop) (v0 : Int32) (v1 : Int32) : Prop :=
  (vp_in v1 12 ∧ (∀ s46 : St, s46 = s_A σ 51 (Int32.toNatClampNeg v1) v0 → K2 s46 (x3 + 1)))
def m_laysRings_p2 (x1 : Int32) (x2 : Int32) (Q : Unit → St → Prop) (K2 : St → Int32 → Prop) (σ : St) (x3 : Int32) : Prop :=
  (((gI σ 2 0) ≤ x3 → (Lp2 (m_laysRings_p55 x1 x2 Q) σ 0)) ∧ (¬ (gI σ 2 0) ≤ x3 → (vp_in (2028 + (fm_spot x3 x1 x2)) 4056 ∧ (((gI σ 43 (2028 + (fm_spot x3 x1 x2))) = 0 → (m_laysRings_p46 σ x1 x2 x3 Q K2 0 x3)) ∧ (¬ (gI σ 43 (2028 + (fm_spot x3 x1 x2))) = 0 → (m_sameBelow σ x3 x1 x2 (fun r39 => (m_laysRings_p46 σ x1 x2 x3 Q K2 r39 x3))))))))
def m_laysRings (σ : St) (x1 : Int32) (x2 : Int32) (Q : Unit → St → Prop) : Prop :=
  (Lp2 (m_laysRings_p2 x1 x2 Q) σ 0)
abbrev rm_m_laysRings : Room := { frames := 5, cells := 0, slots := 0, locals := 124 }
set_option maxHeartbeats 4000000 in
theorem met_m_laysRings (l : Launch) (D : va_G) (ct : Ct) (ad : Nat → Nat) (hJ : gJ shM ad ct) (σ : St) (x1 : Int32) (x2 : Int32) (Q : Unit → St → Prop) (hf : m_laysRings σ x1 x2 Q) : Met l yX3_laysRings (ws_ yX3_laysRings cX3_laysRings 5 (none)) rm_m_laysRings (va_Pc [.ref (ad 0), .int x1, .int x2] (gP D ct shM ad σ)) (gQ rvV D ct shM ad Q) 0 0 (gA shM ad) := by
  refine g_metV hJ (by decide) (Nat.le_of_ble_eq_true rfl) ?_
  intro p e s m args below meth c QQ ls C hw hl hret
  replace hl : lv_has ls 5 [(0, .ref (ad 0)), (1, .int x1), (2, .int x2)] := hl
  have B127 : ∀ (x1 : Int32) (x2 : Int32) (K127 : St → Int32 → Prop) (_ : ∀ (σ : St) (H : Heap) (locs : List Loc) (x3 : Int32) (ls : Array Slot), K127 σ x3 → gH D ct shM ad s σ H locs → lv_has ls 5 [(0, .ref (ad 0)), (1, .int x1), (2, .int x2), (3, .int x3)] → W p l e rm_m_laysRings s m args below meth c H locs 0 0 QQ (F0 m 127 ls [])) (σ : St) (H : Heap) (locs : List Loc) (x3 : Int32) (ls : Array Slot), m_laysRings_p127 x1 x2 Q K127 σ x3 → gH D ct shM ad s σ H locs → lv_has ls 5 [(0, .ref (ad 0)), (1, .int x1), (2, .int x2), (3, .int x3)] → W p l e rm_m_laysRings s m args below meth c H locs 0 0 QQ (F0 m 127 ls []) := by
    intro x1 x2 K127 hK127 σ H locs x3 ls hf hw hl
    unfold m_laysRings_p127 at hf
    refine lv_iload_n C.1 C.2.1 dX3_laysRings_127 rfl (lv_at hl 3 rfl) ?_
    refine lv_aload_n C.1 C.2.1 dX3_laysRings_128 rfl (lv_at hl 0 rfl) ?_
    refine mg_scalar C hw dX3_laysRings_129 ?_
    refine lv_iconst (v := 0) C.1 C.2.1 dX3_laysRings_132 rfl ?_
    refine g_iald C hw 2 rfl (vpD rfl) dX3_laysRings_133 ?_
    refine lv_icmp_ge (tgt := 164) C.1 C.2.1 dX3_laysRings_134 (by decide) (fun h134 => ?_) (fun h134 => ?_)
    · replace hf := hf.1 h134
      exact hret _ _ _ _ _ _ hf hw dX3_laysRings_164
    · replace hf := hf.2 h134
      refine lv_aload_n C.1 C.2.1 dX3_laysRings_137 rfl (lv_at hl 0 rfl) ?_
      refine mg_isEndless C hw dX3_laysRings_138 ?_
      refine lv_iload_n C.1 C.2.1 dX3_laysRings_141 rfl (lv_at hl 3 rfl) ?_
      refine lv_iload_n C.1 C.2.1 dX3_laysRings_142 rfl (lv_at hl 1 rfl) ?_
      refine lv_iload_n C.1 C.2.1 dX3_laysRings_143 rfl (lv_at hl 2 rfl) ?_
      refine km_spot C hl.1 (Nat.le_of_ble_eq_true rfl) ⟨Nat.le_of_ble_eq_true rfl, Nat.le_of_ble_eq_true rfl⟩ dX3_laysRings_144 ?_
      refine lv_aload_n C.1 C.2.1 dX3_laysRings_147 rfl (lv_at hl 0 rfl) ?_
      refine mg_below C hw dX3_laysRings_148 ?_
      refine lv_iload_n C.1 C.2.1 dX3_laysRings_151 rfl (lv_at hl 3 rfl) ?_
      obtain ⟨b152, hf⟩ := hf
      refine g_iald C hw 51 rfl b152 dX3_laysRings_152 ?_
      refine lv_iload_n C.1 C.2.1 dX3_laysRings_153 rfl (lv_at hl 3 rfl) ?_
      refine km_has C hl.1 (Nat.le_of_ble_eq_true rfl) ⟨Nat.le_of_ble_eq_true rfl, Nat.le_of_ble_eq_true rfl⟩ dX3_laysRings_154 ?_
      obtain ⟨b157, hf⟩ := hf
      obtain ⟨hz157, hf⟩ := hf
      refine g_zast C shM_sep hw 47 rfl hz157 b157 dX3_laysRings_157 (fun s157 H locs e157 hw => ?_)
      replace hf := hf s157 e157
      refine lv_iinc (v := (x3 + 1)) (lv' := [(3, .int (x3 + 1)), (0, .ref (ad 0)), (1, .int x1), (2, .int x2)]) C.1 C.2.1 dX3_laysRings_158 hl (k := 3) rfl rfl (Nat.le_of_ble_eq_true rfl) rfl (fun ls hl => ?_)
      refine lv_goto (tgt := 127) C.1 C.2.1 dX3_laysRings_161 (by decide) ?_
      exact hK127 _ _ _ _ _ hf hw (lv_sub hl [1, 2, 3, 0] rfl)
  have P127 : ∀ (x1 : Int32) (x2 : Int32) (n : Nat) (σ : St) (x3 : Int32) (ls : Array Slot) (H : Heap) (locs : List Loc), LL2 (m_laysRings_p127 x1 x2 Q) n σ x3 → gH D ct shM ad s σ H locs → lv_has ls 5 [(0, .ref (ad 0)), (1, .int x1), (2, .int x2), (3, .int x3)] → W p l e rm_m_laysRings s m args below meth c H locs 0 0 QQ (F0 m 127 ls []) := by
    intro x1 x2 n
    induction n with
    | zero => intro σ x3 ls H locs hf; exact False.elim hf
    | succ n ih => intro σ x3 ls H locs hf hw hl; exact B127 x1 x2 (LL2 _ n) (fun σ H locs x3 ls hf hw hl => ih σ x3 ls H locs hf hw hl) σ H locs x3 ls hf hw hl
  have J111 : ∀ (σ : St) (H : Heap) (locs : List Loc) (x1 : Int32) (x2 : Int32) (x3 : Int32) (x4 : Int32) (v0 : Int32) (v1 : Int32) (v2 : Int32) (K55 : St → Int32 → Prop) (_ : ∀ (σ : St) (H : Heap) (locs : List Loc) (x3 : Int32) (ls : Array Slot), K55 σ x3 → gH D ct shM ad s σ H locs → lv_has ls 5 [(0, .ref (ad 0)), (1, .int x1), (2, .int x2), (3, .int x3)] → W p l e rm_m_laysRings s m args below meth c H locs 0 0 QQ (F0 m 55 ls [])) (K68 : St → Int32 → Prop) (_ : ∀ (σ : St) (H : Heap) (locs : List Loc) (x4 : Int32) (ls : Array Slot), K68 σ x4 → gH D ct shM ad s σ H locs → lv_has ls 5 [(0, .ref (ad 0)), (1, .int x1), (2, .int x2), (3, .int x3), (4, .int x4)] → W p l e rm_m_laysRings s m args below meth c H locs 0 0 QQ (F0 m 68 ls [])) (ls : Array Slot), m_laysRings_p111 σ x1 x2 x3 x4 Q K55 K68 v0 v1 v2 → gH D ct shM ad s σ H locs → lv_has ls 5 [(0, .ref (ad 0)), (1, .int x1), (2, .int x2), (3, .int x3), (4, .int x4)] → W p l e rm_m_laysRings s m args below meth c H locs 0 0 QQ (F0 m 111 ls [.int v0, .int v1, .int v2, .ref (ad 51)]) := by
    intro σ H locs x1 x2 x3 x4 v0 v1 v2 K55 hK55 K68 hK68 ls hf hw hl
    unfold m_laysRings_p111 at hf
    refine lv_ior C.1 C.2.1 dX3_laysRings_111 ?_
    obtain ⟨b112, hf⟩ := hf
    refine g_iast C shM_sep hw 51 rfl b112 dX3_laysRings_112 (fun s112 H locs e112 hw => ?_)
    replace hf := hf s112 e112
    refine lv_iinc (v := (x4 + 1)) (lv' := [(4, .int (x4 + 1)), (0, .ref (ad 0)), (1, .int x1), (2, .int x2), (3, .int x3)]) C.1 C.2.1 dX3_laysRings_113 hl (k := 4) rfl rfl (Nat.le_of_ble_eq_true rfl) rfl (fun ls hl => ?_)
    refine lv_goto (tgt := 68) C.1 C.2.1 dX3_laysRings_116 (by decide) ?_
    exact hK68 _ _ _ _ _ hf hw (lv_sub hl [1, 2, 3, 4, 0] rfl)
  have B68 : ∀ (x1 : Int32) (x2 : Int32) (x3 : Int32) (K55 : St → Int32 → Prop) (_ : ∀ (σ : St) (H : Heap) (locs : List Loc) (x3 : Int32) (ls : Array Slot), K55 σ x3 → gH D ct shM ad s σ H locs → lv_has ls 5 [(0, .ref (ad 0)), (1, .int x1), (2, .int x2), (3, .int x3)] → W p l e rm_m_laysRings s m args below meth c H locs 0 0 QQ (F0 m 55 ls [])) (K68 : St → Int32 → Prop) (_ : ∀ (σ : St) (H : Heap) (locs : List Loc) (x4 : Int32) (ls : Array Slot), K68 σ x4 → gH D ct shM ad s σ H locs → lv_has ls 5 [(0, .ref (ad 0)), (1, .int x1), (2, .int x2), (3, .int x3), (4, .int x4)] → W p l e rm_m_laysRings s m args below meth c H locs 0 0 QQ (F0 m 68 ls [])) (σ : St) (H : Heap) (locs : List Loc) (x4 : Int32) (ls : Array Slot), m_laysRings_p68 x1 x2 x3 Q K55 K68 σ x4 → gH D ct shM ad s σ H locs → lv_has ls 5 [(0, .ref (ad 0)), (1, .int x1), (2, .int x2), (3, .int x3), (4, .int x4)] → W p l e rm_m_laysRings s m args below meth c H locs 0 0 QQ (F0 m 68 ls []) := by
    intro x1 x2 x3 K55 hK55 K68 hK68 σ H locs x4 ls hf hw hl
    unfold m_laysRings_p68 at hf
    refine lv_iload C.1 C.2.1 dX3_laysRings_68 (lv_at hl 4 rfl) ?_
    refine lv_aload_n C.1 C.2.1 dX3_laysRings_70 rfl (lv_at hl 0 rfl) ?_
    refine mg_scalar C hw dX3_laysRings_71 ?_
    refine lv_iconst (v := 0) C.1 C.2.1 dX3_laysRings_74 rfl ?_
    refine g_iald C hw 2 rfl (vpD rfl) dX3_laysRings_75 ?_
    refine lv_icmp_ge (tgt := 119) C.1 C.2.1 dX3_laysRings_76 (by decide) (fun h76 => ?_) (fun h76 => ?_)
    · replace hf := hf.1 h76
      refine lv_iinc (v := (x3 + 1)) (lv' := [(3, .int (x3 + 1)), (0, .ref (ad 0)), (1, .int x1), (2, .int x2), (4, .int x4)]) C.1 C.2.1 dX3_laysRings_119 hl (k := 3) rfl rfl (Nat.le_of_ble_eq_true rfl) rfl (fun ls hl => ?_)
      refine lv_goto (tgt := 55) C.1 C.2.1 dX3_laysRings_122 (by decide) ?_
      exact hK55 _ _ _ _ _ hf hw (lv_sub hl [1, 2, 3, 0] rfl)
    · replace hf := hf.2 h76
      refine lv_aload_n C.1 C.2.1 dX3_laysRings_79 rfl (lv_at hl 0 rfl) ?_
      refine mg_below C hw dX3_laysRings_80 ?_
      refine lv_iload C.1 C.2.1 dX3_laysRings_83 (lv_at hl 4 rfl) ?_
      refine lv_dup2_11 C.1 C.2.1 dX3_laysRings_85 rfl rfl ?_
      obtain ⟨b86, hf⟩ := hf
      refine g_iald C hw 51 rfl b86 dX3_laysRings_86 ?_
      refine lv_aload_n C.1 C.2.1 dX3_laysRings_87 rfl (lv_at hl 0 rfl) ?_
      refine mg_below C hw dX3_laysRings_88 ?_
      refine lv_iload C.1 C.2.1 dX3_laysRings_91 (lv_at hl 4 rfl) ?_
      refine g_iald C hw 51 rfl b86 dX3_laysRings_93 ?_
      refine lv_iload_n C.1 C.2.1 dX3_laysRings_94 rfl (lv_at hl 3 rfl) ?_
      refine km_has C hl.1 (Nat.le_of_ble_eq_true rfl) ⟨Nat.le_of_ble_eq_true rfl, Nat.le_of_ble_eq_true rfl⟩ dX3_laysRings_95 ?_
      refine lv_if_eq (tgt := 110) C.1 C.2.1 dX3_laysRings_98 (by decide) (fun h98 => ?_) (fun h98 => ?_)
      · replace hf := hf.1 h98
        refine lv_iconst (v := 0) C.1 C.2.1 dX3_laysRings_110 rfl ?_
        exact J111 _ _ _ _ _ _ _ _ _ _ _ hK55 _ hK68 _ hf hw (lv_sub hl [0, 1, 2, 3, 4] rfl)
      · replace hf := hf.2 h98
        refine lv_aload_n C.1 C.2.1 dX3_laysRings_101 rfl (lv_at hl 0 rfl) ?_
        refine mg_below C hw dX3_laysRings_102 ?_
        refine lv_iload_n C.1 C.2.1 dX3_laysRings_105 rfl (lv_at hl 3 rfl) ?_
        obtain ⟨b106, hf⟩ := hf
        refine g_iald C hw 51 rfl b106 dX3_laysRings_106 ?_
        refine lv_goto (tgt := 111) C.1 C.2.1 dX3_laysRings_107 (by decide) ?_
        exact J111 _ _ _ _ _ _ _ _ _ _ _ hK55 _ hK68 _ hf hw (lv_sub hl [0, 1, 2, 3, 4] rfl)
  have P68 : ∀ (x1 : Int32) (x2 : Int32) (x3 : Int32) (K55 : St → Int32 → Prop) (_ : ∀ (σ : St) (H : Heap) (locs : List Loc) (x3 : Int32) (ls : Array Slot), K55 σ x3 → gH D ct shM ad s σ H locs → lv_has ls 5 [(0, .ref (ad 0)), (1, .int x1), (2, .int x2), (3, .int x3)] → W p l e rm_m_laysRings s m args below meth c H locs 0 0 QQ (F0 m 55 ls [])) (n : Nat) (σ : St) (x4 : Int32) (ls : Array Slot) (H : Heap) (locs : List Loc), LL2 (m_laysRings_p68 x1 x2 x3 Q K55) n σ x4 → gH D ct shM ad s σ H locs → lv_has ls 5 [(0, .ref (ad 0)), (1, .int x1), (2, .int x2), (3, .int x3), (4, .int x4)] → W p l e rm_m_laysRings s m args below meth c H locs 0 0 QQ (F0 m 68 ls []) := by
    intro x1 x2 x3 K55 hK55 n
    induction n with
    | zero => intro σ x4 ls H locs hf; exact False.elim hf
    | succ n ih => intro σ x4 ls H locs hf hw hl; exact B68 x1 x2 x3 K55 hK55 (LL2 _ n) (fun σ H locs x4 ls hf hw hl => ih σ x4 ls H locs hf hw hl) σ H locs x4 ls hf hw hl
  have B55 : ∀ (x1 : Int32) (x2 : Int32) (K55 : St → Int32 → Prop) (_ : ∀ (σ : St) (H : Heap) (locs : List Loc) (x3 : Int32) (ls : Array Slot), K55 σ x3 → gH D ct shM ad s σ H locs → lv_has ls 5 [(0, .ref (ad 0)), (1, .int x1), (2, .int x2), (3, .int x3)] → W p l e rm_m_laysRings s m args below meth c H locs 0 0 QQ (F0 m 55 ls [])) (σ : St) (H : Heap) (locs : List Loc) (x3 : Int32) (ls : Array Slot), m_laysRings_p55 x1 x2 Q K55 σ x3 → gH D ct shM ad s σ H locs → lv_has ls 5 [(0, .ref (ad 0)), (1, .int x1), (2, .int x2), (3, .int x3)] → W p l e rm_m_laysRings s m args below meth c H locs 0 0 QQ (F0 m 55 ls []) := by
    intro x1 x2 K55 hK55 σ H locs x3 ls hf hw hl
    unfold m_laysRings_p55 at hf
    refine lv_iload_n C.1 C.2.1 dX3_laysRings_55 rfl (lv_at hl 3 rfl) ?_
    refine lv_aload_n C.1 C.2.1 dX3_laysRings_56 rfl (lv_at hl 0 rfl) ?_
    refine mg_scalar C hw dX3_laysRings_57 ?_
    refine lv_iconst (v := 0) C.1 C.2.1 dX3_laysRings_60 rfl ?_
    refine g_iald C hw 2 rfl (vpD rfl) dX3_laysRings_61 ?_
    refine lv_icmp_ge (tgt := 125) C.1 C.2.1 dX3_laysRings_62 (by decide) (fun h62 => ?_) (fun h62 => ?_)
    · replace hf := hf.1 h62
      refine lv_iconst (v := 0) C.1 C.2.1 dX3_laysRings_125 rfl ?_
      refine lv_istore_n (lv' := [(3, .int 0), (0, .ref (ad 0)), (1, .int x1), (2, .int x2)]) C.1 C.2.1 dX3_laysRings_126 rfl hl (Nat.le_of_ble_eq_true rfl) rfl (fun ls hl => ?_)
      obtain ⟨n, hf⟩ := hf
      exact P127 _ _ n _ _ _ _ _ hf hw (lv_sub hl [1, 2, 3, 0] rfl)
    · replace hf := hf.2 h62
      refine lv_iconst (v := 0) C.1 C.2.1 dX3_laysRings_65 rfl ?_
      refine lv_istore (lv' := [(4, .int 0), (0, .ref (ad 0)), (1, .int x1), (2, .int x2), (3, .int x3)]) C.1 C.2.1 dX3_laysRings_66 hl (Nat.le_of_ble_eq_true rfl) rfl (fun ls hl => ?_)
      obtain ⟨n, hf⟩ := hf
      exact P68 _ _ _ _ hK55 n _ _ _ _ _ hf hw (lv_sub hl [1, 2, 3, 4, 0] rfl)
  have P55 : ∀ (x1 : Int32) (x2 : Int32) (n : Nat) (σ : St) (x3 : Int32) (ls : Array Slot) (H : Heap) (locs : List Loc), LL2 (m_laysRings_p55 x1 x2 Q) n σ x3 → gH D ct shM ad s σ H locs → lv_has ls 5 [(0, .ref (ad 0)), (1, .int x1), (2, .int x2), (3, .int x3)] → W p l e rm_m_laysRings s m args below meth c H locs 0 0 QQ (F0 m 55 ls []) := by
    intro x1 x2 n
    induction n with
    | zero => intro σ x3 ls H locs hf; exact False.elim hf
    | succ n ih => intro σ x3 ls H locs hf hw hl; exact B55 x1 x2 (LL2 _ n) (fun σ H locs x3 ls hf hw hl => ih σ x3 ls H locs hf hw hl) σ H locs x3 ls hf hw hl
  have J46 : ∀ (σ : St) (H : Heap) (locs : List Loc) (x1 : Int32) (x2 : Int32) (x3 : Int32) (v0 : Int32) (v1 : Int32) (K2 : St → Int32 → Prop) (_ : ∀ (σ : St) (H : Heap) (locs : List Loc) (x3 : Int32) (ls : Array Slot), K2 σ x3 → gH D ct shM ad s σ H locs → lv_has ls 5 [(0, .ref (ad 0)), (1, .int x1), (2, .int x2), (3, .int x3)] → W p l e rm_m_laysRings s m args below meth c H locs 0 0 QQ (F0 m 2 ls [])) (ls : Array Slot), m_laysRings_p46 σ x1 x2 x3 Q K2 v0 v1 → gH D ct shM ad s σ H locs → lv_has ls 5 [(0, .ref (ad 0)), (1, .int x1), (2, .int x2), (3, .int x3)] → W p l e rm_m_laysRings s m args below meth c H locs 0 0 QQ (F0 m 46 ls [.int v0, .int v1, .ref (ad 51)]) := by
    intro σ H locs x1 x2 x3 v0 v1 K2 hK2 ls hf hw hl
    unfold m_laysRings_p46 at hf
    obtain ⟨b46, hf⟩ := hf
    refine g_iast C shM_sep hw 51 rfl b46 dX3_laysRings_46 (fun s46 H locs e46 hw => ?_)
    replace hf := hf s46 e46
    refine lv_iinc (v := (x3 + 1)) (lv' := [(3, .int (x3 + 1)), (0, .ref (ad 0)), (1, .int x1), (2, .int x2)]) C.1 C.2.1 dX3_laysRings_47 hl (k := 3) rfl rfl (Nat.le_of_ble_eq_true rfl) rfl (fun ls hl => ?_)
    refine lv_goto (tgt := 2) C.1 C.2.1 dX3_laysRings_50 (by decide) ?_
    exact hK2 _ _ _ _ _ hf hw (lv_sub hl [1, 2, 3, 0] rfl)
  have B2 : ∀ (x1 : Int32) (x2 : Int32) (K2 : St → Int32 → Prop) (_ : ∀ (σ : St) (H : Heap) (locs : List Loc) (x3 : Int32) (ls : Array Slot), K2 σ x3 → gH D ct shM ad s σ H locs → lv_has ls 5 [(0, .ref (ad 0)), (1, .int x1), (2, .int x2), (3, .int x3)] → W p l e rm_m_laysRings s m args below meth c H locs 0 0 QQ (F0 m 2 ls [])) (σ : St) (H : Heap) (locs : List Loc) (x3 : Int32) (ls : Array Slot), m_laysRings_p2 x1 x2 Q K2 σ x3 → gH D ct shM ad s σ H locs → lv_has ls 5 [(0, .ref (ad 0)), (1, .int x1), (2, .int x2), (3, .int x3)] → W p l e rm_m_laysRings s m args below meth c H locs 0 0 QQ (F0 m 2 ls []) := by
    intro x1 x2 K2 hK2 σ H locs x3 ls hf hw hl
    unfold m_laysRings_p2 at hf
    refine lv_iload_n C.1 C.2.1 dX3_laysRings_2 rfl (lv_at hl 3 rfl) ?_
    refine lv_aload_n C.1 C.2.1 dX3_laysRings_3 rfl (lv_at hl 0 rfl) ?_
    refine mg_scalar C hw dX3_laysRings_4 ?_
    refine lv_iconst (v := 0) C.1 C.2.1 dX3_laysRings_7 rfl ?_
    refine g_iald C hw 2 rfl (vpD rfl) dX3_laysRings_8 ?_
    refine lv_icmp_ge (tgt := 53) C.1 C.2.1 dX3_laysRings_9 (by decide) (fun h9 => ?_) (fun h9 => ?_)
    · replace hf := hf.1 h9
      refine lv_iconst (v := 0) C.1 C.2.1 dX3_laysRings_53 rfl ?_
      refine lv_istore_n (lv' := [(3, .int 0), (0, .ref (ad 0)), (1, .int x1), (2, .int x2)]) C.1 C.2.1 dX3_laysRings_54 rfl hl (Nat.le_of_ble_eq_true rfl) rfl (fun ls hl => ?_)
      obtain ⟨n, hf⟩ := hf
      exact P55 _ _ n _ _ _ _ _ hf hw (lv_sub hl [1, 2, 3, 0] rfl)
    · replace hf := hf.2 h9
      refine lv_aload_n C.1 C.2.1 dX3_laysRings_12 rfl (lv_at hl 0 rfl) ?_
      refine mg_below C hw dX3_laysRings_13 ?_
      refine lv_iload_n C.1 C.2.1 dX3_laysRings_16 rfl (lv_at hl 3 rfl) ?_
      refine lv_aload_n C.1 C.2.1 dX3_laysRings_17 rfl (lv_at hl 0 rfl) ?_
      refine mg_made C hw dX3_laysRings_18 ?_
      refine lv_sipush (v := 2028) C.1 C.2.1 dX3_laysRings_21 rfl ?_
      refine lv_iload_n C.1 C.2.1 dX3_laysRings_24 rfl (lv_at hl 3 rfl) ?_
      refine lv_iload_n C.1 C.2.1 dX3_laysRings_25 rfl (lv_at hl 1 rfl) ?_
      refine lv_iload_n C.1 C.2.1 dX3_laysRings_26 rfl (lv_at hl 2 rfl) ?_
      refine km_spot C hl.1 (Nat.le_of_ble_eq_true rfl) ⟨Nat.le_of_ble_eq_true rfl, Nat.le_of_ble_eq_true rfl⟩ dX3_laysRings_27 ?_
      refine lv_iadd C.1 C.2.1 dX3_laysRings_30 ?_
      obtain ⟨b31, hf⟩ := hf
      refine g_zald C hw 43 rfl b31 dX3_laysRings_31 ?_
      refine lv_if_eq (tgt := 45) C.1 C.2.1 dX3_laysRings_32 (by decide) (fun h32 => ?_) (fun h32 => ?_)
      · replace hf := hf.1 h32
        refine lv_iconst (v := 0) C.1 C.2.1 dX3_laysRings_45 rfl ?_
        exact J46 _ _ _ _ _ _ _ _ _ hK2 _ hf hw (lv_sub hl [0, 1, 2, 3] rfl)
      · replace hf := hf.2 h32
        refine lv_aload_n C.1 C.2.1 dX3_laysRings_35 rfl (lv_at hl 0 rfl) ?_
        refine lv_iload_n C.1 C.2.1 dX3_laysRings_36 rfl (lv_at hl 3 rfl) ?_
        refine lv_iload_n C.1 C.2.1 dX3_laysRings_37 rfl (lv_at hl 1 rfl) ?_
        refine lv_iload_n C.1 C.2.1 dX3_laysRings_38 rfl (lv_at hl 2 rfl) ?_
        refine km_sameBelow C hw hl.1 (Nat.le_of_ble_eq_true rfl) ⟨Nat.le_of_ble_eq_true rfl, Nat.le_of_ble_eq_true rfl⟩ dX3_laysRings_39 hf (fun r39 hf => ?_)
        refine lv_goto (tgt := 46) C.1 C.2.1 dX3_laysRings_42 (by decide) ?_
        exact J46 _ _ _ _ _ _ _ _ _ hK2 _ hf hw (lv_sub hl [0, 1, 2, 3] rfl)
  have P2 : ∀ (x1 : Int32) (x2 : Int32) (n : Nat) (σ : St) (x3 : Int32) (ls : Array Slot) (H : Heap) (locs : List Loc), LL2 (m_laysRings_p2 x1 x2 Q) n σ x3 → gH D ct shM ad s σ H locs → lv_has ls 5 [(0, .ref (ad 0)), (1, .int x1), (2, .int x2), (3, .int x3)] → W p l e rm_m_laysRings s m args below meth c H locs 0 0 QQ (F0 m 2 ls []) := by
    intro x1 x2 n
    induction n with
    | zero => intro σ x3 ls H locs hf; exact False.elim hf
    | succ n ih => intro σ x3 ls H locs hf hw hl; exact B2 x1 x2 (LL2 _ n) (fun σ H locs x3 ls hf hw hl => ih σ x3 ls H locs hf hw hl) σ H locs x3 ls hf hw hl
  unfold m_laysRings at hf
  obtain ⟨H, hH⟩ : ∃ q, q = s.heap := ⟨_, rfl⟩
  obtain ⟨locs, hL⟩ : ∃ q : List Loc, q = [] := ⟨_, rfl⟩
  rw [← hH, ← hL] at hw ⊢
  refine lv_iconst (v := 0) C.1 C.2.1 dX3_laysRings_0 rfl ?_
  refine lv_istore_n (lv' := [(3, .int 0), (0, .ref (ad 0)), (1, .int x1), (2, .int x2)]) C.1 C.2.1 dX3_laysRings_1 rfl hl (Nat.le_of_ble_eq_true rfl) rfl (fun ls hl => ?_)
  obtain ⟨n, hf⟩ := hf
  exact P2 _ _ n _ _ _ _ _ hf hw (lv_sub hl [1, 2, 3, 0] rfl)
theorem km_laysRings {p : Program} {l : Launch} {e : Env} {R : Room} {s : State} {m : MethodId} {args : Array Value} {below : List Frame} {meth : Method} {c : Code} {H : Heap} {locs : List Loc} {Z : State → Prop} {cc : ByteArray} {nL pc : Nat} {ls : Array Slot} {rest : List Value} {D : va_G} {ct : Ct} {ad : Nat → Nat} {σ : St} {x1 : Int32} {x2 : Int32} {Qp : Unit → St → Prop} (C : CallFix p m c cc nL s args lw_all RX3) (hw : gH D ct shM ad s σ H locs) (hsz : ls.size = nL) (hrm : (rest.map fun v => v.category).sum ≤ 8) (hR : rm_m_laysRings.frames + 1 ≤ R.frames ∧ 8 + (5 + 11) + rm_m_laysRings.locals ≤ R.locals) (hdg : decode cc pc = .ok (.invokevirtual 484, 3)) (hf : m_laysRings σ x1 x2 Qp) (kk : ∀ (r : Unit) (σ1 : St) (H1 : Heap) (locs1 : List Loc), Qp r σ1 → gH D ct shM ad s σ1 H1 locs1 → W p l e R s m args below meth c H1 locs1 0 0 Z (F0 m (pc + 3) ls (rest))) : W p l e R s m args below meth c H locs 0 0 Z (F0 m pc ls (.int x2 :: .int x1 :: .ref (ad 0) :: rest)) :=
  g_callV (As := [.int x1, .int x2]) (rest := rest) C hw rfl rfl (met_m_laysRings l D ct ad hw.2.1 σ x1 x2 Qp hf) (cwV 2 C.2.2.2.2 (lw_V q1959 q1961 qs163 q207 q1962) rfl rfl rfl (by decide +kernel) hR) rfl hsz rfl hrm ⟨Nat.zero_le _, Nat.zero_le _⟩ hdg kk
def m_hasEndless_p154 (σ : St) (x1 : Int32) (x2 : Int32) (x3 : Int32) (x4 : Int32) (x5 : Int32) (x6 : Int32) (Q : Int32 → St → Prop) (K34 : St → Int32 → Prop) (K48 : St → Int32 → Prop) : Prop :=
  (vp_in ((13 * x4) + x5) 65 ∧ (zB x6 ∧ (∀ s168 : St, s168 = s_A σ 50 (Int32.toNatClampNeg ((13 * x4) + x5)) x6 → K48 s168 (x5 + 1))))
def m_hasEndless_p107 (σ : St) (x1 : Int32) (x2 : Int32) (x3 : Int32) (x4 : Int32) (x5 : Int32) (x7 : Int32) (Q : Int32 → St → Prop) (K34 : St → Int32 → Prop) (K48 : St → Int32 → Prop) (K60 : Int32 → Int32 → Prop) : Prop :=
  (vp_in ((13 * (x4 - 1)) + x7) 65 ∧ (((gI σ 44 ((13 * (x4 - 1)) + x7)) = 0 → K60 0 (x7 + 1)) ∧ (¬ (gI σ 44 ((13 * (x4 - 1)) + x7)) = 0 → (m_isEndlessBelow σ x1 (x4 - 1) x7 x5 (fun r135 => ((r135 = 0 → K60 0 (x7 + 1)) ∧ (¬ r135 = 0 → K60 1 (x7 + 1))))))))
def m_hasEndless_p60 (σ : St) (x1 : Int32) (x2 : Int32) (x3 : Int32) (x4 : Int32) (x5 : Int32) (Q : Int32 → St → Prop) (K34 : St → Int32 → Prop) (K48 : St → Int32 → Prop) (K60 : Int32 → Int32 → Prop) (x6 : Int32) (x7 : Int32) : Prop :=
  ((x5 < x7 → (m_hasEndless_p154 σ x1 x2 x3 x4 x5 x6 Q K34 K48)) ∧ (¬ x5 < x7 → ((x6 = 0 → (vp_in ((13 * (x4 - 1)) + x7) 65 ∧ (((gI σ 50 ((13 * (x4 - 1)) + x7)) = 0 → (m_hasEndless_p107 σ x1 x2 x3 x4 x5 x7 Q K34 K48 K60)) ∧ (¬ (gI σ 50 ((13 * (x4 - 1)) + x7)) = 0 → (m_canBe σ 1 x1 (x4 - 1) x7 x5 (fun r101 => ((r101 = 0 → (m_hasEndless_p107 σ x1 x2 x3 x4 x5 x7 Q K34 K48 K60)) ∧ (¬ r101 = 0 → K60 1 (x7 + 1))))))))) ∧ (¬ x6 = 0 → (m_hasEndless_p154 σ x1 x2 x3 x4 x5 x6 Q K34 K48)))))
def m_hasEndless_p48 (x1 : Int32) (x2 : Int32) (x3 : Int32) (x4 : Int32) (Q : Int32 → St → Prop) (K34 : St → Int32 → Prop) (K48 : St → Int32 → Prop) (σ : St) (x5 : Int32) : Prop :=
  ((x3 < x5 → K34 σ (x4 + 1)) ∧ (¬ x3 < x5 → (Lp2 (m_hasEndless_p60 σ x1 x2 x3 x4 x5 Q K34 K48) 0 x2)))
def m_hasEndless_p34 (x1 : Int32) (x2 : Int32) (x3 : Int32) (Q : Int32 → St → Prop) (K34 : St → Int32 → Prop) (σ : St) (x4 : Int32) : Prop :=
  (vp_in x1 12 ∧ (((gI σ 4 x1) < x4 → (vp_in ((13 * (gI σ 4 x1)) + x3) 65 ∧ (zB (gI σ 50 ((13 * (gI σ 4 x1)) + x3)) ∧ Q (gI σ 50 ((13 * (gI σ 4 x1)) + x3)) σ))) ∧ (¬ (gI σ 4 x1) < x4 → (Lp2 (m_hasEndless_p48 x1 x2 x3 x4 Q K34) σ x2))))
def m_hasEndless_p11 (x1 : Int32) (x2 : Int32) (x3 : Int32) (Q : Int32 → St → Prop) (K11 : St → Int32 → Prop) (σ : St) (x4 : Int32) : Prop :=
  ((x3 < x4 → (Lp2 (m_hasEndless_p34 x1 x2 x3 Q) σ 1)) ∧ (¬ x3 < x4 → (vp_in x4 65 ∧ (∀ s24 : St, s24 = s_A σ 50 (Int32.toNatClampNeg x4) 0 → K11 s24 (x4 + 1)))))
def m_hasEndless (σ : St) (x1 : Int32) (x2 : Int32) (x3 : Int32) (Q : Int32 → St → Prop) : Prop :=
  (m_laysAhead σ 1 x1 x2 x3 (fun _ s5 => (Lp2 (m_hasEndless_p11 x1 x2 x3 Q) s5 x2)))
abbrev rm_m_hasEndless : Room := { frames := 5, cells := 0, slots := 0, locals := 124 }
set_option maxHeartbeats 4000000 in
theorem met_m_hasEndless (l : Launch) (D : va_G) (ct : Ct) (ad : Nat → Nat) (hJ : gJ shM ad ct) (σ : St) (x1 : Int32) (x2 : Int32) (x3 : Int32) (Q : Int32 → St → Prop) (hf : m_hasEndless σ x1 x2 x3 Q) : Met l yX3_hasEndless (ws_ yX3_hasEndless cX3_hasEndless 8 (some .boolean)) rm_m_hasEndless (va_Pc [.ref (ad 0), .int x1, .int x2, .int x3] (gP D ct shM ad σ)) (gQ rvI D ct shM ad Q) 0 0 (gA shM ad) := by
  refine g_metZ hJ (by decide) (Nat.le_of_ble_eq_true rfl) ?_
  intro p e s m args below meth c QQ ls C hw hl hret
  replace hl : lv_has ls 8 [(0, .ref (ad 0)), (1, .int x1), (2, .int x2), (3, .int x3)] := hl
  have J154 : ∀ (σ : St) (H : Heap) (locs : List Loc) (x1 : Int32) (x2 : Int32) (x3 : Int32) (x4 : Int32) (x5 : Int32) (x6 : Int32) (K34 : St → Int32 → Prop) (_ : ∀ (σ : St) (H : Heap) (locs : List Loc) (x4 : Int32) (ls : Array Slot), K34 σ x4 → gH D ct shM ad s σ H locs → lv_has ls 8 [(0, .ref (ad 0)), (1, .int x1), (2, .int x2), (3, .int x3), (4, .int x4)] → W p l e rm_m_hasEndless s m args below meth c H locs 0 0 QQ (F0 m 34 ls [])) (K48 : St → Int32 → Prop) (_ : ∀ (σ : St) (H : Heap) (locs : List Loc) (x5 : Int32) (ls : Array Slot), K48 σ x5 → gH D ct shM ad s σ H locs → lv_has ls 8 [(0, .ref (ad 0)), (1, .int x1), (2, .int x2), (3, .int x3), (4, .int x4), (5, .int x5)] → W p l e rm_m_hasEndless s m args below meth c H locs 0 0 QQ (F0 m 48 ls [])) (ls : Array Slot), m_hasEndless_p154 σ x1 x2 x3 x4 x5 x6 Q K34 K48 → gH D ct shM ad s σ H locs → lv_has ls 8 [(0, .ref (ad 0)), (1, .int x1), (2, .int x2), (3, .int x3), (4, .int x4), (5, .int x5), (6, .int x6)] → W p l e rm_m_hasEndless s m args below meth c H locs 0 0 QQ (F0 m 154 ls []) := by
    intro σ H locs x1 x2 x3 x4 x5 x6 K34 hK34 K48 hK48 ls hf hw hl
    unfold m_hasEndless_p154 at hf
    refine lv_aload_n C.1 C.2.1 dX3_hasEndless_154 rfl (lv_at hl 0 rfl) ?_
    refine mg_endlessAhead C hw dX3_hasEndless_155 ?_
    refine lv_bipush (v := 13) C.1 C.2.1 dX3_hasEndless_158 rfl ?_
    refine lv_iload C.1 C.2.1 dX3_hasEndless_160 (lv_at hl 4 rfl) ?_
    refine lv_imul C.1 C.2.1 dX3_hasEndless_162 ?_
    refine lv_iload C.1 C.2.1 dX3_hasEndless_163 (lv_at hl 5 rfl) ?_
    refine lv_iadd C.1 C.2.1 dX3_hasEndless_165 ?_
    refine lv_iload C.1 C.2.1 dX3_hasEndless_166 (lv_at hl 6 rfl) ?_
    obtain ⟨b168, hf⟩ := hf
    obtain ⟨hz168, hf⟩ := hf
    refine g_zast C shM_sep hw 50 rfl hz168 b168 dX3_hasEndless_168 (fun s168 H locs e168 hw => ?_)
    replace hf := hf s168 e168
    refine lv_iinc (v := (x5 + 1)) (lv' := [(5, .int (x5 + 1)), (0, .ref (ad 0)), (1, .int x1), (2, .int x2), (3, .int x3), (4, .int x4), (6, .int x6)]) C.1 C.2.1 dX3_hasEndless_169 hl (k := 5) rfl rfl (Nat.le_of_ble_eq_true rfl) rfl (fun ls hl => ?_)
    refine lv_goto (tgt := 48) C.1 C.2.1 dX3_hasEndless_172 (by decide) ?_
    exact hK48 _ _ _ _ _ hf hw (lv_sub hl [1, 2, 3, 4, 5, 0] rfl)
  have J107 : ∀ (σ : St) (H : Heap) (locs : List Loc) (x1 : Int32) (x2 : Int32) (x3 : Int32) (x4 : Int32) (x5 : Int32) (x7 : Int32) (K34 : St → Int32 → Prop) (_ : ∀ (σ : St) (H : Heap) (locs : List Loc) (x4 : Int32) (ls : Array Slot), K34 σ x4 → gH D ct shM ad s σ H locs → lv_has ls 8 [(0, .ref (ad 0)), (1, .int x1), (2, .int x2), (3, .int x3), (4, .int x4)] → W p l e rm_m_hasEndless s m args below meth c H locs 0 0 QQ (F0 m 34 ls [])) (K48 : St → Int32 → Prop) (_ : ∀ (σ : St) (H : Heap) (locs : List Loc) (x5 : Int32) (ls : Array Slot), K48 σ x5 → gH D ct shM ad s σ H locs → lv_has ls 8 [(0, .ref (ad 0)), (1, .int x1), (2, .int x2), (3, .int x3), (4, .int x4), (5, .int x5)] → W p l e rm_m_hasEndless s m args below meth c H locs 0 0 QQ (F0 m 48 ls [])) (K60 : Int32 → Int32 → Prop) (_ : ∀ (x6 : Int32) (x7 : Int32) (ls : Array Slot), K60 x6 x7 → lv_has ls 8 [(0, .ref (ad 0)), (1, .int x1), (2, .int x2), (3, .int x3), (4, .int x4), (5, .int x5), (6, .int x6), (7, .int x7)] → W p l e rm_m_hasEndless s m args below meth c H locs 0 0 QQ (F0 m 60 ls [])) (ls : Array Slot), m_hasEndless_p107 σ x1 x2 x3 x4 x5 x7 Q K34 K48 K60 → gH D ct shM ad s σ H locs → lv_has ls 8 [(0, .ref (ad 0)), (1, .int x1), (2, .int x2), (3, .int x3), (4, .int x4), (5, .int x5), (7, .int x7)] → W p l e rm_m_hasEndless s m args below meth c H locs 0 0 QQ (F0 m 107 ls []) := by
    intro σ H locs x1 x2 x3 x4 x5 x7 K34 hK34 K48 hK48 K60 hK60 ls hf hw hl
    unfold m_hasEndless_p107 at hf
    refine lv_aload_n C.1 C.2.1 dX3_hasEndless_107 rfl (lv_at hl 0 rfl) ?_
    refine mg_ahead C hw dX3_hasEndless_108 ?_
    refine lv_bipush (v := 13) C.1 C.2.1 dX3_hasEndless_111 rfl ?_
    refine lv_iload C.1 C.2.1 dX3_hasEndless_113 (lv_at hl 4 rfl) ?_
    refine lv_iconst (v := 1) C.1 C.2.1 dX3_hasEndless_115 rfl ?_
    refine lv_isub C.1 C.2.1 dX3_hasEndless_116 ?_
    refine lv_imul C.1 C.2.1 dX3_hasEndless_117 ?_
    refine lv_iload C.1 C.2.1 dX3_hasEndless_118 (lv_at hl 6 rfl) ?_
    refine lv_iadd C.1 C.2.1 dX3_hasEndless_120 ?_
    obtain ⟨b121, hf⟩ := hf
    refine g_zald C hw 44 rfl b121 dX3_hasEndless_121 ?_
    refine lv_if_eq (tgt := 145) C.1 C.2.1 dX3_hasEndless_122 (by decide) (fun h122 => ?_) (fun h122 => ?_)
    · replace hf := hf.1 h122
      refine lv_iconst (v := 0) C.1 C.2.1 dX3_hasEndless_145 rfl ?_
      refine lv_istore (lv' := [(6, .int 0), (0, .ref (ad 0)), (1, .int x1), (2, .int x2), (3, .int x3), (4, .int x4), (5, .int x5), (7, .int x7)]) C.1 C.2.1 dX3_hasEndless_146 hl (Nat.le_of_ble_eq_true rfl) rfl (fun ls hl => ?_)
      refine lv_iinc (v := (x7 + 1)) (lv' := [(7, .int (x7 + 1)), (6, .int 0), (0, .ref (ad 0)), (1, .int x1), (2, .int x2), (3, .int x3), (4, .int x4), (5, .int x5)]) C.1 C.2.1 dX3_hasEndless_148 hl (k := 7) rfl rfl (Nat.le_of_ble_eq_true rfl) rfl (fun ls hl => ?_)
      refine lv_goto (tgt := 60) C.1 C.2.1 dX3_hasEndless_151 (by decide) ?_
      exact hK60 _ _ _ hf (lv_sub hl [2, 3, 4, 5, 6, 7, 1, 0] rfl)
    · replace hf := hf.2 h122
      refine lv_aload_n C.1 C.2.1 dX3_hasEndless_125 rfl (lv_at hl 0 rfl) ?_
      refine lv_iload_n C.1 C.2.1 dX3_hasEndless_126 rfl (lv_at hl 1 rfl) ?_
      refine lv_iload C.1 C.2.1 dX3_hasEndless_127 (lv_at hl 4 rfl) ?_
      refine lv_iconst (v := 1) C.1 C.2.1 dX3_hasEndless_129 rfl ?_
      refine lv_isub C.1 C.2.1 dX3_hasEndless_130 ?_
      refine lv_iload C.1 C.2.1 dX3_hasEndless_131 (lv_at hl 6 rfl) ?_
      refine lv_iload C.1 C.2.1 dX3_hasEndless_133 (lv_at hl 5 rfl) ?_
      refine km_isEndlessBelow C hw hl.1 (Nat.le_of_ble_eq_true rfl) ⟨Nat.le_of_ble_eq_true rfl, Nat.le_of_ble_eq_true rfl⟩ dX3_hasEndless_135 hf (fun r135 hf => ?_)
      refine lv_if_eq (tgt := 145) C.1 C.2.1 dX3_hasEndless_138 (by decide) (fun h138 => ?_) (fun h138 => ?_)
      · replace hf := hf.1 h138
        refine lv_iconst (v := 0) C.1 C.2.1 dX3_hasEndless_145 rfl ?_
        refine lv_istore (lv' := [(6, .int 0), (0, .ref (ad 0)), (1, .int x1), (2, .int x2), (3, .int x3), (4, .int x4), (5, .int x5), (7, .int x7)]) C.1 C.2.1 dX3_hasEndless_146 hl (Nat.le_of_ble_eq_true rfl) rfl (fun ls hl => ?_)
        refine lv_iinc (v := (x7 + 1)) (lv' := [(7, .int (x7 + 1)), (6, .int 0), (0, .ref (ad 0)), (1, .int x1), (2, .int x2), (3, .int x3), (4, .int x4), (5, .int x5)]) C.1 C.2.1 dX3_hasEndless_148 hl (k := 7) rfl rfl (Nat.le_of_ble_eq_true rfl) rfl (fun ls hl => ?_)
        refine lv_goto (tgt := 60) C.1 C.2.1 dX3_hasEndless_151 (by decide) ?_
        exact hK60 _ _ _ hf (lv_sub hl [2, 3, 4, 5, 6, 7, 1, 0] rfl)
      · replace hf := hf.2 h138
        refine lv_iconst (v := 1) C.1 C.2.1 dX3_hasEndless_141 rfl ?_
        refine lv_goto (tgt := 146) C.1 C.2.1 dX3_hasEndless_142 (by decide) ?_
        refine lv_istore (lv' := [(6, .int 1), (0, .ref (ad 0)), (1, .int x1), (2, .int x2), (3, .int x3), (4, .int x4), (5, .int x5), (7, .int x7)]) C.1 C.2.1 dX3_hasEndless_146 hl (Nat.le_of_ble_eq_true rfl) rfl (fun ls hl => ?_)
        refine lv_iinc (v := (x7 + 1)) (lv' := [(7, .int (x7 + 1)), (6, .int 1), (0, .ref (ad 0)), (1, .int x1), (2, .int x2), (3, .int x3), (4, .int x4), (5, .int x5)]) C.1 C.2.1 dX3_hasEndless_148 hl (k := 7) rfl rfl (Nat.le_of_ble_eq_true rfl) rfl (fun ls hl => ?_)
        refine lv_goto (tgt := 60) C.1 C.2.1 dX3_hasEndless_151 (by decide) ?_
        exact hK60 _ _ _ hf (lv_sub hl [2, 3, 4, 5, 6, 7, 1, 0] rfl)
  have B60 : ∀ (σ : St) (H : Heap) (locs : List Loc) (x1 : Int32) (x2 : Int32) (x3 : Int32) (x4 : Int32) (x5 : Int32) (K34 : St → Int32 → Prop) (_ : ∀ (σ : St) (H : Heap) (locs : List Loc) (x4 : Int32) (ls : Array Slot), K34 σ x4 → gH D ct shM ad s σ H locs → lv_has ls 8 [(0, .ref (ad 0)), (1, .int x1), (2, .int x2), (3, .int x3), (4, .int x4)] → W p l e rm_m_hasEndless s m args below meth c H locs 0 0 QQ (F0 m 34 ls [])) (K48 : St → Int32 → Prop) (_ : ∀ (σ : St) (H : Heap) (locs : List Loc) (x5 : Int32) (ls : Array Slot), K48 σ x5 → gH D ct shM ad s σ H locs → lv_has ls 8 [(0, .ref (ad 0)), (1, .int x1), (2, .int x2), (3, .int x3), (4, .int x4), (5, .int x5)] → W p l e rm_m_hasEndless s m args below meth c H locs 0 0 QQ (F0 m 48 ls [])) (K60 : Int32 → Int32 → Prop) (_ : ∀ (x6 : Int32) (x7 : Int32) (ls : Array Slot), K60 x6 x7 → lv_has ls 8 [(0, .ref (ad 0)), (1, .int x1), (2, .int x2), (3, .int x3), (4, .int x4), (5, .int x5), (6, .int x6), (7, .int x7)] → W p l e rm_m_hasEndless s m args below meth c H locs 0 0 QQ (F0 m 60 ls [])) (x6 : Int32) (x7 : Int32) (ls : Array Slot), m_hasEndless_p60 σ x1 x2 x3 x4 x5 Q K34 K48 K60 x6 x7 → gH D ct shM ad s σ H locs → lv_has ls 8 [(0, .ref (ad 0)), (1, .int x1), (2, .int x2), (3, .int x3), (4, .int x4), (5, .int x5), (6, .int x6), (7, .int x7)] → W p l e rm_m_hasEndless s m args below meth c H locs 0 0 QQ (F0 m 60 ls []) := by
    intro σ H locs x1 x2 x3 x4 x5 K34 hK34 K48 hK48 K60 hK60 x6 x7 ls hf hw hl
    unfold m_hasEndless_p60 at hf
    refine lv_iload C.1 C.2.1 dX3_hasEndless_60 (lv_at hl 7 rfl) ?_
    refine lv_iload C.1 C.2.1 dX3_hasEndless_62 (lv_at hl 5 rfl) ?_
    refine lv_icmp_gt (tgt := 154) C.1 C.2.1 dX3_hasEndless_64 (by decide) (fun h64 => ?_) (fun h64 => ?_)
    · replace hf := hf.1 h64
      exact J154 _ _ _ _ _ _ _ _ _ _ hK34 _ hK48 _ hf hw (lv_sub hl [0, 1, 2, 3, 4, 5, 6] rfl)
    · replace hf := hf.2 h64
      refine lv_iload C.1 C.2.1 dX3_hasEndless_67 (lv_at hl 6 rfl) ?_
      refine lv_if_ne (tgt := 154) C.1 C.2.1 dX3_hasEndless_69 (by decide) (fun h69 => ?_) (fun h69 => ?_)
      · replace hf := hf.2 h69
        exact J154 _ _ _ _ _ _ _ _ _ _ hK34 _ hK48 _ hf hw (lv_sub hl [0, 1, 2, 3, 4, 5, 6] rfl)
      · replace hf := hf.1 h69
        refine lv_aload_n C.1 C.2.1 dX3_hasEndless_72 rfl (lv_at hl 0 rfl) ?_
        refine mg_endlessAhead C hw dX3_hasEndless_73 ?_
        refine lv_bipush (v := 13) C.1 C.2.1 dX3_hasEndless_76 rfl ?_
        refine lv_iload C.1 C.2.1 dX3_hasEndless_78 (lv_at hl 4 rfl) ?_
        refine lv_iconst (v := 1) C.1 C.2.1 dX3_hasEndless_80 rfl ?_
        refine lv_isub C.1 C.2.1 dX3_hasEndless_81 ?_
        refine lv_imul C.1 C.2.1 dX3_hasEndless_82 ?_
        refine lv_iload C.1 C.2.1 dX3_hasEndless_83 (lv_at hl 7 rfl) ?_
        refine lv_iadd C.1 C.2.1 dX3_hasEndless_85 ?_
        obtain ⟨b86, hf⟩ := hf
        refine g_zald C hw 50 rfl b86 dX3_hasEndless_86 ?_
        refine lv_if_eq (tgt := 107) C.1 C.2.1 dX3_hasEndless_87 (by decide) (fun h87 => ?_) (fun h87 => ?_)
        · replace hf := hf.1 h87
          exact J107 _ _ _ _ _ _ _ _ _ _ hK34 _ hK48 _ hK60 _ hf hw (lv_sub hl [0, 1, 2, 3, 4, 5, 7] rfl)
        · replace hf := hf.2 h87
          refine lv_aload_n C.1 C.2.1 dX3_hasEndless_90 rfl (lv_at hl 0 rfl) ?_
          refine lv_iconst (v := 1) C.1 C.2.1 dX3_hasEndless_91 rfl ?_
          refine lv_iload_n C.1 C.2.1 dX3_hasEndless_92 rfl (lv_at hl 1 rfl) ?_
          refine lv_iload C.1 C.2.1 dX3_hasEndless_93 (lv_at hl 4 rfl) ?_
          refine lv_iconst (v := 1) C.1 C.2.1 dX3_hasEndless_95 rfl ?_
          refine lv_isub C.1 C.2.1 dX3_hasEndless_96 ?_
          refine lv_iload C.1 C.2.1 dX3_hasEndless_97 (lv_at hl 7 rfl) ?_
          refine lv_iload C.1 C.2.1 dX3_hasEndless_99 (lv_at hl 5 rfl) ?_
          refine km_canBe C hw hl.1 (Nat.le_of_ble_eq_true rfl) ⟨Nat.le_of_ble_eq_true rfl, Nat.le_of_ble_eq_true rfl⟩ dX3_hasEndless_101 hf (fun r101 hf => ?_)
          refine lv_if_ne (tgt := 141) C.1 C.2.1 dX3_hasEndless_104 (by decide) (fun h104 => ?_) (fun h104 => ?_)
          · replace hf := hf.2 h104
            refine lv_iconst (v := 1) C.1 C.2.1 dX3_hasEndless_141 rfl ?_
            refine lv_goto (tgt := 146) C.1 C.2.1 dX3_hasEndless_142 (by decide) ?_
            refine lv_istore (lv' := [(6, .int 1), (0, .ref (ad 0)), (1, .int x1), (2, .int x2), (3, .int x3), (4, .int x4), (5, .int x5), (7, .int x7)]) C.1 C.2.1 dX3_hasEndless_146 hl (Nat.le_of_ble_eq_true rfl) rfl (fun ls hl => ?_)
            refine lv_iinc (v := (x7 + 1)) (lv' := [(7, .int (x7 + 1)), (6, .int 1), (0, .ref (ad 0)), (1, .int x1), (2, .int x2), (3, .int x3), (4, .int x4), (5, .int x5)]) C.1 C.2.1 dX3_hasEndless_148 hl (k := 7) rfl rfl (Nat.le_of_ble_eq_true rfl) rfl (fun ls hl => ?_)
            refine lv_goto (tgt := 60) C.1 C.2.1 dX3_hasEndless_151 (by decide) ?_
            exact hK60 _ _ _ hf (lv_sub hl [2, 3, 4, 5, 6, 7, 1, 0] rfl)
          · replace hf := hf.1 h104
            exact J107 _ _ _ _ _ _ _ _ _ _ hK34 _ hK48 _ hK60 _ hf hw (lv_sub hl [0, 1, 2, 3, 4, 5, 7] rfl)
  have P60 : ∀ (σ : St) (H : Heap) (locs : List Loc) (x1 : Int32) (x2 : Int32) (x3 : Int32) (x4 : Int32) (x5 : Int32) (K34 : St → Int32 → Prop) (_ : ∀ (σ : St) (H : Heap) (locs : List Loc) (x4 : Int32) (ls : Array Slot), K34 σ x4 → gH D ct shM ad s σ H locs → lv_has ls 8 [(0, .ref (ad 0)), (1, .int x1), (2, .int x2), (3, .int x3), (4, .int x4)] → W p l e rm_m_hasEndless s m args below meth c H locs 0 0 QQ (F0 m 34 ls [])) (K48 : St → Int32 → Prop) (_ : ∀ (σ : St) (H : Heap) (locs : List Loc) (x5 : Int32) (ls : Array Slot), K48 σ x5 → gH D ct shM ad s σ H locs → lv_has ls 8 [(0, .ref (ad 0)), (1, .int x1), (2, .int x2), (3, .int x3), (4, .int x4), (5, .int x5)] → W p l e rm_m_hasEndless s m args below meth c H locs 0 0 QQ (F0 m 48 ls [])) (n : Nat) (x6 : Int32) (x7 : Int32) (ls : Array Slot), LL2 (m_hasEndless_p60 σ x1 x2 x3 x4 x5 Q K34 K48) n x6 x7 → gH D ct shM ad s σ H locs → lv_has ls 8 [(0, .ref (ad 0)), (1, .int x1), (2, .int x2), (3, .int x3), (4, .int x4), (5, .int x5), (6, .int x6), (7, .int x7)] → W p l e rm_m_hasEndless s m args below meth c H locs 0 0 QQ (F0 m 60 ls []) := by
    intro σ H locs x1 x2 x3 x4 x5 K34 hK34 K48 hK48 n
    induction n with
    | zero => intro x6 x7 ls hf; exact False.elim hf
    | succ n ih => intro x6 x7 ls hf hw hl; exact B60 σ H locs x1 x2 x3 x4 x5 K34 hK34 K48 hK48 (LL2 _ n) (fun x6 x7 ls hf hl => ih x6 x7 ls hf hw hl) x6 x7 ls hf hw hl
  have B48 : ∀ (x1 : Int32) (x2 : Int32) (x3 : Int32) (x4 : Int32) (K34 : St → Int32 → Prop) (_ : ∀ (σ : St) (H : Heap) (locs : List Loc) (x4 : Int32) (ls : Array Slot), K34 σ x4 → gH D ct shM ad s σ H locs → lv_has ls 8 [(0, .ref (ad 0)), (1, .int x1), (2, .int x2), (3, .int x3), (4, .int x4)] → W p l e rm_m_hasEndless s m args below meth c H locs 0 0 QQ (F0 m 34 ls [])) (K48 : St → Int32 → Prop) (_ : ∀ (σ : St) (H : Heap) (locs : List Loc) (x5 : Int32) (ls : Array Slot), K48 σ x5 → gH D ct shM ad s σ H locs → lv_has ls 8 [(0, .ref (ad 0)), (1, .int x1), (2, .int x2), (3, .int x3), (4, .int x4), (5, .int x5)] → W p l e rm_m_hasEndless s m args below meth c H locs 0 0 QQ (F0 m 48 ls [])) (σ : St) (H : Heap) (locs : List Loc) (x5 : Int32) (ls : Array Slot), m_hasEndless_p48 x1 x2 x3 x4 Q K34 K48 σ x5 → gH D ct shM ad s σ H locs → lv_has ls 8 [(0, .ref (ad 0)), (1, .int x1), (2, .int x2), (3, .int x3), (4, .int x4), (5, .int x5)] → W p l e rm_m_hasEndless s m args below meth c H locs 0 0 QQ (F0 m 48 ls []) := by
    intro x1 x2 x3 x4 K34 hK34 K48 hK48 σ H locs x5 ls hf hw hl
    unfold m_hasEndless_p48 at hf
    refine lv_iload C.1 C.2.1 dX3_hasEndless_48 (lv_at hl 5 rfl) ?_
    refine lv_iload_n C.1 C.2.1 dX3_hasEndless_50 rfl (lv_at hl 3 rfl) ?_
    refine lv_icmp_gt (tgt := 175) C.1 C.2.1 dX3_hasEndless_51 (by decide) (fun h51 => ?_) (fun h51 => ?_)
    · replace hf := hf.1 h51
      refine lv_iinc (v := (x4 + 1)) (lv' := [(4, .int (x4 + 1)), (0, .ref (ad 0)), (1, .int x1), (2, .int x2), (3, .int x3), (5, .int x5)]) C.1 C.2.1 dX3_hasEndless_175 hl (k := 4) rfl rfl (Nat.le_of_ble_eq_true rfl) rfl (fun ls hl => ?_)
      refine lv_goto (tgt := 34) C.1 C.2.1 dX3_hasEndless_178 (by decide) ?_
      exact hK34 _ _ _ _ _ hf hw (lv_sub hl [1, 2, 3, 4, 0] rfl)
    · replace hf := hf.2 h51
      refine lv_iconst (v := 0) C.1 C.2.1 dX3_hasEndless_54 rfl ?_
      refine lv_istore (lv' := [(6, .int 0), (0, .ref (ad 0)), (1, .int x1), (2, .int x2), (3, .int x3), (4, .int x4), (5, .int x5)]) C.1 C.2.1 dX3_hasEndless_55 hl (Nat.le_of_ble_eq_true rfl) rfl (fun ls hl => ?_)
      refine lv_iload_n C.1 C.2.1 dX3_hasEndless_57 rfl (lv_at hl 3 rfl) ?_
      refine lv_istore (lv' := [(7, .int x2), (6, .int 0), (0, .ref (ad 0)), (1, .int x1), (2, .int x2), (3, .int x3), (4, .int x4), (5, .int x5)]) C.1 C.2.1 dX3_hasEndless_58 hl (Nat.le_of_ble_eq_true rfl) rfl (fun ls hl => ?_)
      obtain ⟨n, hf⟩ := hf
      exact P60 _ _ _ _ _ _ _ _ _ hK34 _ hK48 n _ _ _ hf hw (lv_sub hl [2, 3, 4, 5, 6, 7, 1, 0] rfl)
  have P48 : ∀ (x1 : Int32) (x2 : Int32) (x3 : Int32) (x4 : Int32) (K34 : St → Int32 → Prop) (_ : ∀ (σ : St) (H : Heap) (locs : List Loc) (x4 : Int32) (ls : Array Slot), K34 σ x4 → gH D ct shM ad s σ H locs → lv_has ls 8 [(0, .ref (ad 0)), (1, .int x1), (2, .int x2), (3, .int x3), (4, .int x4)] → W p l e rm_m_hasEndless s m args below meth c H locs 0 0 QQ (F0 m 34 ls [])) (n : Nat) (σ : St) (x5 : Int32) (ls : Array Slot) (H : Heap) (locs : List Loc), LL2 (m_hasEndless_p48 x1 x2 x3 x4 Q K34) n σ x5 → gH D ct shM ad s σ H locs → lv_has ls 8 [(0, .ref (ad 0)), (1, .int x1), (2, .int x2), (3, .int x3), (4, .int x4), (5, .int x5)] → W p l e rm_m_hasEndless s m args below meth c H locs 0 0 QQ (F0 m 48 ls []) := by
    intro x1 x2 x3 x4 K34 hK34 n
    induction n with
    | zero => intro σ x5 ls H locs hf; exact False.elim hf
    | succ n ih => intro σ x5 ls H locs hf hw hl; exact B48 x1 x2 x3 x4 K34 hK34 (LL2 _ n) (fun σ H locs x5 ls hf hw hl => ih σ x5 ls H locs hf hw hl) σ H locs x5 ls hf hw hl
  have B34 : ∀ (x1 : Int32) (x2 : Int32) (x3 : Int32) (K34 : St → Int32 → Prop) (_ : ∀ (σ : St) (H : Heap) (locs : List Loc) (x4 : Int32) (ls : Array Slot), K34 σ x4 → gH D ct shM ad s σ H locs → lv_has ls 8 [(0, .ref (ad 0)), (1, .int x1), (2, .int x2), (3, .int x3), (4, .int x4)] → W p l e rm_m_hasEndless s m args below meth c H locs 0 0 QQ (F0 m 34 ls [])) (σ : St) (H : Heap) (locs : List Loc) (x4 : Int32) (ls : Array Slot), m_hasEndless_p34 x1 x2 x3 Q K34 σ x4 → gH D ct shM ad s σ H locs → lv_has ls 8 [(0, .ref (ad 0)), (1, .int x1), (2, .int x2), (3, .int x3), (4, .int x4)] → W p l e rm_m_hasEndless s m args below meth c H locs 0 0 QQ (F0 m 34 ls []) := by
    intro x1 x2 x3 K34 hK34 σ H locs x4 ls hf hw hl
    unfold m_hasEndless_p34 at hf
    refine lv_iload C.1 C.2.1 dX3_hasEndless_34 (lv_at hl 4 rfl) ?_
    refine lv_aload_n C.1 C.2.1 dX3_hasEndless_36 rfl (lv_at hl 0 rfl) ?_
    refine mg_size C hw dX3_hasEndless_37 ?_
    refine lv_iload_n C.1 C.2.1 dX3_hasEndless_40 rfl (lv_at hl 1 rfl) ?_
    obtain ⟨b41, hf⟩ := hf
    refine g_iald C hw 4 rfl b41 dX3_hasEndless_41 ?_
    refine lv_icmp_gt (tgt := 181) C.1 C.2.1 dX3_hasEndless_42 (by decide) (fun h42 => ?_) (fun h42 => ?_)
    · replace hf := hf.1 h42
      refine lv_aload_n C.1 C.2.1 dX3_hasEndless_181 rfl (lv_at hl 0 rfl) ?_
      refine mg_endlessAhead C hw dX3_hasEndless_182 ?_
      refine lv_bipush (v := 13) C.1 C.2.1 dX3_hasEndless_185 rfl ?_
      refine lv_aload_n C.1 C.2.1 dX3_hasEndless_187 rfl (lv_at hl 0 rfl) ?_
      refine mg_size C hw dX3_hasEndless_188 ?_
      refine lv_iload_n C.1 C.2.1 dX3_hasEndless_191 rfl (lv_at hl 1 rfl) ?_
      refine g_iald C hw 4 rfl b41 dX3_hasEndless_192 ?_
      refine lv_imul C.1 C.2.1 dX3_hasEndless_193 ?_
      refine lv_iload_n C.1 C.2.1 dX3_hasEndless_194 rfl (lv_at hl 3 rfl) ?_
      refine lv_iadd C.1 C.2.1 dX3_hasEndless_195 ?_
      obtain ⟨b196, hf⟩ := hf
      refine g_zald C hw 50 rfl b196 dX3_hasEndless_196 ?_
      obtain ⟨hz, hf⟩ := hf
      exact hret _ _ _ _ _ _ hf hw hz dX3_hasEndless_197
    · replace hf := hf.2 h42
      refine lv_iload_n C.1 C.2.1 dX3_hasEndless_45 rfl (lv_at hl 2 rfl) ?_
      refine lv_istore (lv' := [(5, .int x2), (0, .ref (ad 0)), (1, .int x1), (2, .int x2), (3, .int x3), (4, .int x4)]) C.1 C.2.1 dX3_hasEndless_46 hl (Nat.le_of_ble_eq_true rfl) rfl (fun ls hl => ?_)
      obtain ⟨n, hf⟩ := hf
      exact P48 _ _ _ _ _ hK34 n _ _ _ _ _ hf hw (lv_sub hl [1, 2, 3, 4, 5, 0] rfl)
  have P34 : ∀ (x1 : Int32) (x2 : Int32) (x3 : Int32) (n : Nat) (σ : St) (x4 : Int32) (ls : Array Slot) (H : Heap) (locs : List Loc), LL2 (m_hasEndless_p34 x1 x2 x3 Q) n σ x4 → gH D ct shM ad s σ H locs → lv_has ls 8 [(0, .ref (ad 0)), (1, .int x1), (2, .int x2), (3, .int x3), (4, .int x4)] → W p l e rm_m_hasEndless s m args below meth c H locs 0 0 QQ (F0 m 34 ls []) := by
    intro x1 x2 x3 n
    induction n with
    | zero => intro σ x4 ls H locs hf; exact False.elim hf
    | succ n ih => intro σ x4 ls H locs hf hw hl; exact B34 x1 x2 x3 (LL2 _ n) (fun σ H locs x4 ls hf hw hl => ih σ x4 ls H locs hf hw hl) σ H locs x4 ls hf hw hl
  have B11 : ∀ (x1 : Int32) (x2 : Int32) (x3 : Int32) (K11 : St → Int32 → Prop) (_ : ∀ (σ : St) (H : Heap) (locs : List Loc) (x4 : Int32) (ls : Array Slot), K11 σ x4 → gH D ct shM ad s σ H locs → lv_has ls 8 [(0, .ref (ad 0)), (1, .int x1), (2, .int x2), (3, .int x3), (4, .int x4)] → W p l e rm_m_hasEndless s m args below meth c H locs 0 0 QQ (F0 m 11 ls [])) (σ : St) (H : Heap) (locs : List Loc) (x4 : Int32) (ls : Array Slot), m_hasEndless_p11 x1 x2 x3 Q K11 σ x4 → gH D ct shM ad s σ H locs → lv_has ls 8 [(0, .ref (ad 0)), (1, .int x1), (2, .int x2), (3, .int x3), (4, .int x4)] → W p l e rm_m_hasEndless s m args below meth c H locs 0 0 QQ (F0 m 11 ls []) := by
    intro x1 x2 x3 K11 hK11 σ H locs x4 ls hf hw hl
    unfold m_hasEndless_p11 at hf
    refine lv_iload C.1 C.2.1 dX3_hasEndless_11 (lv_at hl 4 rfl) ?_
    refine lv_iload_n C.1 C.2.1 dX3_hasEndless_13 rfl (lv_at hl 3 rfl) ?_
    refine lv_icmp_gt (tgt := 31) C.1 C.2.1 dX3_hasEndless_14 (by decide) (fun h14 => ?_) (fun h14 => ?_)
    · replace hf := hf.1 h14
      refine lv_iconst (v := 1) C.1 C.2.1 dX3_hasEndless_31 rfl ?_
      refine lv_istore (lv' := [(4, .int 1), (0, .ref (ad 0)), (1, .int x1), (2, .int x2), (3, .int x3)]) C.1 C.2.1 dX3_hasEndless_32 hl (Nat.le_of_ble_eq_true rfl) rfl (fun ls hl => ?_)
      obtain ⟨n, hf⟩ := hf
      exact P34 _ _ _ n _ _ _ _ _ hf hw (lv_sub hl [1, 2, 3, 4, 0] rfl)
    · replace hf := hf.2 h14
      refine lv_aload_n C.1 C.2.1 dX3_hasEndless_17 rfl (lv_at hl 0 rfl) ?_
      refine mg_endlessAhead C hw dX3_hasEndless_18 ?_
      refine lv_iload C.1 C.2.1 dX3_hasEndless_21 (lv_at hl 4 rfl) ?_
      refine lv_iconst (v := 0) C.1 C.2.1 dX3_hasEndless_23 rfl ?_
      obtain ⟨b24, hf⟩ := hf
      refine g_zast C shM_sep hw 50 rfl (Or.inl rfl) b24 dX3_hasEndless_24 (fun s24 H locs e24 hw => ?_)
      replace hf := hf s24 e24
      refine lv_iinc (v := (x4 + 1)) (lv' := [(4, .int (x4 + 1)), (0, .ref (ad 0)), (1, .int x1), (2, .int x2), (3, .int x3)]) C.1 C.2.1 dX3_hasEndless_25 hl (k := 4) rfl rfl (Nat.le_of_ble_eq_true rfl) rfl (fun ls hl => ?_)
      refine lv_goto (tgt := 11) C.1 C.2.1 dX3_hasEndless_28 (by decide) ?_
      exact hK11 _ _ _ _ _ hf hw (lv_sub hl [1, 2, 3, 4, 0] rfl)
  have P11 : ∀ (x1 : Int32) (x2 : Int32) (x3 : Int32) (n : Nat) (σ : St) (x4 : Int32) (ls : Array Slot) (H : Heap) (locs : List Loc), LL2 (m_hasEndless_p11 x1 x2 x3 Q) n σ x4 → gH D ct shM ad s σ H locs → lv_has ls 8 [(0, .ref (ad 0)), (1, .int x1), (2, .int x2), (3, .int x3), (4, .int x4)] → W p l e rm_m_hasEndless s m args below meth c H locs 0 0 QQ (F0 m 11 ls []) := by
    intro x1 x2 x3 n
    induction n with
    | zero => intro σ x4 ls H locs hf; exact False.elim hf
    | succ n ih => intro σ x4 ls H locs hf hw hl; exact B11 x1 x2 x3 (LL2 _ n) (fun σ H locs x4 ls hf hw hl => ih σ x4 ls H locs hf hw hl) σ H locs x4 ls hf hw hl
  unfold m_hasEndless at hf
  obtain ⟨H, hH⟩ : ∃ q, q = s.heap := ⟨_, rfl⟩
  obtain ⟨locs, hL⟩ : ∃ q : List Loc, q = [] := ⟨_, rfl⟩
  rw [← hH, ← hL] at hw ⊢
  refine lv_aload_n C.1 C.2.1 dX3_hasEndless_0 rfl (lv_at hl 0 rfl) ?_
  refine lv_iconst (v := 1) C.1 C.2.1 dX3_hasEndless_1 rfl ?_
  refine lv_iload_n C.1 C.2.1 dX3_hasEndless_2 rfl (lv_at hl 1 rfl) ?_
  refine lv_iload_n C.1 C.2.1 dX3_hasEndless_3 rfl (lv_at hl 2 rfl) ?_
  refine lv_iload_n C.1 C.2.1 dX3_hasEndless_4 rfl (lv_at hl 3 rfl) ?_
  refine km_laysAhead C hw hl.1 (Nat.le_of_ble_eq_true rfl) ⟨Nat.le_of_ble_eq_true rfl, Nat.le_of_ble_eq_true rfl⟩ dX3_hasEndless_5 hf (fun _ s5 H locs hf hw => ?_)
  refine lv_iload_n C.1 C.2.1 dX3_hasEndless_8 rfl (lv_at hl 2 rfl) ?_
  refine lv_istore (lv' := [(4, .int x2), (0, .ref (ad 0)), (1, .int x1), (2, .int x2), (3, .int x3)]) C.1 C.2.1 dX3_hasEndless_9 hl (Nat.le_of_ble_eq_true rfl) rfl (fun ls hl => ?_)
  obtain ⟨n, hf⟩ := hf
  exact P11 _ _ _ n _ _ _ _ _ hf hw (lv_sub hl [1, 2, 3, 4, 0] rfl)
theorem km_hasEndless {p : Program} {l : Launch} {e : Env} {R : Room} {s : State} {m : MethodId} {args : Array Value} {below : List Frame} {meth : Method} {c : Code} {H : Heap} {locs : List Loc} {Z : State → Prop} {cc : ByteArray} {nL pc : Nat} {ls : Array Slot} {rest : List Value} {D : va_G} {ct : Ct} {ad : Nat → Nat} {σ : St} {x1 : Int32} {x2 : Int32} {x3 : Int32} {Qp : Int32 → St → Prop} (C : CallFix p m c cc nL s args lw_all RX3) (hw : gH D ct shM ad s σ H locs) (hsz : ls.size = nL) (hrm : (rest.map fun v => v.category).sum ≤ 8) (hR : rm_m_hasEndless.frames + 1 ≤ R.frames ∧ 8 + (8 + 11) + rm_m_hasEndless.locals ≤ R.locals) (hdg : decode cc pc = .ok (.invokevirtual 471, 3)) (hf : m_hasEndless σ x1 x2 x3 Qp) (kk : ∀ (r : Int32) (σ1 : St) (H1 : Heap) (locs1 : List Loc), Qp r σ1 → gH D ct shM ad s σ1 H1 locs1 → W p l e R s m args below meth c H1 locs1 0 0 Z (F0 m (pc + 3) ls (.int r :: rest))) : W p l e R s m args below meth c H locs 0 0 Z (F0 m pc ls (.int x3 :: .int x2 :: .int x1 :: .ref (ad 0) :: rest)) :=
  g_callV (As := [.int x1, .int x2, .int x3]) (rest := rest) C hw rfl rfl (met_m_hasEndless l D ct ad hw.2.1 σ x1 x2 x3 Qp hf) (cwV 3 C.2.2.2.2 (lw_V q1971 q1973 qs166 q207 q1974) rfl rfl rfl (by decide +kernel) hR) rfl hsz rfl hrm ⟨Nat.zero_le _, Nat.zero_le _⟩ hdg kk
def m_countsAll_p85 (σ : St) (x1 : Int32) (x2 : Int32) (x4 : Int32) (x5 : Int32) (x6 : Int64) (Q : Int32 → St → Prop) (K5 : St → Int32 → Int32 → Prop) (v0 : Int32) : Prop :=
  (vp_in x5 2028 ∧ (∀ s94 : St, s94 = s_L σ 48 (Int32.toNatClampNeg x5) x6 → K5 s94 v0 (x4 + 1)))
def m_countsAll_p80 (σ : St) (x1 : Int32) (x2 : Int32) (x4 : Int32) (x5 : Int32) (x6 : Int64) (Q : Int32 → St → Prop) (K5 : St → Int32 → Int32 → Prop) : Prop :=
  (m_countsAll_p85 σ x1 x2 x4 x5 x6 Q K5 1)
def m_countsAll_p61 (σ : St) (x1 : Int32) (x2 : Int32) (x3 : Int32) (x4 : Int32) (x5 : Int32) (Q : Int32 → St → Prop) (K5 : St → Int32 → Int32 → Prop) (v0 : Int64) : Prop :=
  ((x3 = 0 → (vp_in x5 2028 ∧ ((v0 = (gL σ 48 x5) → (m_countsAll_p85 σ x1 x2 x4 x5 v0 Q K5 0)) ∧ (¬ v0 = (gL σ 48 x5) → (m_countsAll_p80 σ x1 x2 x4 x5 v0 Q K5))))) ∧ (¬ x3 = 0 → (m_countsAll_p80 σ x1 x2 x4 x5 v0 Q K5)))
def m_countsAll_p60 (σ : St) (x1 : Int32) (x2 : Int32) (x3 : Int32) (x4 : Int32) (x5 : Int32) (Q : Int32 → St → Prop) (K5 : St → Int32 → Int32 → Prop) : Prop :=
  (m_countsAll_p61 σ x1 x2 x3 x4 x5 Q K5 0)
def m_countsAll_p5 (x1 : Int32) (x2 : Int32) (Q : Int32 → St → Prop) (K5 : St → Int32 → Int32 → Prop) (σ : St) (x3 : Int32) (x4 : Int32) : Prop :=
  (((gI σ 2 0) ≤ x4 → (zB x3 ∧ Q x3 σ)) ∧ (¬ (gI σ 2 0) ≤ x4 → (vp_in (2028 + (fm_spot x4 x1 x2)) 4056 ∧ (((gI σ 43 (2028 + (fm_spot x4 x1 x2))) = 0 → (m_countsAll_p60 σ x1 x2 x3 x4 (fm_spot x4 x1 x2) Q K5)) ∧ (¬ (gI σ 43 (2028 + (fm_spot x4 x1 x2))) = 0 → (vp_in (fm_spot x4 x1 x2) 2028 ∧ (((gI σ 47 (fm_spot x4 x1 x2)) = 0 → (m_countsOf σ x4 x1 x2 (fun r54 s54 => (m_countsAll_p61 s54 x1 x2 x3 x4 (fm_spot x4 x1 x2) Q K5 r54)))) ∧ (¬ (gI σ 47 (fm_spot x4 x1 x2)) = 0 → (m_countsAll_p60 σ x1 x2 x3 x4 (fm_spot x4 x1 x2) Q K5)))))))))
def m_countsAll (σ : St) (x1 : Int32) (x2 : Int32) (Q : Int32 → St → Prop) : Prop :=
  (Lp3 (m_countsAll_p5 x1 x2 Q) σ 0 0)
abbrev rm_m_countsAll : Room := { frames := 5, cells := 0, slots := 0, locals := 127 }
set_option maxHeartbeats 4000000 in
theorem met_m_countsAll (l : Launch) (D : va_G) (ct : Ct) (ad : Nat → Nat) (hJ : gJ shM ad ct) (σ : St) (x1 : Int32) (x2 : Int32) (Q : Int32 → St → Prop) (hf : m_countsAll σ x1 x2 Q) : Met l yX3_countsAll (ws_ yX3_countsAll cX3_countsAll 8 (some .boolean)) rm_m_countsAll (va_Pc [.ref (ad 0), .int x1, .int x2] (gP D ct shM ad σ)) (gQ rvI D ct shM ad Q) 0 0 (gA shM ad) := by
  refine g_metZ hJ (by decide) (Nat.le_of_ble_eq_true rfl) ?_
  intro p e s m args below meth c QQ ls C hw hl hret
  replace hl : lv_has ls 8 [(0, .ref (ad 0)), (1, .int x1), (2, .int x2)] := hl
  have J85 : ∀ (σ : St) (H : Heap) (locs : List Loc) (x1 : Int32) (x2 : Int32) (x4 : Int32) (x5 : Int32) (x6 : Int64) (v0 : Int32) (K5 : St → Int32 → Int32 → Prop) (_ : ∀ (σ : St) (H : Heap) (locs : List Loc) (x3 : Int32) (x4 : Int32) (ls : Array Slot), K5 σ x3 x4 → gH D ct shM ad s σ H locs → lv_has ls 8 [(0, .ref (ad 0)), (1, .int x1), (2, .int x2), (3, .int x3), (4, .int x4)] → W p l e rm_m_countsAll s m args below meth c H locs 0 0 QQ (F0 m 5 ls [])) (ls : Array Slot), m_countsAll_p85 σ x1 x2 x4 x5 x6 Q K5 v0 → gH D ct shM ad s σ H locs → lv_has ls 8 [(0, .ref (ad 0)), (1, .int x1), (2, .int x2), (4, .int x4), (5, .int x5), (6, .long x6)] → W p l e rm_m_countsAll s m args below meth c H locs 0 0 QQ (F0 m 85 ls [.int v0]) := by
    intro σ H locs x1 x2 x4 x5 x6 v0 K5 hK5 ls hf hw hl
    unfold m_countsAll_p85 at hf
    refine lv_istore_n (lv' := [(3, .int v0), (0, .ref (ad 0)), (1, .int x1), (2, .int x2), (4, .int x4), (5, .int x5), (6, .long x6)]) C.1 C.2.1 dX3_countsAll_85 rfl hl (Nat.le_of_ble_eq_true rfl) rfl (fun ls hl => ?_)
    refine lv_aload_n C.1 C.2.1 dX3_countsAll_86 rfl (lv_at hl 1 rfl) ?_
    refine mg_manyTrees C hw dX3_countsAll_87 ?_
    refine lv_iload C.1 C.2.1 dX3_countsAll_90 (lv_at hl 5 rfl) ?_
    refine lv_lload C.1 C.2.1 dX3_countsAll_92 (lv_at hl 6 rfl) ?_
    obtain ⟨b94, hf⟩ := hf
    refine g_last C shM_sep hw 48 rfl b94 dX3_countsAll_94 (fun s94 H locs e94 hw => ?_)
    replace hf := hf s94 e94
    refine lv_iinc (v := (x4 + 1)) (lv' := [(4, .int (x4 + 1)), (3, .int v0), (0, .ref (ad 0)), (1, .int x1), (2, .int x2), (5, .int x5), (6, .long x6)]) C.1 C.2.1 dX3_countsAll_95 hl (k := 4) rfl rfl (Nat.le_of_ble_eq_true rfl) rfl (fun ls hl => ?_)
    refine lv_goto (tgt := 5) C.1 C.2.1 dX3_countsAll_98 (by decide) ?_
    exact hK5 _ _ _ _ _ _ hf hw (lv_sub hl [2, 3, 4, 1, 0] rfl)
  have J80 : ∀ (σ : St) (H : Heap) (locs : List Loc) (x1 : Int32) (x2 : Int32) (x4 : Int32) (x5 : Int32) (x6 : Int64) (K5 : St → Int32 → Int32 → Prop) (_ : ∀ (σ : St) (H : Heap) (locs : List Loc) (x3 : Int32) (x4 : Int32) (ls : Array Slot), K5 σ x3 x4 → gH D ct shM ad s σ H locs → lv_has ls 8 [(0, .ref (ad 0)), (1, .int x1), (2, .int x2), (3, .int x3), (4, .int x4)] → W p l e rm_m_countsAll s m args below meth c H locs 0 0 QQ (F0 m 5 ls [])) (ls : Array Slot), m_countsAll_p80 σ x1 x2 x4 x5 x6 Q K5 → gH D ct shM ad s σ H locs → lv_has ls 8 [(0, .ref (ad 0)), (1, .int x1), (2, .int x2), (4, .int x4), (5, .int x5), (6, .long x6)] → W p l e rm_m_countsAll s m args below meth c H locs 0 0 QQ (F0 m 80 ls []) := by
    intro σ H locs x1 x2 x4 x5 x6 K5 hK5 ls hf hw hl
    unfold m_countsAll_p80 at hf
    refine lv_iconst (v := 1) C.1 C.2.1 dX3_countsAll_80 rfl ?_
    refine lv_goto (tgt := 85) C.1 C.2.1 dX3_countsAll_81 (by decide) ?_
    exact J85 _ _ _ _ _ _ _ _ _ _ hK5 _ hf hw (lv_sub hl [0, 1, 2, 3, 4, 5] rfl)
  have J61 : ∀ (σ : St) (H : Heap) (locs : List Loc) (x1 : Int32) (x2 : Int32) (x3 : Int32) (x4 : Int32) (x5 : Int32) (v0 : Int64) (K5 : St → Int32 → Int32 → Prop) (_ : ∀ (σ : St) (H : Heap) (locs : List Loc) (x3 : Int32) (x4 : Int32) (ls : Array Slot), K5 σ x3 x4 → gH D ct shM ad s σ H locs → lv_has ls 8 [(0, .ref (ad 0)), (1, .int x1), (2, .int x2), (3, .int x3), (4, .int x4)] → W p l e rm_m_countsAll s m args below meth c H locs 0 0 QQ (F0 m 5 ls [])) (ls : Array Slot), m_countsAll_p61 σ x1 x2 x3 x4 x5 Q K5 v0 → gH D ct shM ad s σ H locs → lv_has ls 8 [(0, .ref (ad 0)), (1, .int x1), (2, .int x2), (3, .int x3), (4, .int x4), (5, .int x5)] → W p l e rm_m_countsAll s m args below meth c H locs 0 0 QQ (F0 m 61 ls [.long v0]) := by
    intro σ H locs x1 x2 x3 x4 x5 v0 K5 hK5 ls hf hw hl
    unfold m_countsAll_p61 at hf
    refine lv_lstore (lv' := [(6, .long v0), (0, .ref (ad 0)), (1, .int x1), (2, .int x2), (3, .int x3), (4, .int x4), (5, .int x5)]) C.1 C.2.1 dX3_countsAll_61 hl (Nat.le_of_ble_eq_true rfl) rfl (fun ls hl => ?_)
    refine lv_iload_n C.1 C.2.1 dX3_countsAll_63 rfl (lv_at hl 4 rfl) ?_
    refine lv_if_ne (tgt := 80) C.1 C.2.1 dX3_countsAll_64 (by decide) (fun h64 => ?_) (fun h64 => ?_)
    · replace hf := hf.2 h64
      exact J80 _ _ _ _ _ _ _ _ _ hK5 _ hf hw (lv_sub hl [1, 2, 3, 5, 6, 0] rfl)
    · replace hf := hf.1 h64
      refine lv_lload C.1 C.2.1 dX3_countsAll_67 (lv_at hl 0 rfl) ?_
      refine lv_aload_n C.1 C.2.1 dX3_countsAll_69 rfl (lv_at hl 1 rfl) ?_
      refine mg_manyTrees C hw dX3_countsAll_70 ?_
      refine lv_iload C.1 C.2.1 dX3_countsAll_73 (lv_at hl 6 rfl) ?_
      obtain ⟨b75, hf⟩ := hf
      refine g_lald C hw 48 rfl b75 dX3_countsAll_75 ?_
      refine W.lcmp C.1 C.2.1 dX3_countsAll_76 ?_
      refine lv_if_eq (tgt := 84) C.1 C.2.1 dX3_countsAll_77 (by decide) (fun h77 => ?_) (fun h77 => ?_)
      · replace hf := hf.1 ((lg_cmp_eq _ _).mp h77)
        refine lv_iconst (v := 0) C.1 C.2.1 dX3_countsAll_84 rfl ?_
        exact J85 _ _ _ _ _ _ _ _ _ _ hK5 _ hf hw (lv_sub hl [1, 2, 3, 5, 6, 0] rfl)
      · replace hf := hf.2 (fun q => h77 ((lg_cmp_eq _ _).mpr q))
        exact J80 _ _ _ _ _ _ _ _ _ hK5 _ hf hw (lv_sub hl [1, 2, 3, 5, 6, 0] rfl)
  have J60 : ∀ (σ : St) (H : Heap) (locs : List Loc) (x1 : Int32) (x2 : Int32) (x3 : Int32) (x4 : Int32) (x5 : Int32) (K5 : St → Int32 → Int32 → Prop) (_ : ∀ (σ : St) (H : Heap) (locs : List Loc) (x3 : Int32) (x4 : Int32) (ls : Array Slot), K5 σ x3 x4 → gH D ct shM ad s σ H locs → lv_has ls 8 [(0, .ref (ad 0)), (1, .int x1), (2, .int x2), (3, .int x3), (4, .int x4)] → W p l e rm_m_countsAll s m args below meth c H locs 0 0 QQ (F0 m 5 ls [])) (ls : Array Slot), m_countsAll_p60 σ x1 x2 x3 x4 x5 Q K5 → gH D ct shM ad s σ H locs → lv_has ls 8 [(0, .ref (ad 0)), (1, .int x1), (2, .int x2), (3, .int x3), (4, .int x4), (5, .int x5)] → W p l e rm_m_countsAll s m args below meth c H locs 0 0 QQ (F0 m 60 ls []) := by
    intro σ H locs x1 x2 x3 x4 x5 K5 hK5 ls hf hw hl
    unfold m_countsAll_p60 at hf
    refine lv_lconst (v := 0) C.1 C.2.1 dX3_countsAll_60 rfl ?_
    exact J61 _ _ _ _ _ _ _ _ _ _ hK5 _ hf hw (lv_sub hl [0, 1, 2, 3, 4, 5] rfl)
  have B5 : ∀ (x1 : Int32) (x2 : Int32) (K5 : St → Int32 → Int32 → Prop) (_ : ∀ (σ : St) (H : Heap) (locs : List Loc) (x3 : Int32) (x4 : Int32) (ls : Array Slot), K5 σ x3 x4 → gH D ct shM ad s σ H locs → lv_has ls 8 [(0, .ref (ad 0)), (1, .int x1), (2, .int x2), (3, .int x3), (4, .int x4)] → W p l e rm_m_countsAll s m args below meth c H locs 0 0 QQ (F0 m 5 ls [])) (σ : St) (H : Heap) (locs : List Loc) (x3 : Int32) (x4 : Int32) (ls : Array Slot), m_countsAll_p5 x1 x2 Q K5 σ x3 x4 → gH D ct shM ad s σ H locs → lv_has ls 8 [(0, .ref (ad 0)), (1, .int x1), (2, .int x2), (3, .int x3), (4, .int x4)] → W p l e rm_m_countsAll s m args below meth c H locs 0 0 QQ (F0 m 5 ls []) := by
    intro x1 x2 K5 hK5 σ H locs x3 x4 ls hf hw hl
    unfold m_countsAll_p5 at hf
    refine lv_iload C.1 C.2.1 dX3_countsAll_5 (lv_at hl 4 rfl) ?_
    refine lv_aload_n C.1 C.2.1 dX3_countsAll_7 rfl (lv_at hl 0 rfl) ?_
    refine mg_scalar C hw dX3_countsAll_8 ?_
    refine lv_iconst (v := 0) C.1 C.2.1 dX3_countsAll_11 rfl ?_
    refine g_iald C hw 2 rfl (vpD rfl) dX3_countsAll_12 ?_
    refine lv_icmp_ge (tgt := 101) C.1 C.2.1 dX3_countsAll_13 (by decide) (fun h13 => ?_) (fun h13 => ?_)
    · replace hf := hf.1 h13
      refine lv_iload_n C.1 C.2.1 dX3_countsAll_101 rfl (lv_at hl 3 rfl) ?_
      obtain ⟨hz, hf⟩ := hf
      exact hret _ _ _ _ _ _ hf hw hz dX3_countsAll_102
    · replace hf := hf.2 h13
      refine lv_iload C.1 C.2.1 dX3_countsAll_16 (lv_at hl 4 rfl) ?_
      refine lv_iload_n C.1 C.2.1 dX3_countsAll_18 rfl (lv_at hl 1 rfl) ?_
      refine lv_iload_n C.1 C.2.1 dX3_countsAll_19 rfl (lv_at hl 2 rfl) ?_
      refine km_spot C hl.1 (Nat.le_of_ble_eq_true rfl) ⟨Nat.le_of_ble_eq_true rfl, Nat.le_of_ble_eq_true rfl⟩ dX3_countsAll_20 ?_
      refine lv_istore (lv' := [(5, .int (fm_spot x4 x1 x2)), (0, .ref (ad 0)), (1, .int x1), (2, .int x2), (3, .int x3), (4, .int x4)]) C.1 C.2.1 dX3_countsAll_23 hl (Nat.le_of_ble_eq_true rfl) rfl (fun ls hl => ?_)
      refine lv_aload_n C.1 C.2.1 dX3_countsAll_25 rfl (lv_at hl 1 rfl) ?_
      refine mg_made C hw dX3_countsAll_26 ?_
      refine lv_sipush (v := 2028) C.1 C.2.1 dX3_countsAll_29 rfl ?_
      refine lv_iload C.1 C.2.1 dX3_countsAll_32 (lv_at hl 0 rfl) ?_
      refine lv_iadd C.1 C.2.1 dX3_countsAll_34 ?_
      obtain ⟨b35, hf⟩ := hf
      refine g_zald C hw 43 rfl b35 dX3_countsAll_35 ?_
      refine lv_if_eq (tgt := 60) C.1 C.2.1 dX3_countsAll_36 (by decide) (fun h36 => ?_) (fun h36 => ?_)
      · replace hf := hf.1 h36
        exact J60 _ _ _ _ _ _ _ _ _ hK5 _ hf hw (lv_sub hl [1, 2, 3, 4, 5, 0] rfl)
      · replace hf := hf.2 h36
        refine lv_aload_n C.1 C.2.1 dX3_countsAll_39 rfl (lv_at hl 1 rfl) ?_
        refine mg_isEndless C hw dX3_countsAll_40 ?_
        refine lv_iload C.1 C.2.1 dX3_countsAll_43 (lv_at hl 0 rfl) ?_
        obtain ⟨b45, hf⟩ := hf
        refine g_zald C hw 47 rfl b45 dX3_countsAll_45 ?_
        refine lv_if_ne (tgt := 60) C.1 C.2.1 dX3_countsAll_46 (by decide) (fun h46 => ?_) (fun h46 => ?_)
        · replace hf := hf.2 h46
          exact J60 _ _ _ _ _ _ _ _ _ hK5 _ hf hw (lv_sub hl [1, 2, 3, 4, 5, 0] rfl)
        · replace hf := hf.1 h46
          refine lv_aload_n C.1 C.2.1 dX3_countsAll_49 rfl (lv_at hl 1 rfl) ?_
          refine lv_iload C.1 C.2.1 dX3_countsAll_50 (lv_at hl 5 rfl) ?_
          refine lv_iload_n C.1 C.2.1 dX3_countsAll_52 rfl (lv_at hl 2 rfl) ?_
          refine lv_iload_n C.1 C.2.1 dX3_countsAll_53 rfl (lv_at hl 3 rfl) ?_
          refine km_countsOf C hw hl.1 (Nat.le_of_ble_eq_true rfl) ⟨Nat.le_of_ble_eq_true rfl, Nat.le_of_ble_eq_true rfl⟩ dX3_countsAll_54 hf (fun r54 s54 H locs hf hw => ?_)
          refine lv_goto (tgt := 61) C.1 C.2.1 dX3_countsAll_57 (by decide) ?_
          exact J61 _ _ _ _ _ _ _ _ _ _ hK5 _ hf hw (lv_sub hl [1, 2, 3, 4, 5, 0] rfl)
  have P5 : ∀ (x1 : Int32) (x2 : Int32) (n : Nat) (σ : St) (x3 : Int32) (x4 : Int32) (ls : Array Slot) (H : Heap) (locs : List Loc), LL3 (m_countsAll_p5 x1 x2 Q) n σ x3 x4 → gH D ct shM ad s σ H locs → lv_has ls 8 [(0, .ref (ad 0)), (1, .int x1), (2, .int x2), (3, .int x3), (4, .int x4)] → W p l e rm_m_countsAll s m args below meth c H locs 0 0 QQ (F0 m 5 ls []) := by
    intro x1 x2 n
    induction n with
    | zero => intro σ x3 x4 ls H locs hf; exact False.elim hf
    | succ n ih => intro σ x3 x4 ls H locs hf hw hl; exact B5 x1 x2 (LL3 _ n) (fun σ H locs x3 x4 ls hf hw hl => ih σ x3 x4 ls H locs hf hw hl) σ H locs x3 x4 ls hf hw hl
  unfold m_countsAll at hf
  obtain ⟨H, hH⟩ : ∃ q, q = s.heap := ⟨_, rfl⟩
  obtain ⟨locs, hL⟩ : ∃ q : List Loc, q = [] := ⟨_, rfl⟩
  rw [← hH, ← hL] at hw ⊢
  refine lv_iconst (v := 0) C.1 C.2.1 dX3_countsAll_0 rfl ?_
  refine lv_istore_n (lv' := [(3, .int 0), (0, .ref (ad 0)), (1, .int x1), (2, .int x2)]) C.1 C.2.1 dX3_countsAll_1 rfl hl (Nat.le_of_ble_eq_true rfl) rfl (fun ls hl => ?_)
  refine lv_iconst (v := 0) C.1 C.2.1 dX3_countsAll_2 rfl ?_
  refine lv_istore (lv' := [(4, .int 0), (3, .int 0), (0, .ref (ad 0)), (1, .int x1), (2, .int x2)]) C.1 C.2.1 dX3_countsAll_3 hl (Nat.le_of_ble_eq_true rfl) rfl (fun ls hl => ?_)
  obtain ⟨n, hf⟩ := hf
  exact P5 _ _ n _ _ _ _ _ _ hf hw (lv_sub hl [2, 3, 4, 1, 0] rfl)
theorem km_countsAll {p : Program} {l : Launch} {e : Env} {R : Room} {s : State} {m : MethodId} {args : Array Value} {below : List Frame} {meth : Method} {c : Code} {H : Heap} {locs : List Loc} {Z : State → Prop} {cc : ByteArray} {nL pc : Nat} {ls : Array Slot} {rest : List Value} {D : va_G} {ct : Ct} {ad : Nat → Nat} {σ : St} {x1 : Int32} {x2 : Int32} {Qp : Int32 → St → Prop} (C : CallFix p m c cc nL s args lw_all RX3) (hw : gH D ct shM ad s σ H locs) (hsz : ls.size = nL) (hrm : (rest.map fun v => v.category).sum ≤ 8) (hR : rm_m_countsAll.frames + 1 ≤ R.frames ∧ 8 + (8 + 11) + rm_m_countsAll.locals ≤ R.locals) (hdg : decode cc pc = .ok (.invokevirtual 490, 3)) (hf : m_countsAll σ x1 x2 Qp) (kk : ∀ (r : Int32) (σ1 : St) (H1 : Heap) (locs1 : List Loc), Qp r σ1 → gH D ct shM ad s σ1 H1 locs1 → W p l e R s m args below meth c H1 locs1 0 0 Z (F0 m (pc + 3) ls (.int r :: rest))) : W p l e R s m args below meth c H locs 0 0 Z (F0 m pc ls (.int x2 :: .int x1 :: .ref (ad 0) :: rest)) :=
  g_callV (As := [.int x1, .int x2]) (rest := rest) C hw rfl rfl (met_m_countsAll l D ct ad hw.2.1 σ x1 x2 Qp hf) (cwV 2 C.2.2.2.2 (lw_V q1979 q1981 qs168 q207 q1982) rfl rfl rfl (by decide +kernel) hR) rfl hsz rfl hrm ⟨Nat.zero_le _, Nat.zero_le _⟩ hdg kk
def m_marksFrom_p121 (σ : St) (x1 : Int32) (x2 : Int32) (x3 : Int32) (x4 : Int32) (x5 : Int32) (x6 : Int32) (x7 : Int32) (Q : Int32 → St → Prop) (K21 : St → Int32 → Int32 → Prop) (K35 : St → Int32 → Int32 → Prop) (K45 : St → Int32 → Int32 → Prop) : Prop :=
  ((x4 = 0 → K45 σ 0 (x7 + 1)) ∧ (¬ x4 = 0 → K45 σ 1 (x7 + 1)))
def m_marksFrom_p100 (σ : St) (x1 : Int32) (x2 : Int32) (x3 : Int32) (x4 : Int32) (x5 : Int32) (x6 : Int32) (x7 : Int32) (Q : Int32 → St → Prop) (K21 : St → Int32 → Int32 → Prop) (K35 : St → Int32 → Int32 → Prop) (K45 : St → Int32 → Int32 → Prop) (v0 : Int32) : Prop :=
  ((v0 = 0 → (m_marksFrom_p121 σ x1 x2 x3 x4 x5 x6 x7 Q K21 K35 K45)) ∧ (¬ v0 = 0 → (m_marksBelow σ x1 x5 x6 x7 (fun r115 s115 => ((r115 = 0 → (m_marksFrom_p121 s115 x1 x2 x3 x4 x5 x6 x7 Q K21 K35 K45)) ∧ (¬ r115 = 0 → K45 s115 1 (x7 + 1)))))))
def m_marksFrom_p99 (σ : St) (x1 : Int32) (x2 : Int32) (x3 : Int32) (x4 : Int32) (x5 : Int32) (x6 : Int32) (x7 : Int32) (Q : Int32 → St → Prop) (K21 : St → Int32 → Int32 → Prop) (K35 : St → Int32 → Int32 → Prop) (K45 : St → Int32 → Int32 → Prop) : Prop :=
  (m_marksFrom_p100 σ x1 x2 x3 x4 x5 x6 x7 Q K21 K35 K45 0)
def m_marksFrom_p45 (x1 : Int32) (x2 : Int32) (x3 : Int32) (x5 : Int32) (x6 : Int32) (Q : Int32 → St → Prop) (K21 : St → Int32 → Int32 → Prop) (K35 : St → Int32 → Int32 → Prop) (K45 : St → Int32 → Int32 → Prop) (σ : St) (x4 : Int32) (x7 : Int32) : Prop :=
  ((x3 < x7 → K35 σ x4 (x6 + 1)) ∧ (¬ x3 < x7 → (m_isCapitalAt σ x1 x5 (fun r55 => ((r55 = 0 → (m_marksFrom_p99 σ x1 x2 x3 x4 x5 x6 x7 Q K21 K35 K45)) ∧ (¬ r55 = 0 → (vp_in ((13 * x5) + x6) 65 ∧ (((gI σ 44 ((13 * x5) + x6)) = 0 → (m_marksFrom_p99 σ x1 x2 x3 x4 x5 x6 x7 Q K21 K35 K45)) ∧ (¬ (gI σ 44 ((13 * x5) + x6)) = 0 → (vp_in ((13 * (x5 + 1)) + x7) 65 ∧ (((gI σ 45 ((13 * (x5 + 1)) + x7)) = 0 → (m_marksFrom_p99 σ x1 x2 x3 x4 x5 x6 x7 Q K21 K35 K45)) ∧ (¬ (gI σ 45 ((13 * (x5 + 1)) + x7)) = 0 → (m_marksFrom_p100 σ x1 x2 x3 x4 x5 x6 x7 Q K21 K35 K45 1)))))))))))))
def m_marksFrom_p35 (x1 : Int32) (x2 : Int32) (x3 : Int32) (x5 : Int32) (Q : Int32 → St → Prop) (K21 : St → Int32 → Int32 → Prop) (K35 : St → Int32 → Int32 → Prop) (σ : St) (x4 : Int32) (x6 : Int32) : Prop :=
  ((x3 < x6 → K21 σ x4 (x5 + 1)) ∧ (¬ x3 < x6 → (Lp3 (m_marksFrom_p45 x1 x2 x3 x5 x6 Q K21 K35) σ x4 x6)))
def m_marksFrom_p21 (x1 : Int32) (x2 : Int32) (x3 : Int32) (Q : Int32 → St → Prop) (K21 : St → Int32 → Int32 → Prop) (σ : St) (x4 : Int32) (x5 : Int32) : Prop :=
  (vp_in x1 12 ∧ (((gI σ 4 x1) ≤ x5 → (zB x4 ∧ Q x4 σ)) ∧ (¬ (gI σ 4 x1) ≤ x5 → (Lp3 (m_marksFrom_p35 x1 x2 x3 x5 Q K21) σ x4 x2))))
def m_marksFrom (σ : St) (x1 : Int32) (x2 : Int32) (x3 : Int32) (Q : Int32 → St → Prop) : Prop :=
  (m_laysAhead σ 1 x1 x2 x3 (fun _ s8 => (m_laysBehind s8 x1 x2 x3 (fun _ s15 => (Lp3 (m_marksFrom_p21 x1 x2 x3 Q) s15 0 0)))))
abbrev rm_m_marksFrom : Room := { frames := 5, cells := 0, slots := 0, locals := 124 }
set_option maxHeartbeats 4000000 in
theorem met_m_marksFrom (l : Launch) (D : va_G) (ct : Ct) (ad : Nat → Nat) (hJ : gJ shM ad ct) (σ : St) (x1 : Int32) (x2 : Int32) (x3 : Int32) (Q : Int32 → St → Prop) (hf : m_marksFrom σ x1 x2 x3 Q) : Met l yX3_marksFrom (ws_ yX3_marksFrom cX3_marksFrom 9 (some .boolean)) rm_m_marksFrom (va_Pc [.ref (ad 0), .int x1, .int x2, .int x3] (gP D ct shM ad σ)) (gQ rvI D ct shM ad Q) 0 0 (gA shM ad) := by
  refine g_metZ hJ (by decide) (Nat.le_of_ble_eq_true rfl) ?_
  intro p e s m args below meth c QQ ls C hw hl hret
  replace hl : lv_has ls 9 [(0, .ref (ad 0)), (1, .int x1), (2, .int x2), (3, .int x3)] := hl
  have J121 : ∀ (σ : St) (H : Heap) (locs : List Loc) (x1 : Int32) (x2 : Int32) (x3 : Int32) (x4 : Int32) (x5 : Int32) (x6 : Int32) (x7 : Int32) (K21 : St → Int32 → Int32 → Prop) (_ : ∀ (σ : St) (H : Heap) (locs : List Loc) (x4 : Int32) (x5 : Int32) (ls : Array Slot), K21 σ x4 x5 → gH D ct shM ad s σ H locs → lv_has ls 9 [(0, .ref (ad 0)), (1, .int x1), (2, .int x2), (3, .int x3), (4, .int x4), (5, .int x5)] → W p l e rm_m_marksFrom s m args below meth c H locs 0 0 QQ (F0 m 21 ls [])) (K35 : St → Int32 → Int32 → Prop) (_ : ∀ (σ : St) (H : Heap) (locs : List Loc) (x4 : Int32) (x6 : Int32) (ls : Array Slot), K35 σ x4 x6 → gH D ct shM ad s σ H locs → lv_has ls 9 [(0, .ref (ad 0)), (1, .int x1), (2, .int x2), (3, .int x3), (4, .int x4), (5, .int x5), (6, .int x6)] → W p l e rm_m_marksFrom s m args below meth c H locs 0 0 QQ (F0 m 35 ls [])) (K45 : St → Int32 → Int32 → Prop) (_ : ∀ (σ : St) (H : Heap) (locs : List Loc) (x4 : Int32) (x7 : Int32) (ls : Array Slot), K45 σ x4 x7 → gH D ct shM ad s σ H locs → lv_has ls 9 [(0, .ref (ad 0)), (1, .int x1), (2, .int x2), (3, .int x3), (4, .int x4), (5, .int x5), (6, .int x6), (7, .int x7)] → W p l e rm_m_marksFrom s m args below meth c H locs 0 0 QQ (F0 m 45 ls [])) (ls : Array Slot), m_marksFrom_p121 σ x1 x2 x3 x4 x5 x6 x7 Q K21 K35 K45 → gH D ct shM ad s σ H locs → lv_has ls 9 [(0, .ref (ad 0)), (1, .int x1), (2, .int x2), (3, .int x3), (4, .int x4), (5, .int x5), (6, .int x6), (7, .int x7)] → W p l e rm_m_marksFrom s m args below meth c H locs 0 0 QQ (F0 m 121 ls []) := by
    intro σ H locs x1 x2 x3 x4 x5 x6 x7 K21 hK21 K35 hK35 K45 hK45 ls hf hw hl
    unfold m_marksFrom_p121 at hf
    refine lv_iload C.1 C.2.1 dX3_marksFrom_121 (lv_at hl 4 rfl) ?_
    refine lv_if_eq (tgt := 130) C.1 C.2.1 dX3_marksFrom_123 (by decide) (fun h123 => ?_) (fun h123 => ?_)
    · replace hf := hf.1 h123
      refine lv_iconst (v := 0) C.1 C.2.1 dX3_marksFrom_130 rfl ?_
      refine lv_istore (lv' := [(4, .int 0), (0, .ref (ad 0)), (1, .int x1), (2, .int x2), (3, .int x3), (5, .int x5), (6, .int x6), (7, .int x7)]) C.1 C.2.1 dX3_marksFrom_131 hl (Nat.le_of_ble_eq_true rfl) rfl (fun ls hl => ?_)
      refine lv_iinc (v := (x7 + 1)) (lv' := [(7, .int (x7 + 1)), (4, .int 0), (0, .ref (ad 0)), (1, .int x1), (2, .int x2), (3, .int x3), (5, .int x5), (6, .int x6)]) C.1 C.2.1 dX3_marksFrom_133 hl (k := 7) rfl rfl (Nat.le_of_ble_eq_true rfl) rfl (fun ls hl => ?_)
      refine lv_goto (tgt := 45) C.1 C.2.1 dX3_marksFrom_136 (by decide) ?_
      exact hK45 _ _ _ _ _ _ hf hw (lv_sub hl [2, 3, 4, 5, 1, 6, 7, 0] rfl)
    · replace hf := hf.2 h123
      refine lv_iconst (v := 1) C.1 C.2.1 dX3_marksFrom_126 rfl ?_
      refine lv_goto (tgt := 131) C.1 C.2.1 dX3_marksFrom_127 (by decide) ?_
      refine lv_istore (lv' := [(4, .int 1), (0, .ref (ad 0)), (1, .int x1), (2, .int x2), (3, .int x3), (5, .int x5), (6, .int x6), (7, .int x7)]) C.1 C.2.1 dX3_marksFrom_131 hl (Nat.le_of_ble_eq_true rfl) rfl (fun ls hl => ?_)
      refine lv_iinc (v := (x7 + 1)) (lv' := [(7, .int (x7 + 1)), (4, .int 1), (0, .ref (ad 0)), (1, .int x1), (2, .int x2), (3, .int x3), (5, .int x5), (6, .int x6)]) C.1 C.2.1 dX3_marksFrom_133 hl (k := 7) rfl rfl (Nat.le_of_ble_eq_true rfl) rfl (fun ls hl => ?_)
      refine lv_goto (tgt := 45) C.1 C.2.1 dX3_marksFrom_136 (by decide) ?_
      exact hK45 _ _ _ _ _ _ hf hw (lv_sub hl [2, 3, 4, 5, 1, 6, 7, 0] rfl)
  have J100 : ∀ (σ : St) (H : Heap) (locs : List Loc) (x1 : Int32) (x2 : Int32) (x3 : Int32) (x4 : Int32) (x5 : Int32) (x6 : Int32) (x7 : Int32) (v0 : Int32) (K21 : St → Int32 → Int32 → Prop) (_ : ∀ (σ : St) (H : Heap) (locs : List Loc) (x4 : Int32) (x5 : Int32) (ls : Array Slot), K21 σ x4 x5 → gH D ct shM ad s σ H locs → lv_has ls 9 [(0, .ref (ad 0)), (1, .int x1), (2, .int x2), (3, .int x3), (4, .int x4), (5, .int x5)] → W p l e rm_m_marksFrom s m args below meth c H locs 0 0 QQ (F0 m 21 ls [])) (K35 : St → Int32 → Int32 → Prop) (_ : ∀ (σ : St) (H : Heap) (locs : List Loc) (x4 : Int32) (x6 : Int32) (ls : Array Slot), K35 σ x4 x6 → gH D ct shM ad s σ H locs → lv_has ls 9 [(0, .ref (ad 0)), (1, .int x1), (2, .int x2), (3, .int x3), (4, .int x4), (5, .int x5), (6, .int x6)] → W p l e rm_m_marksFrom s m args below meth c H locs 0 0 QQ (F0 m 35 ls [])) (K45 : St → Int32 → Int32 → Prop) (_ : ∀ (σ : St) (H : Heap) (locs : List Loc) (x4 : Int32) (x7 : Int32) (ls : Array Slot), K45 σ x4 x7 → gH D ct shM ad s σ H locs → lv_has ls 9 [(0, .ref (ad 0)), (1, .int x1), (2, .int x2), (3, .int x3), (4, .int x4), (5, .int x5), (6, .int x6), (7, .int x7)] → W p l e rm_m_marksFrom s m args below meth c H locs 0 0 QQ (F0 m 45 ls [])) (ls : Array Slot), m_marksFrom_p100 σ x1 x2 x3 x4 x5 x6 x7 Q K21 K35 K45 v0 → gH D ct shM ad s σ H locs → lv_has ls 9 [(0, .ref (ad 0)), (1, .int x1), (2, .int x2), (3, .int x3), (4, .int x4), (5, .int x5), (6, .int x6), (7, .int x7)] → W p l e rm_m_marksFrom s m args below meth c H locs 0 0 QQ (F0 m 100 ls [.int v0]) := by
    intro σ H locs x1 x2 x3 x4 x5 x6 x7 v0 K21 hK21 K35 hK35 K45 hK45 ls hf hw hl
    unfold m_marksFrom_p100 at hf
    refine lv_istore (lv' := [(8, .int v0), (0, .ref (ad 0)), (1, .int x1), (2, .int x2), (3, .int x3), (4, .int x4), (5, .int x5), (6, .int x6), (7, .int x7)]) C.1 C.2.1 dX3_marksFrom_100 hl (Nat.le_of_ble_eq_true rfl) rfl (fun ls hl => ?_)
    refine lv_iload C.1 C.2.1 dX3_marksFrom_102 (lv_at hl 0 rfl) ?_
    refine lv_if_eq (tgt := 121) C.1 C.2.1 dX3_marksFrom_104 (by decide) (fun h104 => ?_) (fun h104 => ?_)
    · replace hf := hf.1 h104
      exact J121 _ _ _ _ _ _ _ _ _ _ _ hK21 _ hK35 _ hK45 _ hf hw (lv_sub hl [1, 2, 3, 4, 5, 6, 7, 8] rfl)
    · replace hf := hf.2 h104
      refine lv_aload_n C.1 C.2.1 dX3_marksFrom_107 rfl (lv_at hl 1 rfl) ?_
      refine lv_iload_n C.1 C.2.1 dX3_marksFrom_108 rfl (lv_at hl 2 rfl) ?_
      refine lv_iload C.1 C.2.1 dX3_marksFrom_109 (lv_at hl 6 rfl) ?_
      refine lv_iload C.1 C.2.1 dX3_marksFrom_111 (lv_at hl 7 rfl) ?_
      refine lv_iload C.1 C.2.1 dX3_marksFrom_113 (lv_at hl 8 rfl) ?_
      refine km_marksBelow C hw hl.1 (Nat.le_of_ble_eq_true rfl) ⟨Nat.le_of_ble_eq_true rfl, Nat.le_of_ble_eq_true rfl⟩ dX3_marksFrom_115 hf (fun r115 s115 H locs hf hw => ?_)
      refine lv_if_ne (tgt := 126) C.1 C.2.1 dX3_marksFrom_118 (by decide) (fun h118 => ?_) (fun h118 => ?_)
      · replace hf := hf.2 h118
        refine lv_iconst (v := 1) C.1 C.2.1 dX3_marksFrom_126 rfl ?_
        refine lv_goto (tgt := 131) C.1 C.2.1 dX3_marksFrom_127 (by decide) ?_
        refine lv_istore (lv' := [(4, .int 1), (8, .int v0), (0, .ref (ad 0)), (1, .int x1), (2, .int x2), (3, .int x3), (5, .int x5), (6, .int x6), (7, .int x7)]) C.1 C.2.1 dX3_marksFrom_131 hl (Nat.le_of_ble_eq_true rfl) rfl (fun ls hl => ?_)
        refine lv_iinc (v := (x7 + 1)) (lv' := [(7, .int (x7 + 1)), (4, .int 1), (8, .int v0), (0, .ref (ad 0)), (1, .int x1), (2, .int x2), (3, .int x3), (5, .int x5), (6, .int x6)]) C.1 C.2.1 dX3_marksFrom_133 hl (k := 8) rfl rfl (Nat.le_of_ble_eq_true rfl) rfl (fun ls hl => ?_)
        refine lv_goto (tgt := 45) C.1 C.2.1 dX3_marksFrom_136 (by decide) ?_
        exact hK45 _ _ _ _ _ _ hf hw (lv_sub hl [3, 4, 5, 6, 1, 7, 8, 0] rfl)
      · replace hf := hf.1 h118
        exact J121 _ _ _ _ _ _ _ _ _ _ _ hK21 _ hK35 _ hK45 _ hf hw (lv_sub hl [1, 2, 3, 4, 5, 6, 7, 8] rfl)
  have J99 : ∀ (σ : St) (H : Heap) (locs : List Loc) (x1 : Int32) (x2 : Int32) (x3 : Int32) (x4 : Int32) (x5 : Int32) (x6 : Int32) (x7 : Int32) (K21 : St → Int32 → Int32 → Prop) (_ : ∀ (σ : St) (H : Heap) (locs : List Loc) (x4 : Int32) (x5 : Int32) (ls : Array Slot), K21 σ x4 x5 → gH D ct shM ad s σ H locs → lv_has ls 9 [(0, .ref (ad 0)), (1, .int x1), (2, .int x2), (3, .int x3), (4, .int x4), (5, .int x5)] → W p l e rm_m_marksFrom s m args below meth c H locs 0 0 QQ (F0 m 21 ls [])) (K35 : St → Int32 → Int32 → Prop) (_ : ∀ (σ : St) (H : Heap) (locs : List Loc) (x4 : Int32) (x6 : Int32) (ls : Array Slot), K35 σ x4 x6 → gH D ct shM ad s σ H locs → lv_has ls 9 [(0, .ref (ad 0)), (1, .int x1), (2, .int x2), (3, .int x3), (4, .int x4), (5, .int x5), (6, .int x6)] → W p l e rm_m_marksFrom s m args below meth c H locs 0 0 QQ (F0 m 35 ls [])) (K45 : St → Int32 → Int32 → Prop) (_ : ∀ (σ : St) (H : Heap) (locs : List Loc) (x4 : Int32) (x7 : Int32) (ls : Array Slot), K45 σ x4 x7 → gH D ct shM ad s σ H locs → lv_has ls 9 [(0, .ref (ad 0)), (1, .int x1), (2, .int x2), (3, .int x3), (4, .int x4), (5, .int x5), (6, .int x6), (7, .int x7)] → W p l e rm_m_marksFrom s m args below meth c H locs 0 0 QQ (F0 m 45 ls [])) (ls : Array Slot), m_marksFrom_p99 σ x1 x2 x3 x4 x5 x6 x7 Q K21 K35 K45 → gH D ct shM ad s σ H locs → lv_has ls 9 [(0, .ref (ad 0)), (1, .int x1), (2, .int x2), (3, .int x3), (4, .int x4), (5, .int x5), (6, .int x6), (7, .int x7)] → W p l e rm_m_marksFrom s m args below meth c H locs 0 0 QQ (F0 m 99 ls []) := by
    intro σ H locs x1 x2 x3 x4 x5 x6 x7 K21 hK21 K35 hK35 K45 hK45 ls hf hw hl
    unfold m_marksFrom_p99 at hf
    refine lv_iconst (v := 0) C.1 C.2.1 dX3_marksFrom_99 rfl ?_
    exact J100 _ _ _ _ _ _ _ _ _ _ _ _ hK21 _ hK35 _ hK45 _ hf hw (lv_sub hl [0, 1, 2, 3, 4, 5, 6, 7] rfl)
  have B45 : ∀ (x1 : Int32) (x2 : Int32) (x3 : Int32) (x5 : Int32) (x6 : Int32) (K21 : St → Int32 → Int32 → Prop) (_ : ∀ (σ : St) (H : Heap) (locs : List Loc) (x4 : Int32) (x5 : Int32) (ls : Array Slot), K21 σ x4 x5 → gH D ct shM ad s σ H locs → lv_has ls 9 [(0, .ref (ad 0)), (1, .int x1), (2, .int x2), (3, .int x3), (4, .int x4), (5, .int x5)] → W p l e rm_m_marksFrom s m args below meth c H locs 0 0 QQ (F0 m 21 ls [])) (K35 : St → Int32 → Int32 → Prop) (_ : ∀ (σ : St) (H : Heap) (locs : List Loc) (x4 : Int32) (x6 : Int32) (ls : Array Slot), K35 σ x4 x6 → gH D ct shM ad s σ H locs → lv_has ls 9 [(0, .ref (ad 0)), (1, .int x1), (2, .int x2), (3, .int x3), (4, .int x4), (5, .int x5), (6, .int x6)] → W p l e rm_m_marksFrom s m args below meth c H locs 0 0 QQ (F0 m 35 ls [])) (K45 : St → Int32 → Int32 → Prop) (_ : ∀ (σ : St) (H : Heap) (locs : List Loc) (x4 : Int32) (x7 : Int32) (ls : Array Slot), K45 σ x4 x7 → gH D ct shM ad s σ H locs → lv_has ls 9 [(0, .ref (ad 0)), (1, .int x1), (2, .int x2), (3, .int x3), (4, .int x4), (5, .int x5), (6, .int x6), (7, .int x7)] → W p l e rm_m_marksFrom s m args below meth c H locs 0 0 QQ (F0 m 45 ls [])) (σ : St) (H : Heap) (locs : List Loc) (x4 : Int32) (x7 : Int32) (ls : Array Slot), m_marksFrom_p45 x1 x2 x3 x5 x6 Q K21 K35 K45 σ x4 x7 → gH D ct shM ad s σ H locs → lv_has ls 9 [(0, .ref (ad 0)), (1, .int x1), (2, .int x2), (3, .int x3), (4, .int x4), (5, .int x5), (6, .int x6), (7, .int x7)] → W p l e rm_m_marksFrom s m args below meth c H locs 0 0 QQ (F0 m 45 ls []) := by
    intro x1 x2 x3 x5 x6 K21 hK21 K35 hK35 K45 hK45 σ H locs x4 x7 ls hf hw hl
    unfold m_marksFrom_p45 at hf
    refine lv_iload C.1 C.2.1 dX3_marksFrom_45 (lv_at hl 7 rfl) ?_
    refine lv_iload_n C.1 C.2.1 dX3_marksFrom_47 rfl (lv_at hl 3 rfl) ?_
    refine lv_icmp_gt (tgt := 139) C.1 C.2.1 dX3_marksFrom_48 (by decide) (fun h48 => ?_) (fun h48 => ?_)
    · replace hf := hf.1 h48
      refine lv_iinc (v := (x6 + 1)) (lv' := [(6, .int (x6 + 1)), (0, .ref (ad 0)), (1, .int x1), (2, .int x2), (3, .int x3), (4, .int x4), (5, .int x5), (7, .int x7)]) C.1 C.2.1 dX3_marksFrom_139 hl (k := 6) rfl rfl (Nat.le_of_ble_eq_true rfl) rfl (fun ls hl => ?_)
      refine lv_goto (tgt := 35) C.1 C.2.1 dX3_marksFrom_142 (by decide) ?_
      exact hK35 _ _ _ _ _ _ hf hw (lv_sub hl [1, 2, 3, 4, 5, 6, 0] rfl)
    · replace hf := hf.2 h48
      refine lv_aload_n C.1 C.2.1 dX3_marksFrom_51 rfl (lv_at hl 0 rfl) ?_
      refine lv_iload_n C.1 C.2.1 dX3_marksFrom_52 rfl (lv_at hl 1 rfl) ?_
      refine lv_iload C.1 C.2.1 dX3_marksFrom_53 (lv_at hl 5 rfl) ?_
      refine km_isCapitalAt C hw hl.1 (Nat.le_of_ble_eq_true rfl) ⟨Nat.le_of_ble_eq_true rfl, Nat.le_of_ble_eq_true rfl⟩ dX3_marksFrom_55 hf (fun r55 hf => ?_)
      refine lv_if_eq (tgt := 99) C.1 C.2.1 dX3_marksFrom_58 (by decide) (fun h58 => ?_) (fun h58 => ?_)
      · replace hf := hf.1 h58
        exact J99 _ _ _ _ _ _ _ _ _ _ _ hK21 _ hK35 _ hK45 _ hf hw (lv_sub hl [0, 1, 2, 3, 4, 5, 6, 7] rfl)
      · replace hf := hf.2 h58
        refine lv_aload_n C.1 C.2.1 dX3_marksFrom_61 rfl (lv_at hl 0 rfl) ?_
        refine mg_ahead C hw dX3_marksFrom_62 ?_
        refine lv_bipush (v := 13) C.1 C.2.1 dX3_marksFrom_65 rfl ?_
        refine lv_iload C.1 C.2.1 dX3_marksFrom_67 (lv_at hl 5 rfl) ?_
        refine lv_imul C.1 C.2.1 dX3_marksFrom_69 ?_
        refine lv_iload C.1 C.2.1 dX3_marksFrom_70 (lv_at hl 6 rfl) ?_
        refine lv_iadd C.1 C.2.1 dX3_marksFrom_72 ?_
        obtain ⟨b73, hf⟩ := hf
        refine g_zald C hw 44 rfl b73 dX3_marksFrom_73 ?_
        refine lv_if_eq (tgt := 99) C.1 C.2.1 dX3_marksFrom_74 (by decide) (fun h74 => ?_) (fun h74 => ?_)
        · replace hf := hf.1 h74
          exact J99 _ _ _ _ _ _ _ _ _ _ _ hK21 _ hK35 _ hK45 _ hf hw (lv_sub hl [0, 1, 2, 3, 4, 5, 6, 7] rfl)
        · replace hf := hf.2 h74
          refine lv_aload_n C.1 C.2.1 dX3_marksFrom_77 rfl (lv_at hl 0 rfl) ?_
          refine mg_behind C hw dX3_marksFrom_78 ?_
          refine lv_bipush (v := 13) C.1 C.2.1 dX3_marksFrom_81 rfl ?_
          refine lv_iload C.1 C.2.1 dX3_marksFrom_83 (lv_at hl 5 rfl) ?_
          refine lv_iconst (v := 1) C.1 C.2.1 dX3_marksFrom_85 rfl ?_
          refine lv_iadd C.1 C.2.1 dX3_marksFrom_86 ?_
          refine lv_imul C.1 C.2.1 dX3_marksFrom_87 ?_
          refine lv_iload C.1 C.2.1 dX3_marksFrom_88 (lv_at hl 7 rfl) ?_
          refine lv_iadd C.1 C.2.1 dX3_marksFrom_90 ?_
          obtain ⟨b91, hf⟩ := hf
          refine g_zald C hw 45 rfl b91 dX3_marksFrom_91 ?_
          refine lv_if_eq (tgt := 99) C.1 C.2.1 dX3_marksFrom_92 (by decide) (fun h92 => ?_) (fun h92 => ?_)
          · replace hf := hf.1 h92
            exact J99 _ _ _ _ _ _ _ _ _ _ _ hK21 _ hK35 _ hK45 _ hf hw (lv_sub hl [0, 1, 2, 3, 4, 5, 6, 7] rfl)
          · replace hf := hf.2 h92
            refine lv_iconst (v := 1) C.1 C.2.1 dX3_marksFrom_95 rfl ?_
            refine lv_goto (tgt := 100) C.1 C.2.1 dX3_marksFrom_96 (by decide) ?_
            exact J100 _ _ _ _ _ _ _ _ _ _ _ _ hK21 _ hK35 _ hK45 _ hf hw (lv_sub hl [0, 1, 2, 3, 4, 5, 6, 7] rfl)
  have P45 : ∀ (x1 : Int32) (x2 : Int32) (x3 : Int32) (x5 : Int32) (x6 : Int32) (K21 : St → Int32 → Int32 → Prop) (_ : ∀ (σ : St) (H : Heap) (locs : List Loc) (x4 : Int32) (x5 : Int32) (ls : Array Slot), K21 σ x4 x5 → gH D ct shM ad s σ H locs → lv_has ls 9 [(0, .ref (ad 0)), (1, .int x1), (2, .int x2), (3, .int x3), (4, .int x4), (5, .int x5)] → W p l e rm_m_marksFrom s m args below meth c H locs 0 0 QQ (F0 m 21 ls [])) (K35 : St → Int32 → Int32 → Prop) (_ : ∀ (σ : St) (H : Heap) (locs : List Loc) (x4 : Int32) (x6 : Int32) (ls : Array Slot), K35 σ x4 x6 → gH D ct shM ad s σ H locs → lv_has ls 9 [(0, .ref (ad 0)), (1, .int x1), (2, .int x2), (3, .int x3), (4, .int x4), (5, .int x5), (6, .int x6)] → W p l e rm_m_marksFrom s m args below meth c H locs 0 0 QQ (F0 m 35 ls [])) (n : Nat) (σ : St) (x4 : Int32) (x7 : Int32) (ls : Array Slot) (H : Heap) (locs : List Loc), LL3 (m_marksFrom_p45 x1 x2 x3 x5 x6 Q K21 K35) n σ x4 x7 → gH D ct shM ad s σ H locs → lv_has ls 9 [(0, .ref (ad 0)), (1, .int x1), (2, .int x2), (3, .int x3), (4, .int x4), (5, .int x5), (6, .int x6), (7, .int x7)] → W p l e rm_m_marksFrom s m args below meth c H locs 0 0 QQ (F0 m 45 ls []) := by
    intro x1 x2 x3 x5 x6 K21 hK21 K35 hK35 n
    induction n with
    | zero => intro σ x4 x7 ls H locs hf; exact False.elim hf
    | succ n ih => intro σ x4 x7 ls H locs hf hw hl; exact B45 x1 x2 x3 x5 x6 K21 hK21 K35 hK35 (LL3 _ n) (fun σ H locs x4 x7 ls hf hw hl => ih σ x4 x7 ls H locs hf hw hl) σ H locs x4 x7 ls hf hw hl
  have B35 : ∀ (x1 : Int32) (x2 : Int32) (x3 : Int32) (x5 : Int32) (K21 : St → Int32 → Int32 → Prop) (_ : ∀ (σ : St) (H : Heap) (locs : List Loc) (x4 : Int32) (x5 : Int32) (ls : Array Slot), K21 σ x4 x5 → gH D ct shM ad s σ H locs → lv_has ls 9 [(0, .ref (ad 0)), (1, .int x1), (2, .int x2), (3, .int x3), (4, .int x4), (5, .int x5)] → W p l e rm_m_marksFrom s m args below meth c H locs 0 0 QQ (F0 m 21 ls [])) (K35 : St → Int32 → Int32 → Prop) (_ : ∀ (σ : St) (H : Heap) (locs : List Loc) (x4 : Int32) (x6 : Int32) (ls : Array Slot), K35 σ x4 x6 → gH D ct shM ad s σ H locs → lv_has ls 9 [(0, .ref (ad 0)), (1, .int x1), (2, .int x2), (3, .int x3), (4, .int x4), (5, .int x5), (6, .int x6)] → W p l e rm_m_marksFrom s m args below meth c H locs 0 0 QQ (F0 m 35 ls [])) (σ : St) (H : Heap) (locs : List Loc) (x4 : Int32) (x6 : Int32) (ls : Array Slot), m_marksFrom_p35 x1 x2 x3 x5 Q K21 K35 σ x4 x6 → gH D ct shM ad s σ H locs → lv_has ls 9 [(0, .ref (ad 0)), (1, .int x1), (2, .int x2), (3, .int x3), (4, .int x4), (5, .int x5), (6, .int x6)] → W p l e rm_m_marksFrom s m args below meth c H locs 0 0 QQ (F0 m 35 ls []) := by
    intro x1 x2 x3 x5 K21 hK21 K35 hK35 σ H locs x4 x6 ls hf hw hl
    unfold m_marksFrom_p35 at hf
    refine lv_iload C.1 C.2.1 dX3_marksFrom_35 (lv_at hl 6 rfl) ?_
    refine lv_iload_n C.1 C.2.1 dX3_marksFrom_37 rfl (lv_at hl 3 rfl) ?_
    refine lv_icmp_gt (tgt := 145) C.1 C.2.1 dX3_marksFrom_38 (by decide) (fun h38 => ?_) (fun h38 => ?_)
    · replace hf := hf.1 h38
      refine lv_iinc (v := (x5 + 1)) (lv' := [(5, .int (x5 + 1)), (0, .ref (ad 0)), (1, .int x1), (2, .int x2), (3, .int x3), (4, .int x4), (6, .int x6)]) C.1 C.2.1 dX3_marksFrom_145 hl (k := 5) rfl rfl (Nat.le_of_ble_eq_true rfl) rfl (fun ls hl => ?_)
      refine lv_goto (tgt := 21) C.1 C.2.1 dX3_marksFrom_148 (by decide) ?_
      exact hK21 _ _ _ _ _ _ hf hw (lv_sub hl [1, 2, 3, 4, 5, 0] rfl)
    · replace hf := hf.2 h38
      refine lv_iload C.1 C.2.1 dX3_marksFrom_41 (lv_at hl 6 rfl) ?_
      refine lv_istore (lv' := [(7, .int x6), (0, .ref (ad 0)), (1, .int x1), (2, .int x2), (3, .int x3), (4, .int x4), (5, .int x5), (6, .int x6)]) C.1 C.2.1 dX3_marksFrom_43 hl (Nat.le_of_ble_eq_true rfl) rfl (fun ls hl => ?_)
      obtain ⟨n, hf⟩ := hf
      exact P45 _ _ _ _ _ _ hK21 _ hK35 n _ _ _ _ _ _ hf hw (lv_sub hl [1, 2, 3, 4, 5, 6, 7, 0] rfl)
  have P35 : ∀ (x1 : Int32) (x2 : Int32) (x3 : Int32) (x5 : Int32) (K21 : St → Int32 → Int32 → Prop) (_ : ∀ (σ : St) (H : Heap) (locs : List Loc) (x4 : Int32) (x5 : Int32) (ls : Array Slot), K21 σ x4 x5 → gH D ct shM ad s σ H locs → lv_has ls 9 [(0, .ref (ad 0)), (1, .int x1), (2, .int x2), (3, .int x3), (4, .int x4), (5, .int x5)] → W p l e rm_m_marksFrom s m args below meth c H locs 0 0 QQ (F0 m 21 ls [])) (n : Nat) (σ : St) (x4 : Int32) (x6 : Int32) (ls : Array Slot) (H : Heap) (locs : List Loc), LL3 (m_marksFrom_p35 x1 x2 x3 x5 Q K21) n σ x4 x6 → gH D ct shM ad s σ H locs → lv_has ls 9 [(0, .ref (ad 0)), (1, .int x1), (2, .int x2), (3, .int x3), (4, .int x4), (5, .int x5), (6, .int x6)] → W p l e rm_m_marksFrom s m args below meth c H locs 0 0 QQ (F0 m 35 ls []) := by
    intro x1 x2 x3 x5 K21 hK21 n
    induction n with
    | zero => intro σ x4 x6 ls H locs hf; exact False.elim hf
    | succ n ih => intro σ x4 x6 ls H locs hf hw hl; exact B35 x1 x2 x3 x5 K21 hK21 (LL3 _ n) (fun σ H locs x4 x6 ls hf hw hl => ih σ x4 x6 ls H locs hf hw hl) σ H locs x4 x6 ls hf hw hl
  have B21 : ∀ (x1 : Int32) (x2 : Int32) (x3 : Int32) (K21 : St → Int32 → Int32 → Prop) (_ : ∀ (σ : St) (H : Heap) (locs : List Loc) (x4 : Int32) (x5 : Int32) (ls : Array Slot), K21 σ x4 x5 → gH D ct shM ad s σ H locs → lv_has ls 9 [(0, .ref (ad 0)), (1, .int x1), (2, .int x2), (3, .int x3), (4, .int x4), (5, .int x5)] → W p l e rm_m_marksFrom s m args below meth c H locs 0 0 QQ (F0 m 21 ls [])) (σ : St) (H : Heap) (locs : List Loc) (x4 : Int32) (x5 : Int32) (ls : Array Slot), m_marksFrom_p21 x1 x2 x3 Q K21 σ x4 x5 → gH D ct shM ad s σ H locs → lv_has ls 9 [(0, .ref (ad 0)), (1, .int x1), (2, .int x2), (3, .int x3), (4, .int x4), (5, .int x5)] → W p l e rm_m_marksFrom s m args below meth c H locs 0 0 QQ (F0 m 21 ls []) := by
    intro x1 x2 x3 K21 hK21 σ H locs x4 x5 ls hf hw hl
    unfold m_marksFrom_p21 at hf
    refine lv_iload C.1 C.2.1 dX3_marksFrom_21 (lv_at hl 5 rfl) ?_
    refine lv_aload_n C.1 C.2.1 dX3_marksFrom_23 rfl (lv_at hl 0 rfl) ?_
    refine mg_size C hw dX3_marksFrom_24 ?_
    refine lv_iload_n C.1 C.2.1 dX3_marksFrom_27 rfl (lv_at hl 1 rfl) ?_
    obtain ⟨b28, hf⟩ := hf
    refine g_iald C hw 4 rfl b28 dX3_marksFrom_28 ?_
    refine lv_icmp_ge (tgt := 151) C.1 C.2.1 dX3_marksFrom_29 (by decide) (fun h29 => ?_) (fun h29 => ?_)
    · replace hf := hf.1 h29
      refine lv_iload C.1 C.2.1 dX3_marksFrom_151 (lv_at hl 4 rfl) ?_
      obtain ⟨hz, hf⟩ := hf
      exact hret _ _ _ _ _ _ hf hw hz dX3_marksFrom_153
    · replace hf := hf.2 h29
      refine lv_iload_n C.1 C.2.1 dX3_marksFrom_32 rfl (lv_at hl 2 rfl) ?_
      refine lv_istore (lv' := [(6, .int x2), (0, .ref (ad 0)), (1, .int x1), (2, .int x2), (3, .int x3), (4, .int x4), (5, .int x5)]) C.1 C.2.1 dX3_marksFrom_33 hl (Nat.le_of_ble_eq_true rfl) rfl (fun ls hl => ?_)
      obtain ⟨n, hf⟩ := hf
      exact P35 _ _ _ _ _ hK21 n _ _ _ _ _ _ hf hw (lv_sub hl [1, 2, 3, 4, 5, 6, 0] rfl)
  have P21 : ∀ (x1 : Int32) (x2 : Int32) (x3 : Int32) (n : Nat) (σ : St) (x4 : Int32) (x5 : Int32) (ls : Array Slot) (H : Heap) (locs : List Loc), LL3 (m_marksFrom_p21 x1 x2 x3 Q) n σ x4 x5 → gH D ct shM ad s σ H locs → lv_has ls 9 [(0, .ref (ad 0)), (1, .int x1), (2, .int x2), (3, .int x3), (4, .int x4), (5, .int x5)] → W p l e rm_m_marksFrom s m args below meth c H locs 0 0 QQ (F0 m 21 ls []) := by
    intro x1 x2 x3 n
    induction n with
    | zero => intro σ x4 x5 ls H locs hf; exact False.elim hf
    | succ n ih => intro σ x4 x5 ls H locs hf hw hl; exact B21 x1 x2 x3 (LL3 _ n) (fun σ H locs x4 x5 ls hf hw hl => ih σ x4 x5 ls H locs hf hw hl) σ H locs x4 x5 ls hf hw hl
  unfold m_marksFrom at hf
  obtain ⟨H, hH⟩ : ∃ q, q = s.heap := ⟨_, rfl⟩
  obtain ⟨locs, hL⟩ : ∃ q : List Loc, q = [] := ⟨_, rfl⟩
  rw [← hH, ← hL] at hw ⊢
  refine lv_iconst (v := 0) C.1 C.2.1 dX3_marksFrom_0 rfl ?_
  refine lv_istore (lv' := [(4, .int 0), (0, .ref (ad 0)), (1, .int x1), (2, .int x2), (3, .int x3)]) C.1 C.2.1 dX3_marksFrom_1 hl (Nat.le_of_ble_eq_true rfl) rfl (fun ls hl => ?_)
  refine lv_aload_n C.1 C.2.1 dX3_marksFrom_3 rfl (lv_at hl 1 rfl) ?_
  refine lv_iconst (v := 1) C.1 C.2.1 dX3_marksFrom_4 rfl ?_
  refine lv_iload_n C.1 C.2.1 dX3_marksFrom_5 rfl (lv_at hl 2 rfl) ?_
  refine lv_iload_n C.1 C.2.1 dX3_marksFrom_6 rfl (lv_at hl 3 rfl) ?_
  refine lv_iload_n C.1 C.2.1 dX3_marksFrom_7 rfl (lv_at hl 4 rfl) ?_
  refine km_laysAhead C hw hl.1 (Nat.le_of_ble_eq_true rfl) ⟨Nat.le_of_ble_eq_true rfl, Nat.le_of_ble_eq_true rfl⟩ dX3_marksFrom_8 hf (fun _ s8 H locs hf hw => ?_)
  refine lv_aload_n C.1 C.2.1 dX3_marksFrom_11 rfl (lv_at hl 1 rfl) ?_
  refine lv_iload_n C.1 C.2.1 dX3_marksFrom_12 rfl (lv_at hl 2 rfl) ?_
  refine lv_iload_n C.1 C.2.1 dX3_marksFrom_13 rfl (lv_at hl 3 rfl) ?_
  refine lv_iload_n C.1 C.2.1 dX3_marksFrom_14 rfl (lv_at hl 4 rfl) ?_
  refine km_laysBehind C hw hl.1 (Nat.le_of_ble_eq_true rfl) ⟨Nat.le_of_ble_eq_true rfl, Nat.le_of_ble_eq_true rfl⟩ dX3_marksFrom_15 hf (fun _ s15 H locs hf hw => ?_)
  refine lv_iconst (v := 0) C.1 C.2.1 dX3_marksFrom_18 rfl ?_
  refine lv_istore (lv' := [(5, .int 0), (4, .int 0), (0, .ref (ad 0)), (1, .int x1), (2, .int x2), (3, .int x3)]) C.1 C.2.1 dX3_marksFrom_19 hl (Nat.le_of_ble_eq_true rfl) rfl (fun ls hl => ?_)
  obtain ⟨n, hf⟩ := hf
  exact P21 _ _ _ n _ _ _ _ _ _ hf hw (lv_sub hl [2, 3, 4, 5, 1, 0] rfl)
theorem km_marksFrom {p : Program} {l : Launch} {e : Env} {R : Room} {s : State} {m : MethodId} {args : Array Value} {below : List Frame} {meth : Method} {c : Code} {H : Heap} {locs : List Loc} {Z : State → Prop} {cc : ByteArray} {nL pc : Nat} {ls : Array Slot} {rest : List Value} {D : va_G} {ct : Ct} {ad : Nat → Nat} {σ : St} {x1 : Int32} {x2 : Int32} {x3 : Int32} {Qp : Int32 → St → Prop} (C : CallFix p m c cc nL s args lw_all RX3) (hw : gH D ct shM ad s σ H locs) (hsz : ls.size = nL) (hrm : (rest.map fun v => v.category).sum ≤ 8) (hR : rm_m_marksFrom.frames + 1 ≤ R.frames ∧ 8 + (9 + 11) + rm_m_marksFrom.locals ≤ R.locals) (hdg : decode cc pc = .ok (.invokevirtual 506, 3)) (hf : m_marksFrom σ x1 x2 x3 Qp) (kk : ∀ (r : Int32) (σ1 : St) (H1 : Heap) (locs1 : List Loc), Qp r σ1 → gH D ct shM ad s σ1 H1 locs1 → W p l e R s m args below meth c H1 locs1 0 0 Z (F0 m (pc + 3) ls (.int r :: rest))) : W p l e R s m args below meth c H locs 0 0 Z (F0 m pc ls (.int x3 :: .int x2 :: .int x1 :: .ref (ad 0) :: rest)) :=
  g_callV (As := [.int x1, .int x2, .int x3]) (rest := rest) C hw rfl rfl (met_m_marksFrom l D ct ad hw.2.1 σ x1 x2 x3 Qp hf) (cwV 3 C.2.2.2.2 (lw_V q2004 q2006 qs173 q207 q2007) rfl rfl rfl (by decide +kernel) hR) rfl hsz rfl hrm ⟨Nat.zero_le _, Nat.zero_le _⟩ hdg kk
def m_waysOfNode_p55 (σ : St) (x1 : Int32) (x2 : Int32) (x3 : Int32) (x5 : Int32) (Q : Int32 → St → Prop) (K6 : St → Int32 → Int32 → Prop) (v0 : Int32) : Prop :=
  (m_waysOf σ x5 x2 x3 (fun r60 s60 => K6 s60 (v0 + r60) (x5 + 1)))
def m_waysOfNode_p6 (x1 : Int32) (x2 : Int32) (x3 : Int32) (Q : Int32 → St → Prop) (K6 : St → Int32 → Int32 → Prop) (σ : St) (x4 : Int32) (x5 : Int32) : Prop :=
  (((gI σ 2 0) ≤ x5 → Q x4 σ) ∧ (¬ (gI σ 2 0) ≤ x5 → (vp_in x5 12 ∧ (((gI σ 3 x5) = x1 → (vp_in (fm_spot x5 x2 x3) 2028 ∧ (((gI σ 52 (fm_spot x5 x2 x3)) = 0 → K6 σ x4 (x5 + 1)) ∧ (¬ (gI σ 52 (fm_spot x5 x2 x3)) = 0 → ((x4 = (-1) → (m_waysOfNode_p55 σ x1 x2 x3 x5 Q K6 0)) ∧ (¬ x4 = (-1) → (m_waysOfNode_p55 σ x1 x2 x3 x5 Q K6 x4))))))) ∧ (¬ (gI σ 3 x5) = x1 → K6 σ x4 (x5 + 1))))))
def m_waysOfNode (σ : St) (x1 : Int32) (x2 : Int32) (x3 : Int32) (Q : Int32 → St → Prop) : Prop :=
  (Lp3 (m_waysOfNode_p6 x1 x2 x3 Q) σ (-1) 0)
abbrev rm_m_waysOfNode : Room := { frames := 5, cells := 0, slots := 0, locals := 123 }
set_option maxHeartbeats 4000000 in
theorem met_m_waysOfNode (l : Launch) (D : va_G) (ct : Ct) (ad : Nat → Nat) (hJ : gJ shM ad ct) (σ : St) (x1 : Int32) (x2 : Int32) (x3 : Int32) (Q : Int32 → St → Prop) (hf : m_waysOfNode σ x1 x2 x3 Q) : Met l yX3_waysOfNode (ws_ yX3_waysOfNode cX3_waysOfNode 6 (some .int)) rm_m_waysOfNode (va_Pc [.ref (ad 0), .int x1, .int x2, .int x3] (gP D ct shM ad σ)) (gQ rvI D ct shM ad Q) 0 0 (gA shM ad) := by
  refine g_metI hJ (by decide) (Nat.le_of_ble_eq_true rfl) ?_
  intro p e s m args below meth c QQ ls C hw hl hret
  replace hl : lv_has ls 6 [(0, .ref (ad 0)), (1, .int x1), (2, .int x2), (3, .int x3)] := hl
  have J55 : ∀ (σ : St) (H : Heap) (locs : List Loc) (x1 : Int32) (x2 : Int32) (x3 : Int32) (x5 : Int32) (v0 : Int32) (K6 : St → Int32 → Int32 → Prop) (_ : ∀ (σ : St) (H : Heap) (locs : List Loc) (x4 : Int32) (x5 : Int32) (ls : Array Slot), K6 σ x4 x5 → gH D ct shM ad s σ H locs → lv_has ls 6 [(0, .ref (ad 0)), (1, .int x1), (2, .int x2), (3, .int x3), (4, .int x4), (5, .int x5)] → W p l e rm_m_waysOfNode s m args below meth c H locs 0 0 QQ (F0 m 6 ls [])) (ls : Array Slot), m_waysOfNode_p55 σ x1 x2 x3 x5 Q K6 v0 → gH D ct shM ad s σ H locs → lv_has ls 6 [(0, .ref (ad 0)), (1, .int x1), (2, .int x2), (3, .int x3), (5, .int x5)] → W p l e rm_m_waysOfNode s m args below meth c H locs 0 0 QQ (F0 m 55 ls [.int v0]) := by
    intro σ H locs x1 x2 x3 x5 v0 K6 hK6 ls hf hw hl
    unfold m_waysOfNode_p55 at hf
    refine lv_aload_n C.1 C.2.1 dX3_waysOfNode_55 rfl (lv_at hl 0 rfl) ?_
    refine lv_iload C.1 C.2.1 dX3_waysOfNode_56 (lv_at hl 4 rfl) ?_
    refine lv_iload_n C.1 C.2.1 dX3_waysOfNode_58 rfl (lv_at hl 2 rfl) ?_
    refine lv_iload_n C.1 C.2.1 dX3_waysOfNode_59 rfl (lv_at hl 3 rfl) ?_
    refine km_waysOf C hw hl.1 (Nat.le_of_ble_eq_true rfl) ⟨Nat.le_of_ble_eq_true rfl, Nat.le_of_ble_eq_true rfl⟩ dX3_waysOfNode_60 hf (fun r60 s60 H locs hf hw => ?_)
    refine lv_iadd C.1 C.2.1 dX3_waysOfNode_63 ?_
    refine lv_istore (lv' := [(4, .int (v0 + r60)), (0, .ref (ad 0)), (1, .int x1), (2, .int x2), (3, .int x3), (5, .int x5)]) C.1 C.2.1 dX3_waysOfNode_64 hl (Nat.le_of_ble_eq_true rfl) rfl (fun ls hl => ?_)
    refine lv_iinc (v := (x5 + 1)) (lv' := [(5, .int (x5 + 1)), (4, .int (v0 + r60)), (0, .ref (ad 0)), (1, .int x1), (2, .int x2), (3, .int x3)]) C.1 C.2.1 dX3_waysOfNode_66 hl (k := 5) rfl rfl (Nat.le_of_ble_eq_true rfl) rfl (fun ls hl => ?_)
    refine lv_goto (tgt := 6) C.1 C.2.1 dX3_waysOfNode_69 (by decide) ?_
    exact hK6 _ _ _ _ _ _ hf hw (lv_sub hl [2, 3, 4, 5, 1, 0] rfl)
  have B6 : ∀ (x1 : Int32) (x2 : Int32) (x3 : Int32) (K6 : St → Int32 → Int32 → Prop) (_ : ∀ (σ : St) (H : Heap) (locs : List Loc) (x4 : Int32) (x5 : Int32) (ls : Array Slot), K6 σ x4 x5 → gH D ct shM ad s σ H locs → lv_has ls 6 [(0, .ref (ad 0)), (1, .int x1), (2, .int x2), (3, .int x3), (4, .int x4), (5, .int x5)] → W p l e rm_m_waysOfNode s m args below meth c H locs 0 0 QQ (F0 m 6 ls [])) (σ : St) (H : Heap) (locs : List Loc) (x4 : Int32) (x5 : Int32) (ls : Array Slot), m_waysOfNode_p6 x1 x2 x3 Q K6 σ x4 x5 → gH D ct shM ad s σ H locs → lv_has ls 6 [(0, .ref (ad 0)), (1, .int x1), (2, .int x2), (3, .int x3), (4, .int x4), (5, .int x5)] → W p l e rm_m_waysOfNode s m args below meth c H locs 0 0 QQ (F0 m 6 ls []) := by
    intro x1 x2 x3 K6 hK6 σ H locs x4 x5 ls hf hw hl
    unfold m_waysOfNode_p6 at hf
    refine lv_iload C.1 C.2.1 dX3_waysOfNode_6 (lv_at hl 5 rfl) ?_
    refine lv_aload_n C.1 C.2.1 dX3_waysOfNode_8 rfl (lv_at hl 0 rfl) ?_
    refine mg_scalar C hw dX3_waysOfNode_9 ?_
    refine lv_iconst (v := 0) C.1 C.2.1 dX3_waysOfNode_12 rfl ?_
    refine g_iald C hw 2 rfl (vpD rfl) dX3_waysOfNode_13 ?_
    refine lv_icmp_ge (tgt := 72) C.1 C.2.1 dX3_waysOfNode_14 (by decide) (fun h14 => ?_) (fun h14 => ?_)
    · replace hf := hf.1 h14
      refine lv_iload C.1 C.2.1 dX3_waysOfNode_72 (lv_at hl 4 rfl) ?_
      exact hret _ _ _ _ _ _ hf hw dX3_waysOfNode_74
    · replace hf := hf.2 h14
      refine lv_aload_n C.1 C.2.1 dX3_waysOfNode_17 rfl (lv_at hl 0 rfl) ?_
      refine mg_left C hw dX3_waysOfNode_18 ?_
      refine lv_iload C.1 C.2.1 dX3_waysOfNode_21 (lv_at hl 5 rfl) ?_
      obtain ⟨b23, hf⟩ := hf
      refine g_iald C hw 3 rfl b23 dX3_waysOfNode_23 ?_
      refine lv_iload_n C.1 C.2.1 dX3_waysOfNode_24 rfl (lv_at hl 1 rfl) ?_
      refine lv_icmp_ne (tgt := 66) C.1 C.2.1 dX3_waysOfNode_25 (by decide) (fun h25 => ?_) (fun h25 => ?_)
      · replace hf := hf.2 h25
        refine lv_iinc (v := (x5 + 1)) (lv' := [(5, .int (x5 + 1)), (0, .ref (ad 0)), (1, .int x1), (2, .int x2), (3, .int x3), (4, .int x4)]) C.1 C.2.1 dX3_waysOfNode_66 hl (k := 5) rfl rfl (Nat.le_of_ble_eq_true rfl) rfl (fun ls hl => ?_)
        refine lv_goto (tgt := 6) C.1 C.2.1 dX3_waysOfNode_69 (by decide) ?_
        exact hK6 _ _ _ _ _ _ hf hw (lv_sub hl [1, 2, 3, 4, 5, 0] rfl)
      · replace hf := hf.1 h25
        refine lv_aload_n C.1 C.2.1 dX3_waysOfNode_28 rfl (lv_at hl 0 rfl) ?_
        refine mg_isPiece C hw dX3_waysOfNode_29 ?_
        refine lv_iload C.1 C.2.1 dX3_waysOfNode_32 (lv_at hl 5 rfl) ?_
        refine lv_iload_n C.1 C.2.1 dX3_waysOfNode_34 rfl (lv_at hl 2 rfl) ?_
        refine lv_iload_n C.1 C.2.1 dX3_waysOfNode_35 rfl (lv_at hl 3 rfl) ?_
        refine km_spot C hl.1 (Nat.le_of_ble_eq_true rfl) ⟨Nat.le_of_ble_eq_true rfl, Nat.le_of_ble_eq_true rfl⟩ dX3_waysOfNode_36 ?_
        obtain ⟨b39, hf⟩ := hf
        refine g_zald C hw 52 rfl b39 dX3_waysOfNode_39 ?_
        refine lv_if_eq (tgt := 66) C.1 C.2.1 dX3_waysOfNode_40 (by decide) (fun h40 => ?_) (fun h40 => ?_)
        · replace hf := hf.1 h40
          refine lv_iinc (v := (x5 + 1)) (lv' := [(5, .int (x5 + 1)), (0, .ref (ad 0)), (1, .int x1), (2, .int x2), (3, .int x3), (4, .int x4)]) C.1 C.2.1 dX3_waysOfNode_66 hl (k := 5) rfl rfl (Nat.le_of_ble_eq_true rfl) rfl (fun ls hl => ?_)
          refine lv_goto (tgt := 6) C.1 C.2.1 dX3_waysOfNode_69 (by decide) ?_
          exact hK6 _ _ _ _ _ _ hf hw (lv_sub hl [1, 2, 3, 4, 5, 0] rfl)
        · replace hf := hf.2 h40
          refine lv_iload C.1 C.2.1 dX3_waysOfNode_43 (lv_at hl 4 rfl) ?_
          refine lv_iconst (v := (-1)) C.1 C.2.1 dX3_waysOfNode_45 rfl ?_
          refine lv_icmp_ne (tgt := 53) C.1 C.2.1 dX3_waysOfNode_46 (by decide) (fun h46 => ?_) (fun h46 => ?_)
          · replace hf := hf.2 h46
            refine lv_iload C.1 C.2.1 dX3_waysOfNode_53 (lv_at hl 4 rfl) ?_
            exact J55 _ _ _ _ _ _ _ _ _ hK6 _ hf hw (lv_sub hl [0, 1, 2, 3, 5] rfl)
          · replace hf := hf.1 h46
            refine lv_iconst (v := 0) C.1 C.2.1 dX3_waysOfNode_49 rfl ?_
            refine lv_goto (tgt := 55) C.1 C.2.1 dX3_waysOfNode_50 (by decide) ?_
            exact J55 _ _ _ _ _ _ _ _ _ hK6 _ hf hw (lv_sub hl [0, 1, 2, 3, 5] rfl)
  have P6 : ∀ (x1 : Int32) (x2 : Int32) (x3 : Int32) (n : Nat) (σ : St) (x4 : Int32) (x5 : Int32) (ls : Array Slot) (H : Heap) (locs : List Loc), LL3 (m_waysOfNode_p6 x1 x2 x3 Q) n σ x4 x5 → gH D ct shM ad s σ H locs → lv_has ls 6 [(0, .ref (ad 0)), (1, .int x1), (2, .int x2), (3, .int x3), (4, .int x4), (5, .int x5)] → W p l e rm_m_waysOfNode s m args below meth c H locs 0 0 QQ (F0 m 6 ls []) := by
    intro x1 x2 x3 n
    induction n with
    | zero => intro σ x4 x5 ls H locs hf; exact False.elim hf
    | succ n ih => intro σ x4 x5 ls H locs hf hw hl; exact B6 x1 x2 x3 (LL3 _ n) (fun σ H locs x4 x5 ls hf hw hl => ih σ x4 x5 ls H locs hf hw hl) σ H locs x4 x5 ls hf hw hl
  unfold m_waysOfNode at hf
  obtain ⟨H, hH⟩ : ∃ q, q = s.heap := ⟨_, rfl⟩
  obtain ⟨locs, hL⟩ : ∃ q : List Loc, q = [] := ⟨_, rfl⟩
  rw [← hH, ← hL] at hw ⊢
  refine lv_iconst (v := (-1)) C.1 C.2.1 dX3_waysOfNode_0 rfl ?_
  refine lv_istore (lv' := [(4, .int (-1)), (0, .ref (ad 0)), (1, .int x1), (2, .int x2), (3, .int x3)]) C.1 C.2.1 dX3_waysOfNode_1 hl (Nat.le_of_ble_eq_true rfl) rfl (fun ls hl => ?_)
  refine lv_iconst (v := 0) C.1 C.2.1 dX3_waysOfNode_3 rfl ?_
  refine lv_istore (lv' := [(5, .int 0), (4, .int (-1)), (0, .ref (ad 0)), (1, .int x1), (2, .int x2), (3, .int x3)]) C.1 C.2.1 dX3_waysOfNode_4 hl (Nat.le_of_ble_eq_true rfl) rfl (fun ls hl => ?_)
  obtain ⟨n, hf⟩ := hf
  exact P6 _ _ _ n _ _ _ _ _ _ hf hw (lv_sub hl [2, 3, 4, 5, 1, 0] rfl)
theorem km_waysOfNode {p : Program} {l : Launch} {e : Env} {R : Room} {s : State} {m : MethodId} {args : Array Value} {below : List Frame} {meth : Method} {c : Code} {H : Heap} {locs : List Loc} {Z : State → Prop} {cc : ByteArray} {nL pc : Nat} {ls : Array Slot} {rest : List Value} {D : va_G} {ct : Ct} {ad : Nat → Nat} {σ : St} {x1 : Int32} {x2 : Int32} {x3 : Int32} {Qp : Int32 → St → Prop} (C : CallFix p m c cc nL s args lw_all RX3) (hw : gH D ct shM ad s σ H locs) (hsz : ls.size = nL) (hrm : (rest.map fun v => v.category).sum ≤ 8) (hR : rm_m_waysOfNode.frames + 1 ≤ R.frames ∧ 8 + (6 + 11) + rm_m_waysOfNode.locals ≤ R.locals) (hdg : decode cc pc = .ok (.invokevirtual 518, 3)) (hf : m_waysOfNode σ x1 x2 x3 Qp) (kk : ∀ (r : Int32) (σ1 : St) (H1 : Heap) (locs1 : List Loc), Qp r σ1 → gH D ct shM ad s σ1 H1 locs1 → W p l e R s m args below meth c H1 locs1 0 0 Z (F0 m (pc + 3) ls (.int r :: rest))) : W p l e R s m args below meth c H locs 0 0 Z (F0 m pc ls (.int x3 :: .int x2 :: .int x1 :: .ref (ad 0) :: rest)) :=
  g_callV (As := [.int x1, .int x2, .int x3]) (rest := rest) C hw rfl rfl (met_m_waysOfNode l D ct ad hw.2.1 σ x1 x2 x3 Qp hf) (cwV 3 C.2.2.2.2 (lw_V q2037 q2039 qs179 q207 q2040) rfl rfl rfl (by decide +kernel) hR) rfl hsz rfl hrm ⟨Nat.zero_le _, Nat.zero_le _⟩ hdg kk
def m_laysSizes_p140 (σ : St) (x1 : Int32) (x2 : Int32) (x3 : Int32) (x4 : Int32) (x5 : Int32) (x6 : Int32) (Q : Unit → St → Prop) (K8 : St → Int32 → Prop) (K16 : St → Int32 → Prop) : Prop :=
  (vp_in ((13 * x4) + x5) 65 ∧ (∀ s154 : St, s154 = s_A σ 60 (Int32.toNatClampNeg ((13 * x4) + x5)) x6 → K16 s154 (x5 + 1)))
def m_laysSizes_p116 (σ : St) (x1 : Int32) (x2 : Int32) (x3 : Int32) (x4 : Int32) (x5 : Int32) (x6 : Int32) (x7 : Int32) (Q : Unit → St → Prop) (K8 : St → Int32 → Prop) (K16 : St → Int32 → Prop) (K52 : Int32 → Int32 → Prop) (v0 : Int32) : Prop :=
  ((x6 ≤ v0 → K52 x6 (x7 + 1)) ∧ (¬ x6 ≤ v0 → K52 v0 (x7 + 1)))
def m_laysSizes_p52 (σ : St) (x1 : Int32) (x2 : Int32) (x3 : Int32) (x4 : Int32) (x5 : Int32) (Q : Unit → St → Prop) (K8 : St → Int32 → Prop) (K16 : St → Int32 → Prop) (K52 : Int32 → Int32 → Prop) (x6 : Int32) (x7 : Int32) : Prop :=
  ((x3 < x7 → (m_laysSizes_p140 σ x1 x2 x3 x4 x5 x6 Q K8 K16)) ∧ (¬ x3 < x7 → (vp_in x1 12 ∧ (((gI σ 4 x1) ≤ x4 → (m_laysSizes_p140 σ x1 x2 x3 x4 x5 x6 Q K8 K16)) ∧ (¬ (gI σ 4 x1) ≤ x4 → (vp_in ((13 * (x4 + 1)) + x7) 65 ∧ ((2000000000 ≤ (gI σ 60 ((13 * (x4 + 1)) + x7)) → (m_laysSizes_p116 σ x1 x2 x3 x4 x5 x6 x7 Q K8 K16 K52 2000000000)) ∧ (¬ 2000000000 ≤ (gI σ 60 ((13 * (x4 + 1)) + x7)) → (m_sizeBelow σ x1 x4 x5 x7 (fun r102 => (m_laysSizes_p116 σ x1 x2 x3 x4 x5 x6 x7 Q K8 K16 K52 (fm_joined r102 (gI σ 60 ((13 * (x4 + 1)) + x7))))))))))))))
def m_laysSizes_p16 (x1 : Int32) (x2 : Int32) (x3 : Int32) (x4 : Int32) (Q : Unit → St → Prop) (K8 : St → Int32 → Prop) (K16 : St → Int32 → Prop) (σ : St) (x5 : Int32) : Prop :=
  ((x3 < x5 → K8 σ (x4 + (-1))) ∧ (¬ x3 < x5 → (vp_in x1 12 ∧ ((x4 = (gI σ 4 x1) → ((x5 = x3 → (Lp2 (m_laysSizes_p52 σ x1 x2 x3 x4 x5 Q K8 K16) 0 x5)) ∧ (¬ x5 = x3 → (Lp2 (m_laysSizes_p52 σ x1 x2 x3 x4 x5 Q K8 K16) 2000000000 x5)))) ∧ (¬ x4 = (gI σ 4 x1) → (Lp2 (m_laysSizes_p52 σ x1 x2 x3 x4 x5 Q K8 K16) 2000000000 x5))))))
def m_laysSizes_p8 (x1 : Int32) (x2 : Int32) (x3 : Int32) (Q : Unit → St → Prop) (K8 : St → Int32 → Prop) (σ : St) (x4 : Int32) : Prop :=
  ((x4 < 0 → Q () σ) ∧ (¬ x4 < 0 → (Lp2 (m_laysSizes_p16 x1 x2 x3 x4 Q K8) σ x2)))
def m_laysSizes (σ : St) (x1 : Int32) (x2 : Int32) (x3 : Int32) (Q : Unit → St → Prop) : Prop :=
  (vp_in x1 12 ∧ (Lp2 (m_laysSizes_p8 x1 x2 x3 Q) σ (gI σ 4 x1)))
abbrev rm_m_laysSizes : Room := { frames := 5, cells := 0, slots := 0, locals := 121 }
set_option maxHeartbeats 4000000 in
theorem met_m_laysSizes (l : Launch) (D : va_G) (ct : Ct) (ad : Nat → Nat) (hJ : gJ shM ad ct) (σ : St) (x1 : Int32) (x2 : Int32) (x3 : Int32) (Q : Unit → St → Prop) (hf : m_laysSizes σ x1 x2 x3 Q) : Met l yX3_laysSizes (ws_ yX3_laysSizes cX3_laysSizes 10 (none)) rm_m_laysSizes (va_Pc [.ref (ad 0), .int x1, .int x2, .int x3] (gP D ct shM ad σ)) (gQ rvV D ct shM ad Q) 0 0 (gA shM ad) := by
  refine g_metV hJ (by decide) (Nat.le_of_ble_eq_true rfl) ?_
  intro p e s m args below meth c QQ ls C hw hl hret
  replace hl : lv_has ls 10 [(0, .ref (ad 0)), (1, .int x1), (2, .int x2), (3, .int x3)] := hl
  have J140 : ∀ (σ : St) (H : Heap) (locs : List Loc) (x1 : Int32) (x2 : Int32) (x3 : Int32) (x4 : Int32) (x5 : Int32) (x6 : Int32) (K8 : St → Int32 → Prop) (_ : ∀ (σ : St) (H : Heap) (locs : List Loc) (x4 : Int32) (ls : Array Slot), K8 σ x4 → gH D ct shM ad s σ H locs → lv_has ls 10 [(0, .ref (ad 0)), (1, .int x1), (2, .int x2), (3, .int x3), (4, .int x4)] → W p l e rm_m_laysSizes s m args below meth c H locs 0 0 QQ (F0 m 8 ls [])) (K16 : St → Int32 → Prop) (_ : ∀ (σ : St) (H : Heap) (locs : List Loc) (x5 : Int32) (ls : Array Slot), K16 σ x5 → gH D ct shM ad s σ H locs → lv_has ls 10 [(0, .ref (ad 0)), (1, .int x1), (2, .int x2), (3, .int x3), (4, .int x4), (5, .int x5)] → W p l e rm_m_laysSizes s m args below meth c H locs 0 0 QQ (F0 m 16 ls [])) (ls : Array Slot), m_laysSizes_p140 σ x1 x2 x3 x4 x5 x6 Q K8 K16 → gH D ct shM ad s σ H locs → lv_has ls 10 [(0, .ref (ad 0)), (1, .int x1), (2, .int x2), (3, .int x3), (4, .int x4), (5, .int x5), (6, .int x6)] → W p l e rm_m_laysSizes s m args below meth c H locs 0 0 QQ (F0 m 140 ls []) := by
    intro σ H locs x1 x2 x3 x4 x5 x6 K8 hK8 K16 hK16 ls hf hw hl
    unfold m_laysSizes_p140 at hf
    refine lv_aload_n C.1 C.2.1 dX3_laysSizes_140 rfl (lv_at hl 0 rfl) ?_
    refine mg_sizesBehind C hw dX3_laysSizes_141 ?_
    refine lv_bipush (v := 13) C.1 C.2.1 dX3_laysSizes_144 rfl ?_
    refine lv_iload C.1 C.2.1 dX3_laysSizes_146 (lv_at hl 4 rfl) ?_
    refine lv_imul C.1 C.2.1 dX3_laysSizes_148 ?_
    refine lv_iload C.1 C.2.1 dX3_laysSizes_149 (lv_at hl 5 rfl) ?_
    refine lv_iadd C.1 C.2.1 dX3_laysSizes_151 ?_
    refine lv_iload C.1 C.2.1 dX3_laysSizes_152 (lv_at hl 6 rfl) ?_
    obtain ⟨b154, hf⟩ := hf
    refine g_iast C shM_sep hw 60 rfl b154 dX3_laysSizes_154 (fun s154 H locs e154 hw => ?_)
    replace hf := hf s154 e154
    refine lv_iinc (v := (x5 + 1)) (lv' := [(5, .int (x5 + 1)), (0, .ref (ad 0)), (1, .int x1), (2, .int x2), (3, .int x3), (4, .int x4), (6, .int x6)]) C.1 C.2.1 dX3_laysSizes_155 hl (k := 5) rfl rfl (Nat.le_of_ble_eq_true rfl) rfl (fun ls hl => ?_)
    refine lv_goto (tgt := 16) C.1 C.2.1 dX3_laysSizes_158 (by decide) ?_
    exact hK16 _ _ _ _ _ hf hw (lv_sub hl [1, 2, 3, 4, 5, 0] rfl)
  have J116 : ∀ (σ : St) (H : Heap) (locs : List Loc) (x1 : Int32) (x2 : Int32) (x3 : Int32) (x4 : Int32) (x5 : Int32) (x6 : Int32) (x7 : Int32) (v0 : Int32) (K8 : St → Int32 → Prop) (_ : ∀ (σ : St) (H : Heap) (locs : List Loc) (x4 : Int32) (ls : Array Slot), K8 σ x4 → gH D ct shM ad s σ H locs → lv_has ls 10 [(0, .ref (ad 0)), (1, .int x1), (2, .int x2), (3, .int x3), (4, .int x4)] → W p l e rm_m_laysSizes s m args below meth c H locs 0 0 QQ (F0 m 8 ls [])) (K16 : St → Int32 → Prop) (_ : ∀ (σ : St) (H : Heap) (locs : List Loc) (x5 : Int32) (ls : Array Slot), K16 σ x5 → gH D ct shM ad s σ H locs → lv_has ls 10 [(0, .ref (ad 0)), (1, .int x1), (2, .int x2), (3, .int x3), (4, .int x4), (5, .int x5)] → W p l e rm_m_laysSizes s m args below meth c H locs 0 0 QQ (F0 m 16 ls [])) (K52 : Int32 → Int32 → Prop) (_ : ∀ (x6 : Int32) (x7 : Int32) (ls : Array Slot), K52 x6 x7 → lv_has ls 10 [(0, .ref (ad 0)), (1, .int x1), (2, .int x2), (3, .int x3), (4, .int x4), (5, .int x5), (6, .int x6), (7, .int x7)] → W p l e rm_m_laysSizes s m args below meth c H locs 0 0 QQ (F0 m 52 ls [])) (ls : Array Slot), m_laysSizes_p116 σ x1 x2 x3 x4 x5 x6 x7 Q K8 K16 K52 v0 → gH D ct shM ad s σ H locs → lv_has ls 10 [(0, .ref (ad 0)), (1, .int x1), (2, .int x2), (3, .int x3), (4, .int x4), (5, .int x5), (6, .int x6), (7, .int x7)] → W p l e rm_m_laysSizes s m args below meth c H locs 0 0 QQ (F0 m 116 ls [.int v0]) := by
    intro σ H locs x1 x2 x3 x4 x5 x6 x7 v0 K8 hK8 K16 hK16 K52 hK52 ls hf hw hl
    unfold m_laysSizes_p116 at hf
    refine lv_istore (lv' := [(9, .int v0), (0, .ref (ad 0)), (1, .int x1), (2, .int x2), (3, .int x3), (4, .int x4), (5, .int x5), (6, .int x6), (7, .int x7)]) C.1 C.2.1 dX3_laysSizes_116 hl (Nat.le_of_ble_eq_true rfl) rfl (fun ls hl => ?_)
    refine lv_iload C.1 C.2.1 dX3_laysSizes_118 (lv_at hl 0 rfl) ?_
    refine lv_iload C.1 C.2.1 dX3_laysSizes_120 (lv_at hl 7 rfl) ?_
    refine lv_icmp_ge (tgt := 130) C.1 C.2.1 dX3_laysSizes_122 (by decide) (fun h122 => ?_) (fun h122 => ?_)
    · replace hf := hf.1 h122
      refine lv_iload C.1 C.2.1 dX3_laysSizes_130 (lv_at hl 7 rfl) ?_
      refine lv_istore (lv' := [(6, .int x6), (9, .int v0), (0, .ref (ad 0)), (1, .int x1), (2, .int x2), (3, .int x3), (4, .int x4), (5, .int x5), (7, .int x7)]) C.1 C.2.1 dX3_laysSizes_132 hl (Nat.le_of_ble_eq_true rfl) rfl (fun ls hl => ?_)
      refine lv_iinc (v := (x7 + 1)) (lv' := [(7, .int (x7 + 1)), (6, .int x6), (9, .int v0), (0, .ref (ad 0)), (1, .int x1), (2, .int x2), (3, .int x3), (4, .int x4), (5, .int x5)]) C.1 C.2.1 dX3_laysSizes_134 hl (k := 8) rfl rfl (Nat.le_of_ble_eq_true rfl) rfl (fun ls hl => ?_)
      refine lv_goto (tgt := 52) C.1 C.2.1 dX3_laysSizes_137 (by decide) ?_
      exact hK52 _ _ _ hf (lv_sub hl [3, 4, 5, 6, 7, 8, 1, 0] rfl)
    · replace hf := hf.2 h122
      refine lv_iload C.1 C.2.1 dX3_laysSizes_125 (lv_at hl 0 rfl) ?_
      refine lv_goto (tgt := 132) C.1 C.2.1 dX3_laysSizes_127 (by decide) ?_
      refine lv_istore (lv' := [(6, .int v0), (9, .int v0), (0, .ref (ad 0)), (1, .int x1), (2, .int x2), (3, .int x3), (4, .int x4), (5, .int x5), (7, .int x7)]) C.1 C.2.1 dX3_laysSizes_132 hl (Nat.le_of_ble_eq_true rfl) rfl (fun ls hl => ?_)
      refine lv_iinc (v := (x7 + 1)) (lv' := [(7, .int (x7 + 1)), (6, .int v0), (9, .int v0), (0, .ref (ad 0)), (1, .int x1), (2, .int x2), (3, .int x3), (4, .int x4), (5, .int x5)]) C.1 C.2.1 dX3_laysSizes_134 hl (k := 8) rfl rfl (Nat.le_of_ble_eq_true rfl) rfl (fun ls hl => ?_)
      refine lv_goto (tgt := 52) C.1 C.2.1 dX3_laysSizes_137 (by decide) ?_
      exact hK52 _ _ _ hf (lv_sub hl [3, 4, 5, 6, 7, 8, 1, 0] rfl)
  have B52 : ∀ (σ : St) (H : Heap) (locs : List Loc) (x1 : Int32) (x2 : Int32) (x3 : Int32) (x4 : Int32) (x5 : Int32) (K8 : St → Int32 → Prop) (_ : ∀ (σ : St) (H : Heap) (locs : List Loc) (x4 : Int32) (ls : Array Slot), K8 σ x4 → gH D ct shM ad s σ H locs → lv_has ls 10 [(0, .ref (ad 0)), (1, .int x1), (2, .int x2), (3, .int x3), (4, .int x4)] → W p l e rm_m_laysSizes s m args below meth c H locs 0 0 QQ (F0 m 8 ls [])) (K16 : St → Int32 → Prop) (_ : ∀ (σ : St) (H : Heap) (locs : List Loc) (x5 : Int32) (ls : Array Slot), K16 σ x5 → gH D ct shM ad s σ H locs → lv_has ls 10 [(0, .ref (ad 0)), (1, .int x1), (2, .int x2), (3, .int x3), (4, .int x4), (5, .int x5)] → W p l e rm_m_laysSizes s m args below meth c H locs 0 0 QQ (F0 m 16 ls [])) (K52 : Int32 → Int32 → Prop) (_ : ∀ (x6 : Int32) (x7 : Int32) (ls : Array Slot), K52 x6 x7 → lv_has ls 10 [(0, .ref (ad 0)), (1, .int x1), (2, .int x2), (3, .int x3), (4, .int x4), (5, .int x5), (6, .int x6), (7, .int x7)] → W p l e rm_m_laysSizes s m args below meth c H locs 0 0 QQ (F0 m 52 ls [])) (x6 : Int32) (x7 : Int32) (ls : Array Slot), m_laysSizes_p52 σ x1 x2 x3 x4 x5 Q K8 K16 K52 x6 x7 → gH D ct shM ad s σ H locs → lv_has ls 10 [(0, .ref (ad 0)), (1, .int x1), (2, .int x2), (3, .int x3), (4, .int x4), (5, .int x5), (6, .int x6), (7, .int x7)] → W p l e rm_m_laysSizes s m args below meth c H locs 0 0 QQ (F0 m 52 ls []) := by
    intro σ H locs x1 x2 x3 x4 x5 K8 hK8 K16 hK16 K52 hK52 x6 x7 ls hf hw hl
    unfold m_laysSizes_p52 at hf
    refine lv_iload C.1 C.2.1 dX3_laysSizes_52 (lv_at hl 7 rfl) ?_
    refine lv_iload_n C.1 C.2.1 dX3_laysSizes_54 rfl (lv_at hl 3 rfl) ?_
    refine lv_icmp_gt (tgt := 140) C.1 C.2.1 dX3_laysSizes_55 (by decide) (fun h55 => ?_) (fun h55 => ?_)
    · replace hf := hf.1 h55
      exact J140 _ _ _ _ _ _ _ _ _ _ hK8 _ hK16 _ hf hw (lv_sub hl [0, 1, 2, 3, 4, 5, 6] rfl)
    · replace hf := hf.2 h55
      refine lv_iload C.1 C.2.1 dX3_laysSizes_58 (lv_at hl 4 rfl) ?_
      refine lv_aload_n C.1 C.2.1 dX3_laysSizes_60 rfl (lv_at hl 0 rfl) ?_
      refine mg_size C hw dX3_laysSizes_61 ?_
      refine lv_iload_n C.1 C.2.1 dX3_laysSizes_64 rfl (lv_at hl 1 rfl) ?_
      obtain ⟨b65, hf⟩ := hf
      refine g_iald C hw 4 rfl b65 dX3_laysSizes_65 ?_
      refine lv_icmp_ge (tgt := 140) C.1 C.2.1 dX3_laysSizes_66 (by decide) (fun h66 => ?_) (fun h66 => ?_)
      · replace hf := hf.1 h66
        exact J140 _ _ _ _ _ _ _ _ _ _ hK8 _ hK16 _ hf hw (lv_sub hl [0, 1, 2, 3, 4, 5, 6] rfl)
      · replace hf := hf.2 h66
        refine lv_aload_n C.1 C.2.1 dX3_laysSizes_69 rfl (lv_at hl 0 rfl) ?_
        refine mg_sizesBehind C hw dX3_laysSizes_70 ?_
        refine lv_bipush (v := 13) C.1 C.2.1 dX3_laysSizes_73 rfl ?_
        refine lv_iload C.1 C.2.1 dX3_laysSizes_75 (lv_at hl 4 rfl) ?_
        refine lv_iconst (v := 1) C.1 C.2.1 dX3_laysSizes_77 rfl ?_
        refine lv_iadd C.1 C.2.1 dX3_laysSizes_78 ?_
        refine lv_imul C.1 C.2.1 dX3_laysSizes_79 ?_
        refine lv_iload C.1 C.2.1 dX3_laysSizes_80 (lv_at hl 7 rfl) ?_
        refine lv_iadd C.1 C.2.1 dX3_laysSizes_82 ?_
        obtain ⟨b83, hf⟩ := hf
        refine g_iald C hw 60 rfl b83 dX3_laysSizes_83 ?_
        refine lv_istore (lv' := [(8, .int (gI σ 60 ((13 * (x4 + 1)) + x7))), (0, .ref (ad 0)), (1, .int x1), (2, .int x2), (3, .int x3), (4, .int x4), (5, .int x5), (6, .int x6), (7, .int x7)]) C.1 C.2.1 dX3_laysSizes_84 hl (Nat.le_of_ble_eq_true rfl) rfl (fun ls hl => ?_)
        refine lv_iload C.1 C.2.1 dX3_laysSizes_86 (lv_at hl 0 rfl) ?_
        refine lv_ldcw C.1 C.2.1 C.2.2.2.1 (C.2.2.2.2 _ q1760) dX3_laysSizes_88 ?_
        refine lv_icmp_ge (tgt := 113) C.1 C.2.1 dX3_laysSizes_91 (by decide) (fun h91 => ?_) (fun h91 => ?_)
        · replace hf := hf.1 h91
          refine lv_ldcw C.1 C.2.1 C.2.2.2.1 (C.2.2.2.2 _ q1760) dX3_laysSizes_113 ?_
          exact J116 _ _ _ _ _ _ _ _ _ _ _ _ hK8 _ hK16 _ hK52 _ hf hw (lv_sub hl [1, 2, 3, 4, 5, 6, 7, 8] rfl)
        · replace hf := hf.2 h91
          refine lv_aload_n C.1 C.2.1 dX3_laysSizes_94 rfl (lv_at hl 1 rfl) ?_
          refine lv_iload_n C.1 C.2.1 dX3_laysSizes_95 rfl (lv_at hl 2 rfl) ?_
          refine lv_iload C.1 C.2.1 dX3_laysSizes_96 (lv_at hl 5 rfl) ?_
          refine lv_iload C.1 C.2.1 dX3_laysSizes_98 (lv_at hl 6 rfl) ?_
          refine lv_iload C.1 C.2.1 dX3_laysSizes_100 (lv_at hl 8 rfl) ?_
          refine km_sizeBelow C hw hl.1 (Nat.le_of_ble_eq_true rfl) ⟨Nat.le_of_ble_eq_true rfl, Nat.le_of_ble_eq_true rfl⟩ dX3_laysSizes_102 hf (fun r102 hf => ?_)
          refine lv_iload C.1 C.2.1 dX3_laysSizes_105 (lv_at hl 0 rfl) ?_
          refine km_joined C hl.1 (Nat.le_of_ble_eq_true rfl) ⟨Nat.le_of_ble_eq_true rfl, Nat.le_of_ble_eq_true rfl⟩ dX3_laysSizes_107 ?_
          refine lv_goto (tgt := 116) C.1 C.2.1 dX3_laysSizes_110 (by decide) ?_
          exact J116 _ _ _ _ _ _ _ _ _ _ _ _ hK8 _ hK16 _ hK52 _ hf hw (lv_sub hl [1, 2, 3, 4, 5, 6, 7, 8] rfl)
  have P52 : ∀ (σ : St) (H : Heap) (locs : List Loc) (x1 : Int32) (x2 : Int32) (x3 : Int32) (x4 : Int32) (x5 : Int32) (K8 : St → Int32 → Prop) (_ : ∀ (σ : St) (H : Heap) (locs : List Loc) (x4 : Int32) (ls : Array Slot), K8 σ x4 → gH D ct shM ad s σ H locs → lv_has ls 10 [(0, .ref (ad 0)), (1, .int x1), (2, .int x2), (3, .int x3), (4, .int x4)] → W p l e rm_m_laysSizes s m args below meth c H locs 0 0 QQ (F0 m 8 ls [])) (K16 : St → Int32 → Prop) (_ : ∀ (σ : St) (H : Heap) (locs : List Loc) (x5 : Int32) (ls : Array Slot), K16 σ x5 → gH D ct shM ad s σ H locs → lv_has ls 10 [(0, .ref (ad 0)), (1, .int x1), (2, .int x2), (3, .int x3), (4, .int x4), (5, .int x5)] → W p l e rm_m_laysSizes s m args below meth c H locs 0 0 QQ (F0 m 16 ls [])) (n : Nat) (x6 : Int32) (x7 : Int32) (ls : Array Slot), LL2 (m_laysSizes_p52 σ x1 x2 x3 x4 x5 Q K8 K16) n x6 x7 → gH D ct shM ad s σ H locs → lv_has ls 10 [(0, .ref (ad 0)), (1, .int x1), (2, .int x2), (3, .int x3), (4, .int x4), (5, .int x5), (6, .int x6), (7, .int x7)] → W p l e rm_m_laysSizes s m args below meth c H locs 0 0 QQ (F0 m 52 ls []) := by
    intro σ H locs x1 x2 x3 x4 x5 K8 hK8 K16 hK16 n
    induction n with
    | zero => intro x6 x7 ls hf; exact False.elim hf
    | succ n ih => intro x6 x7 ls hf hw hl; exact B52 σ H locs x1 x2 x3 x4 x5 K8 hK8 K16 hK16 (LL2 _ n) (fun x6 x7 ls hf hl => ih x6 x7 ls hf hw hl) x6 x7 ls hf hw hl
  have B16 : ∀ (x1 : Int32) (x2 : Int32) (x3 : Int32) (x4 : Int32) (K8 : St → Int32 → Prop) (_ : ∀ (σ : St) (H : Heap) (locs : List Loc) (x4 : Int32) (ls : Array Slot), K8 σ x4 → gH D ct shM ad s σ H locs → lv_has ls 10 [(0, .ref (ad 0)), (1, .int x1), (2, .int x2), (3, .int x3), (4, .int x4)] → W p l e rm_m_laysSizes s m args below meth c H locs 0 0 QQ (F0 m 8 ls [])) (K16 : St → Int32 → Prop) (_ : ∀ (σ : St) (H : Heap) (locs : List Loc) (x5 : Int32) (ls : Array Slot), K16 σ x5 → gH D ct shM ad s σ H locs → lv_has ls 10 [(0, .ref (ad 0)), (1, .int x1), (2, .int x2), (3, .int x3), (4, .int x4), (5, .int x5)] → W p l e rm_m_laysSizes s m args below meth c H locs 0 0 QQ (F0 m 16 ls [])) (σ : St) (H : Heap) (locs : List Loc) (x5 : Int32) (ls : Array Slot), m_laysSizes_p16 x1 x2 x3 x4 Q K8 K16 σ x5 → gH D ct shM ad s σ H locs → lv_has ls 10 [(0, .ref (ad 0)), (1, .int x1), (2, .int x2), (3, .int x3), (4, .int x4), (5, .int x5)] → W p l e rm_m_laysSizes s m args below meth c H locs 0 0 QQ (F0 m 16 ls []) := by
    intro x1 x2 x3 x4 K8 hK8 K16 hK16 σ H locs x5 ls hf hw hl
    unfold m_laysSizes_p16 at hf
    refine lv_iload C.1 C.2.1 dX3_laysSizes_16 (lv_at hl 5 rfl) ?_
    refine lv_iload_n C.1 C.2.1 dX3_laysSizes_18 rfl (lv_at hl 3 rfl) ?_
    refine lv_icmp_gt (tgt := 161) C.1 C.2.1 dX3_laysSizes_19 (by decide) (fun h19 => ?_) (fun h19 => ?_)
    · replace hf := hf.1 h19
      refine lv_iinc (v := (x4 + (-1))) (lv' := [(4, .int (x4 + (-1))), (0, .ref (ad 0)), (1, .int x1), (2, .int x2), (3, .int x3), (5, .int x5)]) C.1 C.2.1 dX3_laysSizes_161 hl (k := 4) rfl rfl (Nat.le_of_ble_eq_true rfl) rfl (fun ls hl => ?_)
      refine lv_goto (tgt := 8) C.1 C.2.1 dX3_laysSizes_164 (by decide) ?_
      exact hK8 _ _ _ _ _ hf hw (lv_sub hl [1, 2, 3, 4, 0] rfl)
    · replace hf := hf.2 h19
      refine lv_iload C.1 C.2.1 dX3_laysSizes_22 (lv_at hl 4 rfl) ?_
      refine lv_aload_n C.1 C.2.1 dX3_laysSizes_24 rfl (lv_at hl 0 rfl) ?_
      refine mg_size C hw dX3_laysSizes_25 ?_
      refine lv_iload_n C.1 C.2.1 dX3_laysSizes_28 rfl (lv_at hl 1 rfl) ?_
      obtain ⟨b29, hf⟩ := hf
      refine g_iald C hw 4 rfl b29 dX3_laysSizes_29 ?_
      refine lv_icmp_ne (tgt := 43) C.1 C.2.1 dX3_laysSizes_30 (by decide) (fun h30 => ?_) (fun h30 => ?_)
      · replace hf := hf.2 h30
        refine lv_ldcw C.1 C.2.1 C.2.2.2.1 (C.2.2.2.2 _ q1760) dX3_laysSizes_43 ?_
        refine lv_istore (lv' := [(6, .int 2000000000), (0, .ref (ad 0)), (1, .int x1), (2, .int x2), (3, .int x3), (4, .int x4), (5, .int x5)]) C.1 C.2.1 dX3_laysSizes_46 hl (Nat.le_of_ble_eq_true rfl) rfl (fun ls hl => ?_)
        refine lv_iload C.1 C.2.1 dX3_laysSizes_48 (lv_at hl 6 rfl) ?_
        refine lv_istore (lv' := [(7, .int x5), (6, .int 2000000000), (0, .ref (ad 0)), (1, .int x1), (2, .int x2), (3, .int x3), (4, .int x4), (5, .int x5)]) C.1 C.2.1 dX3_laysSizes_50 hl (Nat.le_of_ble_eq_true rfl) rfl (fun ls hl => ?_)
        obtain ⟨n, hf⟩ := hf
        exact P52 _ _ _ _ _ _ _ _ _ hK8 _ hK16 n _ _ _ hf hw (lv_sub hl [2, 3, 4, 5, 6, 7, 1, 0] rfl)
      · replace hf := hf.1 h30
        refine lv_iload C.1 C.2.1 dX3_laysSizes_33 (lv_at hl 5 rfl) ?_
        refine lv_iload_n C.1 C.2.1 dX3_laysSizes_35 rfl (lv_at hl 3 rfl) ?_
        refine lv_icmp_ne (tgt := 43) C.1 C.2.1 dX3_laysSizes_36 (by decide) (fun h36 => ?_) (fun h36 => ?_)
        · replace hf := hf.2 h36
          refine lv_ldcw C.1 C.2.1 C.2.2.2.1 (C.2.2.2.2 _ q1760) dX3_laysSizes_43 ?_
          refine lv_istore (lv' := [(6, .int 2000000000), (0, .ref (ad 0)), (1, .int x1), (2, .int x2), (3, .int x3), (4, .int x4), (5, .int x5)]) C.1 C.2.1 dX3_laysSizes_46 hl (Nat.le_of_ble_eq_true rfl) rfl (fun ls hl => ?_)
          refine lv_iload C.1 C.2.1 dX3_laysSizes_48 (lv_at hl 6 rfl) ?_
          refine lv_istore (lv' := [(7, .int x5), (6, .int 2000000000), (0, .ref (ad 0)), (1, .int x1), (2, .int x2), (3, .int x3), (4, .int x4), (5, .int x5)]) C.1 C.2.1 dX3_laysSizes_50 hl (Nat.le_of_ble_eq_true rfl) rfl (fun ls hl => ?_)
          obtain ⟨n, hf⟩ := hf
          exact P52 _ _ _ _ _ _ _ _ _ hK8 _ hK16 n _ _ _ hf hw (lv_sub hl [2, 3, 4, 5, 6, 7, 1, 0] rfl)
        · replace hf := hf.1 h36
          refine lv_iconst (v := 0) C.1 C.2.1 dX3_laysSizes_39 rfl ?_
          refine lv_goto (tgt := 46) C.1 C.2.1 dX3_laysSizes_40 (by decide) ?_
          refine lv_istore (lv' := [(6, .int 0), (0, .ref (ad 0)), (1, .int x1), (2, .int x2), (3, .int x3), (4, .int x4), (5, .int x5)]) C.1 C.2.1 dX3_laysSizes_46 hl (Nat.le_of_ble_eq_true rfl) rfl (fun ls hl => ?_)
          refine lv_iload C.1 C.2.1 dX3_laysSizes_48 (lv_at hl 6 rfl) ?_
          refine lv_istore (lv' := [(7, .int x5), (6, .int 0), (0, .ref (ad 0)), (1, .int x1), (2, .int x2), (3, .int x3), (4, .int x4), (5, .int x5)]) C.1 C.2.1 dX3_laysSizes_50 hl (Nat.le_of_ble_eq_true rfl) rfl (fun ls hl => ?_)
          obtain ⟨n, hf⟩ := hf
          exact P52 _ _ _ _ _ _ _ _ _ hK8 _ hK16 n _ _ _ hf hw (lv_sub hl [2, 3, 4, 5, 6, 7, 1, 0] rfl)
  have P16 : ∀ (x1 : Int32) (x2 : Int32) (x3 : Int32) (x4 : Int32) (K8 : St → Int32 → Prop) (_ : ∀ (σ : St) (H : Heap) (locs : List Loc) (x4 : Int32) (ls : Array Slot), K8 σ x4 → gH D ct shM ad s σ H locs → lv_has ls 10 [(0, .ref (ad 0)), (1, .int x1), (2, .int x2), (3, .int x3), (4, .int x4)] → W p l e rm_m_laysSizes s m args below meth c H locs 0 0 QQ (F0 m 8 ls [])) (n : Nat) (σ : St) (x5 : Int32) (ls : Array Slot) (H : Heap) (locs : List Loc), LL2 (m_laysSizes_p16 x1 x2 x3 x4 Q K8) n σ x5 → gH D ct shM ad s σ H locs → lv_has ls 10 [(0, .ref (ad 0)), (1, .int x1), (2, .int x2), (3, .int x3), (4, .int x4), (5, .int x5)] → W p l e rm_m_laysSizes s m args below meth c H locs 0 0 QQ (F0 m 16 ls []) := by
    intro x1 x2 x3 x4 K8 hK8 n
    induction n with
    | zero => intro σ x5 ls H locs hf; exact False.elim hf
    | succ n ih => intro σ x5 ls H locs hf hw hl; exact B16 x1 x2 x3 x4 K8 hK8 (LL2 _ n) (fun σ H locs x5 ls hf hw hl => ih σ x5 ls H locs hf hw hl) σ H locs x5 ls hf hw hl
  have B8 : ∀ (x1 : Int32) (x2 : Int32) (x3 : Int32) (K8 : St → Int32 → Prop) (_ : ∀ (σ : St) (H : Heap) (locs : List Loc) (x4 : Int32) (ls : Array Slot), K8 σ x4 → gH D ct shM ad s σ H locs → lv_has ls 10 [(0, .ref (ad 0)), (1, .int x1), (2, .int x2), (3, .int x3), (4, .int x4)] → W p l e rm_m_laysSizes s m args below meth c H locs 0 0 QQ (F0 m 8 ls [])) (σ : St) (H : Heap) (locs : List Loc) (x4 : Int32) (ls : Array Slot), m_laysSizes_p8 x1 x2 x3 Q K8 σ x4 → gH D ct shM ad s σ H locs → lv_has ls 10 [(0, .ref (ad 0)), (1, .int x1), (2, .int x2), (3, .int x3), (4, .int x4)] → W p l e rm_m_laysSizes s m args below meth c H locs 0 0 QQ (F0 m 8 ls []) := by
    intro x1 x2 x3 K8 hK8 σ H locs x4 ls hf hw hl
    unfold m_laysSizes_p8 at hf
    refine lv_iload C.1 C.2.1 dX3_laysSizes_8 (lv_at hl 4 rfl) ?_
    refine lv_if_lt (tgt := 167) C.1 C.2.1 dX3_laysSizes_10 (by decide) (fun h10 => ?_) (fun h10 => ?_)
    · replace hf := hf.1 h10
      exact hret _ _ _ _ _ _ hf hw dX3_laysSizes_167
    · replace hf := hf.2 h10
      refine lv_iload_n C.1 C.2.1 dX3_laysSizes_13 rfl (lv_at hl 2 rfl) ?_
      refine lv_istore (lv' := [(5, .int x2), (0, .ref (ad 0)), (1, .int x1), (2, .int x2), (3, .int x3), (4, .int x4)]) C.1 C.2.1 dX3_laysSizes_14 hl (Nat.le_of_ble_eq_true rfl) rfl (fun ls hl => ?_)
      obtain ⟨n, hf⟩ := hf
      exact P16 _ _ _ _ _ hK8 n _ _ _ _ _ hf hw (lv_sub hl [1, 2, 3, 4, 5, 0] rfl)
  have P8 : ∀ (x1 : Int32) (x2 : Int32) (x3 : Int32) (n : Nat) (σ : St) (x4 : Int32) (ls : Array Slot) (H : Heap) (locs : List Loc), LL2 (m_laysSizes_p8 x1 x2 x3 Q) n σ x4 → gH D ct shM ad s σ H locs → lv_has ls 10 [(0, .ref (ad 0)), (1, .int x1), (2, .int x2), (3, .int x3), (4, .int x4)] → W p l e rm_m_laysSizes s m args below meth c H locs 0 0 QQ (F0 m 8 ls []) := by
    intro x1 x2 x3 n
    induction n with
    | zero => intro σ x4 ls H locs hf; exact False.elim hf
    | succ n ih => intro σ x4 ls H locs hf hw hl; exact B8 x1 x2 x3 (LL2 _ n) (fun σ H locs x4 ls hf hw hl => ih σ x4 ls H locs hf hw hl) σ H locs x4 ls hf hw hl
  unfold m_laysSizes at hf
  obtain ⟨H, hH⟩ : ∃ q, q = s.heap := ⟨_, rfl⟩
  obtain ⟨locs, hL⟩ : ∃ q : List Loc, q = [] := ⟨_, rfl⟩
  rw [← hH, ← hL] at hw ⊢
  refine lv_aload_n C.1 C.2.1 dX3_laysSizes_0 rfl (lv_at hl 0 rfl) ?_
  refine mg_size C hw dX3_laysSizes_1 ?_
  refine lv_iload_n C.1 C.2.1 dX3_laysSizes_4 rfl (lv_at hl 1 rfl) ?_
  obtain ⟨b5, hf⟩ := hf
  refine g_iald C hw 4 rfl b5 dX3_laysSizes_5 ?_
  refine lv_istore (lv' := [(4, .int (gI σ 4 x1)), (0, .ref (ad 0)), (1, .int x1), (2, .int x2), (3, .int x3)]) C.1 C.2.1 dX3_laysSizes_6 hl (Nat.le_of_ble_eq_true rfl) rfl (fun ls hl => ?_)
  obtain ⟨n, hf⟩ := hf
  exact P8 _ _ _ n _ _ _ _ _ hf hw (lv_sub hl [1, 2, 3, 4, 0] rfl)
theorem km_laysSizes {p : Program} {l : Launch} {e : Env} {R : Room} {s : State} {m : MethodId} {args : Array Value} {below : List Frame} {meth : Method} {c : Code} {H : Heap} {locs : List Loc} {Z : State → Prop} {cc : ByteArray} {nL pc : Nat} {ls : Array Slot} {rest : List Value} {D : va_G} {ct : Ct} {ad : Nat → Nat} {σ : St} {x1 : Int32} {x2 : Int32} {x3 : Int32} {Qp : Unit → St → Prop} (C : CallFix p m c cc nL s args lw_all RX3) (hw : gH D ct shM ad s σ H locs) (hsz : ls.size = nL) (hrm : (rest.map fun v => v.category).sum ≤ 8) (hR : rm_m_laysSizes.frames + 1 ≤ R.frames ∧ 8 + (10 + 11) + rm_m_laysSizes.locals ≤ R.locals) (hdg : decode cc pc = .ok (.invokevirtual 547, 3)) (hf : m_laysSizes σ x1 x2 x3 Qp) (kk : ∀ (r : Unit) (σ1 : St) (H1 : Heap) (locs1 : List Loc), Qp r σ1 → gH D ct shM ad s σ1 H1 locs1 → W p l e R s m args below meth c H1 locs1 0 0 Z (F0 m (pc + 3) ls (rest))) : W p l e R s m args below meth c H locs 0 0 Z (F0 m pc ls (.int x3 :: .int x2 :: .int x1 :: .ref (ad 0) :: rest)) :=
  g_callV (As := [.int x1, .int x2, .int x3]) (rest := rest) C hw rfl rfl (met_m_laysSizes l D ct ad hw.2.1 σ x1 x2 x3 Qp hf) (cwV 3 C.2.2.2.2 (lw_V q2053 q2055 qs182 q207 q2056) rfl rfl rfl (by decide +kernel) hR) rfl hsz rfl hrm ⟨Nat.zero_le _, Nat.zero_le _⟩ hdg kk
def m_endOf_p3 (σ : St) (x1 : Int32) (x2 : Int32) (x3 : Int32) (Q : Int32 → Prop) (K3 : Int32 → Prop) (x5 : Int32) : Prop :=
  (m_sizeBelow σ x1 x2 x3 x5 (fun r9 => (vp_in ((13 * (x2 + 1)) + x5) 65 ∧ (vp_in ((13 * x2) + x3) 65 ∧ (((fm_joined r9 (gI σ 60 ((13 * (x2 + 1)) + x5))) = (gI σ 60 ((13 * x2) + x3)) → Q x5) ∧ (¬ (fm_joined r9 (gI σ 60 ((13 * (x2 + 1)) + x5))) = (gI σ 60 ((13 * x2) + x3)) → K3 (x5 + 1)))))))
def m_endOf (σ : St) (x1 : Int32) (x2 : Int32) (x3 : Int32) (x4 : Int32) (Q : Int32 → Prop) : Prop :=
  (Lp1 (m_endOf_p3 σ x1 x2 x3 Q) x3)
abbrev rm_m_endOf : Room := { frames := 5, cells := 0, slots := 0, locals := 121 }
set_option maxHeartbeats 4000000 in
theorem met_m_endOf (l : Launch) (D : va_G) (ct : Ct) (ad : Nat → Nat) (hJ : gJ shM ad ct) (σ : St) (x1 : Int32) (x2 : Int32) (x3 : Int32) (x4 : Int32) (Q : Int32 → Prop) (hf : m_endOf σ x1 x2 x3 x4 Q) : Met l yX3_endOf (ws_ yX3_endOf cX3_endOf 6 (some .int)) rm_m_endOf (va_Pc [.ref (ad 0), .int x1, .int x2, .int x3, .int x4] (gP D ct shM ad σ)) (gR rvI Q) 0 0 (fun _ => False) := by
  refine g_metRI hJ (by decide) (Nat.le_of_ble_eq_true rfl) ?_
  intro p e s m args below meth c QQ ls H C hw hl hret
  replace hl : lv_has ls 6 [(0, .ref (ad 0)), (1, .int x1), (2, .int x2), (3, .int x3), (4, .int x4)] := hl
  have B3 : ∀ (x1 : Int32) (x2 : Int32) (x3 : Int32) (K3 : Int32 → Prop) (_ : ∀ (x5 : Int32) (ls : Array Slot), K3 x5 → lv_has ls 6 [(0, .ref (ad 0)), (1, .int x1), (2, .int x2), (3, .int x3), (5, .int x5)] → W p l e rm_m_endOf s m args below meth c H [] 0 0 QQ (F0 m 3 ls [])) (x5 : Int32) (ls : Array Slot), m_endOf_p3 σ x1 x2 x3 Q K3 x5 → lv_has ls 6 [(0, .ref (ad 0)), (1, .int x1), (2, .int x2), (3, .int x3), (5, .int x5)] → W p l e rm_m_endOf s m args below meth c H [] 0 0 QQ (F0 m 3 ls []) := by
    intro x1 x2 x3 K3 hK3 x5 ls hf hl
    unfold m_endOf_p3 at hf
    refine lv_aload_n C.1 C.2.1 dX3_endOf_3 rfl (lv_at hl 0 rfl) ?_
    refine lv_iload_n C.1 C.2.1 dX3_endOf_4 rfl (lv_at hl 1 rfl) ?_
    refine lv_iload_n C.1 C.2.1 dX3_endOf_5 rfl (lv_at hl 2 rfl) ?_
    refine lv_iload_n C.1 C.2.1 dX3_endOf_6 rfl (lv_at hl 3 rfl) ?_
    refine lv_iload C.1 C.2.1 dX3_endOf_7 (lv_at hl 4 rfl) ?_
    refine km_sizeBelow C hw hl.1 (Nat.le_of_ble_eq_true rfl) ⟨Nat.le_of_ble_eq_true rfl, Nat.le_of_ble_eq_true rfl⟩ dX3_endOf_9 hf (fun r9 hf => ?_)
    refine lv_aload_n C.1 C.2.1 dX3_endOf_12 rfl (lv_at hl 0 rfl) ?_
    refine mg_sizesBehind C hw dX3_endOf_13 ?_
    refine lv_bipush (v := 13) C.1 C.2.1 dX3_endOf_16 rfl ?_
    refine lv_iload_n C.1 C.2.1 dX3_endOf_18 rfl (lv_at hl 2 rfl) ?_
    refine lv_iconst (v := 1) C.1 C.2.1 dX3_endOf_19 rfl ?_
    refine lv_iadd C.1 C.2.1 dX3_endOf_20 ?_
    refine lv_imul C.1 C.2.1 dX3_endOf_21 ?_
    refine lv_iload C.1 C.2.1 dX3_endOf_22 (lv_at hl 4 rfl) ?_
    refine lv_iadd C.1 C.2.1 dX3_endOf_24 ?_
    obtain ⟨b25, hf⟩ := hf
    refine g_iald C hw 60 rfl b25 dX3_endOf_25 ?_
    refine km_joined C hl.1 (Nat.le_of_ble_eq_true rfl) ⟨Nat.le_of_ble_eq_true rfl, Nat.le_of_ble_eq_true rfl⟩ dX3_endOf_26 ?_
    refine lv_aload_n C.1 C.2.1 dX3_endOf_29 rfl (lv_at hl 0 rfl) ?_
    refine mg_sizesBehind C hw dX3_endOf_30 ?_
    refine lv_bipush (v := 13) C.1 C.2.1 dX3_endOf_33 rfl ?_
    refine lv_iload_n C.1 C.2.1 dX3_endOf_35 rfl (lv_at hl 2 rfl) ?_
    refine lv_imul C.1 C.2.1 dX3_endOf_36 ?_
    refine lv_iload_n C.1 C.2.1 dX3_endOf_37 rfl (lv_at hl 3 rfl) ?_
    refine lv_iadd C.1 C.2.1 dX3_endOf_38 ?_
    obtain ⟨b39, hf⟩ := hf
    refine g_iald C hw 60 rfl b39 dX3_endOf_39 ?_
    refine lv_icmp_eq (tgt := 49) C.1 C.2.1 dX3_endOf_40 (by decide) (fun h40 => ?_) (fun h40 => ?_)
    · replace hf := hf.1 h40
      refine lv_iload C.1 C.2.1 dX3_endOf_49 (lv_at hl 4 rfl) ?_
      exact hret _ _ _ hf dX3_endOf_51
    · replace hf := hf.2 h40
      refine lv_iinc (v := (x5 + 1)) (lv' := [(5, .int (x5 + 1)), (0, .ref (ad 0)), (1, .int x1), (2, .int x2), (3, .int x3)]) C.1 C.2.1 dX3_endOf_43 hl (k := 4) rfl rfl (Nat.le_of_ble_eq_true rfl) rfl (fun ls hl => ?_)
      refine lv_goto (tgt := 3) C.1 C.2.1 dX3_endOf_46 (by decide) ?_
      exact hK3 _ _ hf (lv_sub hl [1, 2, 3, 4, 0] rfl)
  have P3 : ∀ (x1 : Int32) (x2 : Int32) (x3 : Int32) (n : Nat) (x5 : Int32) (ls : Array Slot), LL1 (m_endOf_p3 σ x1 x2 x3 Q) n x5 → lv_has ls 6 [(0, .ref (ad 0)), (1, .int x1), (2, .int x2), (3, .int x3), (5, .int x5)] → W p l e rm_m_endOf s m args below meth c H [] 0 0 QQ (F0 m 3 ls []) := by
    intro x1 x2 x3 n
    induction n with
    | zero => intro x5 ls hf; exact False.elim hf
    | succ n ih => intro x5 ls hf hl; exact B3 x1 x2 x3 (LL1 _ n) ih x5 ls hf hl
  unfold m_endOf at hf
  refine lv_iload_n C.1 C.2.1 dX3_endOf_0 rfl (lv_at hl 3 rfl) ?_
  refine lv_istore (lv' := [(5, .int x3), (0, .ref (ad 0)), (1, .int x1), (2, .int x2), (3, .int x3), (4, .int x4)]) C.1 C.2.1 dX3_endOf_1 hl (Nat.le_of_ble_eq_true rfl) rfl (fun ls hl => ?_)
  obtain ⟨n, hf⟩ := hf
  exact P3 _ _ _ n _ _ hf (lv_sub hl [1, 2, 3, 4, 0] rfl)
theorem km_endOf {p : Program} {l : Launch} {e : Env} {R : Room} {s : State} {m : MethodId} {args : Array Value} {below : List Frame} {meth : Method} {c : Code} {H : Heap} {locs : List Loc} {Z : State → Prop} {cc : ByteArray} {nL pc : Nat} {ls : Array Slot} {rest : List Value} {D : va_G} {ct : Ct} {ad : Nat → Nat} {σ : St} {x1 : Int32} {x2 : Int32} {x3 : Int32} {x4 : Int32} {Qp : Int32 → Prop} (C : CallFix p m c cc nL s args lw_all RX3) (hw : gH D ct shM ad s σ H locs) (hsz : ls.size = nL) (hrm : (rest.map fun v => v.category).sum ≤ 8) (hR : rm_m_endOf.frames + 1 ≤ R.frames ∧ 8 + (6 + 11) + rm_m_endOf.locals ≤ R.locals) (hdg : decode cc pc = .ok (.invokevirtual 571, 3)) (hf : m_endOf σ x1 x2 x3 x4 Qp) (kk : ∀ (r : Int32), Qp r → W p l e R s m args below meth c H locs 0 0 Z (F0 m (pc + 3) ls (.int r :: rest))) : W p l e R s m args below meth c H locs 0 0 Z (F0 m pc ls (.int x4 :: .int x3 :: .int x2 :: .int x1 :: .ref (ad 0) :: rest)) :=
  g_callVR (As := [.int x1, .int x2, .int x3, .int x4]) (rest := rest) C hw rfl rfl (met_m_endOf l D ct ad hw.2.1 σ x1 x2 x3 x4 Qp hf) (cwV 4 C.2.2.2.2 (lw_V q2078 q2080 qs187 q207 q2081) rfl rfl rfl (by decide +kernel) hR) rfl hsz rfl hrm ⟨Nat.zero_le _, Nat.zero_le _⟩ hdg kk
def m_mend_p127 (σ : St) (x1 : Int32) (x2 : Int32) (Q : Int32 → St → Prop) (K72 : Int32 → Int32 → Prop) (v0 : Int32) : Prop :=
  ((x1 ≤ v0 → K72 x1 (x2 + 1)) ∧ (¬ x1 ≤ v0 → K72 v0 (x2 + 1)))
def m_mend_p124 (σ : St) (x1 : Int32) (x2 : Int32) (Q : Int32 → St → Prop) (K72 : Int32 → Int32 → Prop) : Prop :=
  (m_mend_p127 σ x1 x2 Q K72 2000000000)
def m_mend_p72 (σ : St) (Q : Int32 → St → Prop) (K72 : Int32 → Int32 → Prop) (x1 : Int32) (x2 : Int32) : Prop :=
  (((gI σ 2 0) ≤ x2 → ((x1 < 2000000000 → Q x1 σ) ∧ (¬ x1 < 2000000000 → Q (-2) σ))) ∧ (¬ (gI σ 2 0) ≤ x2 → (((fm_isOn σ x2) = 0 → (m_mend_p124 σ x1 x2 Q K72)) ∧ (¬ (fm_isOn σ x2) = 0 → (vp_in x2 12 ∧ (((gI σ 3 x2) = (gI σ 2 1) → (vp_in (fm_spot x2 0 (gI σ 2 2)) 2028 ∧ (m_mend_p127 σ x1 x2 Q K72 (gI σ 65 (fm_spot x2 0 (gI σ 2 2)))))) ∧ (¬ (gI σ 3 x2) = (gI σ 2 1) → (m_mend_p124 σ x1 x2 Q K72))))))))
def m_mend_p47 (x1 : Int32) (Q : Int32 → St → Prop) (K35 : St → Int32 → Prop) (K47 : St → Int32 → Prop) (σ : St) (x2 : Int32) : Prop :=
  ((x2 = 0 → K35 σ (x1 + 1)) ∧ (¬ x2 = 0 → (m_mendsMore σ x1 (fun r53 s53 => K47 s53 r53))))
def m_mend_p35 (Q : Int32 → St → Prop) (K35 : St → Int32 → Prop) (σ : St) (x1 : Int32) : Prop :=
  (((gI σ 2 2) < x1 → (Lp2 (m_mend_p72 σ Q) 2000000000 0)) ∧ (¬ (gI σ 2 2) < x1 → (Lp2 (m_mend_p47 x1 Q K35) σ 1)))
def m_mend_p11 (Q : Int32 → St → Prop) (K11 : St → Int32 → Prop) (σ : St) (x1 : Int32) : Prop :=
  ((2028 ≤ x1 → (Lp2 (m_mend_p35 Q) σ 0)) ∧ (¬ 2028 ≤ x1 → (vp_in x1 2028 ∧ (∀ s26 : St, s26 = s_A σ 65 (Int32.toNatClampNeg x1) 2000000000 → K11 s26 (x1 + 1)))))
def m_mend (σ : St) (Q : Int32 → St → Prop) : Prop :=
  (((fm_isGrammar σ) = 0 → Q (-1) σ) ∧ (¬ (fm_isGrammar σ) = 0 → (Lp2 (m_mend_p11 Q) σ 0)))
abbrev rm_m_mend : Room := { frames := 5, cells := 0, slots := 0, locals := 125 }
set_option maxHeartbeats 4000000 in
theorem met_m_mend (l : Launch) (D : va_G) (ct : Ct) (ad : Nat → Nat) (hJ : gJ shM ad ct) (σ : St) (Q : Int32 → St → Prop) (hf : m_mend σ Q) : Met l yX3_mend (ws_ yX3_mend cX3_mend 4 (some .int)) rm_m_mend (va_Pc [.ref (ad 0)] (gP D ct shM ad σ)) (gQ rvI D ct shM ad Q) 0 0 (gA shM ad) := by
  refine g_metI hJ (by decide) (Nat.le_of_ble_eq_true rfl) ?_
  intro p e s m args below meth c QQ ls C hw hl hret
  replace hl : lv_has ls 4 [(0, .ref (ad 0))] := hl
  have J127 : ∀ (σ : St) (H : Heap) (locs : List Loc) (x1 : Int32) (x2 : Int32) (v0 : Int32) (K72 : Int32 → Int32 → Prop) (_ : ∀ (x1 : Int32) (x2 : Int32) (ls : Array Slot), K72 x1 x2 → lv_has ls 4 [(0, .ref (ad 0)), (1, .int x1), (2, .int x2)] → W p l e rm_m_mend s m args below meth c H locs 0 0 QQ (F0 m 72 ls [])) (ls : Array Slot), m_mend_p127 σ x1 x2 Q K72 v0 → gH D ct shM ad s σ H locs → lv_has ls 4 [(0, .ref (ad 0)), (1, .int x1), (2, .int x2)] → W p l e rm_m_mend s m args below meth c H locs 0 0 QQ (F0 m 127 ls [.int v0]) := by
    intro σ H locs x1 x2 v0 K72 hK72 ls hf hw hl
    unfold m_mend_p127 at hf
    refine lv_istore_n (lv' := [(3, .int v0), (0, .ref (ad 0)), (1, .int x1), (2, .int x2)]) C.1 C.2.1 dX3_mend_127 rfl hl (Nat.le_of_ble_eq_true rfl) rfl (fun ls hl => ?_)
    refine lv_iload_n C.1 C.2.1 dX3_mend_128 rfl (lv_at hl 0 rfl) ?_
    refine lv_iload_n C.1 C.2.1 dX3_mend_129 rfl (lv_at hl 2 rfl) ?_
    refine lv_icmp_ge (tgt := 137) C.1 C.2.1 dX3_mend_130 (by decide) (fun h130 => ?_) (fun h130 => ?_)
    · replace hf := hf.1 h130
      refine lv_iload_n C.1 C.2.1 dX3_mend_137 rfl (lv_at hl 2 rfl) ?_
      refine lv_istore_n (lv' := [(1, .int x1), (3, .int v0), (0, .ref (ad 0)), (2, .int x2)]) C.1 C.2.1 dX3_mend_138 rfl hl (Nat.le_of_ble_eq_true rfl) rfl (fun ls hl => ?_)
      refine lv_iinc (v := (x2 + 1)) (lv' := [(2, .int (x2 + 1)), (1, .int x1), (3, .int v0), (0, .ref (ad 0))]) C.1 C.2.1 dX3_mend_139 hl (k := 3) rfl rfl (Nat.le_of_ble_eq_true rfl) rfl (fun ls hl => ?_)
      refine lv_goto (tgt := 72) C.1 C.2.1 dX3_mend_142 (by decide) ?_
      exact hK72 _ _ _ hf (lv_sub hl [3, 1, 0] rfl)
    · replace hf := hf.2 h130
      refine lv_iload_n C.1 C.2.1 dX3_mend_133 rfl (lv_at hl 0 rfl) ?_
      refine lv_goto (tgt := 138) C.1 C.2.1 dX3_mend_134 (by decide) ?_
      refine lv_istore_n (lv' := [(1, .int v0), (3, .int v0), (0, .ref (ad 0)), (2, .int x2)]) C.1 C.2.1 dX3_mend_138 rfl hl (Nat.le_of_ble_eq_true rfl) rfl (fun ls hl => ?_)
      refine lv_iinc (v := (x2 + 1)) (lv' := [(2, .int (x2 + 1)), (1, .int v0), (3, .int v0), (0, .ref (ad 0))]) C.1 C.2.1 dX3_mend_139 hl (k := 3) rfl rfl (Nat.le_of_ble_eq_true rfl) rfl (fun ls hl => ?_)
      refine lv_goto (tgt := 72) C.1 C.2.1 dX3_mend_142 (by decide) ?_
      exact hK72 _ _ _ hf (lv_sub hl [3, 1, 0] rfl)
  have J124 : ∀ (σ : St) (H : Heap) (locs : List Loc) (x1 : Int32) (x2 : Int32) (K72 : Int32 → Int32 → Prop) (_ : ∀ (x1 : Int32) (x2 : Int32) (ls : Array Slot), K72 x1 x2 → lv_has ls 4 [(0, .ref (ad 0)), (1, .int x1), (2, .int x2)] → W p l e rm_m_mend s m args below meth c H locs 0 0 QQ (F0 m 72 ls [])) (ls : Array Slot), m_mend_p124 σ x1 x2 Q K72 → gH D ct shM ad s σ H locs → lv_has ls 4 [(0, .ref (ad 0)), (1, .int x1), (2, .int x2)] → W p l e rm_m_mend s m args below meth c H locs 0 0 QQ (F0 m 124 ls []) := by
    intro σ H locs x1 x2 K72 hK72 ls hf hw hl
    unfold m_mend_p124 at hf
    refine lv_ldcw C.1 C.2.1 C.2.2.2.1 (C.2.2.2.2 _ q1760) dX3_mend_124 ?_
    exact J127 _ _ _ _ _ _ _ hK72 _ hf hw (lv_sub hl [0, 1, 2] rfl)
  have B72 : ∀ (σ : St) (H : Heap) (locs : List Loc) (K72 : Int32 → Int32 → Prop) (_ : ∀ (x1 : Int32) (x2 : Int32) (ls : Array Slot), K72 x1 x2 → lv_has ls 4 [(0, .ref (ad 0)), (1, .int x1), (2, .int x2)] → W p l e rm_m_mend s m args below meth c H locs 0 0 QQ (F0 m 72 ls [])) (x1 : Int32) (x2 : Int32) (ls : Array Slot), m_mend_p72 σ Q K72 x1 x2 → gH D ct shM ad s σ H locs → lv_has ls 4 [(0, .ref (ad 0)), (1, .int x1), (2, .int x2)] → W p l e rm_m_mend s m args below meth c H locs 0 0 QQ (F0 m 72 ls []) := by
    intro σ H locs K72 hK72 x1 x2 ls hf hw hl
    unfold m_mend_p72 at hf
    refine lv_iload_n C.1 C.2.1 dX3_mend_72 rfl (lv_at hl 2 rfl) ?_
    refine lv_aload_n C.1 C.2.1 dX3_mend_73 rfl (lv_at hl 0 rfl) ?_
    refine mg_scalar C hw dX3_mend_74 ?_
    refine lv_iconst (v := 0) C.1 C.2.1 dX3_mend_77 rfl ?_
    refine g_iald C hw 2 rfl (vpD rfl) dX3_mend_78 ?_
    refine lv_icmp_ge (tgt := 145) C.1 C.2.1 dX3_mend_79 (by decide) (fun h79 => ?_) (fun h79 => ?_)
    · replace hf := hf.1 h79
      refine lv_iload_n C.1 C.2.1 dX3_mend_145 rfl (lv_at hl 1 rfl) ?_
      refine lv_ldcw C.1 C.2.1 C.2.2.2.1 (C.2.2.2.2 _ q1760) dX3_mend_146 ?_
      refine lv_icmp_lt (tgt := 157) C.1 C.2.1 dX3_mend_149 (by decide) (fun h149 => ?_) (fun h149 => ?_)
      · replace hf := hf.1 h149
        refine lv_iload_n C.1 C.2.1 dX3_mend_157 rfl (lv_at hl 1 rfl) ?_
        exact hret _ _ _ _ _ _ hf hw dX3_mend_158
      · replace hf := hf.2 h149
        refine lv_bipush (v := (-2)) C.1 C.2.1 dX3_mend_152 rfl ?_
        refine lv_goto (tgt := 158) C.1 C.2.1 dX3_mend_154 (by decide) ?_
        exact hret _ _ _ _ _ _ hf hw dX3_mend_158
    · replace hf := hf.2 h79
      refine lv_aload_n C.1 C.2.1 dX3_mend_82 rfl (lv_at hl 0 rfl) ?_
      refine lv_iload_n C.1 C.2.1 dX3_mend_83 rfl (lv_at hl 2 rfl) ?_
      refine km_isOn C hw hl.1 (Nat.le_of_ble_eq_true rfl) ⟨Nat.le_of_ble_eq_true rfl, Nat.le_of_ble_eq_true rfl⟩ dX3_mend_84 ?_
      refine lv_if_eq (tgt := 124) C.1 C.2.1 dX3_mend_87 (by decide) (fun h87 => ?_) (fun h87 => ?_)
      · replace hf := hf.1 h87
        exact J124 _ _ _ _ _ _ hK72 _ hf hw (lv_sub hl [0, 1, 2] rfl)
      · replace hf := hf.2 h87
        refine lv_aload_n C.1 C.2.1 dX3_mend_90 rfl (lv_at hl 0 rfl) ?_
        refine mg_left C hw dX3_mend_91 ?_
        refine lv_iload_n C.1 C.2.1 dX3_mend_94 rfl (lv_at hl 2 rfl) ?_
        obtain ⟨b95, hf⟩ := hf
        refine g_iald C hw 3 rfl b95 dX3_mend_95 ?_
        refine lv_aload_n C.1 C.2.1 dX3_mend_96 rfl (lv_at hl 0 rfl) ?_
        refine mg_scalar C hw dX3_mend_97 ?_
        refine lv_iconst (v := 1) C.1 C.2.1 dX3_mend_100 rfl ?_
        refine g_iald C hw 2 rfl (vpD rfl) dX3_mend_101 ?_
        refine lv_icmp_ne (tgt := 124) C.1 C.2.1 dX3_mend_102 (by decide) (fun h102 => ?_) (fun h102 => ?_)
        · replace hf := hf.2 h102
          exact J124 _ _ _ _ _ _ hK72 _ hf hw (lv_sub hl [0, 1, 2] rfl)
        · replace hf := hf.1 h102
          refine lv_aload_n C.1 C.2.1 dX3_mend_105 rfl (lv_at hl 0 rfl) ?_
          refine mg_mended C hw dX3_mend_106 ?_
          refine lv_iload_n C.1 C.2.1 dX3_mend_109 rfl (lv_at hl 2 rfl) ?_
          refine lv_iconst (v := 0) C.1 C.2.1 dX3_mend_110 rfl ?_
          refine lv_aload_n C.1 C.2.1 dX3_mend_111 rfl (lv_at hl 0 rfl) ?_
          refine mg_scalar C hw dX3_mend_112 ?_
          refine lv_iconst (v := 2) C.1 C.2.1 dX3_mend_115 rfl ?_
          refine g_iald C hw 2 rfl (vpD rfl) dX3_mend_116 ?_
          refine km_spot C hl.1 (Nat.le_of_ble_eq_true rfl) ⟨Nat.le_of_ble_eq_true rfl, Nat.le_of_ble_eq_true rfl⟩ dX3_mend_117 ?_
          obtain ⟨b120, hf⟩ := hf
          refine g_iald C hw 65 rfl b120 dX3_mend_120 ?_
          refine lv_goto (tgt := 127) C.1 C.2.1 dX3_mend_121 (by decide) ?_
          exact J127 _ _ _ _ _ _ _ hK72 _ hf hw (lv_sub hl [0, 1, 2] rfl)
  have P72 : ∀ (σ : St) (H : Heap) (locs : List Loc) (n : Nat) (x1 : Int32) (x2 : Int32) (ls : Array Slot), LL2 (m_mend_p72 σ Q) n x1 x2 → gH D ct shM ad s σ H locs → lv_has ls 4 [(0, .ref (ad 0)), (1, .int x1), (2, .int x2)] → W p l e rm_m_mend s m args below meth c H locs 0 0 QQ (F0 m 72 ls []) := by
    intro σ H locs n
    induction n with
    | zero => intro x1 x2 ls hf; exact False.elim hf
    | succ n ih => intro x1 x2 ls hf hw hl; exact B72 σ H locs (LL2 _ n) (fun x1 x2 ls hf hl => ih x1 x2 ls hf hw hl) x1 x2 ls hf hw hl
  have B47 : ∀ (x1 : Int32) (K35 : St → Int32 → Prop) (_ : ∀ (σ : St) (H : Heap) (locs : List Loc) (x1 : Int32) (ls : Array Slot), K35 σ x1 → gH D ct shM ad s σ H locs → lv_has ls 4 [(0, .ref (ad 0)), (1, .int x1)] → W p l e rm_m_mend s m args below meth c H locs 0 0 QQ (F0 m 35 ls [])) (K47 : St → Int32 → Prop) (_ : ∀ (σ : St) (H : Heap) (locs : List Loc) (x2 : Int32) (ls : Array Slot), K47 σ x2 → gH D ct shM ad s σ H locs → lv_has ls 4 [(0, .ref (ad 0)), (1, .int x1), (2, .int x2)] → W p l e rm_m_mend s m args below meth c H locs 0 0 QQ (F0 m 47 ls [])) (σ : St) (H : Heap) (locs : List Loc) (x2 : Int32) (ls : Array Slot), m_mend_p47 x1 Q K35 K47 σ x2 → gH D ct shM ad s σ H locs → lv_has ls 4 [(0, .ref (ad 0)), (1, .int x1), (2, .int x2)] → W p l e rm_m_mend s m args below meth c H locs 0 0 QQ (F0 m 47 ls []) := by
    intro x1 K35 hK35 K47 hK47 σ H locs x2 ls hf hw hl
    unfold m_mend_p47 at hf
    refine lv_iload_n C.1 C.2.1 dX3_mend_47 rfl (lv_at hl 2 rfl) ?_
    refine lv_if_eq (tgt := 60) C.1 C.2.1 dX3_mend_48 (by decide) (fun h48 => ?_) (fun h48 => ?_)
    · replace hf := hf.1 h48
      refine lv_iinc (v := (x1 + 1)) (lv' := [(1, .int (x1 + 1)), (0, .ref (ad 0)), (2, .int x2)]) C.1 C.2.1 dX3_mend_60 hl (k := 1) rfl rfl (Nat.le_of_ble_eq_true rfl) rfl (fun ls hl => ?_)
      refine lv_goto (tgt := 35) C.1 C.2.1 dX3_mend_63 (by decide) ?_
      exact hK35 _ _ _ _ _ hf hw (lv_sub hl [1, 0] rfl)
    · replace hf := hf.2 h48
      refine lv_aload_n C.1 C.2.1 dX3_mend_51 rfl (lv_at hl 0 rfl) ?_
      refine lv_iload_n C.1 C.2.1 dX3_mend_52 rfl (lv_at hl 1 rfl) ?_
      refine km_mendsMore C hw hl.1 (Nat.le_of_ble_eq_true rfl) ⟨Nat.le_of_ble_eq_true rfl, Nat.le_of_ble_eq_true rfl⟩ dX3_mend_53 hf (fun r53 s53 H locs hf hw => ?_)
      refine lv_istore_n (lv' := [(2, .int r53), (0, .ref (ad 0)), (1, .int x1)]) C.1 C.2.1 dX3_mend_56 rfl hl (Nat.le_of_ble_eq_true rfl) rfl (fun ls hl => ?_)
      refine lv_goto (tgt := 47) C.1 C.2.1 dX3_mend_57 (by decide) ?_
      exact hK47 _ _ _ _ _ hf hw (lv_sub hl [1, 2, 0] rfl)
  have P47 : ∀ (x1 : Int32) (K35 : St → Int32 → Prop) (_ : ∀ (σ : St) (H : Heap) (locs : List Loc) (x1 : Int32) (ls : Array Slot), K35 σ x1 → gH D ct shM ad s σ H locs → lv_has ls 4 [(0, .ref (ad 0)), (1, .int x1)] → W p l e rm_m_mend s m args below meth c H locs 0 0 QQ (F0 m 35 ls [])) (n : Nat) (σ : St) (x2 : Int32) (ls : Array Slot) (H : Heap) (locs : List Loc), LL2 (m_mend_p47 x1 Q K35) n σ x2 → gH D ct shM ad s σ H locs → lv_has ls 4 [(0, .ref (ad 0)), (1, .int x1), (2, .int x2)] → W p l e rm_m_mend s m args below meth c H locs 0 0 QQ (F0 m 47 ls []) := by
    intro x1 K35 hK35 n
    induction n with
    | zero => intro σ x2 ls H locs hf; exact False.elim hf
    | succ n ih => intro σ x2 ls H locs hf hw hl; exact B47 x1 K35 hK35 (LL2 _ n) (fun σ H locs x2 ls hf hw hl => ih σ x2 ls H locs hf hw hl) σ H locs x2 ls hf hw hl
  have B35 : ∀ (K35 : St → Int32 → Prop) (_ : ∀ (σ : St) (H : Heap) (locs : List Loc) (x1 : Int32) (ls : Array Slot), K35 σ x1 → gH D ct shM ad s σ H locs → lv_has ls 4 [(0, .ref (ad 0)), (1, .int x1)] → W p l e rm_m_mend s m args below meth c H locs 0 0 QQ (F0 m 35 ls [])) (σ : St) (H : Heap) (locs : List Loc) (x1 : Int32) (ls : Array Slot), m_mend_p35 Q K35 σ x1 → gH D ct shM ad s σ H locs → lv_has ls 4 [(0, .ref (ad 0)), (1, .int x1)] → W p l e rm_m_mend s m args below meth c H locs 0 0 QQ (F0 m 35 ls []) := by
    intro K35 hK35 σ H locs x1 ls hf hw hl
    unfold m_mend_p35 at hf
    refine lv_iload_n C.1 C.2.1 dX3_mend_35 rfl (lv_at hl 1 rfl) ?_
    refine lv_aload_n C.1 C.2.1 dX3_mend_36 rfl (lv_at hl 0 rfl) ?_
    refine mg_scalar C hw dX3_mend_37 ?_
    refine lv_iconst (v := 2) C.1 C.2.1 dX3_mend_40 rfl ?_
    refine g_iald C hw 2 rfl (vpD rfl) dX3_mend_41 ?_
    refine lv_icmp_gt (tgt := 66) C.1 C.2.1 dX3_mend_42 (by decide) (fun h42 => ?_) (fun h42 => ?_)
    · replace hf := hf.1 h42
      refine lv_ldcw C.1 C.2.1 C.2.2.2.1 (C.2.2.2.2 _ q1760) dX3_mend_66 ?_
      refine lv_istore_n (lv' := [(1, .int 2000000000), (0, .ref (ad 0))]) C.1 C.2.1 dX3_mend_69 rfl hl (Nat.le_of_ble_eq_true rfl) rfl (fun ls hl => ?_)
      refine lv_iconst (v := 0) C.1 C.2.1 dX3_mend_70 rfl ?_
      refine lv_istore_n (lv' := [(2, .int 0), (1, .int 2000000000), (0, .ref (ad 0))]) C.1 C.2.1 dX3_mend_71 rfl hl (Nat.le_of_ble_eq_true rfl) rfl (fun ls hl => ?_)
      obtain ⟨n, hf⟩ := hf
      exact P72 _ _ _ n _ _ _ hf hw (lv_sub hl [2, 1, 0] rfl)
    · replace hf := hf.2 h42
      refine lv_iconst (v := 1) C.1 C.2.1 dX3_mend_45 rfl ?_
      refine lv_istore_n (lv' := [(2, .int 1), (0, .ref (ad 0)), (1, .int x1)]) C.1 C.2.1 dX3_mend_46 rfl hl (Nat.le_of_ble_eq_true rfl) rfl (fun ls hl => ?_)
      obtain ⟨n, hf⟩ := hf
      exact P47 _ _ hK35 n _ _ _ _ _ hf hw (lv_sub hl [1, 2, 0] rfl)
  have P35 : ∀ (n : Nat) (σ : St) (x1 : Int32) (ls : Array Slot) (H : Heap) (locs : List Loc), LL2 (m_mend_p35 Q) n σ x1 → gH D ct shM ad s σ H locs → lv_has ls 4 [(0, .ref (ad 0)), (1, .int x1)] → W p l e rm_m_mend s m args below meth c H locs 0 0 QQ (F0 m 35 ls []) := by
    intro  n
    induction n with
    | zero => intro σ x1 ls H locs hf; exact False.elim hf
    | succ n ih => intro σ x1 ls H locs hf hw hl; exact B35  (LL2 _ n) (fun σ H locs x1 ls hf hw hl => ih σ x1 ls H locs hf hw hl) σ H locs x1 ls hf hw hl
  have B11 : ∀ (K11 : St → Int32 → Prop) (_ : ∀ (σ : St) (H : Heap) (locs : List Loc) (x1 : Int32) (ls : Array Slot), K11 σ x1 → gH D ct shM ad s σ H locs → lv_has ls 4 [(0, .ref (ad 0)), (1, .int x1)] → W p l e rm_m_mend s m args below meth c H locs 0 0 QQ (F0 m 11 ls [])) (σ : St) (H : Heap) (locs : List Loc) (x1 : Int32) (ls : Array Slot), m_mend_p11 Q K11 σ x1 → gH D ct shM ad s σ H locs → lv_has ls 4 [(0, .ref (ad 0)), (1, .int x1)] → W p l e rm_m_mend s m args below meth c H locs 0 0 QQ (F0 m 11 ls []) := by
    intro K11 hK11 σ H locs x1 ls hf hw hl
    unfold m_mend_p11 at hf
    refine lv_iload_n C.1 C.2.1 dX3_mend_11 rfl (lv_at hl 1 rfl) ?_
    refine lv_sipush (v := 2028) C.1 C.2.1 dX3_mend_12 rfl ?_
    refine lv_icmp_ge (tgt := 33) C.1 C.2.1 dX3_mend_15 (by decide) (fun h15 => ?_) (fun h15 => ?_)
    · replace hf := hf.1 h15
      refine lv_iconst (v := 0) C.1 C.2.1 dX3_mend_33 rfl ?_
      refine lv_istore_n (lv' := [(1, .int 0), (0, .ref (ad 0))]) C.1 C.2.1 dX3_mend_34 rfl hl (Nat.le_of_ble_eq_true rfl) rfl (fun ls hl => ?_)
      obtain ⟨n, hf⟩ := hf
      exact P35  n _ _ _ _ _ hf hw (lv_sub hl [1, 0] rfl)
    · replace hf := hf.2 h15
      refine lv_aload_n C.1 C.2.1 dX3_mend_18 rfl (lv_at hl 0 rfl) ?_
      refine mg_mended C hw dX3_mend_19 ?_
      refine lv_iload_n C.1 C.2.1 dX3_mend_22 rfl (lv_at hl 1 rfl) ?_
      refine lv_ldcw C.1 C.2.1 C.2.2.2.1 (C.2.2.2.2 _ q1760) dX3_mend_23 ?_
      obtain ⟨b26, hf⟩ := hf
      refine g_iast C shM_sep hw 65 rfl b26 dX3_mend_26 (fun s26 H locs e26 hw => ?_)
      replace hf := hf s26 e26
      refine lv_iinc (v := (x1 + 1)) (lv' := [(1, .int (x1 + 1)), (0, .ref (ad 0))]) C.1 C.2.1 dX3_mend_27 hl (k := 1) rfl rfl (Nat.le_of_ble_eq_true rfl) rfl (fun ls hl => ?_)
      refine lv_goto (tgt := 11) C.1 C.2.1 dX3_mend_30 (by decide) ?_
      exact hK11 _ _ _ _ _ hf hw (lv_sub hl [1, 0] rfl)
  have P11 : ∀ (n : Nat) (σ : St) (x1 : Int32) (ls : Array Slot) (H : Heap) (locs : List Loc), LL2 (m_mend_p11 Q) n σ x1 → gH D ct shM ad s σ H locs → lv_has ls 4 [(0, .ref (ad 0)), (1, .int x1)] → W p l e rm_m_mend s m args below meth c H locs 0 0 QQ (F0 m 11 ls []) := by
    intro  n
    induction n with
    | zero => intro σ x1 ls H locs hf; exact False.elim hf
    | succ n ih => intro σ x1 ls H locs hf hw hl; exact B11  (LL2 _ n) (fun σ H locs x1 ls hf hw hl => ih σ x1 ls H locs hf hw hl) σ H locs x1 ls hf hw hl
  unfold m_mend at hf
  obtain ⟨H, hH⟩ : ∃ q, q = s.heap := ⟨_, rfl⟩
  obtain ⟨locs, hL⟩ : ∃ q : List Loc, q = [] := ⟨_, rfl⟩
  rw [← hH, ← hL] at hw ⊢
  refine lv_aload_n C.1 C.2.1 dX3_mend_0 rfl (lv_at hl 0 rfl) ?_
  refine km_isGrammar C hw hl.1 (Nat.le_of_ble_eq_true rfl) ⟨Nat.le_of_ble_eq_true rfl, Nat.le_of_ble_eq_true rfl⟩ dX3_mend_1 ?_
  refine lv_if_ne (tgt := 9) C.1 C.2.1 dX3_mend_4 (by decide) (fun h4 => ?_) (fun h4 => ?_)
  · replace hf := hf.2 h4
    refine lv_iconst (v := 0) C.1 C.2.1 dX3_mend_9 rfl ?_
    refine lv_istore_n (lv' := [(1, .int 0), (0, .ref (ad 0))]) C.1 C.2.1 dX3_mend_10 rfl hl (Nat.le_of_ble_eq_true rfl) rfl (fun ls hl => ?_)
    obtain ⟨n, hf⟩ := hf
    exact P11  n _ _ _ _ _ hf hw (lv_sub hl [1, 0] rfl)
  · replace hf := hf.1 h4
    refine lv_iconst (v := (-1)) C.1 C.2.1 dX3_mend_7 rfl ?_
    exact hret _ _ _ _ _ _ hf hw dX3_mend_8
def m_laysFollow_p53 (x1 : Int32) (Q : Unit → St → Prop) (K46 : St → Int32 → Prop) (K53 : St → Int32 → Prop) (σ : St) (x2 : Int32) : Prop :=
  (((gI σ 2 0) ≤ x2 → K46 σ (x1 + 1)) ∧ (¬ (gI σ 2 0) ≤ x2 → (((fm_isOn σ x2) = 0 → K53 σ (x2 + 1)) ∧ (¬ (fm_isOn σ x2) = 0 → (vp_in x2 12 ∧ ((((fm_bitOf (gI σ 3 x2)) &&& (σ.1 29)) = 0 → K53 σ (x2 + 1)) ∧ (¬ ((fm_bitOf (gI σ 3 x2)) &&& (σ.1 29)) = 0 → (m_followsIn σ x2 (fun _ s90 => K53 s90 (x2 + 1))))))))))
def m_laysFollow_p46 (Q : Unit → St → Prop) (K46 : St → Int32 → Prop) (σ : St) (x1 : Int32) : Prop :=
  ((5 < x1 → Q () σ) ∧ (¬ 5 < x1 → (Lp2 (m_laysFollow_p53 x1 Q K46) σ 0)))
def m_laysFollow_p37 (σ : St) (x1 : Int32) (Q : Unit → St → Prop) (K6 : St → Int32 → Prop) (v0 : Int32) (v1 : Int32) : Prop :=
  (vp_in v1 26 ∧ (∀ s37 : St, s37 = s_A σ 32 (Int32.toNatClampNeg v1) v0 → K6 s37 (x1 + 1)))
def m_laysFollow_p6 (Q : Unit → St → Prop) (K6 : St → Int32 → Prop) (σ : St) (x1 : Int32) : Prop :=
  ((26 ≤ x1 → (Lp2 (m_laysFollow_p46 Q) σ 0)) ∧ (¬ 26 ≤ x1 → (((gI σ 2 1) = (x1 + 26) → (m_laysFollow_p37 σ x1 Q K6 67108864 x1)) ∧ (¬ (gI σ 2 1) = (x1 + 26) → (m_laysFollow_p37 σ x1 Q K6 0 x1)))))
def m_laysFollow (σ : St) (Q : Unit → St → Prop) : Prop :=
  (m_laysFirst σ (fun _ s1 => (Lp2 (m_laysFollow_p6 Q) s1 0)))
abbrev rm_m_laysFollow : Room := { frames := 6, cells := 0, slots := 0, locals := 133 }
set_option maxHeartbeats 4000000 in
theorem met_m_laysFollow (l : Launch) (D : va_G) (ct : Ct) (ad : Nat → Nat) (hJ : gJ shM ad ct) (σ : St) (Q : Unit → St → Prop) (hf : m_laysFollow σ Q) : Met l yX3_laysFollow (ws_ yX3_laysFollow cX3_laysFollow 3 (none)) rm_m_laysFollow (va_Pc [.ref (ad 0)] (gP D ct shM ad σ)) (gQ rvV D ct shM ad Q) 0 0 (gA shM ad) := by
  refine g_metV hJ (by decide) (Nat.le_of_ble_eq_true rfl) ?_
  intro p e s m args below meth c QQ ls C hw hl hret
  replace hl : lv_has ls 3 [(0, .ref (ad 0))] := hl
  have B53 : ∀ (x1 : Int32) (K46 : St → Int32 → Prop) (_ : ∀ (σ : St) (H : Heap) (locs : List Loc) (x1 : Int32) (ls : Array Slot), K46 σ x1 → gH D ct shM ad s σ H locs → lv_has ls 3 [(0, .ref (ad 0)), (1, .int x1)] → W p l e rm_m_laysFollow s m args below meth c H locs 0 0 QQ (F0 m 46 ls [])) (K53 : St → Int32 → Prop) (_ : ∀ (σ : St) (H : Heap) (locs : List Loc) (x2 : Int32) (ls : Array Slot), K53 σ x2 → gH D ct shM ad s σ H locs → lv_has ls 3 [(0, .ref (ad 0)), (1, .int x1), (2, .int x2)] → W p l e rm_m_laysFollow s m args below meth c H locs 0 0 QQ (F0 m 53 ls [])) (σ : St) (H : Heap) (locs : List Loc) (x2 : Int32) (ls : Array Slot), m_laysFollow_p53 x1 Q K46 K53 σ x2 → gH D ct shM ad s σ H locs → lv_has ls 3 [(0, .ref (ad 0)), (1, .int x1), (2, .int x2)] → W p l e rm_m_laysFollow s m args below meth c H locs 0 0 QQ (F0 m 53 ls []) := by
    intro x1 K46 hK46 K53 hK53 σ H locs x2 ls hf hw hl
    unfold m_laysFollow_p53 at hf
    refine lv_iload_n C.1 C.2.1 dX3_laysFollow_53 rfl (lv_at hl 2 rfl) ?_
    refine lv_aload_n C.1 C.2.1 dX3_laysFollow_54 rfl (lv_at hl 0 rfl) ?_
    refine mg_scalar C hw dX3_laysFollow_55 ?_
    refine lv_iconst (v := 0) C.1 C.2.1 dX3_laysFollow_58 rfl ?_
    refine g_iald C hw 2 rfl (vpD rfl) dX3_laysFollow_59 ?_
    refine lv_icmp_ge (tgt := 99) C.1 C.2.1 dX3_laysFollow_60 (by decide) (fun h60 => ?_) (fun h60 => ?_)
    · replace hf := hf.1 h60
      refine lv_iinc (v := (x1 + 1)) (lv' := [(1, .int (x1 + 1)), (0, .ref (ad 0)), (2, .int x2)]) C.1 C.2.1 dX3_laysFollow_99 hl (k := 1) rfl rfl (Nat.le_of_ble_eq_true rfl) rfl (fun ls hl => ?_)
      refine lv_goto (tgt := 46) C.1 C.2.1 dX3_laysFollow_102 (by decide) ?_
      exact hK46 _ _ _ _ _ hf hw (lv_sub hl [1, 0] rfl)
    · replace hf := hf.2 h60
      refine lv_aload_n C.1 C.2.1 dX3_laysFollow_63 rfl (lv_at hl 0 rfl) ?_
      refine lv_iload_n C.1 C.2.1 dX3_laysFollow_64 rfl (lv_at hl 2 rfl) ?_
      refine km_isOn C hw hl.1 (Nat.le_of_ble_eq_true rfl) ⟨Nat.le_of_ble_eq_true rfl, Nat.le_of_ble_eq_true rfl⟩ dX3_laysFollow_65 ?_
      refine lv_if_eq (tgt := 93) C.1 C.2.1 dX3_laysFollow_68 (by decide) (fun h68 => ?_) (fun h68 => ?_)
      · replace hf := hf.1 h68
        refine lv_iinc (v := (x2 + 1)) (lv' := [(2, .int (x2 + 1)), (0, .ref (ad 0)), (1, .int x1)]) C.1 C.2.1 dX3_laysFollow_93 hl (k := 2) rfl rfl (Nat.le_of_ble_eq_true rfl) rfl (fun ls hl => ?_)
        refine lv_goto (tgt := 53) C.1 C.2.1 dX3_laysFollow_96 (by decide) ?_
        exact hK53 _ _ _ _ _ hf hw (lv_sub hl [1, 2, 0] rfl)
      · replace hf := hf.2 h68
        refine lv_aload_n C.1 C.2.1 dX3_laysFollow_71 rfl (lv_at hl 0 rfl) ?_
        refine mg_left C hw dX3_laysFollow_72 ?_
        refine lv_iload_n C.1 C.2.1 dX3_laysFollow_75 rfl (lv_at hl 2 rfl) ?_
        obtain ⟨b76, hf⟩ := hf
        refine g_iald C hw 3 rfl b76 dX3_laysFollow_76 ?_
        refine km_bitOf C hl.1 (Nat.le_of_ble_eq_true rfl) ⟨Nat.le_of_ble_eq_true rfl, Nat.le_of_ble_eq_true rfl⟩ dX3_laysFollow_77 ?_
        refine lv_aload_n C.1 C.2.1 dX3_laysFollow_80 rfl (lv_at hl 0 rfl) ?_
        refine mg_reached C hw dX3_laysFollow_81 ?_
        refine lv_iand C.1 C.2.1 dX3_laysFollow_84 ?_
        refine lv_if_eq (tgt := 93) C.1 C.2.1 dX3_laysFollow_85 (by decide) (fun h85 => ?_) (fun h85 => ?_)
        · replace hf := hf.1 h85
          refine lv_iinc (v := (x2 + 1)) (lv' := [(2, .int (x2 + 1)), (0, .ref (ad 0)), (1, .int x1)]) C.1 C.2.1 dX3_laysFollow_93 hl (k := 2) rfl rfl (Nat.le_of_ble_eq_true rfl) rfl (fun ls hl => ?_)
          refine lv_goto (tgt := 53) C.1 C.2.1 dX3_laysFollow_96 (by decide) ?_
          exact hK53 _ _ _ _ _ hf hw (lv_sub hl [1, 2, 0] rfl)
        · replace hf := hf.2 h85
          refine lv_aload_n C.1 C.2.1 dX3_laysFollow_88 rfl (lv_at hl 0 rfl) ?_
          refine lv_iload_n C.1 C.2.1 dX3_laysFollow_89 rfl (lv_at hl 2 rfl) ?_
          refine km_followsIn C hw hl.1 (Nat.le_of_ble_eq_true rfl) ⟨Nat.le_of_ble_eq_true rfl, Nat.le_of_ble_eq_true rfl⟩ dX3_laysFollow_90 hf (fun _ s90 H locs hf hw => ?_)
          refine lv_iinc (v := (x2 + 1)) (lv' := [(2, .int (x2 + 1)), (0, .ref (ad 0)), (1, .int x1)]) C.1 C.2.1 dX3_laysFollow_93 hl (k := 2) rfl rfl (Nat.le_of_ble_eq_true rfl) rfl (fun ls hl => ?_)
          refine lv_goto (tgt := 53) C.1 C.2.1 dX3_laysFollow_96 (by decide) ?_
          exact hK53 _ _ _ _ _ hf hw (lv_sub hl [1, 2, 0] rfl)
  have P53 : ∀ (x1 : Int32) (K46 : St → Int32 → Prop) (_ : ∀ (σ : St) (H : Heap) (locs : List Loc) (x1 : Int32) (ls : Array Slot), K46 σ x1 → gH D ct shM ad s σ H locs → lv_has ls 3 [(0, .ref (ad 0)), (1, .int x1)] → W p l e rm_m_laysFollow s m args below meth c H locs 0 0 QQ (F0 m 46 ls [])) (n : Nat) (σ : St) (x2 : Int32) (ls : Array Slot) (H : Heap) (locs : List Loc), LL2 (m_laysFollow_p53 x1 Q K46) n σ x2 → gH D ct shM ad s σ H locs → lv_has ls 3 [(0, .ref (ad 0)), (1, .int x1), (2, .int x2)] → W p l e rm_m_laysFollow s m args below meth c H locs 0 0 QQ (F0 m 53 ls []) := by
    intro x1 K46 hK46 n
    induction n with
    | zero => intro σ x2 ls H locs hf; exact False.elim hf
    | succ n ih => intro σ x2 ls H locs hf hw hl; exact B53 x1 K46 hK46 (LL2 _ n) (fun σ H locs x2 ls hf hw hl => ih σ x2 ls H locs hf hw hl) σ H locs x2 ls hf hw hl
  have B46 : ∀ (K46 : St → Int32 → Prop) (_ : ∀ (σ : St) (H : Heap) (locs : List Loc) (x1 : Int32) (ls : Array Slot), K46 σ x1 → gH D ct shM ad s σ H locs → lv_has ls 3 [(0, .ref (ad 0)), (1, .int x1)] → W p l e rm_m_laysFollow s m args below meth c H locs 0 0 QQ (F0 m 46 ls [])) (σ : St) (H : Heap) (locs : List Loc) (x1 : Int32) (ls : Array Slot), m_laysFollow_p46 Q K46 σ x1 → gH D ct shM ad s σ H locs → lv_has ls 3 [(0, .ref (ad 0)), (1, .int x1)] → W p l e rm_m_laysFollow s m args below meth c H locs 0 0 QQ (F0 m 46 ls []) := by
    intro K46 hK46 σ H locs x1 ls hf hw hl
    unfold m_laysFollow_p46 at hf
    refine lv_iload_n C.1 C.2.1 dX3_laysFollow_46 rfl (lv_at hl 1 rfl) ?_
    refine lv_iconst (v := 5) C.1 C.2.1 dX3_laysFollow_47 rfl ?_
    refine lv_icmp_gt (tgt := 105) C.1 C.2.1 dX3_laysFollow_48 (by decide) (fun h48 => ?_) (fun h48 => ?_)
    · replace hf := hf.1 h48
      exact hret _ _ _ _ _ _ hf hw dX3_laysFollow_105
    · replace hf := hf.2 h48
      refine lv_iconst (v := 0) C.1 C.2.1 dX3_laysFollow_51 rfl ?_
      refine lv_istore_n (lv' := [(2, .int 0), (0, .ref (ad 0)), (1, .int x1)]) C.1 C.2.1 dX3_laysFollow_52 rfl hl (Nat.le_of_ble_eq_true rfl) rfl (fun ls hl => ?_)
      obtain ⟨n, hf⟩ := hf
      exact P53 _ _ hK46 n _ _ _ _ _ hf hw (lv_sub hl [1, 2, 0] rfl)
  have P46 : ∀ (n : Nat) (σ : St) (x1 : Int32) (ls : Array Slot) (H : Heap) (locs : List Loc), LL2 (m_laysFollow_p46 Q) n σ x1 → gH D ct shM ad s σ H locs → lv_has ls 3 [(0, .ref (ad 0)), (1, .int x1)] → W p l e rm_m_laysFollow s m args below meth c H locs 0 0 QQ (F0 m 46 ls []) := by
    intro  n
    induction n with
    | zero => intro σ x1 ls H locs hf; exact False.elim hf
    | succ n ih => intro σ x1 ls H locs hf hw hl; exact B46  (LL2 _ n) (fun σ H locs x1 ls hf hw hl => ih σ x1 ls H locs hf hw hl) σ H locs x1 ls hf hw hl
  have J37 : ∀ (σ : St) (H : Heap) (locs : List Loc) (x1 : Int32) (v0 : Int32) (v1 : Int32) (K6 : St → Int32 → Prop) (_ : ∀ (σ : St) (H : Heap) (locs : List Loc) (x1 : Int32) (ls : Array Slot), K6 σ x1 → gH D ct shM ad s σ H locs → lv_has ls 3 [(0, .ref (ad 0)), (1, .int x1)] → W p l e rm_m_laysFollow s m args below meth c H locs 0 0 QQ (F0 m 6 ls [])) (ls : Array Slot), m_laysFollow_p37 σ x1 Q K6 v0 v1 → gH D ct shM ad s σ H locs → lv_has ls 3 [(0, .ref (ad 0)), (1, .int x1)] → W p l e rm_m_laysFollow s m args below meth c H locs 0 0 QQ (F0 m 37 ls [.int v0, .int v1, .ref (ad 32)]) := by
    intro σ H locs x1 v0 v1 K6 hK6 ls hf hw hl
    unfold m_laysFollow_p37 at hf
    obtain ⟨b37, hf⟩ := hf
    refine g_iast C shM_sep hw 32 rfl b37 dX3_laysFollow_37 (fun s37 H locs e37 hw => ?_)
    replace hf := hf s37 e37
    refine lv_iinc (v := (x1 + 1)) (lv' := [(1, .int (x1 + 1)), (0, .ref (ad 0))]) C.1 C.2.1 dX3_laysFollow_38 hl (k := 1) rfl rfl (Nat.le_of_ble_eq_true rfl) rfl (fun ls hl => ?_)
    refine lv_goto (tgt := 6) C.1 C.2.1 dX3_laysFollow_41 (by decide) ?_
    exact hK6 _ _ _ _ _ hf hw (lv_sub hl [1, 0] rfl)
  have B6 : ∀ (K6 : St → Int32 → Prop) (_ : ∀ (σ : St) (H : Heap) (locs : List Loc) (x1 : Int32) (ls : Array Slot), K6 σ x1 → gH D ct shM ad s σ H locs → lv_has ls 3 [(0, .ref (ad 0)), (1, .int x1)] → W p l e rm_m_laysFollow s m args below meth c H locs 0 0 QQ (F0 m 6 ls [])) (σ : St) (H : Heap) (locs : List Loc) (x1 : Int32) (ls : Array Slot), m_laysFollow_p6 Q K6 σ x1 → gH D ct shM ad s σ H locs → lv_has ls 3 [(0, .ref (ad 0)), (1, .int x1)] → W p l e rm_m_laysFollow s m args below meth c H locs 0 0 QQ (F0 m 6 ls []) := by
    intro K6 hK6 σ H locs x1 ls hf hw hl
    unfold m_laysFollow_p6 at hf
    refine lv_iload_n C.1 C.2.1 dX3_laysFollow_6 rfl (lv_at hl 1 rfl) ?_
    refine lv_bipush (v := 26) C.1 C.2.1 dX3_laysFollow_7 rfl ?_
    refine lv_icmp_ge (tgt := 44) C.1 C.2.1 dX3_laysFollow_9 (by decide) (fun h9 => ?_) (fun h9 => ?_)
    · replace hf := hf.1 h9
      refine lv_iconst (v := 0) C.1 C.2.1 dX3_laysFollow_44 rfl ?_
      refine lv_istore_n (lv' := [(1, .int 0), (0, .ref (ad 0))]) C.1 C.2.1 dX3_laysFollow_45 rfl hl (Nat.le_of_ble_eq_true rfl) rfl (fun ls hl => ?_)
      obtain ⟨n, hf⟩ := hf
      exact P46  n _ _ _ _ _ hf hw (lv_sub hl [1, 0] rfl)
    · replace hf := hf.2 h9
      refine lv_aload_n C.1 C.2.1 dX3_laysFollow_12 rfl (lv_at hl 0 rfl) ?_
      refine mg_follow C hw dX3_laysFollow_13 ?_
      refine lv_iload_n C.1 C.2.1 dX3_laysFollow_16 rfl (lv_at hl 1 rfl) ?_
      refine lv_aload_n C.1 C.2.1 dX3_laysFollow_17 rfl (lv_at hl 0 rfl) ?_
      refine mg_scalar C hw dX3_laysFollow_18 ?_
      refine lv_iconst (v := 1) C.1 C.2.1 dX3_laysFollow_21 rfl ?_
      refine g_iald C hw 2 rfl (vpD rfl) dX3_laysFollow_22 ?_
      refine lv_iload_n C.1 C.2.1 dX3_laysFollow_23 rfl (lv_at hl 1 rfl) ?_
      refine lv_bipush (v := 26) C.1 C.2.1 dX3_laysFollow_24 rfl ?_
      refine lv_iadd C.1 C.2.1 dX3_laysFollow_26 ?_
      refine lv_icmp_ne (tgt := 36) C.1 C.2.1 dX3_laysFollow_27 (by decide) (fun h27 => ?_) (fun h27 => ?_)
      · replace hf := hf.2 h27
        refine lv_iconst (v := 0) C.1 C.2.1 dX3_laysFollow_36 rfl ?_
        exact J37 _ _ _ _ _ _ _ hK6 _ hf hw (lv_sub hl [0, 1] rfl)
      · replace hf := hf.1 h27
        refine lv_ldcw C.1 C.2.1 C.2.2.2.1 (C.2.2.2.2 _ q1751) dX3_laysFollow_30 ?_
        refine lv_goto (tgt := 37) C.1 C.2.1 dX3_laysFollow_33 (by decide) ?_
        exact J37 _ _ _ _ _ _ _ hK6 _ hf hw (lv_sub hl [0, 1] rfl)
  have P6 : ∀ (n : Nat) (σ : St) (x1 : Int32) (ls : Array Slot) (H : Heap) (locs : List Loc), LL2 (m_laysFollow_p6 Q) n σ x1 → gH D ct shM ad s σ H locs → lv_has ls 3 [(0, .ref (ad 0)), (1, .int x1)] → W p l e rm_m_laysFollow s m args below meth c H locs 0 0 QQ (F0 m 6 ls []) := by
    intro  n
    induction n with
    | zero => intro σ x1 ls H locs hf; exact False.elim hf
    | succ n ih => intro σ x1 ls H locs hf hw hl; exact B6  (LL2 _ n) (fun σ H locs x1 ls hf hw hl => ih σ x1 ls H locs hf hw hl) σ H locs x1 ls hf hw hl
  unfold m_laysFollow at hf
  obtain ⟨H, hH⟩ : ∃ q, q = s.heap := ⟨_, rfl⟩
  obtain ⟨locs, hL⟩ : ∃ q : List Loc, q = [] := ⟨_, rfl⟩
  rw [← hH, ← hL] at hw ⊢
  refine lv_aload_n C.1 C.2.1 dX3_laysFollow_0 rfl (lv_at hl 0 rfl) ?_
  refine km_laysFirst C hw hl.1 (Nat.le_of_ble_eq_true rfl) ⟨Nat.le_of_ble_eq_true rfl, Nat.le_of_ble_eq_true rfl⟩ dX3_laysFollow_1 hf (fun _ s1 H locs hf hw => ?_)
  refine lv_iconst (v := 0) C.1 C.2.1 dX3_laysFollow_4 rfl ?_
  refine lv_istore_n (lv' := [(1, .int 0), (0, .ref (ad 0))]) C.1 C.2.1 dX3_laysFollow_5 rfl hl (Nat.le_of_ble_eq_true rfl) rfl (fun ls hl => ?_)
  obtain ⟨n, hf⟩ := hf
  exact P6  n _ _ _ _ _ hf hw (lv_sub hl [1, 0] rfl)
theorem km_laysFollow {p : Program} {l : Launch} {e : Env} {R : Room} {s : State} {m : MethodId} {args : Array Value} {below : List Frame} {meth : Method} {c : Code} {H : Heap} {locs : List Loc} {Z : State → Prop} {cc : ByteArray} {nL pc : Nat} {ls : Array Slot} {rest : List Value} {D : va_G} {ct : Ct} {ad : Nat → Nat} {σ : St} {Qp : Unit → St → Prop} (C : CallFix p m c cc nL s args lw_all RX3) (hw : gH D ct shM ad s σ H locs) (hsz : ls.size = nL) (hrm : (rest.map fun v => v.category).sum ≤ 8) (hR : rm_m_laysFollow.frames + 1 ≤ R.frames ∧ 8 + (3 + 11) + rm_m_laysFollow.locals ≤ R.locals) (hdg : decode cc pc = .ok (.invokevirtual 325, 3)) (hf : m_laysFollow σ Qp) (kk : ∀ (r : Unit) (σ1 : St) (H1 : Heap) (locs1 : List Loc), Qp r σ1 → gH D ct shM ad s σ1 H1 locs1 → W p l e R s m args below meth c H1 locs1 0 0 Z (F0 m (pc + 3) ls (rest))) : W p l e R s m args below meth c H locs 0 0 Z (F0 m pc ls (.ref (ad 0) :: rest)) :=
  g_callV (As := []) (rest := rest) C hw rfl rfl (met_m_laysFollow l D ct ad hw.2.1 σ Qp hf) (cwV 0 C.2.2.2.2 (lw_V q1747 q1749 qs133 q207 q1750) rfl rfl rfl (by decide +kernel) hR) rfl hsz rfl hrm ⟨Nat.zero_le _, Nat.zero_le _⟩ hdg kk
def m_firsts (σ : St) (x1 : Int32) (Q : Int32 → St → Prop) : Prop :=
  (m_isLeft σ x1 (fun r2 => ((r2 = 0 → Q (-1) σ) ∧ (¬ r2 = 0 → (m_laysFirst σ (fun _ s11 => (vp_in (x1 - 26) 26 ∧ Q (gI s11 31 (x1 - 26)) s11)))))))
abbrev rm_m_firsts : Room := { frames := 6, cells := 0, slots := 0, locals := 133 }
set_option maxHeartbeats 4000000 in
theorem met_m_firsts (l : Launch) (D : va_G) (ct : Ct) (ad : Nat → Nat) (hJ : gJ shM ad ct) (σ : St) (x1 : Int32) (Q : Int32 → St → Prop) (hf : m_firsts σ x1 Q) : Met l yX3_firsts (ws_ yX3_firsts cX3_firsts 2 (some .int)) rm_m_firsts (va_Pc [.ref (ad 0), .int x1] (gP D ct shM ad σ)) (gQ rvI D ct shM ad Q) 0 0 (gA shM ad) := by
  refine g_metI hJ (by decide) (Nat.le_of_ble_eq_true rfl) ?_
  intro p e s m args below meth c QQ ls C hw hl hret
  replace hl : lv_has ls 2 [(0, .ref (ad 0)), (1, .int x1)] := hl
  unfold m_firsts at hf
  obtain ⟨H, hH⟩ : ∃ q, q = s.heap := ⟨_, rfl⟩
  obtain ⟨locs, hL⟩ : ∃ q : List Loc, q = [] := ⟨_, rfl⟩
  rw [← hH, ← hL] at hw ⊢
  refine lv_aload_n C.1 C.2.1 dX3_firsts_0 rfl (lv_at hl 0 rfl) ?_
  refine lv_iload_n C.1 C.2.1 dX3_firsts_1 rfl (lv_at hl 1 rfl) ?_
  refine km_isLeft C hw hl.1 (Nat.le_of_ble_eq_true rfl) ⟨Nat.le_of_ble_eq_true rfl, Nat.le_of_ble_eq_true rfl⟩ dX3_firsts_2 hf (fun r2 hf => ?_)
  refine lv_if_ne (tgt := 10) C.1 C.2.1 dX3_firsts_5 (by decide) (fun h5 => ?_) (fun h5 => ?_)
  · replace hf := hf.2 h5
    refine lv_aload_n C.1 C.2.1 dX3_firsts_10 rfl (lv_at hl 0 rfl) ?_
    refine km_laysFirst C hw hl.1 (Nat.le_of_ble_eq_true rfl) ⟨Nat.le_of_ble_eq_true rfl, Nat.le_of_ble_eq_true rfl⟩ dX3_firsts_11 hf (fun _ s11 H locs hf hw => ?_)
    refine lv_aload_n C.1 C.2.1 dX3_firsts_14 rfl (lv_at hl 0 rfl) ?_
    refine mg_first C hw dX3_firsts_15 ?_
    refine lv_iload_n C.1 C.2.1 dX3_firsts_18 rfl (lv_at hl 1 rfl) ?_
    refine lv_bipush (v := 26) C.1 C.2.1 dX3_firsts_19 rfl ?_
    refine lv_isub C.1 C.2.1 dX3_firsts_21 ?_
    obtain ⟨b22, hf⟩ := hf
    refine g_iald C hw 31 rfl b22 dX3_firsts_22 ?_
    exact hret _ _ _ _ _ _ hf hw dX3_firsts_23
  · replace hf := hf.1 h5
    refine lv_iconst (v := (-1)) C.1 C.2.1 dX3_firsts_8 rfl ?_
    exact hret _ _ _ _ _ _ hf hw dX3_firsts_9
def m_laysStates_p48 (x1 : Int32) (Q : Int32 → St → Prop) (K38 : St → Int32 → Prop) (K48 : St → Int32 → Prop) (σ : St) (x2 : Int32) : Prop :=
  ((52 ≤ x2 → K38 σ (x1 + 1)) ∧ (¬ 52 ≤ x2 → (m_laysGo σ x1 ((x2 + 26) - (x2 + 26) / 52 * 52) (fun r63 s63 => ((r63 = 0 → Q 0 s63) ∧ (¬ r63 = 0 → K48 s63 (x2 + 1)))))))
def m_laysStates_p38 (Q : Int32 → St → Prop) (K38 : St → Int32 → Prop) (σ : St) (x1 : Int32) : Prop :=
  (((σ.1 36) ≤ x1 → (∀ s90 : St, s90 = s_I σ 37 ((σ.1 37) ||| 1) → Q 1 s90)) ∧ (¬ (σ.1 36) ≤ x1 → (Lp2 (m_laysStates_p48 x1 Q K38) σ 0)))
def m_laysStates (σ : St) (Q : Int32 → St → Prop) : Prop :=
  ((((σ.1 37) &&& 1) = 0 → (m_begun σ (gI σ 2 1) (fun r24 => (m_closed σ r24 (fun r27 => (∀ s30 : St, s30 = s_L σ 34 (Int32.toNatClampNeg 0) r27 → (∀ s33 : St, s33 = s_I s30 36 1 → (Lp2 (m_laysStates_p38 Q) s33 0)))))))) ∧ (¬ ((σ.1 37) &&& 1) = 0 → Q 1 σ))
abbrev rm_m_laysStates : Room := { frames := 6, cells := 0, slots := 0, locals := 147 }
set_option maxHeartbeats 4000000 in
theorem met_m_laysStates (l : Launch) (D : va_G) (ct : Ct) (ad : Nat → Nat) (hJ : gJ shM ad ct) (σ : St) (Q : Int32 → St → Prop) (hf : m_laysStates σ Q) : Met l yX3_laysStates (ws_ yX3_laysStates cX3_laysStates 3 (some .boolean)) rm_m_laysStates (va_Pc [.ref (ad 0)] (gP D ct shM ad σ)) (gQ rvI D ct shM ad Q) 0 0 (gA shM ad) := by
  refine g_metZ hJ (by decide) (Nat.le_of_ble_eq_true rfl) ?_
  intro p e s m args below meth c QQ ls C hw hl hret
  replace hl : lv_has ls 3 [(0, .ref (ad 0))] := hl
  have B48 : ∀ (x1 : Int32) (K38 : St → Int32 → Prop) (_ : ∀ (σ : St) (H : Heap) (locs : List Loc) (x1 : Int32) (ls : Array Slot), K38 σ x1 → gH D ct shM ad s σ H locs → lv_has ls 3 [(0, .ref (ad 0)), (1, .int x1)] → W p l e rm_m_laysStates s m args below meth c H locs 0 0 QQ (F0 m 38 ls [])) (K48 : St → Int32 → Prop) (_ : ∀ (σ : St) (H : Heap) (locs : List Loc) (x2 : Int32) (ls : Array Slot), K48 σ x2 → gH D ct shM ad s σ H locs → lv_has ls 3 [(0, .ref (ad 0)), (1, .int x1), (2, .int x2)] → W p l e rm_m_laysStates s m args below meth c H locs 0 0 QQ (F0 m 48 ls [])) (σ : St) (H : Heap) (locs : List Loc) (x2 : Int32) (ls : Array Slot), m_laysStates_p48 x1 Q K38 K48 σ x2 → gH D ct shM ad s σ H locs → lv_has ls 3 [(0, .ref (ad 0)), (1, .int x1), (2, .int x2)] → W p l e rm_m_laysStates s m args below meth c H locs 0 0 QQ (F0 m 48 ls []) := by
    intro x1 K38 hK38 K48 hK48 σ H locs x2 ls hf hw hl
    unfold m_laysStates_p48 at hf
    refine lv_iload_n C.1 C.2.1 dX3_laysStates_48 rfl (lv_at hl 2 rfl) ?_
    refine lv_bipush (v := 52) C.1 C.2.1 dX3_laysStates_49 rfl ?_
    refine lv_icmp_ge (tgt := 77) C.1 C.2.1 dX3_laysStates_51 (by decide) (fun h51 => ?_) (fun h51 => ?_)
    · replace hf := hf.1 h51
      refine lv_iinc (v := (x1 + 1)) (lv' := [(1, .int (x1 + 1)), (0, .ref (ad 0)), (2, .int x2)]) C.1 C.2.1 dX3_laysStates_77 hl (k := 1) rfl rfl (Nat.le_of_ble_eq_true rfl) rfl (fun ls hl => ?_)
      refine lv_goto (tgt := 38) C.1 C.2.1 dX3_laysStates_80 (by decide) ?_
      exact hK38 _ _ _ _ _ hf hw (lv_sub hl [1, 0] rfl)
    · replace hf := hf.2 h51
      refine lv_aload_n C.1 C.2.1 dX3_laysStates_54 rfl (lv_at hl 0 rfl) ?_
      refine lv_iload_n C.1 C.2.1 dX3_laysStates_55 rfl (lv_at hl 1 rfl) ?_
      refine lv_iload_n C.1 C.2.1 dX3_laysStates_56 rfl (lv_at hl 2 rfl) ?_
      refine lv_bipush (v := 26) C.1 C.2.1 dX3_laysStates_57 rfl ?_
      refine lv_iadd C.1 C.2.1 dX3_laysStates_59 ?_
      refine lv_bipush (v := 52) C.1 C.2.1 dX3_laysStates_60 rfl ?_
      refine lv_irem C.1 C.2.1 dX3_laysStates_62 (by decide) ?_
      refine km_laysGo C hw hl.1 (Nat.le_of_ble_eq_true rfl) ⟨Nat.le_of_ble_eq_true rfl, Nat.le_of_ble_eq_true rfl⟩ dX3_laysStates_63 hf (fun r63 s63 H locs hf hw => ?_)
      refine lv_if_ne (tgt := 71) C.1 C.2.1 dX3_laysStates_66 (by decide) (fun h66 => ?_) (fun h66 => ?_)
      · replace hf := hf.2 h66
        refine lv_iinc (v := (x2 + 1)) (lv' := [(2, .int (x2 + 1)), (0, .ref (ad 0)), (1, .int x1)]) C.1 C.2.1 dX3_laysStates_71 hl (k := 2) rfl rfl (Nat.le_of_ble_eq_true rfl) rfl (fun ls hl => ?_)
        refine lv_goto (tgt := 48) C.1 C.2.1 dX3_laysStates_74 (by decide) ?_
        exact hK48 _ _ _ _ _ hf hw (lv_sub hl [1, 2, 0] rfl)
      · replace hf := hf.1 h66
        refine lv_iconst (v := 0) C.1 C.2.1 dX3_laysStates_69 rfl ?_
        exact hret _ _ _ _ _ _ hf hw (Or.inl rfl) dX3_laysStates_70
  have P48 : ∀ (x1 : Int32) (K38 : St → Int32 → Prop) (_ : ∀ (σ : St) (H : Heap) (locs : List Loc) (x1 : Int32) (ls : Array Slot), K38 σ x1 → gH D ct shM ad s σ H locs → lv_has ls 3 [(0, .ref (ad 0)), (1, .int x1)] → W p l e rm_m_laysStates s m args below meth c H locs 0 0 QQ (F0 m 38 ls [])) (n : Nat) (σ : St) (x2 : Int32) (ls : Array Slot) (H : Heap) (locs : List Loc), LL2 (m_laysStates_p48 x1 Q K38) n σ x2 → gH D ct shM ad s σ H locs → lv_has ls 3 [(0, .ref (ad 0)), (1, .int x1), (2, .int x2)] → W p l e rm_m_laysStates s m args below meth c H locs 0 0 QQ (F0 m 48 ls []) := by
    intro x1 K38 hK38 n
    induction n with
    | zero => intro σ x2 ls H locs hf; exact False.elim hf
    | succ n ih => intro σ x2 ls H locs hf hw hl; exact B48 x1 K38 hK38 (LL2 _ n) (fun σ H locs x2 ls hf hw hl => ih σ x2 ls H locs hf hw hl) σ H locs x2 ls hf hw hl
  have B38 : ∀ (K38 : St → Int32 → Prop) (_ : ∀ (σ : St) (H : Heap) (locs : List Loc) (x1 : Int32) (ls : Array Slot), K38 σ x1 → gH D ct shM ad s σ H locs → lv_has ls 3 [(0, .ref (ad 0)), (1, .int x1)] → W p l e rm_m_laysStates s m args below meth c H locs 0 0 QQ (F0 m 38 ls [])) (σ : St) (H : Heap) (locs : List Loc) (x1 : Int32) (ls : Array Slot), m_laysStates_p38 Q K38 σ x1 → gH D ct shM ad s σ H locs → lv_has ls 3 [(0, .ref (ad 0)), (1, .int x1)] → W p l e rm_m_laysStates s m args below meth c H locs 0 0 QQ (F0 m 38 ls []) := by
    intro K38 hK38 σ H locs x1 ls hf hw hl
    unfold m_laysStates_p38 at hf
    refine lv_iload_n C.1 C.2.1 dX3_laysStates_38 rfl (lv_at hl 1 rfl) ?_
    refine lv_aload_n C.1 C.2.1 dX3_laysStates_39 rfl (lv_at hl 0 rfl) ?_
    refine mg_manyStates C hw dX3_laysStates_40 ?_
    refine lv_icmp_ge (tgt := 83) C.1 C.2.1 dX3_laysStates_43 (by decide) (fun h43 => ?_) (fun h43 => ?_)
    · replace hf := hf.1 h43
      refine lv_aload_n C.1 C.2.1 dX3_laysStates_83 rfl (lv_at hl 0 rfl) ?_
      refine lv_dup C.1 C.2.1 dX3_laysStates_84 rfl ?_
      refine mg_isLaid C hw dX3_laysStates_85 ?_
      refine lv_iconst (v := 1) C.1 C.2.1 dX3_laysStates_88 rfl ?_
      refine lv_ior C.1 C.2.1 dX3_laysStates_89 ?_
      refine mp_isLaid C hw dX3_laysStates_90 (fun s90 H locs e90 hw => ?_)
      replace hf := hf s90 e90
      refine lv_iconst (v := 1) C.1 C.2.1 dX3_laysStates_93 rfl ?_
      exact hret _ _ _ _ _ _ hf hw (Or.inr rfl) dX3_laysStates_94
    · replace hf := hf.2 h43
      refine lv_iconst (v := 0) C.1 C.2.1 dX3_laysStates_46 rfl ?_
      refine lv_istore_n (lv' := [(2, .int 0), (0, .ref (ad 0)), (1, .int x1)]) C.1 C.2.1 dX3_laysStates_47 rfl hl (Nat.le_of_ble_eq_true rfl) rfl (fun ls hl => ?_)
      obtain ⟨n, hf⟩ := hf
      exact P48 _ _ hK38 n _ _ _ _ _ hf hw (lv_sub hl [1, 2, 0] rfl)
  have P38 : ∀ (n : Nat) (σ : St) (x1 : Int32) (ls : Array Slot) (H : Heap) (locs : List Loc), LL2 (m_laysStates_p38 Q) n σ x1 → gH D ct shM ad s σ H locs → lv_has ls 3 [(0, .ref (ad 0)), (1, .int x1)] → W p l e rm_m_laysStates s m args below meth c H locs 0 0 QQ (F0 m 38 ls []) := by
    intro  n
    induction n with
    | zero => intro σ x1 ls H locs hf; exact False.elim hf
    | succ n ih => intro σ x1 ls H locs hf hw hl; exact B38  (LL2 _ n) (fun σ H locs x1 ls hf hw hl => ih σ x1 ls H locs hf hw hl) σ H locs x1 ls hf hw hl
  unfold m_laysStates at hf
  obtain ⟨H, hH⟩ : ∃ q, q = s.heap := ⟨_, rfl⟩
  obtain ⟨locs, hL⟩ : ∃ q : List Loc, q = [] := ⟨_, rfl⟩
  rw [← hH, ← hL] at hw ⊢
  refine lv_aload_n C.1 C.2.1 dX3_laysStates_0 rfl (lv_at hl 0 rfl) ?_
  refine mg_isLaid C hw dX3_laysStates_1 ?_
  refine lv_iconst (v := 1) C.1 C.2.1 dX3_laysStates_4 rfl ?_
  refine lv_iand C.1 C.2.1 dX3_laysStates_5 ?_
  refine lv_if_eq (tgt := 11) C.1 C.2.1 dX3_laysStates_6 (by decide) (fun h6 => ?_) (fun h6 => ?_)
  · replace hf := hf.1 h6
    refine lv_aload_n C.1 C.2.1 dX3_laysStates_11 rfl (lv_at hl 0 rfl) ?_
    refine mg_stateOf C hw dX3_laysStates_12 ?_
    refine lv_iconst (v := 0) C.1 C.2.1 dX3_laysStates_15 rfl ?_
    refine lv_aload_n C.1 C.2.1 dX3_laysStates_16 rfl (lv_at hl 0 rfl) ?_
    refine lv_aload_n C.1 C.2.1 dX3_laysStates_17 rfl (lv_at hl 0 rfl) ?_
    refine lv_aload_n C.1 C.2.1 dX3_laysStates_18 rfl (lv_at hl 0 rfl) ?_
    refine mg_scalar C hw dX3_laysStates_19 ?_
    refine lv_iconst (v := 1) C.1 C.2.1 dX3_laysStates_22 rfl ?_
    refine g_iald C hw 2 rfl (vpD rfl) dX3_laysStates_23 ?_
    refine km_begun C hw hl.1 (Nat.le_of_ble_eq_true rfl) ⟨Nat.le_of_ble_eq_true rfl, Nat.le_of_ble_eq_true rfl⟩ dX3_laysStates_24 hf (fun r24 hf => ?_)
    refine km_closed C hw hl.1 (Nat.le_of_ble_eq_true rfl) ⟨Nat.le_of_ble_eq_true rfl, Nat.le_of_ble_eq_true rfl⟩ dX3_laysStates_27 hf (fun r27 hf => ?_)
    refine g_last C shM_sep hw 34 rfl (vpD rfl) dX3_laysStates_30 (fun s30 H locs e30 hw => ?_)
    replace hf := hf s30 e30
    refine lv_aload_n C.1 C.2.1 dX3_laysStates_31 rfl (lv_at hl 0 rfl) ?_
    refine lv_iconst (v := 1) C.1 C.2.1 dX3_laysStates_32 rfl ?_
    refine mp_manyStates C hw dX3_laysStates_33 (fun s33 H locs e33 hw => ?_)
    replace hf := hf s33 e33
    refine lv_iconst (v := 0) C.1 C.2.1 dX3_laysStates_36 rfl ?_
    refine lv_istore_n (lv' := [(1, .int 0), (0, .ref (ad 0))]) C.1 C.2.1 dX3_laysStates_37 rfl hl (Nat.le_of_ble_eq_true rfl) rfl (fun ls hl => ?_)
    obtain ⟨n, hf⟩ := hf
    exact P38  n _ _ _ _ _ hf hw (lv_sub hl [1, 0] rfl)
  · replace hf := hf.2 h6
    refine lv_iconst (v := 1) C.1 C.2.1 dX3_laysStates_9 rfl ?_
    exact hret _ _ _ _ _ _ hf hw (Or.inr rfl) dX3_laysStates_10
theorem km_laysStates {p : Program} {l : Launch} {e : Env} {R : Room} {s : State} {m : MethodId} {args : Array Value} {below : List Frame} {meth : Method} {c : Code} {H : Heap} {locs : List Loc} {Z : State → Prop} {cc : ByteArray} {nL pc : Nat} {ls : Array Slot} {rest : List Value} {D : va_G} {ct : Ct} {ad : Nat → Nat} {σ : St} {Qp : Int32 → St → Prop} (C : CallFix p m c cc nL s args lw_all RX3) (hw : gH D ct shM ad s σ H locs) (hsz : ls.size = nL) (hrm : (rest.map fun v => v.category).sum ≤ 8) (hR : rm_m_laysStates.frames + 1 ≤ R.frames ∧ 8 + (3 + 11) + rm_m_laysStates.locals ≤ R.locals) (hdg : decode cc pc = .ok (.invokevirtual 248, 3)) (hf : m_laysStates σ Qp) (kk : ∀ (r : Int32) (σ1 : St) (H1 : Heap) (locs1 : List Loc), Qp r σ1 → gH D ct shM ad s σ1 H1 locs1 → W p l e R s m args below meth c H1 locs1 0 0 Z (F0 m (pc + 3) ls (.int r :: rest))) : W p l e R s m args below meth c H locs 0 0 Z (F0 m pc ls (.ref (ad 0) :: rest)) :=
  g_callV (As := []) (rest := rest) C hw rfl rfl (met_m_laysStates l D ct ad hw.2.1 σ Qp hf) (cwV 0 C.2.2.2.2 (lw_V q1627 q1629 qs111 q207 q1630) rfl rfl rfl (by decide +kernel) hR) rfl hsz rfl hrm ⟨Nat.zero_le _, Nat.zero_le _⟩ hdg kk
def m_makesOf_p21 (x1 : Int32) (x2 : Int32) (x4 : Int32) (Q : Int32 → St → Prop) (K5 : St → Int32 → Int32 → Prop) (K21 : St → Int32 → Int32 → Prop) (σ : St) (x3 : Int32) (x5 : Int32) : Prop :=
  (((gI σ 2 0) ≤ x5 → K5 σ x3 (x4 + 1)) ∧ (¬ (gI σ 2 0) ≤ x5 → (m_makesOne σ x1 x5 x4 (x4 + x2) (fun r42 s42 => ((r42 = 0 → ((x3 = 0 → K21 s42 0 (x5 + 1)) ∧ (¬ x3 = 0 → K21 s42 1 (x5 + 1)))) ∧ (¬ r42 = 0 → K21 s42 1 (x5 + 1)))))))
def m_makesOf_p5 (x1 : Int32) (x2 : Int32) (Q : Int32 → St → Prop) (K5 : St → Int32 → Int32 → Prop) (σ : St) (x3 : Int32) (x4 : Int32) : Prop :=
  (((gI σ 2 2) < (x4 + x2) → (zB x3 ∧ Q x3 σ)) ∧ (¬ (gI σ 2 2) < (x4 + x2) → (Lp3 (m_makesOf_p21 x1 x2 x4 Q K5) σ x3 0)))
def m_makesOf (σ : St) (x1 : Int32) (x2 : Int32) (Q : Int32 → St → Prop) : Prop :=
  (Lp3 (m_makesOf_p5 x1 x2 Q) σ 0 0)
abbrev rm_m_makesOf : Room := { frames := 6, cells := 0, slots := 0, locals := 149 }
set_option maxHeartbeats 4000000 in
theorem met_m_makesOf (l : Launch) (D : va_G) (ct : Ct) (ad : Nat → Nat) (hJ : gJ shM ad ct) (σ : St) (x1 : Int32) (x2 : Int32) (Q : Int32 → St → Prop) (hf : m_makesOf σ x1 x2 Q) : Met l yX3_makesOf (ws_ yX3_makesOf cX3_makesOf 6 (some .boolean)) rm_m_makesOf (va_Pc [.ref (ad 0), .int x1, .int x2] (gP D ct shM ad σ)) (gQ rvI D ct shM ad Q) 0 0 (gA shM ad) := by
  refine g_metZ hJ (by decide) (Nat.le_of_ble_eq_true rfl) ?_
  intro p e s m args below meth c QQ ls C hw hl hret
  replace hl : lv_has ls 6 [(0, .ref (ad 0)), (1, .int x1), (2, .int x2)] := hl
  have B21 : ∀ (x1 : Int32) (x2 : Int32) (x4 : Int32) (K5 : St → Int32 → Int32 → Prop) (_ : ∀ (σ : St) (H : Heap) (locs : List Loc) (x3 : Int32) (x4 : Int32) (ls : Array Slot), K5 σ x3 x4 → gH D ct shM ad s σ H locs → lv_has ls 6 [(0, .ref (ad 0)), (1, .int x1), (2, .int x2), (3, .int x3), (4, .int x4)] → W p l e rm_m_makesOf s m args below meth c H locs 0 0 QQ (F0 m 5 ls [])) (K21 : St → Int32 → Int32 → Prop) (_ : ∀ (σ : St) (H : Heap) (locs : List Loc) (x3 : Int32) (x5 : Int32) (ls : Array Slot), K21 σ x3 x5 → gH D ct shM ad s σ H locs → lv_has ls 6 [(0, .ref (ad 0)), (1, .int x1), (2, .int x2), (3, .int x3), (4, .int x4), (5, .int x5)] → W p l e rm_m_makesOf s m args below meth c H locs 0 0 QQ (F0 m 21 ls [])) (σ : St) (H : Heap) (locs : List Loc) (x3 : Int32) (x5 : Int32) (ls : Array Slot), m_makesOf_p21 x1 x2 x4 Q K5 K21 σ x3 x5 → gH D ct shM ad s σ H locs → lv_has ls 6 [(0, .ref (ad 0)), (1, .int x1), (2, .int x2), (3, .int x3), (4, .int x4), (5, .int x5)] → W p l e rm_m_makesOf s m args below meth c H locs 0 0 QQ (F0 m 21 ls []) := by
    intro x1 x2 x4 K5 hK5 K21 hK21 σ H locs x3 x5 ls hf hw hl
    unfold m_makesOf_p21 at hf
    refine lv_iload C.1 C.2.1 dX3_makesOf_21 (lv_at hl 5 rfl) ?_
    refine lv_aload_n C.1 C.2.1 dX3_makesOf_23 rfl (lv_at hl 0 rfl) ?_
    refine mg_scalar C hw dX3_makesOf_24 ?_
    refine lv_iconst (v := 0) C.1 C.2.1 dX3_makesOf_27 rfl ?_
    refine g_iald C hw 2 rfl (vpD rfl) dX3_makesOf_28 ?_
    refine lv_icmp_ge (tgt := 64) C.1 C.2.1 dX3_makesOf_29 (by decide) (fun h29 => ?_) (fun h29 => ?_)
    · replace hf := hf.1 h29
      refine lv_iinc (v := (x4 + 1)) (lv' := [(4, .int (x4 + 1)), (0, .ref (ad 0)), (1, .int x1), (2, .int x2), (3, .int x3), (5, .int x5)]) C.1 C.2.1 dX3_makesOf_64 hl (k := 4) rfl rfl (Nat.le_of_ble_eq_true rfl) rfl (fun ls hl => ?_)
      refine lv_goto (tgt := 5) C.1 C.2.1 dX3_makesOf_67 (by decide) ?_
      exact hK5 _ _ _ _ _ _ hf hw (lv_sub hl [1, 2, 3, 4, 0] rfl)
    · replace hf := hf.2 h29
      refine lv_aload_n C.1 C.2.1 dX3_makesOf_32 rfl (lv_at hl 0 rfl) ?_
      refine lv_iload_n C.1 C.2.1 dX3_makesOf_33 rfl (lv_at hl 1 rfl) ?_
      refine lv_iload C.1 C.2.1 dX3_makesOf_34 (lv_at hl 5 rfl) ?_
      refine lv_iload C.1 C.2.1 dX3_makesOf_36 (lv_at hl 4 rfl) ?_
      refine lv_iload C.1 C.2.1 dX3_makesOf_38 (lv_at hl 4 rfl) ?_
      refine lv_iload_n C.1 C.2.1 dX3_makesOf_40 rfl (lv_at hl 2 rfl) ?_
      refine lv_iadd C.1 C.2.1 dX3_makesOf_41 ?_
      refine km_makesOne C hw hl.1 (Nat.le_of_ble_eq_true rfl) ⟨Nat.le_of_ble_eq_true rfl, Nat.le_of_ble_eq_true rfl⟩ dX3_makesOf_42 hf (fun r42 s42 H locs hf hw => ?_)
      refine lv_if_ne (tgt := 52) C.1 C.2.1 dX3_makesOf_45 (by decide) (fun h45 => ?_) (fun h45 => ?_)
      · replace hf := hf.2 h45
        refine lv_iconst (v := 1) C.1 C.2.1 dX3_makesOf_52 rfl ?_
        refine lv_goto (tgt := 57) C.1 C.2.1 dX3_makesOf_53 (by decide) ?_
        refine lv_istore_n (lv' := [(3, .int 1), (0, .ref (ad 0)), (1, .int x1), (2, .int x2), (4, .int x4), (5, .int x5)]) C.1 C.2.1 dX3_makesOf_57 rfl hl (Nat.le_of_ble_eq_true rfl) rfl (fun ls hl => ?_)
        refine lv_iinc (v := (x5 + 1)) (lv' := [(5, .int (x5 + 1)), (3, .int 1), (0, .ref (ad 0)), (1, .int x1), (2, .int x2), (4, .int x4)]) C.1 C.2.1 dX3_makesOf_58 hl (k := 5) rfl rfl (Nat.le_of_ble_eq_true rfl) rfl (fun ls hl => ?_)
        refine lv_goto (tgt := 21) C.1 C.2.1 dX3_makesOf_61 (by decide) ?_
        exact hK21 _ _ _ _ _ _ hf hw (lv_sub hl [2, 3, 4, 1, 5, 0] rfl)
      · replace hf := hf.1 h45
        refine lv_iload_n C.1 C.2.1 dX3_makesOf_48 rfl (lv_at hl 3 rfl) ?_
        refine lv_if_eq (tgt := 56) C.1 C.2.1 dX3_makesOf_49 (by decide) (fun h49 => ?_) (fun h49 => ?_)
        · replace hf := hf.1 h49
          refine lv_iconst (v := 0) C.1 C.2.1 dX3_makesOf_56 rfl ?_
          refine lv_istore_n (lv' := [(3, .int 0), (0, .ref (ad 0)), (1, .int x1), (2, .int x2), (4, .int x4), (5, .int x5)]) C.1 C.2.1 dX3_makesOf_57 rfl hl (Nat.le_of_ble_eq_true rfl) rfl (fun ls hl => ?_)
          refine lv_iinc (v := (x5 + 1)) (lv' := [(5, .int (x5 + 1)), (3, .int 0), (0, .ref (ad 0)), (1, .int x1), (2, .int x2), (4, .int x4)]) C.1 C.2.1 dX3_makesOf_58 hl (k := 5) rfl rfl (Nat.le_of_ble_eq_true rfl) rfl (fun ls hl => ?_)
          refine lv_goto (tgt := 21) C.1 C.2.1 dX3_makesOf_61 (by decide) ?_
          exact hK21 _ _ _ _ _ _ hf hw (lv_sub hl [2, 3, 4, 1, 5, 0] rfl)
        · replace hf := hf.2 h49
          refine lv_iconst (v := 1) C.1 C.2.1 dX3_makesOf_52 rfl ?_
          refine lv_goto (tgt := 57) C.1 C.2.1 dX3_makesOf_53 (by decide) ?_
          refine lv_istore_n (lv' := [(3, .int 1), (0, .ref (ad 0)), (1, .int x1), (2, .int x2), (4, .int x4), (5, .int x5)]) C.1 C.2.1 dX3_makesOf_57 rfl hl (Nat.le_of_ble_eq_true rfl) rfl (fun ls hl => ?_)
          refine lv_iinc (v := (x5 + 1)) (lv' := [(5, .int (x5 + 1)), (3, .int 1), (0, .ref (ad 0)), (1, .int x1), (2, .int x2), (4, .int x4)]) C.1 C.2.1 dX3_makesOf_58 hl (k := 5) rfl rfl (Nat.le_of_ble_eq_true rfl) rfl (fun ls hl => ?_)
          refine lv_goto (tgt := 21) C.1 C.2.1 dX3_makesOf_61 (by decide) ?_
          exact hK21 _ _ _ _ _ _ hf hw (lv_sub hl [2, 3, 4, 1, 5, 0] rfl)
  have P21 : ∀ (x1 : Int32) (x2 : Int32) (x4 : Int32) (K5 : St → Int32 → Int32 → Prop) (_ : ∀ (σ : St) (H : Heap) (locs : List Loc) (x3 : Int32) (x4 : Int32) (ls : Array Slot), K5 σ x3 x4 → gH D ct shM ad s σ H locs → lv_has ls 6 [(0, .ref (ad 0)), (1, .int x1), (2, .int x2), (3, .int x3), (4, .int x4)] → W p l e rm_m_makesOf s m args below meth c H locs 0 0 QQ (F0 m 5 ls [])) (n : Nat) (σ : St) (x3 : Int32) (x5 : Int32) (ls : Array Slot) (H : Heap) (locs : List Loc), LL3 (m_makesOf_p21 x1 x2 x4 Q K5) n σ x3 x5 → gH D ct shM ad s σ H locs → lv_has ls 6 [(0, .ref (ad 0)), (1, .int x1), (2, .int x2), (3, .int x3), (4, .int x4), (5, .int x5)] → W p l e rm_m_makesOf s m args below meth c H locs 0 0 QQ (F0 m 21 ls []) := by
    intro x1 x2 x4 K5 hK5 n
    induction n with
    | zero => intro σ x3 x5 ls H locs hf; exact False.elim hf
    | succ n ih => intro σ x3 x5 ls H locs hf hw hl; exact B21 x1 x2 x4 K5 hK5 (LL3 _ n) (fun σ H locs x3 x5 ls hf hw hl => ih σ x3 x5 ls H locs hf hw hl) σ H locs x3 x5 ls hf hw hl
  have B5 : ∀ (x1 : Int32) (x2 : Int32) (K5 : St → Int32 → Int32 → Prop) (_ : ∀ (σ : St) (H : Heap) (locs : List Loc) (x3 : Int32) (x4 : Int32) (ls : Array Slot), K5 σ x3 x4 → gH D ct shM ad s σ H locs → lv_has ls 6 [(0, .ref (ad 0)), (1, .int x1), (2, .int x2), (3, .int x3), (4, .int x4)] → W p l e rm_m_makesOf s m args below meth c H locs 0 0 QQ (F0 m 5 ls [])) (σ : St) (H : Heap) (locs : List Loc) (x3 : Int32) (x4 : Int32) (ls : Array Slot), m_makesOf_p5 x1 x2 Q K5 σ x3 x4 → gH D ct shM ad s σ H locs → lv_has ls 6 [(0, .ref (ad 0)), (1, .int x1), (2, .int x2), (3, .int x3), (4, .int x4)] → W p l e rm_m_makesOf s m args below meth c H locs 0 0 QQ (F0 m 5 ls []) := by
    intro x1 x2 K5 hK5 σ H locs x3 x4 ls hf hw hl
    unfold m_makesOf_p5 at hf
    refine lv_iload C.1 C.2.1 dX3_makesOf_5 (lv_at hl 4 rfl) ?_
    refine lv_iload_n C.1 C.2.1 dX3_makesOf_7 rfl (lv_at hl 2 rfl) ?_
    refine lv_iadd C.1 C.2.1 dX3_makesOf_8 ?_
    refine lv_aload_n C.1 C.2.1 dX3_makesOf_9 rfl (lv_at hl 0 rfl) ?_
    refine mg_scalar C hw dX3_makesOf_10 ?_
    refine lv_iconst (v := 2) C.1 C.2.1 dX3_makesOf_13 rfl ?_
    refine g_iald C hw 2 rfl (vpD rfl) dX3_makesOf_14 ?_
    refine lv_icmp_gt (tgt := 70) C.1 C.2.1 dX3_makesOf_15 (by decide) (fun h15 => ?_) (fun h15 => ?_)
    · replace hf := hf.1 h15
      refine lv_iload_n C.1 C.2.1 dX3_makesOf_70 rfl (lv_at hl 3 rfl) ?_
      obtain ⟨hz, hf⟩ := hf
      exact hret _ _ _ _ _ _ hf hw hz dX3_makesOf_71
    · replace hf := hf.2 h15
      refine lv_iconst (v := 0) C.1 C.2.1 dX3_makesOf_18 rfl ?_
      refine lv_istore (lv' := [(5, .int 0), (0, .ref (ad 0)), (1, .int x1), (2, .int x2), (3, .int x3), (4, .int x4)]) C.1 C.2.1 dX3_makesOf_19 hl (Nat.le_of_ble_eq_true rfl) rfl (fun ls hl => ?_)
      obtain ⟨n, hf⟩ := hf
      exact P21 _ _ _ _ hK5 n _ _ _ _ _ _ hf hw (lv_sub hl [1, 2, 3, 4, 5, 0] rfl)
  have P5 : ∀ (x1 : Int32) (x2 : Int32) (n : Nat) (σ : St) (x3 : Int32) (x4 : Int32) (ls : Array Slot) (H : Heap) (locs : List Loc), LL3 (m_makesOf_p5 x1 x2 Q) n σ x3 x4 → gH D ct shM ad s σ H locs → lv_has ls 6 [(0, .ref (ad 0)), (1, .int x1), (2, .int x2), (3, .int x3), (4, .int x4)] → W p l e rm_m_makesOf s m args below meth c H locs 0 0 QQ (F0 m 5 ls []) := by
    intro x1 x2 n
    induction n with
    | zero => intro σ x3 x4 ls H locs hf; exact False.elim hf
    | succ n ih => intro σ x3 x4 ls H locs hf hw hl; exact B5 x1 x2 (LL3 _ n) (fun σ H locs x3 x4 ls hf hw hl => ih σ x3 x4 ls H locs hf hw hl) σ H locs x3 x4 ls hf hw hl
  unfold m_makesOf at hf
  obtain ⟨H, hH⟩ : ∃ q, q = s.heap := ⟨_, rfl⟩
  obtain ⟨locs, hL⟩ : ∃ q : List Loc, q = [] := ⟨_, rfl⟩
  rw [← hH, ← hL] at hw ⊢
  refine lv_iconst (v := 0) C.1 C.2.1 dX3_makesOf_0 rfl ?_
  refine lv_istore_n (lv' := [(3, .int 0), (0, .ref (ad 0)), (1, .int x1), (2, .int x2)]) C.1 C.2.1 dX3_makesOf_1 rfl hl (Nat.le_of_ble_eq_true rfl) rfl (fun ls hl => ?_)
  refine lv_iconst (v := 0) C.1 C.2.1 dX3_makesOf_2 rfl ?_
  refine lv_istore (lv' := [(4, .int 0), (3, .int 0), (0, .ref (ad 0)), (1, .int x1), (2, .int x2)]) C.1 C.2.1 dX3_makesOf_3 hl (Nat.le_of_ble_eq_true rfl) rfl (fun ls hl => ?_)
  obtain ⟨n, hf⟩ := hf
  exact P5 _ _ n _ _ _ _ _ _ hf hw (lv_sub hl [2, 3, 4, 1, 0] rfl)
theorem km_makesOf {p : Program} {l : Launch} {e : Env} {R : Room} {s : State} {m : MethodId} {args : Array Value} {below : List Frame} {meth : Method} {c : Code} {H : Heap} {locs : List Loc} {Z : State → Prop} {cc : ByteArray} {nL pc : Nat} {ls : Array Slot} {rest : List Value} {D : va_G} {ct : Ct} {ad : Nat → Nat} {σ : St} {x1 : Int32} {x2 : Int32} {Qp : Int32 → St → Prop} (C : CallFix p m c cc nL s args lw_all RX3) (hw : gH D ct shM ad s σ H locs) (hsz : ls.size = nL) (hrm : (rest.map fun v => v.category).sum ≤ 8) (hR : rm_m_makesOf.frames + 1 ≤ R.frames ∧ 8 + (6 + 11) + rm_m_makesOf.locals ≤ R.locals) (hdg : decode cc pc = .ok (.invokevirtual 437, 3)) (hf : m_makesOf σ x1 x2 Qp) (kk : ∀ (r : Int32) (σ1 : St) (H1 : Heap) (locs1 : List Loc), Qp r σ1 → gH D ct shM ad s σ1 H1 locs1 → W p l e R s m args below meth c H1 locs1 0 0 Z (F0 m (pc + 3) ls (.int r :: rest))) : W p l e R s m args below meth c H locs 0 0 Z (F0 m pc ls (.int x2 :: .int x1 :: .ref (ad 0) :: rest)) :=
  g_callV (As := [.int x1, .int x2]) (rest := rest) C hw rfl rfl (met_m_makesOf l D ct ad hw.2.1 σ x1 x2 Qp hf) (cwV 2 C.2.2.2.2 (lw_V q1868 q1870 qs146 q207 q1871) rfl rfl rfl (by decide +kernel) hR) rfl hsz rfl hrm ⟨Nat.zero_le _, Nat.zero_le _⟩ hdg kk
def m_endsNot_p5 (x1 : Int32) (x2 : Int32) (Q : Int32 → St → Prop) (K5 : St → Int32 → Int32 → Prop) (σ : St) (x3 : Int32) (x4 : Int32) : Prop :=
  (((gI σ 2 0) ≤ x4 → (zB x3 ∧ Q x3 σ)) ∧ (¬ (gI σ 2 0) ≤ x4 → (vp_in (2028 + (fm_spot x4 x1 x2)) 4056 ∧ (((gI σ 43 (2028 + (fm_spot x4 x1 x2))) = 0 → K5 σ x3 (x4 + 1)) ∧ (¬ (gI σ 43 (2028 + (fm_spot x4 x1 x2))) = 0 → (vp_in (fm_spot x4 x1 x2) 2028 ∧ (((gI σ 47 (fm_spot x4 x1 x2)) = 0 → (m_hasEndless σ x4 x1 x2 (fun r54 s54 => ((r54 = 0 → K5 s54 x3 (x4 + 1)) ∧ (¬ r54 = 0 → (∀ s67 : St, s67 = s_A s54 47 (Int32.toNatClampNeg (fm_spot x4 x1 x2)) 1 → K5 s67 1 (x4 + 1))))))) ∧ (¬ (gI σ 47 (fm_spot x4 x1 x2)) = 0 → K5 σ x3 (x4 + 1)))))))))
def m_endsNot (σ : St) (x1 : Int32) (x2 : Int32) (Q : Int32 → St → Prop) : Prop :=
  (Lp3 (m_endsNot_p5 x1 x2 Q) σ 0 0)
abbrev rm_m_endsNot : Room := { frames := 6, cells := 0, slots := 0, locals := 151 }
set_option maxHeartbeats 4000000 in
theorem met_m_endsNot (l : Launch) (D : va_G) (ct : Ct) (ad : Nat → Nat) (hJ : gJ shM ad ct) (σ : St) (x1 : Int32) (x2 : Int32) (Q : Int32 → St → Prop) (hf : m_endsNot σ x1 x2 Q) : Met l yX3_endsNot (ws_ yX3_endsNot cX3_endsNot 6 (some .boolean)) rm_m_endsNot (va_Pc [.ref (ad 0), .int x1, .int x2] (gP D ct shM ad σ)) (gQ rvI D ct shM ad Q) 0 0 (gA shM ad) := by
  refine g_metZ hJ (by decide) (Nat.le_of_ble_eq_true rfl) ?_
  intro p e s m args below meth c QQ ls C hw hl hret
  replace hl : lv_has ls 6 [(0, .ref (ad 0)), (1, .int x1), (2, .int x2)] := hl
  have B5 : ∀ (x1 : Int32) (x2 : Int32) (K5 : St → Int32 → Int32 → Prop) (_ : ∀ (σ : St) (H : Heap) (locs : List Loc) (x3 : Int32) (x4 : Int32) (ls : Array Slot), K5 σ x3 x4 → gH D ct shM ad s σ H locs → lv_has ls 6 [(0, .ref (ad 0)), (1, .int x1), (2, .int x2), (3, .int x3), (4, .int x4)] → W p l e rm_m_endsNot s m args below meth c H locs 0 0 QQ (F0 m 5 ls [])) (σ : St) (H : Heap) (locs : List Loc) (x3 : Int32) (x4 : Int32) (ls : Array Slot), m_endsNot_p5 x1 x2 Q K5 σ x3 x4 → gH D ct shM ad s σ H locs → lv_has ls 6 [(0, .ref (ad 0)), (1, .int x1), (2, .int x2), (3, .int x3), (4, .int x4)] → W p l e rm_m_endsNot s m args below meth c H locs 0 0 QQ (F0 m 5 ls []) := by
    intro x1 x2 K5 hK5 σ H locs x3 x4 ls hf hw hl
    unfold m_endsNot_p5 at hf
    refine lv_iload C.1 C.2.1 dX3_endsNot_5 (lv_at hl 4 rfl) ?_
    refine lv_aload_n C.1 C.2.1 dX3_endsNot_7 rfl (lv_at hl 0 rfl) ?_
    refine mg_scalar C hw dX3_endsNot_8 ?_
    refine lv_iconst (v := 0) C.1 C.2.1 dX3_endsNot_11 rfl ?_
    refine g_iald C hw 2 rfl (vpD rfl) dX3_endsNot_12 ?_
    refine lv_icmp_ge (tgt := 76) C.1 C.2.1 dX3_endsNot_13 (by decide) (fun h13 => ?_) (fun h13 => ?_)
    · replace hf := hf.1 h13
      refine lv_iload_n C.1 C.2.1 dX3_endsNot_76 rfl (lv_at hl 3 rfl) ?_
      obtain ⟨hz, hf⟩ := hf
      exact hret _ _ _ _ _ _ hf hw hz dX3_endsNot_77
    · replace hf := hf.2 h13
      refine lv_iload C.1 C.2.1 dX3_endsNot_16 (lv_at hl 4 rfl) ?_
      refine lv_iload_n C.1 C.2.1 dX3_endsNot_18 rfl (lv_at hl 1 rfl) ?_
      refine lv_iload_n C.1 C.2.1 dX3_endsNot_19 rfl (lv_at hl 2 rfl) ?_
      refine km_spot C hl.1 (Nat.le_of_ble_eq_true rfl) ⟨Nat.le_of_ble_eq_true rfl, Nat.le_of_ble_eq_true rfl⟩ dX3_endsNot_20 ?_
      refine lv_istore (lv' := [(5, .int (fm_spot x4 x1 x2)), (0, .ref (ad 0)), (1, .int x1), (2, .int x2), (3, .int x3), (4, .int x4)]) C.1 C.2.1 dX3_endsNot_23 hl (Nat.le_of_ble_eq_true rfl) rfl (fun ls hl => ?_)
      refine lv_aload_n C.1 C.2.1 dX3_endsNot_25 rfl (lv_at hl 1 rfl) ?_
      refine mg_made C hw dX3_endsNot_26 ?_
      refine lv_sipush (v := 2028) C.1 C.2.1 dX3_endsNot_29 rfl ?_
      refine lv_iload C.1 C.2.1 dX3_endsNot_32 (lv_at hl 0 rfl) ?_
      refine lv_iadd C.1 C.2.1 dX3_endsNot_34 ?_
      obtain ⟨b35, hf⟩ := hf
      refine g_zald C hw 43 rfl b35 dX3_endsNot_35 ?_
      refine lv_if_eq (tgt := 70) C.1 C.2.1 dX3_endsNot_36 (by decide) (fun h36 => ?_) (fun h36 => ?_)
      · replace hf := hf.1 h36
        refine lv_iinc (v := (x4 + 1)) (lv' := [(4, .int (x4 + 1)), (5, .int (fm_spot x4 x1 x2)), (0, .ref (ad 0)), (1, .int x1), (2, .int x2), (3, .int x3)]) C.1 C.2.1 dX3_endsNot_70 hl (k := 5) rfl rfl (Nat.le_of_ble_eq_true rfl) rfl (fun ls hl => ?_)
        refine lv_goto (tgt := 5) C.1 C.2.1 dX3_endsNot_73 (by decide) ?_
        exact hK5 _ _ _ _ _ _ hf hw (lv_sub hl [2, 3, 4, 5, 0] rfl)
      · replace hf := hf.2 h36
        refine lv_aload_n C.1 C.2.1 dX3_endsNot_39 rfl (lv_at hl 1 rfl) ?_
        refine mg_isEndless C hw dX3_endsNot_40 ?_
        refine lv_iload C.1 C.2.1 dX3_endsNot_43 (lv_at hl 0 rfl) ?_
        obtain ⟨b45, hf⟩ := hf
        refine g_zald C hw 47 rfl b45 dX3_endsNot_45 ?_
        refine lv_if_ne (tgt := 70) C.1 C.2.1 dX3_endsNot_46 (by decide) (fun h46 => ?_) (fun h46 => ?_)
        · replace hf := hf.2 h46
          refine lv_iinc (v := (x4 + 1)) (lv' := [(4, .int (x4 + 1)), (5, .int (fm_spot x4 x1 x2)), (0, .ref (ad 0)), (1, .int x1), (2, .int x2), (3, .int x3)]) C.1 C.2.1 dX3_endsNot_70 hl (k := 5) rfl rfl (Nat.le_of_ble_eq_true rfl) rfl (fun ls hl => ?_)
          refine lv_goto (tgt := 5) C.1 C.2.1 dX3_endsNot_73 (by decide) ?_
          exact hK5 _ _ _ _ _ _ hf hw (lv_sub hl [2, 3, 4, 5, 0] rfl)
        · replace hf := hf.1 h46
          refine lv_aload_n C.1 C.2.1 dX3_endsNot_49 rfl (lv_at hl 1 rfl) ?_
          refine lv_iload C.1 C.2.1 dX3_endsNot_50 (lv_at hl 5 rfl) ?_
          refine lv_iload_n C.1 C.2.1 dX3_endsNot_52 rfl (lv_at hl 2 rfl) ?_
          refine lv_iload_n C.1 C.2.1 dX3_endsNot_53 rfl (lv_at hl 3 rfl) ?_
          refine km_hasEndless C hw hl.1 (Nat.le_of_ble_eq_true rfl) ⟨Nat.le_of_ble_eq_true rfl, Nat.le_of_ble_eq_true rfl⟩ dX3_endsNot_54 hf (fun r54 s54 H locs hf hw => ?_)
          refine lv_if_eq (tgt := 70) C.1 C.2.1 dX3_endsNot_57 (by decide) (fun h57 => ?_) (fun h57 => ?_)
          · replace hf := hf.1 h57
            refine lv_iinc (v := (x4 + 1)) (lv' := [(4, .int (x4 + 1)), (5, .int (fm_spot x4 x1 x2)), (0, .ref (ad 0)), (1, .int x1), (2, .int x2), (3, .int x3)]) C.1 C.2.1 dX3_endsNot_70 hl (k := 5) rfl rfl (Nat.le_of_ble_eq_true rfl) rfl (fun ls hl => ?_)
            refine lv_goto (tgt := 5) C.1 C.2.1 dX3_endsNot_73 (by decide) ?_
            exact hK5 _ _ _ _ _ _ hf hw (lv_sub hl [2, 3, 4, 5, 0] rfl)
          · replace hf := hf.2 h57
            refine lv_aload_n C.1 C.2.1 dX3_endsNot_60 rfl (lv_at hl 1 rfl) ?_
            refine mg_isEndless C hw dX3_endsNot_61 ?_
            refine lv_iload C.1 C.2.1 dX3_endsNot_64 (lv_at hl 0 rfl) ?_
            refine lv_iconst (v := 1) C.1 C.2.1 dX3_endsNot_66 rfl ?_
            refine g_zast C shM_sep hw 47 rfl (Or.inr rfl) b45 dX3_endsNot_67 (fun s67 H locs e67 hw => ?_)
            replace hf := hf s67 e67
            refine lv_iconst (v := 1) C.1 C.2.1 dX3_endsNot_68 rfl ?_
            refine lv_istore_n (lv' := [(3, .int 1), (5, .int (fm_spot x4 x1 x2)), (0, .ref (ad 0)), (1, .int x1), (2, .int x2), (4, .int x4)]) C.1 C.2.1 dX3_endsNot_69 rfl hl (Nat.le_of_ble_eq_true rfl) rfl (fun ls hl => ?_)
            refine lv_iinc (v := (x4 + 1)) (lv' := [(4, .int (x4 + 1)), (3, .int 1), (5, .int (fm_spot x4 x1 x2)), (0, .ref (ad 0)), (1, .int x1), (2, .int x2)]) C.1 C.2.1 dX3_endsNot_70 hl (k := 5) rfl rfl (Nat.le_of_ble_eq_true rfl) rfl (fun ls hl => ?_)
            refine lv_goto (tgt := 5) C.1 C.2.1 dX3_endsNot_73 (by decide) ?_
            exact hK5 _ _ _ _ _ _ hf hw (lv_sub hl [3, 4, 5, 1, 0] rfl)
  have P5 : ∀ (x1 : Int32) (x2 : Int32) (n : Nat) (σ : St) (x3 : Int32) (x4 : Int32) (ls : Array Slot) (H : Heap) (locs : List Loc), LL3 (m_endsNot_p5 x1 x2 Q) n σ x3 x4 → gH D ct shM ad s σ H locs → lv_has ls 6 [(0, .ref (ad 0)), (1, .int x1), (2, .int x2), (3, .int x3), (4, .int x4)] → W p l e rm_m_endsNot s m args below meth c H locs 0 0 QQ (F0 m 5 ls []) := by
    intro x1 x2 n
    induction n with
    | zero => intro σ x3 x4 ls H locs hf; exact False.elim hf
    | succ n ih => intro σ x3 x4 ls H locs hf hw hl; exact B5 x1 x2 (LL3 _ n) (fun σ H locs x3 x4 ls hf hw hl => ih σ x3 x4 ls H locs hf hw hl) σ H locs x3 x4 ls hf hw hl
  unfold m_endsNot at hf
  obtain ⟨H, hH⟩ : ∃ q, q = s.heap := ⟨_, rfl⟩
  obtain ⟨locs, hL⟩ : ∃ q : List Loc, q = [] := ⟨_, rfl⟩
  rw [← hH, ← hL] at hw ⊢
  refine lv_iconst (v := 0) C.1 C.2.1 dX3_endsNot_0 rfl ?_
  refine lv_istore_n (lv' := [(3, .int 0), (0, .ref (ad 0)), (1, .int x1), (2, .int x2)]) C.1 C.2.1 dX3_endsNot_1 rfl hl (Nat.le_of_ble_eq_true rfl) rfl (fun ls hl => ?_)
  refine lv_iconst (v := 0) C.1 C.2.1 dX3_endsNot_2 rfl ?_
  refine lv_istore (lv' := [(4, .int 0), (3, .int 0), (0, .ref (ad 0)), (1, .int x1), (2, .int x2)]) C.1 C.2.1 dX3_endsNot_3 hl (Nat.le_of_ble_eq_true rfl) rfl (fun ls hl => ?_)
  obtain ⟨n, hf⟩ := hf
  exact P5 _ _ n _ _ _ _ _ _ hf hw (lv_sub hl [2, 3, 4, 1, 0] rfl)
theorem km_endsNot {p : Program} {l : Launch} {e : Env} {R : Room} {s : State} {m : MethodId} {args : Array Value} {below : List Frame} {meth : Method} {c : Code} {H : Heap} {locs : List Loc} {Z : State → Prop} {cc : ByteArray} {nL pc : Nat} {ls : Array Slot} {rest : List Value} {D : va_G} {ct : Ct} {ad : Nat → Nat} {σ : St} {x1 : Int32} {x2 : Int32} {Qp : Int32 → St → Prop} (C : CallFix p m c cc nL s args lw_all RX3) (hw : gH D ct shM ad s σ H locs) (hsz : ls.size = nL) (hrm : (rest.map fun v => v.category).sum ≤ 8) (hR : rm_m_endsNot.frames + 1 ≤ R.frames ∧ 8 + (6 + 11) + rm_m_endsNot.locals ≤ R.locals) (hdg : decode cc pc = .ok (.invokevirtual 487, 3)) (hf : m_endsNot σ x1 x2 Qp) (kk : ∀ (r : Int32) (σ1 : St) (H1 : Heap) (locs1 : List Loc), Qp r σ1 → gH D ct shM ad s σ1 H1 locs1 → W p l e R s m args below meth c H1 locs1 0 0 Z (F0 m (pc + 3) ls (.int r :: rest))) : W p l e R s m args below meth c H locs 0 0 Z (F0 m pc ls (.int x2 :: .int x1 :: .ref (ad 0) :: rest)) :=
  g_callV (As := [.int x1, .int x2]) (rest := rest) C hw rfl rfl (met_m_endsNot l D ct ad hw.2.1 σ x1 x2 Qp hf) (cwV 2 C.2.2.2.2 (lw_V q1967 q1969 qs165 q207 q1970) rfl rfl rfl (by decide +kernel) hR) rfl hsz rfl hrm ⟨Nat.zero_le _, Nat.zero_le _⟩ hdg kk
def m_goesThrough_p29 (x2 : Int32) (x3 : Int32) (Q : Int32 → St → Prop) (K4 : St → Int32 → Int32 → Prop) (K16 : St → Int32 → Int32 → Prop) (K29 : St → Int32 → Int32 → Prop) (σ : St) (x1 : Int32) (x4 : Int32) : Prop :=
  (((gI σ 2 2) < x4 → K16 σ x1 (x3 + 1)) ∧ (¬ (gI σ 2 2) < x4 → (vp_in (fm_spot x2 x3 x4) 2028 ∧ (((gI σ 52 (fm_spot x2 x3 x4)) = 0 → K29 σ x1 (x4 + 1)) ∧ (¬ (gI σ 52 (fm_spot x2 x3 x4)) = 0 → (vp_in (fm_spot x2 x3 x4) 2028 ∧ (((gI σ 53 (fm_spot x2 x3 x4)) = 0 → (∀ s76 : St, s76 = s_A σ 53 (Int32.toNatClampNeg (fm_spot x2 x3 x4)) 1 → (m_marksFrom s76 x2 x3 x4 (fun r82 s82 => K29 s82 1 (x4 + 1))))) ∧ (¬ (gI σ 53 (fm_spot x2 x3 x4)) = 0 → K29 σ x1 (x4 + 1)))))))))
def m_goesThrough_p16 (x2 : Int32) (Q : Int32 → St → Prop) (K4 : St → Int32 → Int32 → Prop) (K16 : St → Int32 → Int32 → Prop) (σ : St) (x1 : Int32) (x3 : Int32) : Prop :=
  (((gI σ 2 2) < x3 → K4 σ x1 (x2 + 1)) ∧ (¬ (gI σ 2 2) < x3 → (Lp3 (m_goesThrough_p29 x2 x3 Q K4 K16) σ x1 x3)))
def m_goesThrough_p4 (Q : Int32 → St → Prop) (K4 : St → Int32 → Int32 → Prop) (σ : St) (x1 : Int32) (x2 : Int32) : Prop :=
  (((gI σ 2 0) ≤ x2 → (zB x1 ∧ Q x1 σ)) ∧ (¬ (gI σ 2 0) ≤ x2 → (Lp3 (m_goesThrough_p16 x2 Q K4) σ x1 0)))
def m_goesThrough (σ : St) (Q : Int32 → St → Prop) : Prop :=
  (Lp3 (m_goesThrough_p4 Q) σ 0 0)
abbrev rm_m_goesThrough : Room := { frames := 6, cells := 0, slots := 0, locals := 152 }
set_option maxHeartbeats 4000000 in
theorem met_m_goesThrough (l : Launch) (D : va_G) (ct : Ct) (ad : Nat → Nat) (hJ : gJ shM ad ct) (σ : St) (Q : Int32 → St → Prop) (hf : m_goesThrough σ Q) : Met l yX3_goesThrough (ws_ yX3_goesThrough cX3_goesThrough 6 (some .boolean)) rm_m_goesThrough (va_Pc [.ref (ad 0)] (gP D ct shM ad σ)) (gQ rvI D ct shM ad Q) 0 0 (gA shM ad) := by
  refine g_metZ hJ (by decide) (Nat.le_of_ble_eq_true rfl) ?_
  intro p e s m args below meth c QQ ls C hw hl hret
  replace hl : lv_has ls 6 [(0, .ref (ad 0))] := hl
  have B29 : ∀ (x2 : Int32) (x3 : Int32) (K4 : St → Int32 → Int32 → Prop) (_ : ∀ (σ : St) (H : Heap) (locs : List Loc) (x1 : Int32) (x2 : Int32) (ls : Array Slot), K4 σ x1 x2 → gH D ct shM ad s σ H locs → lv_has ls 6 [(0, .ref (ad 0)), (1, .int x1), (2, .int x2)] → W p l e rm_m_goesThrough s m args below meth c H locs 0 0 QQ (F0 m 4 ls [])) (K16 : St → Int32 → Int32 → Prop) (_ : ∀ (σ : St) (H : Heap) (locs : List Loc) (x1 : Int32) (x3 : Int32) (ls : Array Slot), K16 σ x1 x3 → gH D ct shM ad s σ H locs → lv_has ls 6 [(0, .ref (ad 0)), (1, .int x1), (2, .int x2), (3, .int x3)] → W p l e rm_m_goesThrough s m args below meth c H locs 0 0 QQ (F0 m 16 ls [])) (K29 : St → Int32 → Int32 → Prop) (_ : ∀ (σ : St) (H : Heap) (locs : List Loc) (x1 : Int32) (x4 : Int32) (ls : Array Slot), K29 σ x1 x4 → gH D ct shM ad s σ H locs → lv_has ls 6 [(0, .ref (ad 0)), (1, .int x1), (2, .int x2), (3, .int x3), (4, .int x4)] → W p l e rm_m_goesThrough s m args below meth c H locs 0 0 QQ (F0 m 29 ls [])) (σ : St) (H : Heap) (locs : List Loc) (x1 : Int32) (x4 : Int32) (ls : Array Slot), m_goesThrough_p29 x2 x3 Q K4 K16 K29 σ x1 x4 → gH D ct shM ad s σ H locs → lv_has ls 6 [(0, .ref (ad 0)), (1, .int x1), (2, .int x2), (3, .int x3), (4, .int x4)] → W p l e rm_m_goesThrough s m args below meth c H locs 0 0 QQ (F0 m 29 ls []) := by
    intro x2 x3 K4 hK4 K16 hK16 K29 hK29 σ H locs x1 x4 ls hf hw hl
    unfold m_goesThrough_p29 at hf
    refine lv_iload C.1 C.2.1 dX3_goesThrough_29 (lv_at hl 4 rfl) ?_
    refine lv_aload_n C.1 C.2.1 dX3_goesThrough_31 rfl (lv_at hl 0 rfl) ?_
    refine mg_scalar C hw dX3_goesThrough_32 ?_
    refine lv_iconst (v := 2) C.1 C.2.1 dX3_goesThrough_35 rfl ?_
    refine g_iald C hw 2 rfl (vpD rfl) dX3_goesThrough_36 ?_
    refine lv_icmp_gt (tgt := 94) C.1 C.2.1 dX3_goesThrough_37 (by decide) (fun h37 => ?_) (fun h37 => ?_)
    · replace hf := hf.1 h37
      refine lv_iinc (v := (x3 + 1)) (lv' := [(3, .int (x3 + 1)), (0, .ref (ad 0)), (1, .int x1), (2, .int x2), (4, .int x4)]) C.1 C.2.1 dX3_goesThrough_94 hl (k := 3) rfl rfl (Nat.le_of_ble_eq_true rfl) rfl (fun ls hl => ?_)
      refine lv_goto (tgt := 16) C.1 C.2.1 dX3_goesThrough_97 (by decide) ?_
      exact hK16 _ _ _ _ _ _ hf hw (lv_sub hl [1, 2, 3, 0] rfl)
    · replace hf := hf.2 h37
      refine lv_iload_n C.1 C.2.1 dX3_goesThrough_40 rfl (lv_at hl 2 rfl) ?_
      refine lv_iload_n C.1 C.2.1 dX3_goesThrough_41 rfl (lv_at hl 3 rfl) ?_
      refine lv_iload C.1 C.2.1 dX3_goesThrough_42 (lv_at hl 4 rfl) ?_
      refine km_spot C hl.1 (Nat.le_of_ble_eq_true rfl) ⟨Nat.le_of_ble_eq_true rfl, Nat.le_of_ble_eq_true rfl⟩ dX3_goesThrough_44 ?_
      refine lv_istore (lv' := [(5, .int (fm_spot x2 x3 x4)), (0, .ref (ad 0)), (1, .int x1), (2, .int x2), (3, .int x3), (4, .int x4)]) C.1 C.2.1 dX3_goesThrough_47 hl (Nat.le_of_ble_eq_true rfl) rfl (fun ls hl => ?_)
      refine lv_aload_n C.1 C.2.1 dX3_goesThrough_49 rfl (lv_at hl 1 rfl) ?_
      refine mg_isPiece C hw dX3_goesThrough_50 ?_
      refine lv_iload C.1 C.2.1 dX3_goesThrough_53 (lv_at hl 0 rfl) ?_
      obtain ⟨b55, hf⟩ := hf
      refine g_zald C hw 52 rfl b55 dX3_goesThrough_55 ?_
      refine lv_if_eq (tgt := 88) C.1 C.2.1 dX3_goesThrough_56 (by decide) (fun h56 => ?_) (fun h56 => ?_)
      · replace hf := hf.1 h56
        refine lv_iinc (v := (x4 + 1)) (lv' := [(4, .int (x4 + 1)), (5, .int (fm_spot x2 x3 x4)), (0, .ref (ad 0)), (1, .int x1), (2, .int x2), (3, .int x3)]) C.1 C.2.1 dX3_goesThrough_88 hl (k := 5) rfl rfl (Nat.le_of_ble_eq_true rfl) rfl (fun ls hl => ?_)
        refine lv_goto (tgt := 29) C.1 C.2.1 dX3_goesThrough_91 (by decide) ?_
        exact hK29 _ _ _ _ _ _ hf hw (lv_sub hl [2, 3, 4, 5, 0] rfl)
      · replace hf := hf.2 h56
        refine lv_aload_n C.1 C.2.1 dX3_goesThrough_59 rfl (lv_at hl 1 rfl) ?_
        refine mg_isGone C hw dX3_goesThrough_60 ?_
        refine lv_iload C.1 C.2.1 dX3_goesThrough_63 (lv_at hl 0 rfl) ?_
        obtain ⟨b65, hf⟩ := hf
        refine g_zald C hw 53 rfl b65 dX3_goesThrough_65 ?_
        refine lv_if_ne (tgt := 88) C.1 C.2.1 dX3_goesThrough_66 (by decide) (fun h66 => ?_) (fun h66 => ?_)
        · replace hf := hf.2 h66
          refine lv_iinc (v := (x4 + 1)) (lv' := [(4, .int (x4 + 1)), (5, .int (fm_spot x2 x3 x4)), (0, .ref (ad 0)), (1, .int x1), (2, .int x2), (3, .int x3)]) C.1 C.2.1 dX3_goesThrough_88 hl (k := 5) rfl rfl (Nat.le_of_ble_eq_true rfl) rfl (fun ls hl => ?_)
          refine lv_goto (tgt := 29) C.1 C.2.1 dX3_goesThrough_91 (by decide) ?_
          exact hK29 _ _ _ _ _ _ hf hw (lv_sub hl [2, 3, 4, 5, 0] rfl)
        · replace hf := hf.1 h66
          refine lv_aload_n C.1 C.2.1 dX3_goesThrough_69 rfl (lv_at hl 1 rfl) ?_
          refine mg_isGone C hw dX3_goesThrough_70 ?_
          refine lv_iload C.1 C.2.1 dX3_goesThrough_73 (lv_at hl 0 rfl) ?_
          refine lv_iconst (v := 1) C.1 C.2.1 dX3_goesThrough_75 rfl ?_
          refine g_zast C shM_sep hw 53 rfl (Or.inr rfl) b65 dX3_goesThrough_76 (fun s76 H locs e76 hw => ?_)
          replace hf := hf s76 e76
          refine lv_aload_n C.1 C.2.1 dX3_goesThrough_77 rfl (lv_at hl 1 rfl) ?_
          refine lv_iload_n C.1 C.2.1 dX3_goesThrough_78 rfl (lv_at hl 3 rfl) ?_
          refine lv_iload_n C.1 C.2.1 dX3_goesThrough_79 rfl (lv_at hl 4 rfl) ?_
          refine lv_iload C.1 C.2.1 dX3_goesThrough_80 (lv_at hl 5 rfl) ?_
          refine km_marksFrom C hw hl.1 (Nat.le_of_ble_eq_true rfl) ⟨Nat.le_of_ble_eq_true rfl, Nat.le_of_ble_eq_true rfl⟩ dX3_goesThrough_82 hf (fun r82 s82 H locs hf hw => ?_)
          refine lv_pop C.1 C.2.1 dX3_goesThrough_85 rfl ?_
          refine lv_iconst (v := 1) C.1 C.2.1 dX3_goesThrough_86 rfl ?_
          refine lv_istore_n (lv' := [(1, .int 1), (5, .int (fm_spot x2 x3 x4)), (0, .ref (ad 0)), (2, .int x2), (3, .int x3), (4, .int x4)]) C.1 C.2.1 dX3_goesThrough_87 rfl hl (Nat.le_of_ble_eq_true rfl) rfl (fun ls hl => ?_)
          refine lv_iinc (v := (x4 + 1)) (lv' := [(4, .int (x4 + 1)), (1, .int 1), (5, .int (fm_spot x2 x3 x4)), (0, .ref (ad 0)), (2, .int x2), (3, .int x3)]) C.1 C.2.1 dX3_goesThrough_88 hl (k := 5) rfl rfl (Nat.le_of_ble_eq_true rfl) rfl (fun ls hl => ?_)
          refine lv_goto (tgt := 29) C.1 C.2.1 dX3_goesThrough_91 (by decide) ?_
          exact hK29 _ _ _ _ _ _ hf hw (lv_sub hl [3, 1, 4, 5, 0] rfl)
  have P29 : ∀ (x2 : Int32) (x3 : Int32) (K4 : St → Int32 → Int32 → Prop) (_ : ∀ (σ : St) (H : Heap) (locs : List Loc) (x1 : Int32) (x2 : Int32) (ls : Array Slot), K4 σ x1 x2 → gH D ct shM ad s σ H locs → lv_has ls 6 [(0, .ref (ad 0)), (1, .int x1), (2, .int x2)] → W p l e rm_m_goesThrough s m args below meth c H locs 0 0 QQ (F0 m 4 ls [])) (K16 : St → Int32 → Int32 → Prop) (_ : ∀ (σ : St) (H : Heap) (locs : List Loc) (x1 : Int32) (x3 : Int32) (ls : Array Slot), K16 σ x1 x3 → gH D ct shM ad s σ H locs → lv_has ls 6 [(0, .ref (ad 0)), (1, .int x1), (2, .int x2), (3, .int x3)] → W p l e rm_m_goesThrough s m args below meth c H locs 0 0 QQ (F0 m 16 ls [])) (n : Nat) (σ : St) (x1 : Int32) (x4 : Int32) (ls : Array Slot) (H : Heap) (locs : List Loc), LL3 (m_goesThrough_p29 x2 x3 Q K4 K16) n σ x1 x4 → gH D ct shM ad s σ H locs → lv_has ls 6 [(0, .ref (ad 0)), (1, .int x1), (2, .int x2), (3, .int x3), (4, .int x4)] → W p l e rm_m_goesThrough s m args below meth c H locs 0 0 QQ (F0 m 29 ls []) := by
    intro x2 x3 K4 hK4 K16 hK16 n
    induction n with
    | zero => intro σ x1 x4 ls H locs hf; exact False.elim hf
    | succ n ih => intro σ x1 x4 ls H locs hf hw hl; exact B29 x2 x3 K4 hK4 K16 hK16 (LL3 _ n) (fun σ H locs x1 x4 ls hf hw hl => ih σ x1 x4 ls H locs hf hw hl) σ H locs x1 x4 ls hf hw hl
  have B16 : ∀ (x2 : Int32) (K4 : St → Int32 → Int32 → Prop) (_ : ∀ (σ : St) (H : Heap) (locs : List Loc) (x1 : Int32) (x2 : Int32) (ls : Array Slot), K4 σ x1 x2 → gH D ct shM ad s σ H locs → lv_has ls 6 [(0, .ref (ad 0)), (1, .int x1), (2, .int x2)] → W p l e rm_m_goesThrough s m args below meth c H locs 0 0 QQ (F0 m 4 ls [])) (K16 : St → Int32 → Int32 → Prop) (_ : ∀ (σ : St) (H : Heap) (locs : List Loc) (x1 : Int32) (x3 : Int32) (ls : Array Slot), K16 σ x1 x3 → gH D ct shM ad s σ H locs → lv_has ls 6 [(0, .ref (ad 0)), (1, .int x1), (2, .int x2), (3, .int x3)] → W p l e rm_m_goesThrough s m args below meth c H locs 0 0 QQ (F0 m 16 ls [])) (σ : St) (H : Heap) (locs : List Loc) (x1 : Int32) (x3 : Int32) (ls : Array Slot), m_goesThrough_p16 x2 Q K4 K16 σ x1 x3 → gH D ct shM ad s σ H locs → lv_has ls 6 [(0, .ref (ad 0)), (1, .int x1), (2, .int x2), (3, .int x3)] → W p l e rm_m_goesThrough s m args below meth c H locs 0 0 QQ (F0 m 16 ls []) := by
    intro x2 K4 hK4 K16 hK16 σ H locs x1 x3 ls hf hw hl
    unfold m_goesThrough_p16 at hf
    refine lv_iload_n C.1 C.2.1 dX3_goesThrough_16 rfl (lv_at hl 3 rfl) ?_
    refine lv_aload_n C.1 C.2.1 dX3_goesThrough_17 rfl (lv_at hl 0 rfl) ?_
    refine mg_scalar C hw dX3_goesThrough_18 ?_
    refine lv_iconst (v := 2) C.1 C.2.1 dX3_goesThrough_21 rfl ?_
    refine g_iald C hw 2 rfl (vpD rfl) dX3_goesThrough_22 ?_
    refine lv_icmp_gt (tgt := 100) C.1 C.2.1 dX3_goesThrough_23 (by decide) (fun h23 => ?_) (fun h23 => ?_)
    · replace hf := hf.1 h23
      refine lv_iinc (v := (x2 + 1)) (lv' := [(2, .int (x2 + 1)), (0, .ref (ad 0)), (1, .int x1), (3, .int x3)]) C.1 C.2.1 dX3_goesThrough_100 hl (k := 2) rfl rfl (Nat.le_of_ble_eq_true rfl) rfl (fun ls hl => ?_)
      refine lv_goto (tgt := 4) C.1 C.2.1 dX3_goesThrough_103 (by decide) ?_
      exact hK4 _ _ _ _ _ _ hf hw (lv_sub hl [1, 2, 0] rfl)
    · replace hf := hf.2 h23
      refine lv_iload_n C.1 C.2.1 dX3_goesThrough_26 rfl (lv_at hl 3 rfl) ?_
      refine lv_istore (lv' := [(4, .int x3), (0, .ref (ad 0)), (1, .int x1), (2, .int x2), (3, .int x3)]) C.1 C.2.1 dX3_goesThrough_27 hl (Nat.le_of_ble_eq_true rfl) rfl (fun ls hl => ?_)
      obtain ⟨n, hf⟩ := hf
      exact P29 _ _ _ hK4 _ hK16 n _ _ _ _ _ _ hf hw (lv_sub hl [1, 2, 3, 4, 0] rfl)
  have P16 : ∀ (x2 : Int32) (K4 : St → Int32 → Int32 → Prop) (_ : ∀ (σ : St) (H : Heap) (locs : List Loc) (x1 : Int32) (x2 : Int32) (ls : Array Slot), K4 σ x1 x2 → gH D ct shM ad s σ H locs → lv_has ls 6 [(0, .ref (ad 0)), (1, .int x1), (2, .int x2)] → W p l e rm_m_goesThrough s m args below meth c H locs 0 0 QQ (F0 m 4 ls [])) (n : Nat) (σ : St) (x1 : Int32) (x3 : Int32) (ls : Array Slot) (H : Heap) (locs : List Loc), LL3 (m_goesThrough_p16 x2 Q K4) n σ x1 x3 → gH D ct shM ad s σ H locs → lv_has ls 6 [(0, .ref (ad 0)), (1, .int x1), (2, .int x2), (3, .int x3)] → W p l e rm_m_goesThrough s m args below meth c H locs 0 0 QQ (F0 m 16 ls []) := by
    intro x2 K4 hK4 n
    induction n with
    | zero => intro σ x1 x3 ls H locs hf; exact False.elim hf
    | succ n ih => intro σ x1 x3 ls H locs hf hw hl; exact B16 x2 K4 hK4 (LL3 _ n) (fun σ H locs x1 x3 ls hf hw hl => ih σ x1 x3 ls H locs hf hw hl) σ H locs x1 x3 ls hf hw hl
  have B4 : ∀ (K4 : St → Int32 → Int32 → Prop) (_ : ∀ (σ : St) (H : Heap) (locs : List Loc) (x1 : Int32) (x2 : Int32) (ls : Array Slot), K4 σ x1 x2 → gH D ct shM ad s σ H locs → lv_has ls 6 [(0, .ref (ad 0)), (1, .int x1), (2, .int x2)] → W p l e rm_m_goesThrough s m args below meth c H locs 0 0 QQ (F0 m 4 ls [])) (σ : St) (H : Heap) (locs : List Loc) (x1 : Int32) (x2 : Int32) (ls : Array Slot), m_goesThrough_p4 Q K4 σ x1 x2 → gH D ct shM ad s σ H locs → lv_has ls 6 [(0, .ref (ad 0)), (1, .int x1), (2, .int x2)] → W p l e rm_m_goesThrough s m args below meth c H locs 0 0 QQ (F0 m 4 ls []) := by
    intro K4 hK4 σ H locs x1 x2 ls hf hw hl
    unfold m_goesThrough_p4 at hf
    refine lv_iload_n C.1 C.2.1 dX3_goesThrough_4 rfl (lv_at hl 2 rfl) ?_
    refine lv_aload_n C.1 C.2.1 dX3_goesThrough_5 rfl (lv_at hl 0 rfl) ?_
    refine mg_scalar C hw dX3_goesThrough_6 ?_
    refine lv_iconst (v := 0) C.1 C.2.1 dX3_goesThrough_9 rfl ?_
    refine g_iald C hw 2 rfl (vpD rfl) dX3_goesThrough_10 ?_
    refine lv_icmp_ge (tgt := 106) C.1 C.2.1 dX3_goesThrough_11 (by decide) (fun h11 => ?_) (fun h11 => ?_)
    · replace hf := hf.1 h11
      refine lv_iload_n C.1 C.2.1 dX3_goesThrough_106 rfl (lv_at hl 1 rfl) ?_
      obtain ⟨hz, hf⟩ := hf
      exact hret _ _ _ _ _ _ hf hw hz dX3_goesThrough_107
    · replace hf := hf.2 h11
      refine lv_iconst (v := 0) C.1 C.2.1 dX3_goesThrough_14 rfl ?_
      refine lv_istore_n (lv' := [(3, .int 0), (0, .ref (ad 0)), (1, .int x1), (2, .int x2)]) C.1 C.2.1 dX3_goesThrough_15 rfl hl (Nat.le_of_ble_eq_true rfl) rfl (fun ls hl => ?_)
      obtain ⟨n, hf⟩ := hf
      exact P16 _ _ hK4 n _ _ _ _ _ _ hf hw (lv_sub hl [1, 2, 3, 0] rfl)
  have P4 : ∀ (n : Nat) (σ : St) (x1 : Int32) (x2 : Int32) (ls : Array Slot) (H : Heap) (locs : List Loc), LL3 (m_goesThrough_p4 Q) n σ x1 x2 → gH D ct shM ad s σ H locs → lv_has ls 6 [(0, .ref (ad 0)), (1, .int x1), (2, .int x2)] → W p l e rm_m_goesThrough s m args below meth c H locs 0 0 QQ (F0 m 4 ls []) := by
    intro  n
    induction n with
    | zero => intro σ x1 x2 ls H locs hf; exact False.elim hf
    | succ n ih => intro σ x1 x2 ls H locs hf hw hl; exact B4  (LL3 _ n) (fun σ H locs x1 x2 ls hf hw hl => ih σ x1 x2 ls H locs hf hw hl) σ H locs x1 x2 ls hf hw hl
  unfold m_goesThrough at hf
  obtain ⟨H, hH⟩ : ∃ q, q = s.heap := ⟨_, rfl⟩
  obtain ⟨locs, hL⟩ : ∃ q : List Loc, q = [] := ⟨_, rfl⟩
  rw [← hH, ← hL] at hw ⊢
  refine lv_iconst (v := 0) C.1 C.2.1 dX3_goesThrough_0 rfl ?_
  refine lv_istore_n (lv' := [(1, .int 0), (0, .ref (ad 0))]) C.1 C.2.1 dX3_goesThrough_1 rfl hl (Nat.le_of_ble_eq_true rfl) rfl (fun ls hl => ?_)
  refine lv_iconst (v := 0) C.1 C.2.1 dX3_goesThrough_2 rfl ?_
  refine lv_istore_n (lv' := [(2, .int 0), (1, .int 0), (0, .ref (ad 0))]) C.1 C.2.1 dX3_goesThrough_3 rfl hl (Nat.le_of_ble_eq_true rfl) rfl (fun ls hl => ?_)
  obtain ⟨n, hf⟩ := hf
  exact P4  n _ _ _ _ _ _ hf hw (lv_sub hl [2, 1, 0] rfl)
theorem km_goesThrough {p : Program} {l : Launch} {e : Env} {R : Room} {s : State} {m : MethodId} {args : Array Value} {below : List Frame} {meth : Method} {c : Code} {H : Heap} {locs : List Loc} {Z : State → Prop} {cc : ByteArray} {nL pc : Nat} {ls : Array Slot} {rest : List Value} {D : va_G} {ct : Ct} {ad : Nat → Nat} {σ : St} {Qp : Int32 → St → Prop} (C : CallFix p m c cc nL s args lw_all RX3) (hw : gH D ct shM ad s σ H locs) (hsz : ls.size = nL) (hrm : (rest.map fun v => v.category).sum ≤ 8) (hR : rm_m_goesThrough.frames + 1 ≤ R.frames ∧ 8 + (6 + 11) + rm_m_goesThrough.locals ≤ R.locals) (hdg : decode cc pc = .ok (.invokevirtual 509, 3)) (hf : m_goesThrough σ Qp) (kk : ∀ (r : Int32) (σ1 : St) (H1 : Heap) (locs1 : List Loc), Qp r σ1 → gH D ct shM ad s σ1 H1 locs1 → W p l e R s m args below meth c H1 locs1 0 0 Z (F0 m (pc + 3) ls (.int r :: rest))) : W p l e R s m args below meth c H locs 0 0 Z (F0 m pc ls (.ref (ad 0) :: rest)) :=
  g_callV (As := []) (rest := rest) C hw rfl rfl (met_m_goesThrough l D ct ad hw.2.1 σ Qp hf) (cwV 0 C.2.2.2.2 (lw_V q2000 q2002 qs172 q207 q2003) rfl rfl rfl (by decide +kernel) hR) rfl hsz rfl hrm ⟨Nat.zero_le _, Nat.zero_le _⟩ hdg kk
def m_countsNode_p75 (σ : St) (Q : Unit → St → Prop) (v0 : Int32) : Prop :=
  (∀ s75 : St, s75 = s_I σ 58 v0 → Q () s75)
def m_countsNode_p65 (σ : St) (x2 : Int32) (x3 : Int32) (Q : Unit → St → Prop) : Prop :=
  (m_countsNode_p75 σ Q (x3 - x2))
def m_countsNode_p25 (σ : St) (x2 : Int32) (x3 : Int32) (x4 : Int32) (Q : Unit → St → Prop) (v0 : Int32) (v1 : Int32) : Prop :=
  (∀ s26 : St, s26 = s_I σ 56 (v1 + v0) → ((x4 ≤ 1 → Q () s26) ∧ (¬ x4 ≤ 1 → (∀ s42 : St, s42 = s_I s26 57 ((s26.1 57) + 1) → (((s42.1 58) = (-2) → (m_countsNode_p65 s42 x2 x3 Q)) ∧ (¬ (s42.1 58) = (-2) → (((s42.1 58) ≤ (x3 - x2) → (m_countsNode_p75 s42 Q (s42.1 58))) ∧ (¬ (s42.1 58) ≤ (x3 - x2) → (m_countsNode_p65 s42 x2 x3 Q)))))))))
def m_countsNode (σ : St) (x1 : Int32) (x2 : Int32) (x3 : Int32) (Q : Unit → St → Prop) : Prop :=
  (m_waysOfNode σ x1 x2 x3 (fun r4 s4 => ((r4 = (-1) → (m_countsNode_p25 s4 x2 x3 r4 Q 0 (s4.1 56))) ∧ (¬ r4 = (-1) → (m_countsNode_p25 s4 x2 x3 r4 Q 1 (s4.1 56))))))
abbrev rm_m_countsNode : Room := { frames := 6, cells := 0, slots := 0, locals := 148 }
set_option maxHeartbeats 4000000 in
theorem met_m_countsNode (l : Launch) (D : va_G) (ct : Ct) (ad : Nat → Nat) (hJ : gJ shM ad ct) (σ : St) (x1 : Int32) (x2 : Int32) (x3 : Int32) (Q : Unit → St → Prop) (hf : m_countsNode σ x1 x2 x3 Q) : Met l yX3_countsNode (ws_ yX3_countsNode cX3_countsNode 5 (none)) rm_m_countsNode (va_Pc [.ref (ad 0), .int x1, .int x2, .int x3] (gP D ct shM ad σ)) (gQ rvV D ct shM ad Q) 0 0 (gA shM ad) := by
  refine g_metV hJ (by decide) (Nat.le_of_ble_eq_true rfl) ?_
  intro p e s m args below meth c QQ ls C hw hl hret
  replace hl : lv_has ls 5 [(0, .ref (ad 0)), (1, .int x1), (2, .int x2), (3, .int x3)] := hl
  have J75 : ∀ (σ : St) (H : Heap) (locs : List Loc) (v0 : Int32) (ls : Array Slot), m_countsNode_p75 σ Q v0 → gH D ct shM ad s σ H locs → lv_has ls 5 [] → W p l e rm_m_countsNode s m args below meth c H locs 0 0 QQ (F0 m 75 ls [.int v0, .ref (ad 0)]) := by
    intro σ H locs v0 ls hf hw hl
    unfold m_countsNode_p75 at hf
    refine mp_narrow C hw dX3_countsNode_75 (fun s75 H locs e75 hw => ?_)
    replace hf := hf s75 e75
    exact hret _ _ _ _ _ _ hf hw dX3_countsNode_78
  have J65 : ∀ (σ : St) (H : Heap) (locs : List Loc) (x2 : Int32) (x3 : Int32) (ls : Array Slot), m_countsNode_p65 σ x2 x3 Q → gH D ct shM ad s σ H locs → lv_has ls 5 [(2, .int x2), (3, .int x3)] → W p l e rm_m_countsNode s m args below meth c H locs 0 0 QQ (F0 m 65 ls [.ref (ad 0)]) := by
    intro σ H locs x2 x3 ls hf hw hl
    unfold m_countsNode_p65 at hf
    refine lv_iload_n C.1 C.2.1 dX3_countsNode_65 rfl (lv_at hl 1 rfl) ?_
    refine lv_iload_n C.1 C.2.1 dX3_countsNode_66 rfl (lv_at hl 0 rfl) ?_
    refine lv_isub C.1 C.2.1 dX3_countsNode_67 ?_
    refine lv_goto (tgt := 75) C.1 C.2.1 dX3_countsNode_68 (by decide) ?_
    exact J75 _ _ _ _ _ hf hw (lv_sub hl [] rfl)
  have J25 : ∀ (σ : St) (H : Heap) (locs : List Loc) (x2 : Int32) (x3 : Int32) (x4 : Int32) (v0 : Int32) (v1 : Int32) (ls : Array Slot), m_countsNode_p25 σ x2 x3 x4 Q v0 v1 → gH D ct shM ad s σ H locs → lv_has ls 5 [(0, .ref (ad 0)), (2, .int x2), (3, .int x3), (4, .int x4)] → W p l e rm_m_countsNode s m args below meth c H locs 0 0 QQ (F0 m 25 ls [.int v0, .int v1, .ref (ad 0)]) := by
    intro σ H locs x2 x3 x4 v0 v1 ls hf hw hl
    unfold m_countsNode_p25 at hf
    refine lv_iadd C.1 C.2.1 dX3_countsNode_25 ?_
    refine mp_nodes C hw dX3_countsNode_26 (fun s26 H locs e26 hw => ?_)
    replace hf := hf s26 e26
    refine lv_iload C.1 C.2.1 dX3_countsNode_29 (lv_at hl 3 rfl) ?_
    refine lv_iconst (v := 1) C.1 C.2.1 dX3_countsNode_31 rfl ?_
    refine lv_icmp_le (tgt := 78) C.1 C.2.1 dX3_countsNode_32 (by decide) (fun h32 => ?_) (fun h32 => ?_)
    · replace hf := hf.1 h32
      exact hret _ _ _ _ _ _ hf hw dX3_countsNode_78
    · replace hf := hf.2 h32
      refine lv_aload_n C.1 C.2.1 dX3_countsNode_35 rfl (lv_at hl 0 rfl) ?_
      refine lv_dup C.1 C.2.1 dX3_countsNode_36 rfl ?_
      refine mg_unsure C hw dX3_countsNode_37 ?_
      refine lv_iconst (v := 1) C.1 C.2.1 dX3_countsNode_40 rfl ?_
      refine lv_iadd C.1 C.2.1 dX3_countsNode_41 ?_
      refine mp_unsure C hw dX3_countsNode_42 (fun s42 H locs e42 hw => ?_)
      replace hf := hf s42 e42
      refine lv_aload_n C.1 C.2.1 dX3_countsNode_45 rfl (lv_at hl 0 rfl) ?_
      refine lv_aload_n C.1 C.2.1 dX3_countsNode_46 rfl (lv_at hl 0 rfl) ?_
      refine mg_narrow C hw dX3_countsNode_47 ?_
      refine lv_bipush (v := (-2)) C.1 C.2.1 dX3_countsNode_50 rfl ?_
      refine lv_icmp_eq (tgt := 65) C.1 C.2.1 dX3_countsNode_52 (by decide) (fun h52 => ?_) (fun h52 => ?_)
      · replace hf := hf.1 h52
        exact J65 _ _ _ _ _ _ hf hw (lv_sub hl [1, 2] rfl)
      · replace hf := hf.2 h52
        refine lv_iload_n C.1 C.2.1 dX3_countsNode_55 rfl (lv_at hl 2 rfl) ?_
        refine lv_iload_n C.1 C.2.1 dX3_countsNode_56 rfl (lv_at hl 1 rfl) ?_
        refine lv_isub C.1 C.2.1 dX3_countsNode_57 ?_
        refine lv_aload_n C.1 C.2.1 dX3_countsNode_58 rfl (lv_at hl 0 rfl) ?_
        refine mg_narrow C hw dX3_countsNode_59 ?_
        refine lv_icmp_ge (tgt := 71) C.1 C.2.1 dX3_countsNode_62 (by decide) (fun h62 => ?_) (fun h62 => ?_)
        · replace hf := hf.1 h62
          refine lv_aload_n C.1 C.2.1 dX3_countsNode_71 rfl (lv_at hl 0 rfl) ?_
          refine mg_narrow C hw dX3_countsNode_72 ?_
          exact J75 _ _ _ _ _ hf hw (lv_sub hl [] rfl)
        · replace hf := hf.2 h62
          exact J65 _ _ _ _ _ _ hf hw (lv_sub hl [1, 2] rfl)
  unfold m_countsNode at hf
  obtain ⟨H, hH⟩ : ∃ q, q = s.heap := ⟨_, rfl⟩
  obtain ⟨locs, hL⟩ : ∃ q : List Loc, q = [] := ⟨_, rfl⟩
  rw [← hH, ← hL] at hw ⊢
  refine lv_aload_n C.1 C.2.1 dX3_countsNode_0 rfl (lv_at hl 0 rfl) ?_
  refine lv_iload_n C.1 C.2.1 dX3_countsNode_1 rfl (lv_at hl 1 rfl) ?_
  refine lv_iload_n C.1 C.2.1 dX3_countsNode_2 rfl (lv_at hl 2 rfl) ?_
  refine lv_iload_n C.1 C.2.1 dX3_countsNode_3 rfl (lv_at hl 3 rfl) ?_
  refine km_waysOfNode C hw hl.1 (Nat.le_of_ble_eq_true rfl) ⟨Nat.le_of_ble_eq_true rfl, Nat.le_of_ble_eq_true rfl⟩ dX3_countsNode_4 hf (fun r4 s4 H locs hf hw => ?_)
  refine lv_istore (lv' := [(4, .int r4), (0, .ref (ad 0)), (1, .int x1), (2, .int x2), (3, .int x3)]) C.1 C.2.1 dX3_countsNode_7 hl (Nat.le_of_ble_eq_true rfl) rfl (fun ls hl => ?_)
  refine lv_aload_n C.1 C.2.1 dX3_countsNode_9 rfl (lv_at hl 1 rfl) ?_
  refine lv_dup C.1 C.2.1 dX3_countsNode_10 rfl ?_
  refine mg_nodes C hw dX3_countsNode_11 ?_
  refine lv_iload C.1 C.2.1 dX3_countsNode_14 (lv_at hl 0 rfl) ?_
  refine lv_iconst (v := (-1)) C.1 C.2.1 dX3_countsNode_16 rfl ?_
  refine lv_icmp_ne (tgt := 24) C.1 C.2.1 dX3_countsNode_17 (by decide) (fun h17 => ?_) (fun h17 => ?_)
  · replace hf := hf.2 h17
    refine lv_iconst (v := 1) C.1 C.2.1 dX3_countsNode_24 rfl ?_
    exact J25 _ _ _ _ _ _ _ _ _ hf hw (lv_sub hl [1, 3, 4, 0] rfl)
  · replace hf := hf.1 h17
    refine lv_iconst (v := 0) C.1 C.2.1 dX3_countsNode_20 rfl ?_
    refine lv_goto (tgt := 25) C.1 C.2.1 dX3_countsNode_21 (by decide) ?_
    exact J25 _ _ _ _ _ _ _ _ _ hf hw (lv_sub hl [1, 3, 4, 0] rfl)
theorem km_countsNode {p : Program} {l : Launch} {e : Env} {R : Room} {s : State} {m : MethodId} {args : Array Value} {below : List Frame} {meth : Method} {c : Code} {H : Heap} {locs : List Loc} {Z : State → Prop} {cc : ByteArray} {nL pc : Nat} {ls : Array Slot} {rest : List Value} {D : va_G} {ct : Ct} {ad : Nat → Nat} {σ : St} {x1 : Int32} {x2 : Int32} {x3 : Int32} {Qp : Unit → St → Prop} (C : CallFix p m c cc nL s args lw_all RX3) (hw : gH D ct shM ad s σ H locs) (hsz : ls.size = nL) (hrm : (rest.map fun v => v.category).sum ≤ 8) (hR : rm_m_countsNode.frames + 1 ≤ R.frames ∧ 8 + (5 + 11) + rm_m_countsNode.locals ≤ R.locals) (hdg : decode cc pc = .ok (.invokevirtual 533, 3)) (hf : m_countsNode σ x1 x2 x3 Qp) (kk : ∀ (r : Unit) (σ1 : St) (H1 : Heap) (locs1 : List Loc), Qp r σ1 → gH D ct shM ad s σ1 H1 locs1 → W p l e R s m args below meth c H1 locs1 0 0 Z (F0 m (pc + 3) ls (rest))) : W p l e R s m args below meth c H locs 0 0 Z (F0 m pc ls (.int x3 :: .int x2 :: .int x1 :: .ref (ad 0) :: rest)) :=
  g_callV (As := [.int x1, .int x2, .int x3]) (rest := rest) C hw rfl rfl (met_m_countsNode l D ct ad hw.2.1 σ x1 x2 x3 Qp hf) (cwV 3 C.2.2.2.2 (lw_V q2033 q2035 qs178 q207 q2036) rfl rfl rfl (by decide +kernel) hR) rfl hsz rfl hrm ⟨Nat.zero_le _, Nat.zero_le _⟩ hdg kk
def m_shrinks_p129 (σ : St) (x1 : Int32) (x2 : Int32) (x3 : Int32) (x4 : Int32) (Q : Int32 → St → Prop) (K4 : St → Int32 → Int32 → Prop) (K19 : St → Int32 → Int32 → Prop) (v0 : Int32) (v1 : Int32) : Prop :=
  (vp_in v1 2028 ∧ (∀ s129 : St, s129 = s_A σ 59 (Int32.toNatClampNeg v1) v0 → K19 s129 x2 (x4 + 1)))
def m_shrinks_p98 (σ : St) (x1 : Int32) (x3 : Int32) (x4 : Int32) (x5 : Int32) (x6 : Int32) (Q : Int32 → St → Prop) (K4 : St → Int32 → Int32 → Prop) (K19 : St → Int32 → Int32 → Prop) (v0 : Int32) : Prop :=
  (vp_in x5 2028 ∧ (((gI σ 59 x5) ≤ x6 → (m_shrinks_p129 σ x1 v0 x3 x4 Q K4 K19 (gI σ 59 x5) x5)) ∧ (¬ (gI σ 59 x5) ≤ x6 → (m_shrinks_p129 σ x1 v0 x3 x4 Q K4 K19 x6 x5))))
def m_shrinks_p93 (σ : St) (x1 : Int32) (x3 : Int32) (x4 : Int32) (x5 : Int32) (x6 : Int32) (Q : Int32 → St → Prop) (K4 : St → Int32 → Int32 → Prop) (K19 : St → Int32 → Int32 → Prop) : Prop :=
  (m_shrinks_p98 σ x1 x3 x4 x5 x6 Q K4 K19 1)
def m_shrinks_p19 (x1 : Int32) (x3 : Int32) (Q : Int32 → St → Prop) (K4 : St → Int32 → Int32 → Prop) (K19 : St → Int32 → Int32 → Prop) (σ : St) (x2 : Int32) (x4 : Int32) : Prop :=
  (((gI σ 2 0) ≤ x4 → K4 σ x2 (x3 + 1)) ∧ (¬ (gI σ 2 0) ≤ x4 → (vp_in (2028 + (fm_spot x4 x3 (x3 + x1))) 4056 ∧ (((gI σ 43 (2028 + (fm_spot x4 x3 (x3 + x1)))) = 0 → K19 σ x2 (x4 + 1)) ∧ (¬ (gI σ 43 (2028 + (fm_spot x4 x3 (x3 + x1)))) = 0 → (m_laysSizes σ x4 x3 (x3 + x1) (fun _ s62 => (vp_in x3 65 ∧ ((x2 = 0 → (vp_in (fm_spot x4 x3 (x3 + x1)) 2028 ∧ (((gI s62 59 (fm_spot x4 x3 (x3 + x1))) ≤ (fm_joined 1 (gI s62 60 x3)) → (m_shrinks_p98 s62 x1 x3 x4 (fm_spot x4 x3 (x3 + x1)) (fm_joined 1 (gI s62 60 x3)) Q K4 K19 0)) ∧ (¬ (gI s62 59 (fm_spot x4 x3 (x3 + x1))) ≤ (fm_joined 1 (gI s62 60 x3)) → (m_shrinks_p93 s62 x1 x3 x4 (fm_spot x4 x3 (x3 + x1)) (fm_joined 1 (gI s62 60 x3)) Q K4 K19))))) ∧ (¬ x2 = 0 → (m_shrinks_p93 s62 x1 x3 x4 (fm_spot x4 x3 (x3 + x1)) (fm_joined 1 (gI s62 60 x3)) Q K4 K19)))))))))))
def m_shrinks_p4 (x1 : Int32) (Q : Int32 → St → Prop) (K4 : St → Int32 → Int32 → Prop) (σ : St) (x2 : Int32) (x3 : Int32) : Prop :=
  (((gI σ 2 2) < (x3 + x1) → (zB x2 ∧ Q x2 σ)) ∧ (¬ (gI σ 2 2) < (x3 + x1) → (Lp3 (m_shrinks_p19 x1 x3 Q K4) σ x2 0)))
def m_shrinks (σ : St) (x1 : Int32) (Q : Int32 → St → Prop) : Prop :=
  (Lp3 (m_shrinks_p4 x1 Q) σ 0 0)
abbrev rm_m_shrinks : Room := { frames := 6, cells := 0, slots := 0, locals := 150 }
set_option maxHeartbeats 4000000 in
theorem met_m_shrinks (l : Launch) (D : va_G) (ct : Ct) (ad : Nat → Nat) (hJ : gJ shM ad ct) (σ : St) (x1 : Int32) (Q : Int32 → St → Prop) (hf : m_shrinks σ x1 Q) : Met l yX3_shrinks (ws_ yX3_shrinks cX3_shrinks 7 (some .boolean)) rm_m_shrinks (va_Pc [.ref (ad 0), .int x1] (gP D ct shM ad σ)) (gQ rvI D ct shM ad Q) 0 0 (gA shM ad) := by
  refine g_metZ hJ (by decide) (Nat.le_of_ble_eq_true rfl) ?_
  intro p e s m args below meth c QQ ls C hw hl hret
  replace hl : lv_has ls 7 [(0, .ref (ad 0)), (1, .int x1)] := hl
  have J129 : ∀ (σ : St) (H : Heap) (locs : List Loc) (x1 : Int32) (x2 : Int32) (x3 : Int32) (x4 : Int32) (v0 : Int32) (v1 : Int32) (K4 : St → Int32 → Int32 → Prop) (_ : ∀ (σ : St) (H : Heap) (locs : List Loc) (x2 : Int32) (x3 : Int32) (ls : Array Slot), K4 σ x2 x3 → gH D ct shM ad s σ H locs → lv_has ls 7 [(0, .ref (ad 0)), (1, .int x1), (2, .int x2), (3, .int x3)] → W p l e rm_m_shrinks s m args below meth c H locs 0 0 QQ (F0 m 4 ls [])) (K19 : St → Int32 → Int32 → Prop) (_ : ∀ (σ : St) (H : Heap) (locs : List Loc) (x2 : Int32) (x4 : Int32) (ls : Array Slot), K19 σ x2 x4 → gH D ct shM ad s σ H locs → lv_has ls 7 [(0, .ref (ad 0)), (1, .int x1), (2, .int x2), (3, .int x3), (4, .int x4)] → W p l e rm_m_shrinks s m args below meth c H locs 0 0 QQ (F0 m 19 ls [])) (ls : Array Slot), m_shrinks_p129 σ x1 x2 x3 x4 Q K4 K19 v0 v1 → gH D ct shM ad s σ H locs → lv_has ls 7 [(0, .ref (ad 0)), (1, .int x1), (2, .int x2), (3, .int x3), (4, .int x4)] → W p l e rm_m_shrinks s m args below meth c H locs 0 0 QQ (F0 m 129 ls [.int v0, .int v1, .ref (ad 59)]) := by
    intro σ H locs x1 x2 x3 x4 v0 v1 K4 hK4 K19 hK19 ls hf hw hl
    unfold m_shrinks_p129 at hf
    obtain ⟨b129, hf⟩ := hf
    refine g_iast C shM_sep hw 59 rfl b129 dX3_shrinks_129 (fun s129 H locs e129 hw => ?_)
    replace hf := hf s129 e129
    refine lv_iinc (v := (x4 + 1)) (lv' := [(4, .int (x4 + 1)), (0, .ref (ad 0)), (1, .int x1), (2, .int x2), (3, .int x3)]) C.1 C.2.1 dX3_shrinks_130 hl (k := 4) rfl rfl (Nat.le_of_ble_eq_true rfl) rfl (fun ls hl => ?_)
    refine lv_goto (tgt := 19) C.1 C.2.1 dX3_shrinks_133 (by decide) ?_
    exact hK19 _ _ _ _ _ _ hf hw (lv_sub hl [1, 2, 3, 4, 0] rfl)
  have J98 : ∀ (σ : St) (H : Heap) (locs : List Loc) (x1 : Int32) (x3 : Int32) (x4 : Int32) (x5 : Int32) (x6 : Int32) (v0 : Int32) (K4 : St → Int32 → Int32 → Prop) (_ : ∀ (σ : St) (H : Heap) (locs : List Loc) (x2 : Int32) (x3 : Int32) (ls : Array Slot), K4 σ x2 x3 → gH D ct shM ad s σ H locs → lv_has ls 7 [(0, .ref (ad 0)), (1, .int x1), (2, .int x2), (3, .int x3)] → W p l e rm_m_shrinks s m args below meth c H locs 0 0 QQ (F0 m 4 ls [])) (K19 : St → Int32 → Int32 → Prop) (_ : ∀ (σ : St) (H : Heap) (locs : List Loc) (x2 : Int32) (x4 : Int32) (ls : Array Slot), K19 σ x2 x4 → gH D ct shM ad s σ H locs → lv_has ls 7 [(0, .ref (ad 0)), (1, .int x1), (2, .int x2), (3, .int x3), (4, .int x4)] → W p l e rm_m_shrinks s m args below meth c H locs 0 0 QQ (F0 m 19 ls [])) (ls : Array Slot), m_shrinks_p98 σ x1 x3 x4 x5 x6 Q K4 K19 v0 → gH D ct shM ad s σ H locs → lv_has ls 7 [(0, .ref (ad 0)), (1, .int x1), (3, .int x3), (4, .int x4), (5, .int x5), (6, .int x6)] → W p l e rm_m_shrinks s m args below meth c H locs 0 0 QQ (F0 m 98 ls [.int v0]) := by
    intro σ H locs x1 x3 x4 x5 x6 v0 K4 hK4 K19 hK19 ls hf hw hl
    unfold m_shrinks_p98 at hf
    refine lv_istore_n (lv' := [(2, .int v0), (0, .ref (ad 0)), (1, .int x1), (3, .int x3), (4, .int x4), (5, .int x5), (6, .int x6)]) C.1 C.2.1 dX3_shrinks_98 rfl hl (Nat.le_of_ble_eq_true rfl) rfl (fun ls hl => ?_)
    refine lv_aload_n C.1 C.2.1 dX3_shrinks_99 rfl (lv_at hl 1 rfl) ?_
    refine mg_sizeOf C hw dX3_shrinks_100 ?_
    refine lv_iload C.1 C.2.1 dX3_shrinks_103 (lv_at hl 5 rfl) ?_
    refine lv_iload C.1 C.2.1 dX3_shrinks_105 (lv_at hl 6 rfl) ?_
    refine lv_aload_n C.1 C.2.1 dX3_shrinks_107 rfl (lv_at hl 1 rfl) ?_
    refine mg_sizeOf C hw dX3_shrinks_108 ?_
    refine lv_iload C.1 C.2.1 dX3_shrinks_111 (lv_at hl 5 rfl) ?_
    obtain ⟨b113, hf⟩ := hf
    refine g_iald C hw 59 rfl b113 dX3_shrinks_113 ?_
    refine lv_icmp_ge (tgt := 122) C.1 C.2.1 dX3_shrinks_114 (by decide) (fun h114 => ?_) (fun h114 => ?_)
    · replace hf := hf.1 h114
      refine lv_aload_n C.1 C.2.1 dX3_shrinks_122 rfl (lv_at hl 1 rfl) ?_
      refine mg_sizeOf C hw dX3_shrinks_123 ?_
      refine lv_iload C.1 C.2.1 dX3_shrinks_126 (lv_at hl 5 rfl) ?_
      refine g_iald C hw 59 rfl b113 dX3_shrinks_128 ?_
      exact J129 _ _ _ _ _ _ _ _ _ _ hK4 _ hK19 _ hf hw (lv_sub hl [1, 2, 0, 3, 4] rfl)
    · replace hf := hf.2 h114
      refine lv_iload C.1 C.2.1 dX3_shrinks_117 (lv_at hl 6 rfl) ?_
      refine lv_goto (tgt := 129) C.1 C.2.1 dX3_shrinks_119 (by decide) ?_
      exact J129 _ _ _ _ _ _ _ _ _ _ hK4 _ hK19 _ hf hw (lv_sub hl [1, 2, 0, 3, 4] rfl)
  have J93 : ∀ (σ : St) (H : Heap) (locs : List Loc) (x1 : Int32) (x3 : Int32) (x4 : Int32) (x5 : Int32) (x6 : Int32) (K4 : St → Int32 → Int32 → Prop) (_ : ∀ (σ : St) (H : Heap) (locs : List Loc) (x2 : Int32) (x3 : Int32) (ls : Array Slot), K4 σ x2 x3 → gH D ct shM ad s σ H locs → lv_has ls 7 [(0, .ref (ad 0)), (1, .int x1), (2, .int x2), (3, .int x3)] → W p l e rm_m_shrinks s m args below meth c H locs 0 0 QQ (F0 m 4 ls [])) (K19 : St → Int32 → Int32 → Prop) (_ : ∀ (σ : St) (H : Heap) (locs : List Loc) (x2 : Int32) (x4 : Int32) (ls : Array Slot), K19 σ x2 x4 → gH D ct shM ad s σ H locs → lv_has ls 7 [(0, .ref (ad 0)), (1, .int x1), (2, .int x2), (3, .int x3), (4, .int x4)] → W p l e rm_m_shrinks s m args below meth c H locs 0 0 QQ (F0 m 19 ls [])) (ls : Array Slot), m_shrinks_p93 σ x1 x3 x4 x5 x6 Q K4 K19 → gH D ct shM ad s σ H locs → lv_has ls 7 [(0, .ref (ad 0)), (1, .int x1), (3, .int x3), (4, .int x4), (5, .int x5), (6, .int x6)] → W p l e rm_m_shrinks s m args below meth c H locs 0 0 QQ (F0 m 93 ls []) := by
    intro σ H locs x1 x3 x4 x5 x6 K4 hK4 K19 hK19 ls hf hw hl
    unfold m_shrinks_p93 at hf
    refine lv_iconst (v := 1) C.1 C.2.1 dX3_shrinks_93 rfl ?_
    refine lv_goto (tgt := 98) C.1 C.2.1 dX3_shrinks_94 (by decide) ?_
    exact J98 _ _ _ _ _ _ _ _ _ _ hK4 _ hK19 _ hf hw (lv_sub hl [0, 1, 2, 3, 4, 5] rfl)
  have B19 : ∀ (x1 : Int32) (x3 : Int32) (K4 : St → Int32 → Int32 → Prop) (_ : ∀ (σ : St) (H : Heap) (locs : List Loc) (x2 : Int32) (x3 : Int32) (ls : Array Slot), K4 σ x2 x3 → gH D ct shM ad s σ H locs → lv_has ls 7 [(0, .ref (ad 0)), (1, .int x1), (2, .int x2), (3, .int x3)] → W p l e rm_m_shrinks s m args below meth c H locs 0 0 QQ (F0 m 4 ls [])) (K19 : St → Int32 → Int32 → Prop) (_ : ∀ (σ : St) (H : Heap) (locs : List Loc) (x2 : Int32) (x4 : Int32) (ls : Array Slot), K19 σ x2 x4 → gH D ct shM ad s σ H locs → lv_has ls 7 [(0, .ref (ad 0)), (1, .int x1), (2, .int x2), (3, .int x3), (4, .int x4)] → W p l e rm_m_shrinks s m args below meth c H locs 0 0 QQ (F0 m 19 ls [])) (σ : St) (H : Heap) (locs : List Loc) (x2 : Int32) (x4 : Int32) (ls : Array Slot), m_shrinks_p19 x1 x3 Q K4 K19 σ x2 x4 → gH D ct shM ad s σ H locs → lv_has ls 7 [(0, .ref (ad 0)), (1, .int x1), (2, .int x2), (3, .int x3), (4, .int x4)] → W p l e rm_m_shrinks s m args below meth c H locs 0 0 QQ (F0 m 19 ls []) := by
    intro x1 x3 K4 hK4 K19 hK19 σ H locs x2 x4 ls hf hw hl
    unfold m_shrinks_p19 at hf
    refine lv_iload C.1 C.2.1 dX3_shrinks_19 (lv_at hl 4 rfl) ?_
    refine lv_aload_n C.1 C.2.1 dX3_shrinks_21 rfl (lv_at hl 0 rfl) ?_
    refine mg_scalar C hw dX3_shrinks_22 ?_
    refine lv_iconst (v := 0) C.1 C.2.1 dX3_shrinks_25 rfl ?_
    refine g_iald C hw 2 rfl (vpD rfl) dX3_shrinks_26 ?_
    refine lv_icmp_ge (tgt := 136) C.1 C.2.1 dX3_shrinks_27 (by decide) (fun h27 => ?_) (fun h27 => ?_)
    · replace hf := hf.1 h27
      refine lv_iinc (v := (x3 + 1)) (lv' := [(3, .int (x3 + 1)), (0, .ref (ad 0)), (1, .int x1), (2, .int x2), (4, .int x4)]) C.1 C.2.1 dX3_shrinks_136 hl (k := 3) rfl rfl (Nat.le_of_ble_eq_true rfl) rfl (fun ls hl => ?_)
      refine lv_goto (tgt := 4) C.1 C.2.1 dX3_shrinks_139 (by decide) ?_
      exact hK4 _ _ _ _ _ _ hf hw (lv_sub hl [1, 2, 3, 0] rfl)
    · replace hf := hf.2 h27
      refine lv_iload C.1 C.2.1 dX3_shrinks_30 (lv_at hl 4 rfl) ?_
      refine lv_iload_n C.1 C.2.1 dX3_shrinks_32 rfl (lv_at hl 3 rfl) ?_
      refine lv_iload_n C.1 C.2.1 dX3_shrinks_33 rfl (lv_at hl 3 rfl) ?_
      refine lv_iload_n C.1 C.2.1 dX3_shrinks_34 rfl (lv_at hl 1 rfl) ?_
      refine lv_iadd C.1 C.2.1 dX3_shrinks_35 ?_
      refine km_spot C hl.1 (Nat.le_of_ble_eq_true rfl) ⟨Nat.le_of_ble_eq_true rfl, Nat.le_of_ble_eq_true rfl⟩ dX3_shrinks_36 ?_
      refine lv_istore (lv' := [(5, .int (fm_spot x4 x3 (x3 + x1))), (0, .ref (ad 0)), (1, .int x1), (2, .int x2), (3, .int x3), (4, .int x4)]) C.1 C.2.1 dX3_shrinks_39 hl (Nat.le_of_ble_eq_true rfl) rfl (fun ls hl => ?_)
      refine lv_aload_n C.1 C.2.1 dX3_shrinks_41 rfl (lv_at hl 1 rfl) ?_
      refine mg_made C hw dX3_shrinks_42 ?_
      refine lv_sipush (v := 2028) C.1 C.2.1 dX3_shrinks_45 rfl ?_
      refine lv_iload C.1 C.2.1 dX3_shrinks_48 (lv_at hl 0 rfl) ?_
      refine lv_iadd C.1 C.2.1 dX3_shrinks_50 ?_
      obtain ⟨b51, hf⟩ := hf
      refine g_zald C hw 43 rfl b51 dX3_shrinks_51 ?_
      refine lv_if_eq (tgt := 130) C.1 C.2.1 dX3_shrinks_52 (by decide) (fun h52 => ?_) (fun h52 => ?_)
      · replace hf := hf.1 h52
        refine lv_iinc (v := (x4 + 1)) (lv' := [(4, .int (x4 + 1)), (5, .int (fm_spot x4 x3 (x3 + x1))), (0, .ref (ad 0)), (1, .int x1), (2, .int x2), (3, .int x3)]) C.1 C.2.1 dX3_shrinks_130 hl (k := 5) rfl rfl (Nat.le_of_ble_eq_true rfl) rfl (fun ls hl => ?_)
        refine lv_goto (tgt := 19) C.1 C.2.1 dX3_shrinks_133 (by decide) ?_
        exact hK19 _ _ _ _ _ _ hf hw (lv_sub hl [2, 3, 4, 5, 0] rfl)
      · replace hf := hf.2 h52
        refine lv_aload_n C.1 C.2.1 dX3_shrinks_55 rfl (lv_at hl 1 rfl) ?_
        refine lv_iload C.1 C.2.1 dX3_shrinks_56 (lv_at hl 5 rfl) ?_
        refine lv_iload_n C.1 C.2.1 dX3_shrinks_58 rfl (lv_at hl 4 rfl) ?_
        refine lv_iload_n C.1 C.2.1 dX3_shrinks_59 rfl (lv_at hl 4 rfl) ?_
        refine lv_iload_n C.1 C.2.1 dX3_shrinks_60 rfl (lv_at hl 2 rfl) ?_
        refine lv_iadd C.1 C.2.1 dX3_shrinks_61 ?_
        refine km_laysSizes C hw hl.1 (Nat.le_of_ble_eq_true rfl) ⟨Nat.le_of_ble_eq_true rfl, Nat.le_of_ble_eq_true rfl⟩ dX3_shrinks_62 hf (fun _ s62 H locs hf hw => ?_)
        refine lv_iconst (v := 1) C.1 C.2.1 dX3_shrinks_65 rfl ?_
        refine lv_aload_n C.1 C.2.1 dX3_shrinks_66 rfl (lv_at hl 1 rfl) ?_
        refine mg_sizesBehind C hw dX3_shrinks_67 ?_
        refine lv_iload_n C.1 C.2.1 dX3_shrinks_70 rfl (lv_at hl 4 rfl) ?_
        obtain ⟨b71, hf⟩ := hf
        refine g_iald C hw 60 rfl b71 dX3_shrinks_71 ?_
        refine km_joined C hl.1 (Nat.le_of_ble_eq_true rfl) ⟨Nat.le_of_ble_eq_true rfl, Nat.le_of_ble_eq_true rfl⟩ dX3_shrinks_72 ?_
        refine lv_istore (lv' := [(6, .int (fm_joined 1 (gI s62 60 x3))), (5, .int (fm_spot x4 x3 (x3 + x1))), (0, .ref (ad 0)), (1, .int x1), (2, .int x2), (3, .int x3), (4, .int x4)]) C.1 C.2.1 dX3_shrinks_75 hl (Nat.le_of_ble_eq_true rfl) rfl (fun ls hl => ?_)
        refine lv_iload_n C.1 C.2.1 dX3_shrinks_77 rfl (lv_at hl 4 rfl) ?_
        refine lv_if_ne (tgt := 93) C.1 C.2.1 dX3_shrinks_78 (by decide) (fun h78 => ?_) (fun h78 => ?_)
        · replace hf := hf.2 h78
          exact J93 _ _ _ _ _ _ _ _ _ hK4 _ hK19 _ hf hw (lv_sub hl [2, 3, 5, 6, 1, 0] rfl)
        · replace hf := hf.1 h78
          refine lv_iload C.1 C.2.1 dX3_shrinks_81 (lv_at hl 0 rfl) ?_
          refine lv_aload_n C.1 C.2.1 dX3_shrinks_83 rfl (lv_at hl 2 rfl) ?_
          refine mg_sizeOf C hw dX3_shrinks_84 ?_
          refine lv_iload C.1 C.2.1 dX3_shrinks_87 (lv_at hl 1 rfl) ?_
          obtain ⟨b89, hf⟩ := hf
          refine g_iald C hw 59 rfl b89 dX3_shrinks_89 ?_
          refine lv_icmp_ge (tgt := 97) C.1 C.2.1 dX3_shrinks_90 (by decide) (fun h90 => ?_) (fun h90 => ?_)
          · replace hf := hf.1 h90
            refine lv_iconst (v := 0) C.1 C.2.1 dX3_shrinks_97 rfl ?_
            exact J98 _ _ _ _ _ _ _ _ _ _ hK4 _ hK19 _ hf hw (lv_sub hl [2, 3, 5, 6, 1, 0] rfl)
          · replace hf := hf.2 h90
            exact J93 _ _ _ _ _ _ _ _ _ hK4 _ hK19 _ hf hw (lv_sub hl [2, 3, 5, 6, 1, 0] rfl)
  have P19 : ∀ (x1 : Int32) (x3 : Int32) (K4 : St → Int32 → Int32 → Prop) (_ : ∀ (σ : St) (H : Heap) (locs : List Loc) (x2 : Int32) (x3 : Int32) (ls : Array Slot), K4 σ x2 x3 → gH D ct shM ad s σ H locs → lv_has ls 7 [(0, .ref (ad 0)), (1, .int x1), (2, .int x2), (3, .int x3)] → W p l e rm_m_shrinks s m args below meth c H locs 0 0 QQ (F0 m 4 ls [])) (n : Nat) (σ : St) (x2 : Int32) (x4 : Int32) (ls : Array Slot) (H : Heap) (locs : List Loc), LL3 (m_shrinks_p19 x1 x3 Q K4) n σ x2 x4 → gH D ct shM ad s σ H locs → lv_has ls 7 [(0, .ref (ad 0)), (1, .int x1), (2, .int x2), (3, .int x3), (4, .int x4)] → W p l e rm_m_shrinks s m args below meth c H locs 0 0 QQ (F0 m 19 ls []) := by
    intro x1 x3 K4 hK4 n
    induction n with
    | zero => intro σ x2 x4 ls H locs hf; exact False.elim hf
    | succ n ih => intro σ x2 x4 ls H locs hf hw hl; exact B19 x1 x3 K4 hK4 (LL3 _ n) (fun σ H locs x2 x4 ls hf hw hl => ih σ x2 x4 ls H locs hf hw hl) σ H locs x2 x4 ls hf hw hl
  have B4 : ∀ (x1 : Int32) (K4 : St → Int32 → Int32 → Prop) (_ : ∀ (σ : St) (H : Heap) (locs : List Loc) (x2 : Int32) (x3 : Int32) (ls : Array Slot), K4 σ x2 x3 → gH D ct shM ad s σ H locs → lv_has ls 7 [(0, .ref (ad 0)), (1, .int x1), (2, .int x2), (3, .int x3)] → W p l e rm_m_shrinks s m args below meth c H locs 0 0 QQ (F0 m 4 ls [])) (σ : St) (H : Heap) (locs : List Loc) (x2 : Int32) (x3 : Int32) (ls : Array Slot), m_shrinks_p4 x1 Q K4 σ x2 x3 → gH D ct shM ad s σ H locs → lv_has ls 7 [(0, .ref (ad 0)), (1, .int x1), (2, .int x2), (3, .int x3)] → W p l e rm_m_shrinks s m args below meth c H locs 0 0 QQ (F0 m 4 ls []) := by
    intro x1 K4 hK4 σ H locs x2 x3 ls hf hw hl
    unfold m_shrinks_p4 at hf
    refine lv_iload_n C.1 C.2.1 dX3_shrinks_4 rfl (lv_at hl 3 rfl) ?_
    refine lv_iload_n C.1 C.2.1 dX3_shrinks_5 rfl (lv_at hl 1 rfl) ?_
    refine lv_iadd C.1 C.2.1 dX3_shrinks_6 ?_
    refine lv_aload_n C.1 C.2.1 dX3_shrinks_7 rfl (lv_at hl 0 rfl) ?_
    refine mg_scalar C hw dX3_shrinks_8 ?_
    refine lv_iconst (v := 2) C.1 C.2.1 dX3_shrinks_11 rfl ?_
    refine g_iald C hw 2 rfl (vpD rfl) dX3_shrinks_12 ?_
    refine lv_icmp_gt (tgt := 142) C.1 C.2.1 dX3_shrinks_13 (by decide) (fun h13 => ?_) (fun h13 => ?_)
    · replace hf := hf.1 h13
      refine lv_iload_n C.1 C.2.1 dX3_shrinks_142 rfl (lv_at hl 2 rfl) ?_
      obtain ⟨hz, hf⟩ := hf
      exact hret _ _ _ _ _ _ hf hw hz dX3_shrinks_143
    · replace hf := hf.2 h13
      refine lv_iconst (v := 0) C.1 C.2.1 dX3_shrinks_16 rfl ?_
      refine lv_istore (lv' := [(4, .int 0), (0, .ref (ad 0)), (1, .int x1), (2, .int x2), (3, .int x3)]) C.1 C.2.1 dX3_shrinks_17 hl (Nat.le_of_ble_eq_true rfl) rfl (fun ls hl => ?_)
      obtain ⟨n, hf⟩ := hf
      exact P19 _ _ _ hK4 n _ _ _ _ _ _ hf hw (lv_sub hl [1, 2, 3, 4, 0] rfl)
  have P4 : ∀ (x1 : Int32) (n : Nat) (σ : St) (x2 : Int32) (x3 : Int32) (ls : Array Slot) (H : Heap) (locs : List Loc), LL3 (m_shrinks_p4 x1 Q) n σ x2 x3 → gH D ct shM ad s σ H locs → lv_has ls 7 [(0, .ref (ad 0)), (1, .int x1), (2, .int x2), (3, .int x3)] → W p l e rm_m_shrinks s m args below meth c H locs 0 0 QQ (F0 m 4 ls []) := by
    intro x1 n
    induction n with
    | zero => intro σ x2 x3 ls H locs hf; exact False.elim hf
    | succ n ih => intro σ x2 x3 ls H locs hf hw hl; exact B4 x1 (LL3 _ n) (fun σ H locs x2 x3 ls hf hw hl => ih σ x2 x3 ls H locs hf hw hl) σ H locs x2 x3 ls hf hw hl
  unfold m_shrinks at hf
  obtain ⟨H, hH⟩ : ∃ q, q = s.heap := ⟨_, rfl⟩
  obtain ⟨locs, hL⟩ : ∃ q : List Loc, q = [] := ⟨_, rfl⟩
  rw [← hH, ← hL] at hw ⊢
  refine lv_iconst (v := 0) C.1 C.2.1 dX3_shrinks_0 rfl ?_
  refine lv_istore_n (lv' := [(2, .int 0), (0, .ref (ad 0)), (1, .int x1)]) C.1 C.2.1 dX3_shrinks_1 rfl hl (Nat.le_of_ble_eq_true rfl) rfl (fun ls hl => ?_)
  refine lv_iconst (v := 0) C.1 C.2.1 dX3_shrinks_2 rfl ?_
  refine lv_istore_n (lv' := [(3, .int 0), (2, .int 0), (0, .ref (ad 0)), (1, .int x1)]) C.1 C.2.1 dX3_shrinks_3 rfl hl (Nat.le_of_ble_eq_true rfl) rfl (fun ls hl => ?_)
  obtain ⟨n, hf⟩ := hf
  exact P4 _ n _ _ _ _ _ _ hf hw (lv_sub hl [2, 3, 1, 0] rfl)
theorem km_shrinks {p : Program} {l : Launch} {e : Env} {R : Room} {s : State} {m : MethodId} {args : Array Value} {below : List Frame} {meth : Method} {c : Code} {H : Heap} {locs : List Loc} {Z : State → Prop} {cc : ByteArray} {nL pc : Nat} {ls : Array Slot} {rest : List Value} {D : va_G} {ct : Ct} {ad : Nat → Nat} {σ : St} {x1 : Int32} {Qp : Int32 → St → Prop} (C : CallFix p m c cc nL s args lw_all RX3) (hw : gH D ct shM ad s σ H locs) (hsz : ls.size = nL) (hrm : (rest.map fun v => v.category).sum ≤ 8) (hR : rm_m_shrinks.frames + 1 ≤ R.frames ∧ 8 + (7 + 11) + rm_m_shrinks.locals ≤ R.locals) (hdg : decode cc pc = .ok (.invokevirtual 550, 3)) (hf : m_shrinks σ x1 Qp) (kk : ∀ (r : Int32) (σ1 : St) (H1 : Heap) (locs1 : List Loc), Qp r σ1 → gH D ct shM ad s σ1 H1 locs1 → W p l e R s m args below meth c H1 locs1 0 0 Z (F0 m (pc + 3) ls (.int r :: rest))) : W p l e R s m args below meth c H locs 0 0 Z (F0 m pc ls (.int x1 :: .ref (ad 0) :: rest)) :=
  g_callV (As := [.int x1]) (rest := rest) C hw rfl rfl (met_m_shrinks l D ct ad hw.2.1 σ x1 Qp hf) (cwV 1 C.2.2.2.2 (lw_V q2049 q2051 qs181 q207 q2052) rfl rfl rfl (by decide +kernel) hR) rfl hsz rfl hrm ⟨Nat.zero_le _, Nat.zero_le _⟩ hdg kk
def m_goesBelow_p148 (σ : St) (x1 : Int32) (x2 : Int32) (x3 : Int32) (x4 : Int32) (x5 : Int32) (x6 : Int32) (x7 : Int32) (Q : Unit → St → Prop) (K38 : St → Int32 → Int32 → Int32 → Prop) (v0 : Int32) (v1 : Int32) : Prop :=
  (∀ s149 : St, s149 = s_I σ 64 (v1 - v0) → ((x4 = 0 → K38 s149 x6 x4 (x5 + 1)) ∧ (¬ x4 = 0 → (∀ s160 : St, s160 = s_I s149 61 x7 → (∀ s165 : St, s165 = s_I s160 62 x3 → (∀ s171 : St, s171 = s_I s165 63 x6 → K38 s171 x6 x4 (x5 + 1)))))))
def m_goesBelow_p130 (σ : St) (x1 : Int32) (x2 : Int32) (x3 : Int32) (x5 : Int32) (x6 : Int32) (x7 : Int32) (x8 : Int32) (Q : Unit → St → Prop) (K38 : St → Int32 → Int32 → Int32 → Prop) (v0 : Int32) : Prop :=
  ((v0 = 0 → (m_goesBelow_p148 σ x1 x2 x3 v0 x5 x6 x7 Q K38 x8 (σ.1 64))) ∧ (¬ v0 = 0 → (m_goesBelow_p148 σ x1 x2 x3 v0 x5 x6 x7 Q K38 0 (σ.1 64))))
def m_goesBelow_p114 (σ : St) (x1 : Int32) (x2 : Int32) (x3 : Int32) (x5 : Int32) (x6 : Int32) (x7 : Int32) (Q : Unit → St → Prop) (K38 : St → Int32 → Int32 → Int32 → Prop) (v0 : Int32) : Prop :=
  ((v0 ≤ (σ.1 64) → (m_goesBelow_p130 σ x1 x2 x3 x5 x6 x7 v0 Q K38 0)) ∧ (¬ v0 ≤ (σ.1 64) → (m_goesBelow_p130 σ x1 x2 x3 x5 x6 x7 v0 Q K38 1)))
def m_goesBelow_p89 (σ : St) (x1 : Int32) (x2 : Int32) (x3 : Int32) (x5 : Int32) (x6 : Int32) (Q : Unit → St → Prop) (K38 : St → Int32 → Int32 → Int32 → Prop) (v0 : Int32) : Prop :=
  ((v0 = (-1) → (m_goesBelow_p114 σ x1 x2 x3 x5 x6 v0 Q K38 0)) ∧ (¬ v0 = (-1) → (vp_in (fm_spot v0 x3 x6) 2028 ∧ (m_goesBelow_p114 σ x1 x2 x3 x5 x6 v0 Q K38 (gI σ 59 (fm_spot v0 x3 x6))))))
def m_goesBelow_p38 (x1 : Int32) (x2 : Int32) (Q : Unit → St → Prop) (K38 : St → Int32 → Int32 → Int32 → Prop) (σ : St) (x3 : Int32) (x4 : Int32) (x5 : Int32) : Prop :=
  (vp_in x1 12 ∧ (((gI σ 4 x1) ≤ x5 → Q () σ) ∧ (¬ (gI σ 4 x1) ≤ x5 → ((x4 = 0 → (m_endOf σ x1 x5 x3 x2 (fun r60 => (m_isCapitalAt σ x1 x5 (fun r69 => ((r69 = 0 → (m_goesBelow_p89 σ x1 x2 x3 x5 r60 Q K38 (-1))) ∧ (¬ r69 = 0 → (m_leastBelow σ x1 x5 x3 r60 (fun r82 => (m_goesBelow_p89 σ x1 x2 x3 x5 r60 Q K38 r82)))))))))) ∧ (¬ x4 = 0 → Q () σ)))))
def m_goesBelow (σ : St) (Q : Unit → St → Prop) : Prop :=
  (m_laysSizes σ (σ.1 61) (σ.1 62) (σ.1 63) (fun _ s19 => (∀ s29 : St, s29 = s_I s19 64 ((s19.1 64) - 1) → (Lp4 (m_goesBelow_p38 (σ.1 61) (σ.1 63) Q) s29 (σ.1 62) 0 0))))
abbrev rm_m_goesBelow : Room := { frames := 6, cells := 0, slots := 0, locals := 150 }
set_option maxHeartbeats 4000000 in
theorem met_m_goesBelow (l : Launch) (D : va_G) (ct : Ct) (ad : Nat → Nat) (hJ : gJ shM ad ct) (σ : St) (Q : Unit → St → Prop) (hf : m_goesBelow σ Q) : Met l yX3_goesBelow (ws_ yX3_goesBelow cX3_goesBelow 9 (none)) rm_m_goesBelow (va_Pc [.ref (ad 0)] (gP D ct shM ad σ)) (gQ rvV D ct shM ad Q) 0 0 (gA shM ad) := by
  refine g_metV hJ (by decide) (Nat.le_of_ble_eq_true rfl) ?_
  intro p e s m args below meth c QQ ls C hw hl hret
  replace hl : lv_has ls 9 [(0, .ref (ad 0))] := hl
  have J148 : ∀ (σ : St) (H : Heap) (locs : List Loc) (x1 : Int32) (x2 : Int32) (x3 : Int32) (x4 : Int32) (x5 : Int32) (x6 : Int32) (x7 : Int32) (v0 : Int32) (v1 : Int32) (K38 : St → Int32 → Int32 → Int32 → Prop) (_ : ∀ (σ : St) (H : Heap) (locs : List Loc) (x3 : Int32) (x4 : Int32) (x5 : Int32) (ls : Array Slot), K38 σ x3 x4 x5 → gH D ct shM ad s σ H locs → lv_has ls 9 [(0, .ref (ad 0)), (1, .int x1), (2, .int x2), (3, .int x3), (4, .int x4), (5, .int x5)] → W p l e rm_m_goesBelow s m args below meth c H locs 0 0 QQ (F0 m 38 ls [])) (ls : Array Slot), m_goesBelow_p148 σ x1 x2 x3 x4 x5 x6 x7 Q K38 v0 v1 → gH D ct shM ad s σ H locs → lv_has ls 9 [(0, .ref (ad 0)), (1, .int x1), (2, .int x2), (3, .int x3), (4, .int x4), (5, .int x5), (6, .int x6), (7, .int x7)] → W p l e rm_m_goesBelow s m args below meth c H locs 0 0 QQ (F0 m 148 ls [.int v0, .int v1, .ref (ad 0)]) := by
    intro σ H locs x1 x2 x3 x4 x5 x6 x7 v0 v1 K38 hK38 ls hf hw hl
    unfold m_goesBelow_p148 at hf
    refine lv_isub C.1 C.2.1 dX3_goesBelow_148 ?_
    refine mp_treeLeft C hw dX3_goesBelow_149 (fun s149 H locs e149 hw => ?_)
    replace hf := hf s149 e149
    refine lv_iload C.1 C.2.1 dX3_goesBelow_152 (lv_at hl 4 rfl) ?_
    refine lv_if_eq (tgt := 174) C.1 C.2.1 dX3_goesBelow_154 (by decide) (fun h154 => ?_) (fun h154 => ?_)
    · replace hf := hf.1 h154
      refine lv_iload C.1 C.2.1 dX3_goesBelow_174 (lv_at hl 6 rfl) ?_
      refine lv_istore_n (lv' := [(3, .int x6), (0, .ref (ad 0)), (1, .int x1), (2, .int x2), (4, .int x4), (5, .int x5), (6, .int x6), (7, .int x7)]) C.1 C.2.1 dX3_goesBelow_176 rfl hl (Nat.le_of_ble_eq_true rfl) rfl (fun ls hl => ?_)
      refine lv_iinc (v := (x5 + 1)) (lv' := [(5, .int (x5 + 1)), (3, .int x6), (0, .ref (ad 0)), (1, .int x1), (2, .int x2), (4, .int x4), (6, .int x6), (7, .int x7)]) C.1 C.2.1 dX3_goesBelow_177 hl (k := 5) rfl rfl (Nat.le_of_ble_eq_true rfl) rfl (fun ls hl => ?_)
      refine lv_goto (tgt := 38) C.1 C.2.1 dX3_goesBelow_180 (by decide) ?_
      exact hK38 _ _ _ _ _ _ _ hf hw (lv_sub hl [2, 3, 4, 1, 5, 0] rfl)
    · replace hf := hf.2 h154
      refine lv_aload_n C.1 C.2.1 dX3_goesBelow_157 rfl (lv_at hl 0 rfl) ?_
      refine lv_iload C.1 C.2.1 dX3_goesBelow_158 (lv_at hl 7 rfl) ?_
      refine mp_treeRule C hw dX3_goesBelow_160 (fun s160 H locs e160 hw => ?_)
      replace hf := hf s160 e160
      refine lv_aload_n C.1 C.2.1 dX3_goesBelow_163 rfl (lv_at hl 0 rfl) ?_
      refine lv_iload_n C.1 C.2.1 dX3_goesBelow_164 rfl (lv_at hl 3 rfl) ?_
      refine mp_treeFrom C hw dX3_goesBelow_165 (fun s165 H locs e165 hw => ?_)
      replace hf := hf s165 e165
      refine lv_aload_n C.1 C.2.1 dX3_goesBelow_168 rfl (lv_at hl 0 rfl) ?_
      refine lv_iload C.1 C.2.1 dX3_goesBelow_169 (lv_at hl 6 rfl) ?_
      refine mp_treeTo C hw dX3_goesBelow_171 (fun s171 H locs e171 hw => ?_)
      replace hf := hf s171 e171
      refine lv_iload C.1 C.2.1 dX3_goesBelow_174 (lv_at hl 6 rfl) ?_
      refine lv_istore_n (lv' := [(3, .int x6), (0, .ref (ad 0)), (1, .int x1), (2, .int x2), (4, .int x4), (5, .int x5), (6, .int x6), (7, .int x7)]) C.1 C.2.1 dX3_goesBelow_176 rfl hl (Nat.le_of_ble_eq_true rfl) rfl (fun ls hl => ?_)
      refine lv_iinc (v := (x5 + 1)) (lv' := [(5, .int (x5 + 1)), (3, .int x6), (0, .ref (ad 0)), (1, .int x1), (2, .int x2), (4, .int x4), (6, .int x6), (7, .int x7)]) C.1 C.2.1 dX3_goesBelow_177 hl (k := 5) rfl rfl (Nat.le_of_ble_eq_true rfl) rfl (fun ls hl => ?_)
      refine lv_goto (tgt := 38) C.1 C.2.1 dX3_goesBelow_180 (by decide) ?_
      exact hK38 _ _ _ _ _ _ _ hf hw (lv_sub hl [2, 3, 4, 1, 5, 0] rfl)
  have J130 : ∀ (σ : St) (H : Heap) (locs : List Loc) (x1 : Int32) (x2 : Int32) (x3 : Int32) (x5 : Int32) (x6 : Int32) (x7 : Int32) (x8 : Int32) (v0 : Int32) (K38 : St → Int32 → Int32 → Int32 → Prop) (_ : ∀ (σ : St) (H : Heap) (locs : List Loc) (x3 : Int32) (x4 : Int32) (x5 : Int32) (ls : Array Slot), K38 σ x3 x4 x5 → gH D ct shM ad s σ H locs → lv_has ls 9 [(0, .ref (ad 0)), (1, .int x1), (2, .int x2), (3, .int x3), (4, .int x4), (5, .int x5)] → W p l e rm_m_goesBelow s m args below meth c H locs 0 0 QQ (F0 m 38 ls [])) (ls : Array Slot), m_goesBelow_p130 σ x1 x2 x3 x5 x6 x7 x8 Q K38 v0 → gH D ct shM ad s σ H locs → lv_has ls 9 [(0, .ref (ad 0)), (1, .int x1), (2, .int x2), (3, .int x3), (5, .int x5), (6, .int x6), (7, .int x7), (8, .int x8)] → W p l e rm_m_goesBelow s m args below meth c H locs 0 0 QQ (F0 m 130 ls [.int v0]) := by
    intro σ H locs x1 x2 x3 x5 x6 x7 x8 v0 K38 hK38 ls hf hw hl
    unfold m_goesBelow_p130 at hf
    refine lv_istore (lv' := [(4, .int v0), (0, .ref (ad 0)), (1, .int x1), (2, .int x2), (3, .int x3), (5, .int x5), (6, .int x6), (7, .int x7), (8, .int x8)]) C.1 C.2.1 dX3_goesBelow_130 hl (Nat.le_of_ble_eq_true rfl) rfl (fun ls hl => ?_)
    refine lv_aload_n C.1 C.2.1 dX3_goesBelow_132 rfl (lv_at hl 1 rfl) ?_
    refine lv_dup C.1 C.2.1 dX3_goesBelow_133 rfl ?_
    refine mg_treeLeft C hw dX3_goesBelow_134 ?_
    refine lv_iload C.1 C.2.1 dX3_goesBelow_137 (lv_at hl 0 rfl) ?_
    refine lv_if_eq (tgt := 146) C.1 C.2.1 dX3_goesBelow_139 (by decide) (fun h139 => ?_) (fun h139 => ?_)
    · replace hf := hf.1 h139
      refine lv_iload C.1 C.2.1 dX3_goesBelow_146 (lv_at hl 8 rfl) ?_
      exact J148 _ _ _ _ _ _ _ _ _ _ _ _ _ hK38 _ hf hw (lv_sub hl [1, 2, 3, 4, 0, 5, 6, 7] rfl)
    · replace hf := hf.2 h139
      refine lv_iconst (v := 0) C.1 C.2.1 dX3_goesBelow_142 rfl ?_
      refine lv_goto (tgt := 148) C.1 C.2.1 dX3_goesBelow_143 (by decide) ?_
      exact J148 _ _ _ _ _ _ _ _ _ _ _ _ _ hK38 _ hf hw (lv_sub hl [1, 2, 3, 4, 0, 5, 6, 7] rfl)
  have J114 : ∀ (σ : St) (H : Heap) (locs : List Loc) (x1 : Int32) (x2 : Int32) (x3 : Int32) (x5 : Int32) (x6 : Int32) (x7 : Int32) (v0 : Int32) (K38 : St → Int32 → Int32 → Int32 → Prop) (_ : ∀ (σ : St) (H : Heap) (locs : List Loc) (x3 : Int32) (x4 : Int32) (x5 : Int32) (ls : Array Slot), K38 σ x3 x4 x5 → gH D ct shM ad s σ H locs → lv_has ls 9 [(0, .ref (ad 0)), (1, .int x1), (2, .int x2), (3, .int x3), (4, .int x4), (5, .int x5)] → W p l e rm_m_goesBelow s m args below meth c H locs 0 0 QQ (F0 m 38 ls [])) (ls : Array Slot), m_goesBelow_p114 σ x1 x2 x3 x5 x6 x7 Q K38 v0 → gH D ct shM ad s σ H locs → lv_has ls 9 [(0, .ref (ad 0)), (1, .int x1), (2, .int x2), (3, .int x3), (5, .int x5), (6, .int x6), (7, .int x7)] → W p l e rm_m_goesBelow s m args below meth c H locs 0 0 QQ (F0 m 114 ls [.int v0]) := by
    intro σ H locs x1 x2 x3 x5 x6 x7 v0 K38 hK38 ls hf hw hl
    unfold m_goesBelow_p114 at hf
    refine lv_istore (lv' := [(8, .int v0), (0, .ref (ad 0)), (1, .int x1), (2, .int x2), (3, .int x3), (5, .int x5), (6, .int x6), (7, .int x7)]) C.1 C.2.1 dX3_goesBelow_114 hl (Nat.le_of_ble_eq_true rfl) rfl (fun ls hl => ?_)
    refine lv_aload_n C.1 C.2.1 dX3_goesBelow_116 rfl (lv_at hl 1 rfl) ?_
    refine mg_treeLeft C hw dX3_goesBelow_117 ?_
    refine lv_iload C.1 C.2.1 dX3_goesBelow_120 (lv_at hl 0 rfl) ?_
    refine lv_icmp_ge (tgt := 129) C.1 C.2.1 dX3_goesBelow_122 (by decide) (fun h122 => ?_) (fun h122 => ?_)
    · replace hf := hf.1 h122
      refine lv_iconst (v := 0) C.1 C.2.1 dX3_goesBelow_129 rfl ?_
      exact J130 _ _ _ _ _ _ _ _ _ _ _ _ hK38 _ hf hw (lv_sub hl [1, 2, 3, 4, 5, 6, 7, 0] rfl)
    · replace hf := hf.2 h122
      refine lv_iconst (v := 1) C.1 C.2.1 dX3_goesBelow_125 rfl ?_
      refine lv_goto (tgt := 130) C.1 C.2.1 dX3_goesBelow_126 (by decide) ?_
      exact J130 _ _ _ _ _ _ _ _ _ _ _ _ hK38 _ hf hw (lv_sub hl [1, 2, 3, 4, 5, 6, 7, 0] rfl)
  have J89 : ∀ (σ : St) (H : Heap) (locs : List Loc) (x1 : Int32) (x2 : Int32) (x3 : Int32) (x5 : Int32) (x6 : Int32) (v0 : Int32) (K38 : St → Int32 → Int32 → Int32 → Prop) (_ : ∀ (σ : St) (H : Heap) (locs : List Loc) (x3 : Int32) (x4 : Int32) (x5 : Int32) (ls : Array Slot), K38 σ x3 x4 x5 → gH D ct shM ad s σ H locs → lv_has ls 9 [(0, .ref (ad 0)), (1, .int x1), (2, .int x2), (3, .int x3), (4, .int x4), (5, .int x5)] → W p l e rm_m_goesBelow s m args below meth c H locs 0 0 QQ (F0 m 38 ls [])) (ls : Array Slot), m_goesBelow_p89 σ x1 x2 x3 x5 x6 Q K38 v0 → gH D ct shM ad s σ H locs → lv_has ls 9 [(0, .ref (ad 0)), (1, .int x1), (2, .int x2), (3, .int x3), (5, .int x5), (6, .int x6)] → W p l e rm_m_goesBelow s m args below meth c H locs 0 0 QQ (F0 m 89 ls [.int v0]) := by
    intro σ H locs x1 x2 x3 x5 x6 v0 K38 hK38 ls hf hw hl
    unfold m_goesBelow_p89 at hf
    refine lv_istore (lv' := [(7, .int v0), (0, .ref (ad 0)), (1, .int x1), (2, .int x2), (3, .int x3), (5, .int x5), (6, .int x6)]) C.1 C.2.1 dX3_goesBelow_89 hl (Nat.le_of_ble_eq_true rfl) rfl (fun ls hl => ?_)
    refine lv_iload C.1 C.2.1 dX3_goesBelow_91 (lv_at hl 0 rfl) ?_
    refine lv_iconst (v := (-1)) C.1 C.2.1 dX3_goesBelow_93 rfl ?_
    refine lv_icmp_ne (tgt := 101) C.1 C.2.1 dX3_goesBelow_94 (by decide) (fun h94 => ?_) (fun h94 => ?_)
    · replace hf := hf.2 h94
      refine lv_aload_n C.1 C.2.1 dX3_goesBelow_101 rfl (lv_at hl 1 rfl) ?_
      refine mg_sizeOf C hw dX3_goesBelow_102 ?_
      refine lv_iload C.1 C.2.1 dX3_goesBelow_105 (lv_at hl 0 rfl) ?_
      refine lv_iload_n C.1 C.2.1 dX3_goesBelow_107 rfl (lv_at hl 4 rfl) ?_
      refine lv_iload C.1 C.2.1 dX3_goesBelow_108 (lv_at hl 6 rfl) ?_
      refine km_spot C hl.1 (Nat.le_of_ble_eq_true rfl) ⟨Nat.le_of_ble_eq_true rfl, Nat.le_of_ble_eq_true rfl⟩ dX3_goesBelow_110 ?_
      obtain ⟨b113, hf⟩ := hf
      refine g_iald C hw 59 rfl b113 dX3_goesBelow_113 ?_
      exact J114 _ _ _ _ _ _ _ _ _ _ _ hK38 _ hf hw (lv_sub hl [1, 2, 3, 4, 5, 6, 0] rfl)
    · replace hf := hf.1 h94
      refine lv_iconst (v := 0) C.1 C.2.1 dX3_goesBelow_97 rfl ?_
      refine lv_goto (tgt := 114) C.1 C.2.1 dX3_goesBelow_98 (by decide) ?_
      exact J114 _ _ _ _ _ _ _ _ _ _ _ hK38 _ hf hw (lv_sub hl [1, 2, 3, 4, 5, 6, 0] rfl)
  have B38 : ∀ (x1 : Int32) (x2 : Int32) (K38 : St → Int32 → Int32 → Int32 → Prop) (_ : ∀ (σ : St) (H : Heap) (locs : List Loc) (x3 : Int32) (x4 : Int32) (x5 : Int32) (ls : Array Slot), K38 σ x3 x4 x5 → gH D ct shM ad s σ H locs → lv_has ls 9 [(0, .ref (ad 0)), (1, .int x1), (2, .int x2), (3, .int x3), (4, .int x4), (5, .int x5)] → W p l e rm_m_goesBelow s m args below meth c H locs 0 0 QQ (F0 m 38 ls [])) (σ : St) (H : Heap) (locs : List Loc) (x3 : Int32) (x4 : Int32) (x5 : Int32) (ls : Array Slot), m_goesBelow_p38 x1 x2 Q K38 σ x3 x4 x5 → gH D ct shM ad s σ H locs → lv_has ls 9 [(0, .ref (ad 0)), (1, .int x1), (2, .int x2), (3, .int x3), (4, .int x4), (5, .int x5)] → W p l e rm_m_goesBelow s m args below meth c H locs 0 0 QQ (F0 m 38 ls []) := by
    intro x1 x2 K38 hK38 σ H locs x3 x4 x5 ls hf hw hl
    unfold m_goesBelow_p38 at hf
    refine lv_iload C.1 C.2.1 dX3_goesBelow_38 (lv_at hl 5 rfl) ?_
    refine lv_aload_n C.1 C.2.1 dX3_goesBelow_40 rfl (lv_at hl 0 rfl) ?_
    refine mg_size C hw dX3_goesBelow_41 ?_
    refine lv_iload_n C.1 C.2.1 dX3_goesBelow_44 rfl (lv_at hl 1 rfl) ?_
    obtain ⟨b45, hf⟩ := hf
    refine g_iald C hw 4 rfl b45 dX3_goesBelow_45 ?_
    refine lv_icmp_ge (tgt := 183) C.1 C.2.1 dX3_goesBelow_46 (by decide) (fun h46 => ?_) (fun h46 => ?_)
    · replace hf := hf.1 h46
      exact hret _ _ _ _ _ _ hf hw dX3_goesBelow_183
    · replace hf := hf.2 h46
      refine lv_iload C.1 C.2.1 dX3_goesBelow_49 (lv_at hl 4 rfl) ?_
      refine lv_if_ne (tgt := 183) C.1 C.2.1 dX3_goesBelow_51 (by decide) (fun h51 => ?_) (fun h51 => ?_)
      · replace hf := hf.2 h51
        exact hret _ _ _ _ _ _ hf hw dX3_goesBelow_183
      · replace hf := hf.1 h51
        refine lv_aload_n C.1 C.2.1 dX3_goesBelow_54 rfl (lv_at hl 0 rfl) ?_
        refine lv_iload_n C.1 C.2.1 dX3_goesBelow_55 rfl (lv_at hl 1 rfl) ?_
        refine lv_iload C.1 C.2.1 dX3_goesBelow_56 (lv_at hl 5 rfl) ?_
        refine lv_iload_n C.1 C.2.1 dX3_goesBelow_58 rfl (lv_at hl 3 rfl) ?_
        refine lv_iload_n C.1 C.2.1 dX3_goesBelow_59 rfl (lv_at hl 2 rfl) ?_
        refine km_endOf C hw hl.1 (Nat.le_of_ble_eq_true rfl) ⟨Nat.le_of_ble_eq_true rfl, Nat.le_of_ble_eq_true rfl⟩ dX3_goesBelow_60 hf (fun r60 hf => ?_)
        refine lv_istore (lv' := [(6, .int r60), (0, .ref (ad 0)), (1, .int x1), (2, .int x2), (3, .int x3), (4, .int x4), (5, .int x5)]) C.1 C.2.1 dX3_goesBelow_63 hl (Nat.le_of_ble_eq_true rfl) rfl (fun ls hl => ?_)
        refine lv_aload_n C.1 C.2.1 dX3_goesBelow_65 rfl (lv_at hl 1 rfl) ?_
        refine lv_iload_n C.1 C.2.1 dX3_goesBelow_66 rfl (lv_at hl 2 rfl) ?_
        refine lv_iload C.1 C.2.1 dX3_goesBelow_67 (lv_at hl 6 rfl) ?_
        refine km_isCapitalAt C hw hl.1 (Nat.le_of_ble_eq_true rfl) ⟨Nat.le_of_ble_eq_true rfl, Nat.le_of_ble_eq_true rfl⟩ dX3_goesBelow_69 hf (fun r69 hf => ?_)
        refine lv_if_eq (tgt := 88) C.1 C.2.1 dX3_goesBelow_72 (by decide) (fun h72 => ?_) (fun h72 => ?_)
        · replace hf := hf.1 h72
          refine lv_iconst (v := (-1)) C.1 C.2.1 dX3_goesBelow_88 rfl ?_
          exact J89 _ _ _ _ _ _ _ _ _ _ hK38 _ hf hw (lv_sub hl [1, 2, 3, 4, 6, 0] rfl)
        · replace hf := hf.2 h72
          refine lv_aload_n C.1 C.2.1 dX3_goesBelow_75 rfl (lv_at hl 1 rfl) ?_
          refine lv_iload_n C.1 C.2.1 dX3_goesBelow_76 rfl (lv_at hl 2 rfl) ?_
          refine lv_iload C.1 C.2.1 dX3_goesBelow_77 (lv_at hl 6 rfl) ?_
          refine lv_iload_n C.1 C.2.1 dX3_goesBelow_79 rfl (lv_at hl 4 rfl) ?_
          refine lv_iload C.1 C.2.1 dX3_goesBelow_80 (lv_at hl 0 rfl) ?_
          refine km_leastBelow C hw hl.1 (Nat.le_of_ble_eq_true rfl) ⟨Nat.le_of_ble_eq_true rfl, Nat.le_of_ble_eq_true rfl⟩ dX3_goesBelow_82 hf (fun r82 hf => ?_)
          refine lv_goto (tgt := 89) C.1 C.2.1 dX3_goesBelow_85 (by decide) ?_
          exact J89 _ _ _ _ _ _ _ _ _ _ hK38 _ hf hw (lv_sub hl [1, 2, 3, 4, 6, 0] rfl)
  have P38 : ∀ (x1 : Int32) (x2 : Int32) (n : Nat) (σ : St) (x3 : Int32) (x4 : Int32) (x5 : Int32) (ls : Array Slot) (H : Heap) (locs : List Loc), LL4 (m_goesBelow_p38 x1 x2 Q) n σ x3 x4 x5 → gH D ct shM ad s σ H locs → lv_has ls 9 [(0, .ref (ad 0)), (1, .int x1), (2, .int x2), (3, .int x3), (4, .int x4), (5, .int x5)] → W p l e rm_m_goesBelow s m args below meth c H locs 0 0 QQ (F0 m 38 ls []) := by
    intro x1 x2 n
    induction n with
    | zero => intro σ x3 x4 x5 ls H locs hf; exact False.elim hf
    | succ n ih => intro σ x3 x4 x5 ls H locs hf hw hl; exact B38 x1 x2 (LL4 _ n) (fun σ H locs x3 x4 x5 ls hf hw hl => ih σ x3 x4 x5 ls H locs hf hw hl) σ H locs x3 x4 x5 ls hf hw hl
  unfold m_goesBelow at hf
  obtain ⟨H, hH⟩ : ∃ q, q = s.heap := ⟨_, rfl⟩
  obtain ⟨locs, hL⟩ : ∃ q : List Loc, q = [] := ⟨_, rfl⟩
  rw [← hH, ← hL] at hw ⊢
  refine lv_aload_n C.1 C.2.1 dX3_goesBelow_0 rfl (lv_at hl 0 rfl) ?_
  refine mg_treeRule C hw dX3_goesBelow_1 ?_
  refine lv_istore_n (lv' := [(1, .int (σ.1 61)), (0, .ref (ad 0))]) C.1 C.2.1 dX3_goesBelow_4 rfl hl (Nat.le_of_ble_eq_true rfl) rfl (fun ls hl => ?_)
  refine lv_aload_n C.1 C.2.1 dX3_goesBelow_5 rfl (lv_at hl 1 rfl) ?_
  refine mg_treeTo C hw dX3_goesBelow_6 ?_
  refine lv_istore_n (lv' := [(2, .int (σ.1 63)), (1, .int (σ.1 61)), (0, .ref (ad 0))]) C.1 C.2.1 dX3_goesBelow_9 rfl hl (Nat.le_of_ble_eq_true rfl) rfl (fun ls hl => ?_)
  refine lv_aload_n C.1 C.2.1 dX3_goesBelow_10 rfl (lv_at hl 2 rfl) ?_
  refine mg_treeFrom C hw dX3_goesBelow_11 ?_
  refine lv_istore_n (lv' := [(3, .int (σ.1 62)), (2, .int (σ.1 63)), (1, .int (σ.1 61)), (0, .ref (ad 0))]) C.1 C.2.1 dX3_goesBelow_14 rfl hl (Nat.le_of_ble_eq_true rfl) rfl (fun ls hl => ?_)
  refine lv_aload_n C.1 C.2.1 dX3_goesBelow_15 rfl (lv_at hl 3 rfl) ?_
  refine lv_iload_n C.1 C.2.1 dX3_goesBelow_16 rfl (lv_at hl 2 rfl) ?_
  refine lv_iload_n C.1 C.2.1 dX3_goesBelow_17 rfl (lv_at hl 0 rfl) ?_
  refine lv_iload_n C.1 C.2.1 dX3_goesBelow_18 rfl (lv_at hl 1 rfl) ?_
  refine km_laysSizes C hw hl.1 (Nat.le_of_ble_eq_true rfl) ⟨Nat.le_of_ble_eq_true rfl, Nat.le_of_ble_eq_true rfl⟩ dX3_goesBelow_19 hf (fun _ s19 H locs hf hw => ?_)
  refine lv_aload_n C.1 C.2.1 dX3_goesBelow_22 rfl (lv_at hl 3 rfl) ?_
  refine lv_dup C.1 C.2.1 dX3_goesBelow_23 rfl ?_
  refine mg_treeLeft C hw dX3_goesBelow_24 ?_
  refine lv_iconst (v := 1) C.1 C.2.1 dX3_goesBelow_27 rfl ?_
  refine lv_isub C.1 C.2.1 dX3_goesBelow_28 ?_
  refine mp_treeLeft C hw dX3_goesBelow_29 (fun s29 H locs e29 hw => ?_)
  replace hf := hf s29 e29
  refine lv_iconst (v := 0) C.1 C.2.1 dX3_goesBelow_32 rfl ?_
  refine lv_istore (lv' := [(4, .int 0), (3, .int (σ.1 62)), (2, .int (σ.1 63)), (1, .int (σ.1 61)), (0, .ref (ad 0))]) C.1 C.2.1 dX3_goesBelow_33 hl (Nat.le_of_ble_eq_true rfl) rfl (fun ls hl => ?_)
  refine lv_iconst (v := 0) C.1 C.2.1 dX3_goesBelow_35 rfl ?_
  refine lv_istore (lv' := [(5, .int 0), (4, .int 0), (3, .int (σ.1 62)), (2, .int (σ.1 63)), (1, .int (σ.1 61)), (0, .ref (ad 0))]) C.1 C.2.1 dX3_goesBelow_36 hl (Nat.le_of_ble_eq_true rfl) rfl (fun ls hl => ?_)
  obtain ⟨n, hf⟩ := hf
  exact P38 _ _ n _ _ _ _ _ _ _ hf hw (lv_sub hl [5, 4, 3, 2, 1, 0] rfl)
theorem km_goesBelow {p : Program} {l : Launch} {e : Env} {R : Room} {s : State} {m : MethodId} {args : Array Value} {below : List Frame} {meth : Method} {c : Code} {H : Heap} {locs : List Loc} {Z : State → Prop} {cc : ByteArray} {nL pc : Nat} {ls : Array Slot} {rest : List Value} {D : va_G} {ct : Ct} {ad : Nat → Nat} {σ : St} {Qp : Unit → St → Prop} (C : CallFix p m c cc nL s args lw_all RX3) (hw : gH D ct shM ad s σ H locs) (hsz : ls.size = nL) (hrm : (rest.map fun v => v.category).sum ≤ 8) (hR : rm_m_goesBelow.frames + 1 ≤ R.frames ∧ 8 + (9 + 11) + rm_m_goesBelow.locals ≤ R.locals) (hdg : decode cc pc = .ok (.invokevirtual 577, 3)) (hf : m_goesBelow σ Qp) (kk : ∀ (r : Unit) (σ1 : St) (H1 : Heap) (locs1 : List Loc), Qp r σ1 → gH D ct shM ad s σ1 H1 locs1 → W p l e R s m args below meth c H1 locs1 0 0 Z (F0 m (pc + 3) ls (rest))) : W p l e R s m args below meth c H locs 0 0 Z (F0 m pc ls (.ref (ad 0) :: rest)) :=
  g_callV (As := []) (rest := rest) C hw rfl rfl (met_m_goesBelow l D ct ad hw.2.1 σ Qp hf) (cwV 0 C.2.2.2.2 (lw_V q2074 q2076 qs186 q207 q2077) rfl rfl rfl (by decide +kernel) hR) rfl hsz rfl hrm ⟨Nat.zero_le _, Nat.zero_le _⟩ hdg kk
def m_grammar (σ : St) (Q : Int32 → St → Prop) : Prop :=
  (m_readsAll σ (fun _ s1 => (∀ s11 : St, s11 = s_I s1 17 0 → (((s11.1 19) ≤ 0 → (m_keepsOld s11 (fun _ s30 => (m_takesNew s30 (fun _ s34 => (∀ s39 : St, s39 = s_I s34 37 0 → (m_laysStates s39 (fun r43 s43 => ((r43 = 0 → (m_laysOld s43 (fun _ s50 => (∀ s55 : St, s55 = s_I s50 37 0 → Q ((-2) - ((1 + (8 * (s1.1 17))) + 5)) s55)))) ∧ (¬ r43 = 0 → (∀ s76 : St, s76 = s_A s43 2 (Int32.toNatClampNeg 2) 0 → (∀ s83 : St, s83 = s_A s76 2 (Int32.toNatClampNeg 4) 0 → (∀ s91 : St, s91 = s_A s83 2 (Int32.toNatClampNeg 5) 7 → (∀ s94 : St, s94 = s_I s91 40 0 → Q (gI s94 2 0) s94)))))))))))))) ∧ (¬ (s11.1 19) ≤ 0 → Q ((-2) - (s11.1 19)) s11)))))
abbrev rm_m_grammar : Room := { frames := 7, cells := 0, slots := 0, locals := 169 }
set_option maxHeartbeats 4000000 in
theorem met_m_grammar (l : Launch) (D : va_G) (ct : Ct) (ad : Nat → Nat) (hJ : gJ shM ad ct) (σ : St) (Q : Int32 → St → Prop) (hf : m_grammar σ Q) : Met l yX3_grammar (ws_ yX3_grammar cX3_grammar 2 (some .int)) rm_m_grammar (va_Pc [.ref (ad 0)] (gP D ct shM ad σ)) (gQ rvI D ct shM ad Q) 0 0 (gA shM ad) := by
  refine g_metI hJ (by decide) (Nat.le_of_ble_eq_true rfl) ?_
  intro p e s m args below meth c QQ ls C hw hl hret
  replace hl : lv_has ls 2 [(0, .ref (ad 0))] := hl
  unfold m_grammar at hf
  obtain ⟨H, hH⟩ : ∃ q, q = s.heap := ⟨_, rfl⟩
  obtain ⟨locs, hL⟩ : ∃ q : List Loc, q = [] := ⟨_, rfl⟩
  rw [← hH, ← hL] at hw ⊢
  refine lv_aload_n C.1 C.2.1 dX3_grammar_0 rfl (lv_at hl 0 rfl) ?_
  refine km_readsAll C hw hl.1 (Nat.le_of_ble_eq_true rfl) ⟨Nat.le_of_ble_eq_true rfl, Nat.le_of_ble_eq_true rfl⟩ dX3_grammar_1 hf (fun _ s1 H locs hf hw => ?_)
  refine lv_aload_n C.1 C.2.1 dX3_grammar_4 rfl (lv_at hl 0 rfl) ?_
  refine mg_taped C hw dX3_grammar_5 ?_
  refine lv_istore_n (lv' := [(1, .int (s1.1 17)), (0, .ref (ad 0))]) C.1 C.2.1 dX3_grammar_8 rfl hl (Nat.le_of_ble_eq_true rfl) rfl (fun ls hl => ?_)
  refine lv_aload_n C.1 C.2.1 dX3_grammar_9 rfl (lv_at hl 1 rfl) ?_
  refine lv_iconst (v := 0) C.1 C.2.1 dX3_grammar_10 rfl ?_
  refine mp_taped C hw dX3_grammar_11 (fun s11 H locs e11 hw => ?_)
  replace hf := hf s11 e11
  refine lv_aload_n C.1 C.2.1 dX3_grammar_14 rfl (lv_at hl 1 rfl) ?_
  refine mg_fault C hw dX3_grammar_15 ?_
  refine lv_if_le (tgt := 29) C.1 C.2.1 dX3_grammar_18 (by decide) (fun h18 => ?_) (fun h18 => ?_)
  · replace hf := hf.1 h18
    refine lv_aload_n C.1 C.2.1 dX3_grammar_29 rfl (lv_at hl 1 rfl) ?_
    refine km_keepsOld C hw hl.1 (Nat.le_of_ble_eq_true rfl) ⟨Nat.le_of_ble_eq_true rfl, Nat.le_of_ble_eq_true rfl⟩ dX3_grammar_30 hf (fun _ s30 H locs hf hw => ?_)
    refine lv_aload_n C.1 C.2.1 dX3_grammar_33 rfl (lv_at hl 1 rfl) ?_
    refine km_takesNew C hw hl.1 (Nat.le_of_ble_eq_true rfl) ⟨Nat.le_of_ble_eq_true rfl, Nat.le_of_ble_eq_true rfl⟩ dX3_grammar_34 hf (fun _ s34 H locs hf hw => ?_)
    refine lv_aload_n C.1 C.2.1 dX3_grammar_37 rfl (lv_at hl 1 rfl) ?_
    refine lv_iconst (v := 0) C.1 C.2.1 dX3_grammar_38 rfl ?_
    refine mp_isLaid C hw dX3_grammar_39 (fun s39 H locs e39 hw => ?_)
    replace hf := hf s39 e39
    refine lv_aload_n C.1 C.2.1 dX3_grammar_42 rfl (lv_at hl 1 rfl) ?_
    refine km_laysStates C hw hl.1 (Nat.le_of_ble_eq_true rfl) ⟨Nat.le_of_ble_eq_true rfl, Nat.le_of_ble_eq_true rfl⟩ dX3_grammar_43 hf (fun r43 s43 H locs hf hw => ?_)
    refine lv_if_ne (tgt := 70) C.1 C.2.1 dX3_grammar_46 (by decide) (fun h46 => ?_) (fun h46 => ?_)
    · replace hf := hf.2 h46
      refine lv_aload_n C.1 C.2.1 dX3_grammar_70 rfl (lv_at hl 1 rfl) ?_
      refine mg_scalar C hw dX3_grammar_71 ?_
      refine lv_iconst (v := 2) C.1 C.2.1 dX3_grammar_74 rfl ?_
      refine lv_iconst (v := 0) C.1 C.2.1 dX3_grammar_75 rfl ?_
      refine g_iast C shM_sep hw 2 rfl (vpD rfl) dX3_grammar_76 (fun s76 H locs e76 hw => ?_)
      replace hf := hf s76 e76
      refine lv_aload_n C.1 C.2.1 dX3_grammar_77 rfl (lv_at hl 1 rfl) ?_
      refine mg_scalar C hw dX3_grammar_78 ?_
      refine lv_iconst (v := 4) C.1 C.2.1 dX3_grammar_81 rfl ?_
      refine lv_iconst (v := 0) C.1 C.2.1 dX3_grammar_82 rfl ?_
      refine g_iast C shM_sep hw 2 rfl (vpD rfl) dX3_grammar_83 (fun s83 H locs e83 hw => ?_)
      replace hf := hf s83 e83
      refine lv_aload_n C.1 C.2.1 dX3_grammar_84 rfl (lv_at hl 1 rfl) ?_
      refine mg_scalar C hw dX3_grammar_85 ?_
      refine lv_iconst (v := 5) C.1 C.2.1 dX3_grammar_88 rfl ?_
      refine lv_bipush (v := 7) C.1 C.2.1 dX3_grammar_89 rfl ?_
      refine g_iast C shM_sep hw 2 rfl (vpD rfl) dX3_grammar_91 (fun s91 H locs e91 hw => ?_)
      replace hf := hf s91 e91
      refine lv_aload_n C.1 C.2.1 dX3_grammar_92 rfl (lv_at hl 1 rfl) ?_
      refine lv_iconst (v := 0) C.1 C.2.1 dX3_grammar_93 rfl ?_
      refine mp_pastMany C hw dX3_grammar_94 (fun s94 H locs e94 hw => ?_)
      replace hf := hf s94 e94
      refine lv_aload_n C.1 C.2.1 dX3_grammar_97 rfl (lv_at hl 1 rfl) ?_
      refine mg_scalar C hw dX3_grammar_98 ?_
      refine lv_iconst (v := 0) C.1 C.2.1 dX3_grammar_101 rfl ?_
      refine g_iald C hw 2 rfl (vpD rfl) dX3_grammar_102 ?_
      exact hret _ _ _ _ _ _ hf hw dX3_grammar_103
    · replace hf := hf.1 h46
      refine lv_aload_n C.1 C.2.1 dX3_grammar_49 rfl (lv_at hl 1 rfl) ?_
      refine km_laysOld C hw hl.1 (Nat.le_of_ble_eq_true rfl) ⟨Nat.le_of_ble_eq_true rfl, Nat.le_of_ble_eq_true rfl⟩ dX3_grammar_50 hf (fun _ s50 H locs hf hw => ?_)
      refine lv_aload_n C.1 C.2.1 dX3_grammar_53 rfl (lv_at hl 1 rfl) ?_
      refine lv_iconst (v := 0) C.1 C.2.1 dX3_grammar_54 rfl ?_
      refine mp_isLaid C hw dX3_grammar_55 (fun s55 H locs e55 hw => ?_)
      replace hf := hf s55 e55
      refine lv_bipush (v := (-2)) C.1 C.2.1 dX3_grammar_58 rfl ?_
      refine lv_iconst (v := 1) C.1 C.2.1 dX3_grammar_60 rfl ?_
      refine lv_bipush (v := 8) C.1 C.2.1 dX3_grammar_61 rfl ?_
      refine lv_iload_n C.1 C.2.1 dX3_grammar_63 rfl (lv_at hl 0 rfl) ?_
      refine lv_imul C.1 C.2.1 dX3_grammar_64 ?_
      refine lv_iadd C.1 C.2.1 dX3_grammar_65 ?_
      refine lv_iconst (v := 5) C.1 C.2.1 dX3_grammar_66 rfl ?_
      refine lv_iadd C.1 C.2.1 dX3_grammar_67 ?_
      refine lv_isub C.1 C.2.1 dX3_grammar_68 ?_
      exact hret _ _ _ _ _ _ hf hw dX3_grammar_69
  · replace hf := hf.2 h18
    refine lv_bipush (v := (-2)) C.1 C.2.1 dX3_grammar_21 rfl ?_
    refine lv_aload_n C.1 C.2.1 dX3_grammar_23 rfl (lv_at hl 1 rfl) ?_
    refine mg_fault C hw dX3_grammar_24 ?_
    refine lv_isub C.1 C.2.1 dX3_grammar_27 ?_
    exact hret _ _ _ _ _ _ hf hw dX3_grammar_28
def m_follows (σ : St) (x1 : Int32) (Q : Int32 → St → Prop) : Prop :=
  (m_isLeft σ x1 (fun r2 => ((r2 = 0 → Q (-1) σ) ∧ (¬ r2 = 0 → (m_laysFollow σ (fun _ s11 => (vp_in (x1 - 26) 26 ∧ Q (gI s11 32 (x1 - 26)) s11)))))))
abbrev rm_m_follows : Room := { frames := 7, cells := 0, slots := 0, locals := 155 }
set_option maxHeartbeats 4000000 in
theorem met_m_follows (l : Launch) (D : va_G) (ct : Ct) (ad : Nat → Nat) (hJ : gJ shM ad ct) (σ : St) (x1 : Int32) (Q : Int32 → St → Prop) (hf : m_follows σ x1 Q) : Met l yX3_follows (ws_ yX3_follows cX3_follows 2 (some .int)) rm_m_follows (va_Pc [.ref (ad 0), .int x1] (gP D ct shM ad σ)) (gQ rvI D ct shM ad Q) 0 0 (gA shM ad) := by
  refine g_metI hJ (by decide) (Nat.le_of_ble_eq_true rfl) ?_
  intro p e s m args below meth c QQ ls C hw hl hret
  replace hl : lv_has ls 2 [(0, .ref (ad 0)), (1, .int x1)] := hl
  unfold m_follows at hf
  obtain ⟨H, hH⟩ : ∃ q, q = s.heap := ⟨_, rfl⟩
  obtain ⟨locs, hL⟩ : ∃ q : List Loc, q = [] := ⟨_, rfl⟩
  rw [← hH, ← hL] at hw ⊢
  refine lv_aload_n C.1 C.2.1 dX3_follows_0 rfl (lv_at hl 0 rfl) ?_
  refine lv_iload_n C.1 C.2.1 dX3_follows_1 rfl (lv_at hl 1 rfl) ?_
  refine km_isLeft C hw hl.1 (Nat.le_of_ble_eq_true rfl) ⟨Nat.le_of_ble_eq_true rfl, Nat.le_of_ble_eq_true rfl⟩ dX3_follows_2 hf (fun r2 hf => ?_)
  refine lv_if_ne (tgt := 10) C.1 C.2.1 dX3_follows_5 (by decide) (fun h5 => ?_) (fun h5 => ?_)
  · replace hf := hf.2 h5
    refine lv_aload_n C.1 C.2.1 dX3_follows_10 rfl (lv_at hl 0 rfl) ?_
    refine km_laysFollow C hw hl.1 (Nat.le_of_ble_eq_true rfl) ⟨Nat.le_of_ble_eq_true rfl, Nat.le_of_ble_eq_true rfl⟩ dX3_follows_11 hf (fun _ s11 H locs hf hw => ?_)
    refine lv_aload_n C.1 C.2.1 dX3_follows_14 rfl (lv_at hl 0 rfl) ?_
    refine mg_follow C hw dX3_follows_15 ?_
    refine lv_iload_n C.1 C.2.1 dX3_follows_18 rfl (lv_at hl 1 rfl) ?_
    refine lv_bipush (v := 26) C.1 C.2.1 dX3_follows_19 rfl ?_
    refine lv_isub C.1 C.2.1 dX3_follows_21 ?_
    obtain ⟨b22, hf⟩ := hf
    refine g_iald C hw 32 rfl b22 dX3_follows_22 ?_
    exact hret _ _ _ _ _ _ hf hw dX3_follows_23
  · replace hf := hf.1 h5
    refine lv_iconst (v := (-1)) C.1 C.2.1 dX3_follows_8 rfl ?_
    exact hret _ _ _ _ _ _ hf hw dX3_follows_9
