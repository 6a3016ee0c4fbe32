set_option maxRecDepth 100000
def m_replaces_p91 (x1 : Int32) (x2 : Int32) (x3 : Int32) (Q : Unit → St → Prop) (K91 : St → Int32 → Prop) (σ : St) (x4 : Int32) : Prop :=
  (vp_in x2 12 ∧ (((gI σ 4 x2) ≤ x4 → (∀ s135 : St, s135 = s_I σ 68 ((σ.1 68) + x3) → Q () s135)) ∧ (¬ (gI σ 4 x2) ≤ x4 → (vp_in ((4 * x2) + x4) 48 ∧ (vp_in (x1 + x4) 28 ∧ (∀ s121 : St, s121 = s_A σ 67 (Int32.toNatClampNeg (x1 + x4)) (gI σ 5 ((4 * x2) + x4)) → K91 s121 (x4 + 1)))))))
def m_replaces_p60 (x1 : Int32) (x2 : Int32) (x3 : Int32) (Q : Unit → St → Prop) (K60 : St → Int32 → Prop) (σ : St) (x4 : Int32) : Prop :=
  ((x4 ≤ x1 → (Lp2 (m_replaces_p91 x1 x2 x3 Q) σ 0)) ∧ (¬ x4 ≤ x1 → (vp_in x4 28 ∧ (vp_in (x4 + x3) 28 ∧ (∀ s81 : St, s81 = s_A σ 67 (Int32.toNatClampNeg (x4 + x3)) (gI σ 67 x4) → K60 s81 (x4 + (-1)))))))
def m_replaces_p16 (x1 : Int32) (x2 : Int32) (x3 : Int32) (Q : Unit → St → Prop) (K16 : St → Int32 → Prop) (σ : St) (x4 : Int32) : Prop :=
  (((σ.1 68) ≤ (x4 + 1) → (Lp2 (m_replaces_p91 x1 x2 x3 Q) σ 0)) ∧ (¬ (σ.1 68) ≤ (x4 + 1) → (vp_in (x4 + 1) 28 ∧ (vp_in x4 28 ∧ (∀ s42 : St, s42 = s_A σ 67 (Int32.toNatClampNeg x4) (gI σ 67 (x4 + 1)) → K16 s42 (x4 + 1))))))
def m_replaces (σ : St) (x1 : Int32) (x2 : Int32) (Q : Unit → St → Prop) : Prop :=
  (vp_in x2 12 ∧ ((0 ≤ ((gI σ 4 x2) - 1) → (Lp2 (m_replaces_p60 x1 x2 ((gI σ 4 x2) - 1) Q) σ ((σ.1 68) - 1))) ∧ (¬ 0 ≤ ((gI σ 4 x2) - 1) → (Lp2 (m_replaces_p16 x1 x2 ((gI σ 4 x2) - 1) Q) σ x1))))
abbrev rm_m_replaces : Room := { frames := 0, cells := 0, slots := 0, locals := 0 }
set_option maxHeartbeats 4000000 in
theorem met_m_replaces (l : Launch) (D : va_G) (ct : Ct) (ad : Nat → Nat) (hJ : gJ shM ad ct) (σ : St) (x1 : Int32) (x2 : Int32) (Q : Unit → St → Prop) (hf : m_replaces σ x1 x2 Q) : Met l yX3_replaces (ws_ yX3_replaces cX3_replaces 5 (none)) rm_m_replaces (va_Pc [.ref (ad 0), .int x1, .int x2] (gP D ct shM ad σ)) (gQ rvV D ct shM ad Q) 0 0 (gA shM ad) := by
  refine g_metV hJ (by decide) (Nat.le_of_ble_eq_true rfl) ?_
  intro p e s m args below meth c QQ ls C hw hl hret
  replace hl : lv_has ls 5 [(0, .ref (ad 0)), (1, .int x1), (2, .int x2)] := hl
  have B91 : ∀ (x1 : Int32) (x2 : Int32) (x3 : Int32) (K91 : St → Int32 → Prop) (_ : ∀ (σ : St) (H : Heap) (locs : List Loc) (x4 : Int32) (ls : Array Slot), K91 σ x4 → gH D ct shM ad s σ H locs → lv_has ls 5 [(0, .ref (ad 0)), (1, .int x1), (2, .int x2), (3, .int x3), (4, .int x4)] → W p l e rm_m_replaces s m args below meth c H locs 0 0 QQ (F0 m 91 ls [])) (σ : St) (H : Heap) (locs : List Loc) (x4 : Int32) (ls : Array Slot), m_replaces_p91 x1 x2 x3 Q K91 σ x4 → gH D ct shM ad s σ H locs → lv_has ls 5 [(0, .ref (ad 0)), (1, .int x1), (2, .int x2), (3, .int x3), (4, .int x4)] → W p l e rm_m_replaces s m args below meth c H locs 0 0 QQ (F0 m 91 ls []) := by
    intro x1 x2 x3 K91 hK91 σ H locs x4 ls hf hw hl
    unfold m_replaces_p91 at hf
    refine lv_iload C.1 C.2.1 dX3_replaces_91 (lv_at hl 4 rfl) ?_
    refine lv_aload_n C.1 C.2.1 dX3_replaces_93 rfl (lv_at hl 0 rfl) ?_
    refine mg_size C hw dX3_replaces_94 ?_
    refine lv_iload_n C.1 C.2.1 dX3_replaces_97 rfl (lv_at hl 2 rfl) ?_
    obtain ⟨b98, hf⟩ := hf
    refine g_iald C hw 4 rfl b98 dX3_replaces_98 ?_
    refine lv_icmp_ge (tgt := 128) C.1 C.2.1 dX3_replaces_99 (by decide) (fun h99 => ?_) (fun h99 => ?_)
    · replace hf := hf.1 h99
      refine lv_aload_n C.1 C.2.1 dX3_replaces_128 rfl (lv_at hl 0 rfl) ?_
      refine lv_dup C.1 C.2.1 dX3_replaces_129 rfl ?_
      refine mg_rowMany C hw dX3_replaces_130 ?_
      refine lv_iload_n C.1 C.2.1 dX3_replaces_133 rfl (lv_at hl 3 rfl) ?_
      refine lv_iadd C.1 C.2.1 dX3_replaces_134 ?_
      refine mp_rowMany C hw dX3_replaces_135 (fun s135 H locs e135 hw => ?_)
      replace hf := hf s135 e135
      exact hret _ _ _ _ _ _ hf hw dX3_replaces_138
    · replace hf := hf.2 h99
      refine lv_aload_n C.1 C.2.1 dX3_replaces_102 rfl (lv_at hl 0 rfl) ?_
      refine mg_row C hw dX3_replaces_103 ?_
      refine lv_iload_n C.1 C.2.1 dX3_replaces_106 rfl (lv_at hl 1 rfl) ?_
      refine lv_iload C.1 C.2.1 dX3_replaces_107 (lv_at hl 4 rfl) ?_
      refine lv_iadd C.1 C.2.1 dX3_replaces_109 ?_
      refine lv_aload_n C.1 C.2.1 dX3_replaces_110 rfl (lv_at hl 0 rfl) ?_
      refine mg_sym C hw dX3_replaces_111 ?_
      refine lv_iconst (v := 4) C.1 C.2.1 dX3_replaces_114 rfl ?_
      refine lv_iload_n C.1 C.2.1 dX3_replaces_115 rfl (lv_at hl 2 rfl) ?_
      refine lv_imul C.1 C.2.1 dX3_replaces_116 ?_
      refine lv_iload C.1 C.2.1 dX3_replaces_117 (lv_at hl 4 rfl) ?_
      refine lv_iadd C.1 C.2.1 dX3_replaces_119 ?_
      obtain ⟨b120, hf⟩ := hf
      refine g_iald C hw 5 rfl b120 dX3_replaces_120 ?_
      obtain ⟨b121, hf⟩ := hf
      refine g_iast C shM_sep hw 67 rfl b121 dX3_replaces_121 (fun s121 H locs e121 hw => ?_)
      replace hf := hf s121 e121
      refine lv_iinc (v := (x4 + 1)) (lv' := [(4, .int (x4 + 1)), (0, .ref (ad 0)), (1, .int x1), (2, .int x2), (3, .int x3)]) C.1 C.2.1 dX3_replaces_122 hl (k := 4) rfl rfl (Nat.le_of_ble_eq_true rfl) rfl (fun ls hl => ?_)
      refine lv_goto (tgt := 91) C.1 C.2.1 dX3_replaces_125 (by decide) ?_
      exact hK91 _ _ _ _ _ hf hw (lv_sub hl [1, 2, 3, 4, 0] rfl)
  have P91 : ∀ (x1 : Int32) (x2 : Int32) (x3 : Int32) (n : Nat) (σ : St) (x4 : Int32) (ls : Array Slot) (H : Heap) (locs : List Loc), LL2 (m_replaces_p91 x1 x2 x3 Q) n σ x4 → gH D ct shM ad s σ H locs → lv_has ls 5 [(0, .ref (ad 0)), (1, .int x1), (2, .int x2), (3, .int x3), (4, .int x4)] → W p l e rm_m_replaces s m args below meth c H locs 0 0 QQ (F0 m 91 ls []) := by
    intro x1 x2 x3 n
    induction n with
    | zero => intro σ x4 ls H locs hf; exact False.elim hf
    | succ n ih => intro σ x4 ls H locs hf hw hl; exact B91 x1 x2 x3 (LL2 _ n) (fun σ H locs x4 ls hf hw hl => ih σ x4 ls H locs hf hw hl) σ H locs x4 ls hf hw hl
  have B60 : ∀ (x1 : Int32) (x2 : Int32) (x3 : Int32) (K60 : St → Int32 → Prop) (_ : ∀ (σ : St) (H : Heap) (locs : List Loc) (x4 : Int32) (ls : Array Slot), K60 σ x4 → gH D ct shM ad s σ H locs → lv_has ls 5 [(0, .ref (ad 0)), (1, .int x1), (2, .int x2), (3, .int x3), (4, .int x4)] → W p l e rm_m_replaces s m args below meth c H locs 0 0 QQ (F0 m 60 ls [])) (σ : St) (H : Heap) (locs : List Loc) (x4 : Int32) (ls : Array Slot), m_replaces_p60 x1 x2 x3 Q K60 σ x4 → gH D ct shM ad s σ H locs → lv_has ls 5 [(0, .ref (ad 0)), (1, .int x1), (2, .int x2), (3, .int x3), (4, .int x4)] → W p l e rm_m_replaces s m args below meth c H locs 0 0 QQ (F0 m 60 ls []) := by
    intro x1 x2 x3 K60 hK60 σ H locs x4 ls hf hw hl
    unfold m_replaces_p60 at hf
    refine lv_iload C.1 C.2.1 dX3_replaces_60 (lv_at hl 4 rfl) ?_
    refine lv_iload_n C.1 C.2.1 dX3_replaces_62 rfl (lv_at hl 1 rfl) ?_
    refine lv_icmp_le (tgt := 88) C.1 C.2.1 dX3_replaces_63 (by decide) (fun h63 => ?_) (fun h63 => ?_)
    · replace hf := hf.1 h63
      refine lv_iconst (v := 0) C.1 C.2.1 dX3_replaces_88 rfl ?_
      refine lv_istore (lv' := [(4, .int 0), (0, .ref (ad 0)), (1, .int x1), (2, .int x2), (3, .int x3)]) C.1 C.2.1 dX3_replaces_89 hl (Nat.le_of_ble_eq_true rfl) rfl (fun ls hl => ?_)
      obtain ⟨n, hf⟩ := hf
      exact P91 _ _ _ n _ _ _ _ _ hf hw (lv_sub hl [1, 2, 3, 4, 0] rfl)
    · replace hf := hf.2 h63
      refine lv_aload_n C.1 C.2.1 dX3_replaces_66 rfl (lv_at hl 0 rfl) ?_
      refine mg_row C hw dX3_replaces_67 ?_
      refine lv_iload C.1 C.2.1 dX3_replaces_70 (lv_at hl 4 rfl) ?_
      refine lv_iload_n C.1 C.2.1 dX3_replaces_72 rfl (lv_at hl 3 rfl) ?_
      refine lv_iadd C.1 C.2.1 dX3_replaces_73 ?_
      refine lv_aload_n C.1 C.2.1 dX3_replaces_74 rfl (lv_at hl 0 rfl) ?_
      refine mg_row C hw dX3_replaces_75 ?_
      refine lv_iload C.1 C.2.1 dX3_replaces_78 (lv_at hl 4 rfl) ?_
      obtain ⟨b80, hf⟩ := hf
      refine g_iald C hw 67 rfl b80 dX3_replaces_80 ?_
      obtain ⟨b81, hf⟩ := hf
      refine g_iast C shM_sep hw 67 rfl b81 dX3_replaces_81 (fun s81 H locs e81 hw => ?_)
      replace hf := hf s81 e81
      refine lv_iinc (v := (x4 + (-1))) (lv' := [(4, .int (x4 + (-1))), (0, .ref (ad 0)), (1, .int x1), (2, .int x2), (3, .int x3)]) C.1 C.2.1 dX3_replaces_82 hl (k := 4) rfl rfl (Nat.le_of_ble_eq_true rfl) rfl (fun ls hl => ?_)
      refine lv_goto (tgt := 60) C.1 C.2.1 dX3_replaces_85 (by decide) ?_
      exact hK60 _ _ _ _ _ hf hw (lv_sub hl [1, 2, 3, 4, 0] rfl)
  have P60 : ∀ (x1 : Int32) (x2 : Int32) (x3 : Int32) (n : Nat) (σ : St) (x4 : Int32) (ls : Array Slot) (H : Heap) (locs : List Loc), LL2 (m_replaces_p60 x1 x2 x3 Q) n σ x4 → gH D ct shM ad s σ H locs → lv_has ls 5 [(0, .ref (ad 0)), (1, .int x1), (2, .int x2), (3, .int x3), (4, .int x4)] → W p l e rm_m_replaces s m args below meth c H locs 0 0 QQ (F0 m 60 ls []) := by
    intro x1 x2 x3 n
    induction n with
    | zero => intro σ x4 ls H locs hf; exact False.elim hf
    | succ n ih => intro σ x4 ls H locs hf hw hl; exact B60 x1 x2 x3 (LL2 _ n) (fun σ H locs x4 ls hf hw hl => ih σ x4 ls H locs hf hw hl) σ H locs x4 ls hf hw hl
  have B16 : ∀ (x1 : Int32) (x2 : Int32) (x3 : Int32) (K16 : St → Int32 → Prop) (_ : ∀ (σ : St) (H : Heap) (locs : List Loc) (x4 : Int32) (ls : Array Slot), K16 σ x4 → gH D ct shM ad s σ H locs → lv_has ls 5 [(0, .ref (ad 0)), (1, .int x1), (2, .int x2), (3, .int x3), (4, .int x4)] → W p l e rm_m_replaces s m args below meth c H locs 0 0 QQ (F0 m 16 ls [])) (σ : St) (H : Heap) (locs : List Loc) (x4 : Int32) (ls : Array Slot), m_replaces_p16 x1 x2 x3 Q K16 σ x4 → gH D ct shM ad s σ H locs → lv_has ls 5 [(0, .ref (ad 0)), (1, .int x1), (2, .int x2), (3, .int x3), (4, .int x4)] → W p l e rm_m_replaces s m args below meth c H locs 0 0 QQ (F0 m 16 ls []) := by
    intro x1 x2 x3 K16 hK16 σ H locs x4 ls hf hw hl
    unfold m_replaces_p16 at hf
    refine lv_iload C.1 C.2.1 dX3_replaces_16 (lv_at hl 4 rfl) ?_
    refine lv_iconst (v := 1) C.1 C.2.1 dX3_replaces_18 rfl ?_
    refine lv_iadd C.1 C.2.1 dX3_replaces_19 ?_
    refine lv_aload_n C.1 C.2.1 dX3_replaces_20 rfl (lv_at hl 0 rfl) ?_
    refine mg_rowMany C hw dX3_replaces_21 ?_
    refine lv_icmp_ge (tgt := 49) C.1 C.2.1 dX3_replaces_24 (by decide) (fun h24 => ?_) (fun h24 => ?_)
    · replace hf := hf.1 h24
      refine lv_goto (tgt := 88) C.1 C.2.1 dX3_replaces_49 (by decide) ?_
      refine lv_iconst (v := 0) C.1 C.2.1 dX3_replaces_88 rfl ?_
      refine lv_istore (lv' := [(4, .int 0), (0, .ref (ad 0)), (1, .int x1), (2, .int x2), (3, .int x3)]) C.1 C.2.1 dX3_replaces_89 hl (Nat.le_of_ble_eq_true rfl) rfl (fun ls hl => ?_)
      obtain ⟨n, hf⟩ := hf
      exact P91 _ _ _ n _ _ _ _ _ hf hw (lv_sub hl [1, 2, 3, 4, 0] rfl)
    · replace hf := hf.2 h24
      refine lv_aload_n C.1 C.2.1 dX3_replaces_27 rfl (lv_at hl 0 rfl) ?_
      refine mg_row C hw dX3_replaces_28 ?_
      refine lv_iload C.1 C.2.1 dX3_replaces_31 (lv_at hl 4 rfl) ?_
      refine lv_aload_n C.1 C.2.1 dX3_replaces_33 rfl (lv_at hl 0 rfl) ?_
      refine mg_row C hw dX3_replaces_34 ?_
      refine lv_iload C.1 C.2.1 dX3_replaces_37 (lv_at hl 4 rfl) ?_
      refine lv_iconst (v := 1) C.1 C.2.1 dX3_replaces_39 rfl ?_
      refine lv_iadd C.1 C.2.1 dX3_replaces_40 ?_
      obtain ⟨b41, hf⟩ := hf
      refine g_iald C hw 67 rfl b41 dX3_replaces_41 ?_
      obtain ⟨b42, hf⟩ := hf
      refine g_iast C shM_sep hw 67 rfl b42 dX3_replaces_42 (fun s42 H locs e42 hw => ?_)
      replace hf := hf s42 e42
      refine lv_iinc (v := (x4 + 1)) (lv' := [(4, .int (x4 + 1)), (0, .ref (ad 0)), (1, .int x1), (2, .int x2), (3, .int x3)]) C.1 C.2.1 dX3_replaces_43 hl (k := 4) rfl rfl (Nat.le_of_ble_eq_true rfl) rfl (fun ls hl => ?_)
      refine lv_goto (tgt := 16) C.1 C.2.1 dX3_replaces_46 (by decide) ?_
      exact hK16 _ _ _ _ _ hf hw (lv_sub hl [1, 2, 3, 4, 0] rfl)
  have P16 : ∀ (x1 : Int32) (x2 : Int32) (x3 : Int32) (n : Nat) (σ : St) (x4 : Int32) (ls : Array Slot) (H : Heap) (locs : List Loc), LL2 (m_replaces_p16 x1 x2 x3 Q) n σ x4 → gH D ct shM ad s σ H locs → lv_has ls 5 [(0, .ref (ad 0)), (1, .int x1), (2, .int x2), (3, .int x3), (4, .int x4)] → W p l e rm_m_replaces s m args below meth c H locs 0 0 QQ (F0 m 16 ls []) := by
    intro x1 x2 x3 n
    induction n with
    | zero => intro σ x4 ls H locs hf; exact False.elim hf
    | succ n ih => intro σ x4 ls H locs hf hw hl; exact B16 x1 x2 x3 (LL2 _ n) (fun σ H locs x4 ls hf hw hl => ih σ x4 ls H locs hf hw hl) σ H locs x4 ls hf hw hl
  unfold m_replaces at hf
  obtain ⟨H, hH⟩ : ∃ q, q = s.heap := ⟨_, rfl⟩
  obtain ⟨locs, hL⟩ : ∃ q : List Loc, q = [] := ⟨_, rfl⟩
  rw [← hH, ← hL] at hw ⊢
  refine lv_aload_n C.1 C.2.1 dX3_replaces_0 rfl (lv_at hl 0 rfl) ?_
  refine mg_size C hw dX3_replaces_1 ?_
  refine lv_iload_n C.1 C.2.1 dX3_replaces_4 rfl (lv_at hl 2 rfl) ?_
  obtain ⟨b5, hf⟩ := hf
  refine g_iald C hw 4 rfl b5 dX3_replaces_5 ?_
  refine lv_iconst (v := 1) C.1 C.2.1 dX3_replaces_6 rfl ?_
  refine lv_isub C.1 C.2.1 dX3_replaces_7 ?_
  refine lv_istore_n (lv' := [(3, .int ((gI σ 4 x2) - 1)), (0, .ref (ad 0)), (1, .int x1), (2, .int x2)]) C.1 C.2.1 dX3_replaces_8 rfl hl (Nat.le_of_ble_eq_true rfl) rfl (fun ls hl => ?_)
  refine lv_iload_n C.1 C.2.1 dX3_replaces_9 rfl (lv_at hl 0 rfl) ?_
  refine lv_if_ge (tgt := 52) C.1 C.2.1 dX3_replaces_10 (by decide) (fun h10 => ?_) (fun h10 => ?_)
  · replace hf := hf.1 h10
    refine lv_aload_n C.1 C.2.1 dX3_replaces_52 rfl (lv_at hl 1 rfl) ?_
    refine mg_rowMany C hw dX3_replaces_53 ?_
    refine lv_iconst (v := 1) C.1 C.2.1 dX3_replaces_56 rfl ?_
    refine lv_isub C.1 C.2.1 dX3_replaces_57 ?_
    refine lv_istore (lv' := [(4, .int ((σ.1 68) - 1)), (3, .int ((gI σ 4 x2) - 1)), (0, .ref (ad 0)), (1, .int x1), (2, .int x2)]) C.1 C.2.1 dX3_replaces_58 hl (Nat.le_of_ble_eq_true rfl) rfl (fun ls hl => ?_)
    obtain ⟨n, hf⟩ := hf
    exact P60 _ _ _ n _ _ _ _ _ hf hw (lv_sub hl [2, 3, 4, 1, 0] rfl)
  · replace hf := hf.2 h10
    refine lv_iload_n C.1 C.2.1 dX3_replaces_13 rfl (lv_at hl 2 rfl) ?_
    refine lv_istore (lv' := [(4, .int x1), (3, .int ((gI σ 4 x2) - 1)), (0, .ref (ad 0)), (1, .int x1), (2, .int x2)]) C.1 C.2.1 dX3_replaces_14 hl (Nat.le_of_ble_eq_true rfl) rfl (fun ls hl => ?_)
    obtain ⟨n, hf⟩ := hf
    exact P16 _ _ _ n _ _ _ _ _ hf hw (lv_sub hl [2, 3, 4, 1, 0] rfl)
theorem km_replaces {p : Program} {l : Launch} {e : Env} {R : Room} {s : State} {m : MethodId} {args : Array Value} {below : List Frame} {meth : Method} {c : Code} {H : Heap} {locs : List Loc} {Z : State → Prop} {cc : ByteArray} {nL pc : Nat} {ls : Array Slot} {rest : List Value} {D : va_G} {ct : Ct} {ad : Nat → Nat} {σ : St} {x1 : Int32} {x2 : Int32} {Qp : Unit → St → Prop} (C : CallFix p m c cc nL s args lw_all RX3) (hw : gH D ct shM ad s σ H locs) (hsz : ls.size = nL) (hrm : (rest.map fun v => v.category).sum ≤ 8) (hR : rm_m_replaces.frames + 1 ≤ R.frames ∧ 8 + (5 + 11) + rm_m_replaces.locals ≤ R.locals) (hdg : decode cc pc = .ok (.invokevirtual 609, 3)) (hf : m_replaces σ x1 x2 Qp) (kk : ∀ (r : Unit) (σ1 : St) (H1 : Heap) (locs1 : List Loc), Qp r σ1 → gH D ct shM ad s σ1 H1 locs1 → W p l e R s m args below meth c H1 locs1 0 0 Z (F0 m (pc + 3) ls (rest))) : W p l e R s m args below meth c H locs 0 0 Z (F0 m pc ls (.int x2 :: .int x1 :: .ref (ad 0) :: rest)) :=
  g_callV (As := [.int x1, .int x2]) (rest := rest) C hw rfl rfl (met_m_replaces l D ct ad hw.2.1 σ x1 x2 Qp hf) (cwV 2 C.2.2.2.2 (lw_V q2132 q2134 qs196 q207 q2135) rfl rfl rfl (by decide +kernel) hR) rfl hsz rfl hrm ⟨Nat.zero_le _, Nat.zero_le _⟩ hdg kk
def m_count (σ : St) (x1 : Int32) (Q : Int32 → Prop) : Prop :=
  ((x1 = 0 → Q (gI σ 2 0)) ∧ (¬ x1 = 0 → ((x1 = 1 → Q (gI σ 2 1)) ∧ (¬ x1 = 1 → ((x1 = 2 → Q (gI σ 2 2)) ∧ (¬ x1 = 2 → ((x1 = 3 → Q (gI σ 2 3)) ∧ (¬ x1 = 3 → ((x1 = 4 → Q (gI σ 2 4)) ∧ (¬ x1 = 4 → ((x1 = 5 → Q (gI σ 2 5)) ∧ (¬ x1 = 5 → ((x1 = 6 → Q (σ.1 40)) ∧ (¬ x1 = 6 → ((x1 = 7 → Q (gI σ 2 6)) ∧ (¬ x1 = 7 → ((x1 = 8 → Q (σ.1 17)) ∧ (¬ x1 = 8 → Q (-1)))))))))))))))))))
abbrev rm_m_count : Room := { frames := 0, cells := 0, slots := 0, locals := 0 }
set_option maxHeartbeats 4000000 in
theorem met_m_count (l : Launch) (D : va_G) (ct : Ct) (ad : Nat → Nat) (hJ : gJ shM ad ct) (σ : St) (x1 : Int32) (Q : Int32 → Prop) (hf : m_count σ x1 Q) : Met l yX3_count (ws_ yX3_count cX3_count 2 (some .int)) rm_m_count (va_Pc [.ref (ad 0), .int x1] (gP D ct shM ad σ)) (gR rvI Q) 0 0 (fun _ => False) := by
  refine g_metRI hJ (by decide) (Nat.le_of_ble_eq_true rfl) ?_
  intro p e s m args below meth c QQ ls H C hw hl hret
  replace hl : lv_has ls 2 [(0, .ref (ad 0)), (1, .int x1)] := hl
  unfold m_count at hf
  refine lv_iload_n C.1 C.2.1 dX3_count_0 rfl (lv_at hl 1 rfl) ?_
  by_cases h1_0 : x1 = 0
  · replace hf := hf.1 h1_0
    refine lv_tableIn (tgt := 52) C.1 C.2.1 dX3_count_1 (by rw [h1_0]; decide) (by rw [h1_0]; decide) (by rw [h1_0]; rfl) (by decide) ?_
    refine lv_aload_n C.1 C.2.1 dX3_count_52 rfl (lv_at hl 0 rfl) ?_
    refine mg_scalar C hw dX3_count_53 ?_
    refine lv_iconst (v := 0) C.1 C.2.1 dX3_count_56 rfl ?_
    refine g_iald C hw 2 rfl (vpD rfl) dX3_count_57 ?_
    exact hret _ _ _ hf dX3_count_58
  · replace hf := hf.2 h1_0
    by_cases h1_1 : x1 = 1
    · replace hf := hf.1 h1_1
      refine lv_tableIn (tgt := 59) C.1 C.2.1 dX3_count_1 (by rw [h1_1]; decide) (by rw [h1_1]; decide) (by rw [h1_1]; rfl) (by decide) ?_
      refine lv_aload_n C.1 C.2.1 dX3_count_59 rfl (lv_at hl 0 rfl) ?_
      refine mg_scalar C hw dX3_count_60 ?_
      refine lv_iconst (v := 1) C.1 C.2.1 dX3_count_63 rfl ?_
      refine g_iald C hw 2 rfl (vpD rfl) dX3_count_64 ?_
      exact hret _ _ _ hf dX3_count_65
    · replace hf := hf.2 h1_1
      by_cases h1_2 : x1 = 2
      · replace hf := hf.1 h1_2
        refine lv_tableIn (tgt := 66) C.1 C.2.1 dX3_count_1 (by rw [h1_2]; decide) (by rw [h1_2]; decide) (by rw [h1_2]; rfl) (by decide) ?_
        refine lv_aload_n C.1 C.2.1 dX3_count_66 rfl (lv_at hl 0 rfl) ?_
        refine mg_scalar C hw dX3_count_67 ?_
        refine lv_iconst (v := 2) C.1 C.2.1 dX3_count_70 rfl ?_
        refine g_iald C hw 2 rfl (vpD rfl) dX3_count_71 ?_
        exact hret _ _ _ hf dX3_count_72
      · replace hf := hf.2 h1_2
        by_cases h1_3 : x1 = 3
        · replace hf := hf.1 h1_3
          refine lv_tableIn (tgt := 73) C.1 C.2.1 dX3_count_1 (by rw [h1_3]; decide) (by rw [h1_3]; decide) (by rw [h1_3]; rfl) (by decide) ?_
          refine lv_aload_n C.1 C.2.1 dX3_count_73 rfl (lv_at hl 0 rfl) ?_
          refine mg_scalar C hw dX3_count_74 ?_
          refine lv_iconst (v := 3) C.1 C.2.1 dX3_count_77 rfl ?_
          refine g_iald C hw 2 rfl (vpD rfl) dX3_count_78 ?_
          exact hret _ _ _ hf dX3_count_79
        · replace hf := hf.2 h1_3
          by_cases h1_4 : x1 = 4
          · replace hf := hf.1 h1_4
            refine lv_tableIn (tgt := 80) C.1 C.2.1 dX3_count_1 (by rw [h1_4]; decide) (by rw [h1_4]; decide) (by rw [h1_4]; rfl) (by decide) ?_
            refine lv_aload_n C.1 C.2.1 dX3_count_80 rfl (lv_at hl 0 rfl) ?_
            refine mg_scalar C hw dX3_count_81 ?_
            refine lv_iconst (v := 4) C.1 C.2.1 dX3_count_84 rfl ?_
            refine g_iald C hw 2 rfl (vpD rfl) dX3_count_85 ?_
            exact hret _ _ _ hf dX3_count_86
          · replace hf := hf.2 h1_4
            by_cases h1_5 : x1 = 5
            · replace hf := hf.1 h1_5
              refine lv_tableIn (tgt := 87) C.1 C.2.1 dX3_count_1 (by rw [h1_5]; decide) (by rw [h1_5]; decide) (by rw [h1_5]; rfl) (by decide) ?_
              refine lv_aload_n C.1 C.2.1 dX3_count_87 rfl (lv_at hl 0 rfl) ?_
              refine mg_scalar C hw dX3_count_88 ?_
              refine lv_iconst (v := 5) C.1 C.2.1 dX3_count_91 rfl ?_
              refine g_iald C hw 2 rfl (vpD rfl) dX3_count_92 ?_
              exact hret _ _ _ hf dX3_count_93
            · replace hf := hf.2 h1_5
              by_cases h1_6 : x1 = 6
              · replace hf := hf.1 h1_6
                refine lv_tableIn (tgt := 94) C.1 C.2.1 dX3_count_1 (by rw [h1_6]; decide) (by rw [h1_6]; decide) (by rw [h1_6]; rfl) (by decide) ?_
                refine lv_aload_n C.1 C.2.1 dX3_count_94 rfl (lv_at hl 0 rfl) ?_
                refine mg_pastMany C hw dX3_count_95 ?_
                exact hret _ _ _ hf dX3_count_98
              · replace hf := hf.2 h1_6
                by_cases h1_7 : x1 = 7
                · replace hf := hf.1 h1_7
                  refine lv_tableIn (tgt := 99) C.1 C.2.1 dX3_count_1 (by rw [h1_7]; decide) (by rw [h1_7]; decide) (by rw [h1_7]; rfl) (by decide) ?_
                  refine lv_aload_n C.1 C.2.1 dX3_count_99 rfl (lv_at hl 0 rfl) ?_
                  refine mg_scalar C hw dX3_count_100 ?_
                  refine lv_bipush (v := 6) C.1 C.2.1 dX3_count_103 rfl ?_
                  refine g_iald C hw 2 rfl (vpD rfl) dX3_count_105 ?_
                  exact hret _ _ _ hf dX3_count_106
                · replace hf := hf.2 h1_7
                  by_cases h1_8 : x1 = 8
                  · replace hf := hf.1 h1_8
                    refine lv_tableIn (tgt := 107) C.1 C.2.1 dX3_count_1 (by rw [h1_8]; decide) (by rw [h1_8]; decide) (by rw [h1_8]; rfl) (by decide) ?_
                    refine lv_aload_n C.1 C.2.1 dX3_count_107 rfl (lv_at hl 0 rfl) ?_
                    refine mg_taped C hw dX3_count_108 ?_
                    exact hret _ _ _ hf dX3_count_111
                  · replace hf := hf.2 h1_8
                    refine lv_tableOut (tgt := 112) C.1 C.2.1 dX3_count_1 (tb_out_0_8 h1_0 h1_1 h1_2 h1_3 h1_4 h1_5 h1_6 h1_7 h1_8) (by decide) ?_
                    refine lv_iconst (v := (-1)) C.1 C.2.1 dX3_count_112 rfl ?_
                    exact hret _ _ _ hf dX3_count_113
def fm_count (σ : St) (x1 : Int32) : Int32 :=
  (if x1 = 0 then (gI σ 2 0) else (if x1 = 1 then (gI σ 2 1) else (if x1 = 2 then (gI σ 2 2) else (if x1 = 3 then (gI σ 2 3) else (if x1 = 4 then (gI σ 2 4) else (if x1 = 5 then (gI σ 2 5) else (if x1 = 6 then (σ.1 40) else (if x1 = 7 then (gI σ 2 6) else (if x1 = 8 then (σ.1 17) else (-1))))))))))
theorem m_count_f {Q : Int32 → Prop} {σ : St} {x1 : Int32} (h : Q (fm_count σ x1)) : m_count σ x1 Q := by
  unfold fm_count at h
  unfold m_count
  refine ⟨fun c => ?_, fun c => ?_⟩
  · rw [if_pos c] at h
    exact h
  · rw [if_neg c] at h
    refine ⟨fun c => ?_, fun c => ?_⟩
    · rw [if_pos c] at h
      exact h
    · rw [if_neg c] at h
      refine ⟨fun c => ?_, fun c => ?_⟩
      · rw [if_pos c] at h
        exact h
      · rw [if_neg c] at h
        refine ⟨fun c => ?_, fun c => ?_⟩
        · rw [if_pos c] at h
          exact h
        · rw [if_neg c] at h
          refine ⟨fun c => ?_, fun c => ?_⟩
          · rw [if_pos c] at h
            exact h
          · rw [if_neg c] at h
            refine ⟨fun c => ?_, fun c => ?_⟩
            · rw [if_pos c] at h
              exact h
            · rw [if_neg c] at h
              refine ⟨fun c => ?_, fun c => ?_⟩
              · rw [if_pos c] at h
                exact h
              · rw [if_neg c] at h
                refine ⟨fun c => ?_, fun c => ?_⟩
                · rw [if_pos c] at h
                  exact h
                · rw [if_neg c] at h
                  refine ⟨fun c => ?_, fun c => ?_⟩
                  · rw [if_pos c] at h
                    exact h
                  · rw [if_neg c] at h
                    exact h
def m_carryRow_p42 (σ : St) (lnx1 : Nat) (x1 : Nat) (x2 : Int32) (Q : Unit → St → Prop) (K2 : St → Int32 → Prop) : Prop :=
  (∀ s49 : St, s49 = s_I σ 71 ((σ.1 71) + 1) → K2 s49 (x2 + 1))
def m_carryRow_p2 (lnx1 : Nat) (x1 : Nat) (Q : Unit → St → Prop) (K2 : St → Int32 → Prop) (σ : St) (x2 : Int32) : Prop :=
  (((nI lnx1) ≤ x2 → Q () σ) ∧ (¬ (nI lnx1) ≤ x2 → (((σ.1 72) = 0 → (vp_in x2 lnx1 ∧ (vp_in (σ.1 71) 2560 ∧ (∀ s41 : St, s41 = s_A σ 69 (Int32.toNatClampNeg (σ.1 71)) (gI σ x1 x2) → (m_carryRow_p42 s41 lnx1 x1 x2 Q K2))))) ∧ (¬ (σ.1 72) = 0 → (vp_in (σ.1 71) 2560 ∧ (vp_in x2 lnx1 ∧ (∀ s26 : St, s26 = s_A σ x1 (Int32.toNatClampNeg x2) (gI σ 69 (σ.1 71)) → (m_carryRow_p42 s26 lnx1 x1 x2 Q K2))))))))
def m_carryRow (σ : St) (lnx1 : Nat) (x1 : Nat) (Q : Unit → St → Prop) : Prop :=
  (Lp2 (m_carryRow_p2 lnx1 x1 Q) σ 0)
abbrev rm_m_carryRow : Room := { frames := 0, cells := 0, slots := 0, locals := 0 }
set_option maxHeartbeats 4000000 in
theorem met_m_carryRow (l : Launch) (D : va_G) (ct : Ct) (ad : Nat → Nat) (hJ : gJ shM ad ct) (σ : St) (lnx1 : Nat) (x1 : Nat) (hkx1 : shM.2 x1 = (2, lnx1)) (Q : Unit → St → Prop) (hf : m_carryRow σ lnx1 x1 Q) : Met l yX3_carryRow (ws_ yX3_carryRow cX3_carryRow 3 (none)) rm_m_carryRow (va_Pc [.ref (ad 0), .ref (ad x1)] (gP D ct shM ad σ)) (gQ rvV D ct shM ad Q) 0 0 (gA shM ad) := by
  refine g_metV hJ (by decide) (Nat.le_of_ble_eq_true rfl) ?_
  intro p e s m args below meth c QQ ls C hw hl hret
  replace hl : lv_has ls 3 [(0, .ref (ad 0)), (1, .ref (ad x1))] := hl
  have J42 : ∀ (σ : St) (H : Heap) (locs : List Loc) (x2 : Int32) (K2 : St → Int32 → Prop) (_ : ∀ (σ : St) (H : Heap) (locs : List Loc) (x2 : Int32) (ls : Array Slot), K2 σ x2 → gH D ct shM ad s σ H locs → lv_has ls 3 [(0, .ref (ad 0)), (1, .ref (ad x1)), (2, .int x2)] → W p l e rm_m_carryRow s m args below meth c H locs 0 0 QQ (F0 m 2 ls [])) (ls : Array Slot), m_carryRow_p42 σ lnx1 x1 x2 Q K2 → gH D ct shM ad s σ H locs → lv_has ls 3 [(0, .ref (ad 0)), (1, .ref (ad x1)), (2, .int x2)] → W p l e rm_m_carryRow s m args below meth c H locs 0 0 QQ (F0 m 42 ls []) := by
    intro σ H locs x2 K2 hK2 ls hf hw hl
    unfold m_carryRow_p42 at hf
    refine lv_aload_n C.1 C.2.1 dX3_carryRow_42 rfl (lv_at hl 0 rfl) ?_
    refine lv_dup C.1 C.2.1 dX3_carryRow_43 rfl ?_
    refine mg_imageAt C hw dX3_carryRow_44 ?_
    refine lv_iconst (v := 1) C.1 C.2.1 dX3_carryRow_47 rfl ?_
    refine lv_iadd C.1 C.2.1 dX3_carryRow_48 ?_
    refine mp_imageAt C hw dX3_carryRow_49 (fun s49 H locs e49 hw => ?_)
    replace hf := hf s49 e49
    refine lv_iinc (v := (x2 + 1)) (lv' := [(2, .int (x2 + 1)), (0, .ref (ad 0)), (1, .ref (ad x1))]) C.1 C.2.1 dX3_carryRow_52 hl (k := 2) rfl rfl (Nat.le_of_ble_eq_true rfl) rfl (fun ls hl => ?_)
    refine lv_goto (tgt := 2) C.1 C.2.1 dX3_carryRow_55 (by decide) ?_
    exact hK2 _ _ _ _ _ hf hw (lv_sub hl [1, 2, 0] rfl)
  have B2 : ∀ (K2 : St → Int32 → Prop) (_ : ∀ (σ : St) (H : Heap) (locs : List Loc) (x2 : Int32) (ls : Array Slot), K2 σ x2 → gH D ct shM ad s σ H locs → lv_has ls 3 [(0, .ref (ad 0)), (1, .ref (ad x1)), (2, .int x2)] → W p l e rm_m_carryRow s m args below meth c H locs 0 0 QQ (F0 m 2 ls [])) (σ : St) (H : Heap) (locs : List Loc) (x2 : Int32) (ls : Array Slot), m_carryRow_p2 lnx1 x1 Q K2 σ x2 → gH D ct shM ad s σ H locs → lv_has ls 3 [(0, .ref (ad 0)), (1, .ref (ad x1)), (2, .int x2)] → W p l e rm_m_carryRow s m args below meth c H locs 0 0 QQ (F0 m 2 ls []) := by
    intro K2 hK2 σ H locs x2 ls hf hw hl
    unfold m_carryRow_p2 at hf
    refine lv_iload_n C.1 C.2.1 dX3_carryRow_2 rfl (lv_at hl 2 rfl) ?_
    refine lv_aload_n C.1 C.2.1 dX3_carryRow_3 rfl (lv_at hl 1 rfl) ?_
    refine g_alen C hw x1 hkx1 dX3_carryRow_4 ?_
    refine lv_icmp_ge (tgt := 58) C.1 C.2.1 dX3_carryRow_5 (by decide) (fun h5 => ?_) (fun h5 => ?_)
    · replace hf := hf.1 h5
      exact hret _ _ _ _ _ _ hf hw dX3_carryRow_58
    · replace hf := hf.2 h5
      refine lv_aload_n C.1 C.2.1 dX3_carryRow_8 rfl (lv_at hl 0 rfl) ?_
      refine mg_goesBack C hw dX3_carryRow_9 ?_
      refine lv_if_eq (tgt := 30) C.1 C.2.1 dX3_carryRow_12 (by decide) (fun h12 => ?_) (fun h12 => ?_)
      · replace hf := hf.1 h12
        refine lv_aload_n C.1 C.2.1 dX3_carryRow_30 rfl (lv_at hl 0 rfl) ?_
        refine mg_images C hw dX3_carryRow_31 ?_
        refine lv_aload_n C.1 C.2.1 dX3_carryRow_34 rfl (lv_at hl 0 rfl) ?_
        refine mg_imageAt C hw dX3_carryRow_35 ?_
        refine lv_aload_n C.1 C.2.1 dX3_carryRow_38 rfl (lv_at hl 1 rfl) ?_
        refine lv_iload_n C.1 C.2.1 dX3_carryRow_39 rfl (lv_at hl 2 rfl) ?_
        obtain ⟨b40, hf⟩ := hf
        refine g_iald C hw x1 hkx1 b40 dX3_carryRow_40 ?_
        obtain ⟨b41, hf⟩ := hf
        refine g_iast C shM_sep hw 69 rfl b41 dX3_carryRow_41 (fun s41 H locs e41 hw => ?_)
        replace hf := hf s41 e41
        exact J42 _ _ _ _ _ hK2 _ hf hw (lv_sub hl [0, 1, 2] rfl)
      · replace hf := hf.2 h12
        refine lv_aload_n C.1 C.2.1 dX3_carryRow_15 rfl (lv_at hl 1 rfl) ?_
        refine lv_iload_n C.1 C.2.1 dX3_carryRow_16 rfl (lv_at hl 2 rfl) ?_
        refine lv_aload_n C.1 C.2.1 dX3_carryRow_17 rfl (lv_at hl 0 rfl) ?_
        refine mg_images C hw dX3_carryRow_18 ?_
        refine lv_aload_n C.1 C.2.1 dX3_carryRow_21 rfl (lv_at hl 0 rfl) ?_
        refine mg_imageAt C hw dX3_carryRow_22 ?_
        obtain ⟨b25, hf⟩ := hf
        refine g_iald C hw 69 rfl b25 dX3_carryRow_25 ?_
        obtain ⟨b26, hf⟩ := hf
        refine g_iast C shM_sep hw x1 hkx1 b26 dX3_carryRow_26 (fun s26 H locs e26 hw => ?_)
        replace hf := hf s26 e26
        refine lv_goto (tgt := 42) C.1 C.2.1 dX3_carryRow_27 (by decide) ?_
        exact J42 _ _ _ _ _ hK2 _ hf hw (lv_sub hl [0, 1, 2] rfl)
  have P2 : ∀ (n : Nat) (σ : St) (x2 : Int32) (ls : Array Slot) (H : Heap) (locs : List Loc), LL2 (m_carryRow_p2 lnx1 x1 Q) n σ x2 → gH D ct shM ad s σ H locs → lv_has ls 3 [(0, .ref (ad 0)), (1, .ref (ad x1)), (2, .int x2)] → W p l e rm_m_carryRow s m args below meth c H locs 0 0 QQ (F0 m 2 ls []) := by
    intro  n
    induction n with
    | zero => intro σ x2 ls H locs hf; exact False.elim hf
    | succ n ih => intro σ x2 ls H locs hf hw hl; exact B2  (LL2 _ n) (fun σ H locs x2 ls hf hw hl => ih σ x2 ls H locs hf hw hl) σ H locs x2 ls hf hw hl
  unfold m_carryRow at hf
  obtain ⟨H, hH⟩ : ∃ q, q = s.heap := ⟨_, rfl⟩
  obtain ⟨locs, hL⟩ : ∃ q : List Loc, q = [] := ⟨_, rfl⟩
  rw [← hH, ← hL] at hw ⊢
  refine lv_iconst (v := 0) C.1 C.2.1 dX3_carryRow_0 rfl ?_
  refine lv_istore_n (lv' := [(2, .int 0), (0, .ref (ad 0)), (1, .ref (ad x1))]) C.1 C.2.1 dX3_carryRow_1 rfl hl (Nat.le_of_ble_eq_true rfl) rfl (fun ls hl => ?_)
  obtain ⟨n, hf⟩ := hf
  exact P2  n _ _ _ _ _ hf hw (lv_sub hl [1, 2, 0] rfl)
theorem km_carryRow {p : Program} {l : Launch} {e : Env} {R : Room} {s : State} {m : MethodId} {args : Array Value} {below : List Frame} {meth : Method} {c : Code} {H : Heap} {locs : List Loc} {Z : State → Prop} {cc : ByteArray} {nL pc : Nat} {ls : Array Slot} {rest : List Value} {D : va_G} {ct : Ct} {ad : Nat → Nat} {σ : St} {lnx1 : Nat} {x1 : Nat} {Qp : Unit → St → Prop} (C : CallFix p m c cc nL s args lw_all RX3) (hw : gH D ct shM ad s σ H locs) (hsz : ls.size = nL) (hrm : (rest.map fun v => v.category).sum ≤ 8) (hR : rm_m_carryRow.frames + 1 ≤ R.frames ∧ 8 + (3 + 11) + rm_m_carryRow.locals ≤ R.locals) (hdg : decode cc pc = .ok (.invokevirtual 627, 3)) (hkx1 : shM.2 x1 = (2, lnx1)) (hf : m_carryRow σ lnx1 x1 Qp) (kk : ∀ (r : Unit) (σ1 : St) (H1 : Heap) (locs1 : List Loc), Qp r σ1 → gH D ct shM ad s σ1 H1 locs1 → W p l e R s m args below meth c H1 locs1 0 0 Z (F0 m (pc + 3) ls (rest))) : W p l e R s m args below meth c H locs 0 0 Z (F0 m pc ls (.ref (ad x1) :: .ref (ad 0) :: rest)) :=
  g_callV (As := [.ref (ad x1)]) (rest := rest) C hw rfl rfl (met_m_carryRow l D ct ad hw.2.1 σ lnx1 x1 hkx1 Qp hf) (cwV 1 C.2.2.2.2 (lw_V q2148 q2150 qs198 q207 q2151) rfl rfl rfl (by decide +kernel) hR) rfl hsz rfl hrm ⟨Nat.zero_le _, Nat.zero_le _⟩ hdg kk
def m_isRule (σ : St) (x1 : Int32) (Q : Int32 → Prop) : Prop :=
  (zB (fm_in (Int32.toInt64 x1) 0 (Int32.toInt64 ((gI σ 2 0) - 1))) ∧ Q (fm_in (Int32.toInt64 x1) 0 (Int32.toInt64 ((gI σ 2 0) - 1))))
abbrev rm_m_isRule : Room := { frames := 1, cells := 0, slots := 0, locals := 25 }
set_option maxHeartbeats 4000000 in
theorem met_m_isRule (l : Launch) (D : va_G) (ct : Ct) (ad : Nat → Nat) (hJ : gJ shM ad ct) (σ : St) (x1 : Int32) (Q : Int32 → Prop) (hf : m_isRule σ x1 Q) : Met l yX3_isRule (ws_ yX3_isRule cX3_isRule 2 (some .boolean)) rm_m_isRule (va_Pc [.ref (ad 0), .int x1] (gP D ct shM ad σ)) (gR rvI Q) 0 0 (fun _ => False) := by
  refine g_metRZ hJ (by decide) (Nat.le_of_ble_eq_true rfl) ?_
  intro p e s m args below meth c QQ ls H C hw hl hret
  replace hl : lv_has ls 2 [(0, .ref (ad 0)), (1, .int x1)] := hl
  unfold m_isRule at hf
  refine lv_iload_n C.1 C.2.1 dX3_isRule_0 rfl (lv_at hl 1 rfl) ?_
  refine lv_i2l C.1 C.2.1 dX3_isRule_1 rfl ?_
  refine lv_lconst (v := 0) C.1 C.2.1 dX3_isRule_2 rfl ?_
  refine lv_aload_n C.1 C.2.1 dX3_isRule_3 rfl (lv_at hl 0 rfl) ?_
  refine mg_scalar C hw dX3_isRule_4 ?_
  refine lv_iconst (v := 0) C.1 C.2.1 dX3_isRule_7 rfl ?_
  refine g_iald C hw 2 rfl (vpD rfl) dX3_isRule_8 ?_
  refine lv_iconst (v := 1) C.1 C.2.1 dX3_isRule_9 rfl ?_
  refine lv_isub C.1 C.2.1 dX3_isRule_10 ?_
  refine lv_i2l C.1 C.2.1 dX3_isRule_11 rfl ?_
  refine km_in C hl.1 (Nat.le_of_ble_eq_true rfl) ⟨Nat.le_of_ble_eq_true rfl, Nat.le_of_ble_eq_true rfl⟩ dX3_isRule_12 ?_
  obtain ⟨hz, hf⟩ := hf
  exact hret _ _ _ hf hz dX3_isRule_15
def fm_isRule (σ : St) (x1 : Int32) : Int32 :=
  (fm_in (Int32.toInt64 x1) 0 (Int32.toInt64 ((gI σ 2 0) - 1)))
theorem fm_isRule_z {σ : St} {x1 : Int32} : zB (fm_isRule σ x1) := by
  unfold fm_isRule
  repeat' split
  all_goals first | exact Or.inl rfl | exact Or.inr rfl | exact fm_in_z
theorem m_isRule_f {Q : Int32 → Prop} {σ : St} {x1 : Int32} (h : Q (fm_isRule σ x1)) : m_isRule σ x1 Q := by
  unfold fm_isRule at h
  unfold m_isRule
  exact ⟨fm_in_z, h⟩
theorem km_isRule {p : Program} {l : Launch} {e : Env} {R : Room} {s : State} {m : MethodId} {args : Array Value} {below : List Frame} {meth : Method} {c : Code} {H : Heap} {locs : List Loc} {Z : State → Prop} {cc : ByteArray} {nL pc : Nat} {ls : Array Slot} {rest : List Value} {D : va_G} {ct : Ct} {ad : Nat → Nat} {σ : St} {x1 : Int32} (C : CallFix p m c cc nL s args lw_all RX3) (hw : gH D ct shM ad s σ H locs) (hsz : ls.size = nL) (hrm : (rest.map fun v => v.category).sum ≤ 8) (hR : rm_m_isRule.frames + 1 ≤ R.frames ∧ 8 + (2 + 11) + rm_m_isRule.locals ≤ R.locals) (hdg : decode cc pc = .ok (.invokevirtual 257, 3)) (kk : W p l e R s m args below meth c H locs 0 0 Z (F0 m (pc + 3) ls (.int (fm_isRule σ x1) :: rest))) : W p l e R s m args below meth c H locs 0 0 Z (F0 m pc ls (.int x1 :: .ref (ad 0) :: rest)) :=
  g_callVRf (As := [.int x1]) (rest := rest) C hw rfl rfl (met_m_isRule l D ct ad hw.2.1 σ x1 (fun r => r = fm_isRule σ x1) (m_isRule_f rfl)) (cwV 1 C.2.2.2.2 (lw_V q1672 q1674 qs119 q207 q1675) rfl rfl rfl (by decide +kernel) hR) rfl hsz rfl hrm ⟨Nat.zero_le _, Nat.zero_le _⟩ hdg kk
def m_isOn (σ : St) (x1 : Int32) (Q : Int32 → Prop) : Prop :=
  (((fm_has (gI σ 2 3) x1) = 0 → Q 1) ∧ (¬ (fm_has (gI σ 2 3) x1) = 0 → Q 0))
abbrev rm_m_isOn : Room := { frames := 1, cells := 0, slots := 0, locals := 21 }
set_option maxHeartbeats 4000000 in
theorem met_m_isOn (l : Launch) (D : va_G) (ct : Ct) (ad : Nat → Nat) (hJ : gJ shM ad ct) (σ : St) (x1 : Int32) (Q : Int32 → Prop) (hf : m_isOn σ x1 Q) : Met l yX3_isOn (ws_ yX3_isOn cX3_isOn 2 (some .boolean)) rm_m_isOn (va_Pc [.ref (ad 0), .int x1] (gP D ct shM ad σ)) (gR rvI Q) 0 0 (fun _ => False) := by
  refine g_metRZ hJ (by decide) (Nat.le_of_ble_eq_true rfl) ?_
  intro p e s m args below meth c QQ ls H C hw hl hret
  replace hl : lv_has ls 2 [(0, .ref (ad 0)), (1, .int x1)] := hl
  unfold m_isOn at hf
  refine lv_aload_n C.1 C.2.1 dX3_isOn_0 rfl (lv_at hl 0 rfl) ?_
  refine mg_scalar C hw dX3_isOn_1 ?_
  refine lv_iconst (v := 3) C.1 C.2.1 dX3_isOn_4 rfl ?_
  refine g_iald C hw 2 rfl (vpD rfl) dX3_isOn_5 ?_
  refine lv_iload_n C.1 C.2.1 dX3_isOn_6 rfl (lv_at hl 1 rfl) ?_
  refine km_has C hl.1 (Nat.le_of_ble_eq_true rfl) ⟨Nat.le_of_ble_eq_true rfl, Nat.le_of_ble_eq_true rfl⟩ dX3_isOn_7 ?_
  refine lv_if_ne (tgt := 17) C.1 C.2.1 dX3_isOn_10 (by decide) (fun h10 => ?_) (fun h10 => ?_)
  · replace hf := hf.2 h10
    refine lv_iconst (v := 0) C.1 C.2.1 dX3_isOn_17 rfl ?_
    exact hret _ _ _ hf (Or.inl rfl) dX3_isOn_18
  · replace hf := hf.1 h10
    refine lv_iconst (v := 1) C.1 C.2.1 dX3_isOn_13 rfl ?_
    refine lv_goto (tgt := 18) C.1 C.2.1 dX3_isOn_14 (by decide) ?_
    exact hret _ _ _ hf (Or.inr rfl) dX3_isOn_18
def fm_isOn (σ : St) (x1 : Int32) : Int32 :=
  (if (fm_has (gI σ 2 3) x1) = 0 then 1 else 0)
theorem fm_isOn_z {σ : St} {x1 : Int32} : zB (fm_isOn σ x1) := by
  unfold fm_isOn
  repeat' split
  all_goals first | exact Or.inl rfl | exact Or.inr rfl | exact fm_has_z
theorem m_isOn_f {Q : Int32 → Prop} {σ : St} {x1 : Int32} (h : Q (fm_isOn σ x1)) : m_isOn σ x1 Q := by
  unfold fm_isOn at h
  unfold m_isOn
  refine ⟨fun c => ?_, fun c => ?_⟩
  · rw [if_pos c] at h
    exact h
  · rw [if_neg c] at h
    exact h
theorem km_isOn {p : Program} {l : Launch} {e : Env} {R : Room} {s : State} {m : MethodId} {args : Array Value} {below : List Frame} {meth : Method} {c : Code} {H : Heap} {locs : List Loc} {Z : State → Prop} {cc : ByteArray} {nL pc : Nat} {ls : Array Slot} {rest : List Value} {D : va_G} {ct : Ct} {ad : Nat → Nat} {σ : St} {x1 : Int32} (C : CallFix p m c cc nL s args lw_all RX3) (hw : gH D ct shM ad s σ H locs) (hsz : ls.size = nL) (hrm : (rest.map fun v => v.category).sum ≤ 8) (hR : rm_m_isOn.frames + 1 ≤ R.frames ∧ 8 + (2 + 11) + rm_m_isOn.locals ≤ R.locals) (hdg : decode cc pc = .ok (.invokevirtual 260, 3)) (kk : W p l e R s m args below meth c H locs 0 0 Z (F0 m (pc + 3) ls (.int (fm_isOn σ x1) :: rest))) : W p l e R s m args below meth c H locs 0 0 Z (F0 m pc ls (.int x1 :: .ref (ad 0) :: rest)) :=
  g_callVRf (As := [.int x1]) (rest := rest) C hw rfl rfl (met_m_isOn l D ct ad hw.2.1 σ x1 (fun r => r = fm_isOn σ x1) (m_isOn_f rfl)) (cwV 1 C.2.2.2.2 (lw_V q1635 q1637 qs113 q207 q1638) rfl rfl rfl (by decide +kernel) hR) rfl hsz rfl hrm ⟨Nat.zero_le _, Nat.zero_le _⟩ hdg kk
def m_feed (σ : St) (x1 : Int32) (x2 : Int32) (x3 : Int32) (x4 : Int32) (x5 : Int32) (Q : Int32 → St → Prop) : Prop :=
  ((((σ.1 17) + 20) ≤ 400 → (m_put σ x1 (fun _ s17 => (m_put s17 x2 (fun _ s22 => (m_put s22 x3 (fun _ s27 => (m_put s27 x4 (fun _ s33 => (m_put s33 x5 (fun _ s39 => Q (s39.1 17) s39))))))))))) ∧ (¬ ((σ.1 17) + 20) ≤ 400 → Q (-1) σ))
abbrev rm_m_feed : Room := { frames := 1, cells := 0, slots := 0, locals := 22 }
set_option maxHeartbeats 4000000 in
theorem met_m_feed (l : Launch) (D : va_G) (ct : Ct) (ad : Nat → Nat) (hJ : gJ shM ad ct) (σ : St) (x1 : Int32) (x2 : Int32) (x3 : Int32) (x4 : Int32) (x5 : Int32) (Q : Int32 → St → Prop) (hf : m_feed σ x1 x2 x3 x4 x5 Q) : Met l yX3_feed (ws_ yX3_feed cX3_feed 6 (some .int)) rm_m_feed (va_Pc [.ref (ad 0), .int x1, .int x2, .int x3, .int x4, .int x5] (gP D ct shM ad σ)) (gQ rvI D ct shM ad Q) 0 0 (gA shM ad) := by
  refine g_metI hJ (by decide) (Nat.le_of_ble_eq_true rfl) ?_
  intro p e s m args below meth c QQ ls C hw hl hret
  replace hl : lv_has ls 6 [(0, .ref (ad 0)), (1, .int x1), (2, .int x2), (3, .int x3), (4, .int x4), (5, .int x5)] := hl
  unfold m_feed at hf
  obtain ⟨H, hH⟩ : ∃ q, q = s.heap := ⟨_, rfl⟩
  obtain ⟨locs, hL⟩ : ∃ q : List Loc, q = [] := ⟨_, rfl⟩
  rw [← hH, ← hL] at hw ⊢
  refine lv_aload_n C.1 C.2.1 dX3_feed_0 rfl (lv_at hl 0 rfl) ?_
  refine mg_taped C hw dX3_feed_1 ?_
  refine lv_bipush (v := 20) C.1 C.2.1 dX3_feed_4 rfl ?_
  refine lv_iadd C.1 C.2.1 dX3_feed_6 ?_
  refine lv_sipush (v := 400) C.1 C.2.1 dX3_feed_7 rfl ?_
  refine lv_icmp_le (tgt := 15) C.1 C.2.1 dX3_feed_10 (by decide) (fun h10 => ?_) (fun h10 => ?_)
  · replace hf := hf.1 h10
    refine lv_aload_n C.1 C.2.1 dX3_feed_15 rfl (lv_at hl 0 rfl) ?_
    refine lv_iload_n C.1 C.2.1 dX3_feed_16 rfl (lv_at hl 1 rfl) ?_
    refine km_put C hw hl.1 (Nat.le_of_ble_eq_true rfl) ⟨Nat.le_of_ble_eq_true rfl, Nat.le_of_ble_eq_true rfl⟩ dX3_feed_17 hf (fun _ s17 H locs hf hw => ?_)
    refine lv_aload_n C.1 C.2.1 dX3_feed_20 rfl (lv_at hl 0 rfl) ?_
    refine lv_iload_n C.1 C.2.1 dX3_feed_21 rfl (lv_at hl 2 rfl) ?_
    refine km_put C hw hl.1 (Nat.le_of_ble_eq_true rfl) ⟨Nat.le_of_ble_eq_true rfl, Nat.le_of_ble_eq_true rfl⟩ dX3_feed_22 hf (fun _ s22 H locs hf hw => ?_)
    refine lv_aload_n C.1 C.2.1 dX3_feed_25 rfl (lv_at hl 0 rfl) ?_
    refine lv_iload_n C.1 C.2.1 dX3_feed_26 rfl (lv_at hl 3 rfl) ?_
    refine km_put C hw hl.1 (Nat.le_of_ble_eq_true rfl) ⟨Nat.le_of_ble_eq_true rfl, Nat.le_of_ble_eq_true rfl⟩ dX3_feed_27 hf (fun _ s27 H locs hf hw => ?_)
    refine lv_aload_n C.1 C.2.1 dX3_feed_30 rfl (lv_at hl 0 rfl) ?_
    refine lv_iload C.1 C.2.1 dX3_feed_31 (lv_at hl 4 rfl) ?_
    refine km_put C hw hl.1 (Nat.le_of_ble_eq_true rfl) ⟨Nat.le_of_ble_eq_true rfl, Nat.le_of_ble_eq_true rfl⟩ dX3_feed_33 hf (fun _ s33 H locs hf hw => ?_)
    refine lv_aload_n C.1 C.2.1 dX3_feed_36 rfl (lv_at hl 0 rfl) ?_
    refine lv_iload C.1 C.2.1 dX3_feed_37 (lv_at hl 5 rfl) ?_
    refine km_put C hw hl.1 (Nat.le_of_ble_eq_true rfl) ⟨Nat.le_of_ble_eq_true rfl, Nat.le_of_ble_eq_true rfl⟩ dX3_feed_39 hf (fun _ s39 H locs hf hw => ?_)
    refine lv_aload_n C.1 C.2.1 dX3_feed_42 rfl (lv_at hl 0 rfl) ?_
    refine mg_taped C hw dX3_feed_43 ?_
    exact hret _ _ _ _ _ _ hf hw dX3_feed_46
  · replace hf := hf.2 h10
    refine lv_iconst (v := (-1)) C.1 C.2.1 dX3_feed_13 rfl ?_
    exact hret _ _ _ _ _ _ hf hw dX3_feed_14
def m_letterOf (x0 : Int32) (Q : Int32 → Prop) : Prop :=
  (((fm_in (Int32.toInt64 x0) 97 122) = 0 → (((fm_in (Int32.toInt64 x0) 65 90) = 0 → Q (-1)) ∧ (¬ (fm_in (Int32.toInt64 x0) 65 90) = 0 → Q ((x0 - 65) + 26)))) ∧ (¬ (fm_in (Int32.toInt64 x0) 97 122) = 0 → Q (x0 - 97)))
abbrev rm_m_letterOf : Room := { frames := 1, cells := 0, slots := 0, locals := 25 }
set_option maxHeartbeats 4000000 in
theorem met_m_letterOf (l : Launch) (x0 : Int32) (Q : Int32 → Prop) (hf : m_letterOf x0 Q) : Met l yX3_letterOf (ws_ yX3_letterOf cX3_letterOf 1 (some .int)) rm_m_letterOf (va_Pc [.int x0] (fun _ => True)) (gR rvI Q) 0 0 (fun _ => False) := by
  refine g_metSI (by decide) (Nat.le_of_ble_eq_true rfl) ?_
  intro p e s m args below meth c QQ ls H C hl hret
  replace hl : lv_has ls 1 [(0, .int x0)] := hl
  unfold m_letterOf at hf
  refine lv_iload_n C.1 C.2.1 dX3_letterOf_0 rfl (lv_at hl 0 rfl) ?_
  refine lv_i2l C.1 C.2.1 dX3_letterOf_1 rfl ?_
  refine lv_ldc2 C.1 C.2.1 C.2.2.2.1 (C.2.2.2.2 _ q1577) dX3_letterOf_2 ?_
  refine lv_ldc2 C.1 C.2.1 C.2.2.2.1 (C.2.2.2.2 _ q1578) dX3_letterOf_5 ?_
  refine km_in C hl.1 (Nat.le_of_ble_eq_true rfl) ⟨Nat.le_of_ble_eq_true rfl, Nat.le_of_ble_eq_true rfl⟩ dX3_letterOf_8 ?_
  refine lv_if_eq (tgt := 19) C.1 C.2.1 dX3_letterOf_11 (by decide) (fun h11 => ?_) (fun h11 => ?_)
  · replace hf := hf.1 h11
    refine lv_iload_n C.1 C.2.1 dX3_letterOf_19 rfl (lv_at hl 0 rfl) ?_
    refine lv_i2l C.1 C.2.1 dX3_letterOf_20 rfl ?_
    refine lv_ldc2 C.1 C.2.1 C.2.2.2.1 (C.2.2.2.2 _ q1582) dX3_letterOf_21 ?_
    refine lv_ldc2 C.1 C.2.1 C.2.2.2.1 (C.2.2.2.2 _ q1583) dX3_letterOf_24 ?_
    refine km_in C hl.1 (Nat.le_of_ble_eq_true rfl) ⟨Nat.le_of_ble_eq_true rfl, Nat.le_of_ble_eq_true rfl⟩ dX3_letterOf_27 ?_
    refine lv_if_eq (tgt := 43) C.1 C.2.1 dX3_letterOf_30 (by decide) (fun h30 => ?_) (fun h30 => ?_)
    · replace hf := hf.1 h30
      refine lv_iconst (v := (-1)) C.1 C.2.1 dX3_letterOf_43 rfl ?_
      exact hret _ _ _ hf dX3_letterOf_44
    · replace hf := hf.2 h30
      refine lv_iload_n C.1 C.2.1 dX3_letterOf_33 rfl (lv_at hl 0 rfl) ?_
      refine lv_bipush (v := 65) C.1 C.2.1 dX3_letterOf_34 rfl ?_
      refine lv_isub C.1 C.2.1 dX3_letterOf_36 ?_
      refine lv_bipush (v := 26) C.1 C.2.1 dX3_letterOf_37 rfl ?_
      refine lv_iadd C.1 C.2.1 dX3_letterOf_39 ?_
      refine lv_goto (tgt := 44) C.1 C.2.1 dX3_letterOf_40 (by decide) ?_
      exact hret _ _ _ hf dX3_letterOf_44
  · replace hf := hf.2 h11
    refine lv_iload_n C.1 C.2.1 dX3_letterOf_14 rfl (lv_at hl 0 rfl) ?_
    refine lv_bipush (v := 97) C.1 C.2.1 dX3_letterOf_15 rfl ?_
    refine lv_isub C.1 C.2.1 dX3_letterOf_17 ?_
    exact hret _ _ _ hf dX3_letterOf_18
def fm_letterOf (x0 : Int32) : Int32 :=
  (if (fm_in (Int32.toInt64 x0) 97 122) = 0 then (if (fm_in (Int32.toInt64 x0) 65 90) = 0 then (-1) else ((x0 - 65) + 26)) else (x0 - 97))
theorem m_letterOf_f {Q : Int32 → Prop} {x0 : Int32} (h : Q (fm_letterOf x0)) : m_letterOf x0 Q := by
  unfold fm_letterOf at h
  unfold m_letterOf
  refine ⟨fun c => ?_, fun c => ?_⟩
  · rw [if_pos c] at h
    refine ⟨fun c => ?_, fun c => ?_⟩
    · rw [if_pos c] at h
      exact h
    · rw [if_neg c] at h
      exact h
  · rw [if_neg c] at h
    exact h
theorem km_letterOf {p : Program} {l : Launch} {e : Env} {R : Room} {s : State} {m : MethodId} {args : Array Value} {below : List Frame} {meth : Method} {c : Code} {H : Heap} {locs : List Loc} {Z : State → Prop} {cc : ByteArray} {nL pc : Nat} {ls : Array Slot} {rest : List Value} {x0 : Int32} (C : CallFix p m c cc nL s args lw_all RX3) (hsz : ls.size = nL) (hrm : (rest.map fun v => v.category).sum ≤ 8) (hR : rm_m_letterOf.frames + 1 ≤ R.frames ∧ 8 + (1 + 11) + rm_m_letterOf.locals ≤ R.locals) (hdg : decode cc pc = .ok (.invokestatic 197, 3)) (kk : W p l e R s m args below meth c H locs 0 0 Z (F0 m (pc + 3) ls (.int (fm_letterOf x0) :: rest))) : W p l e R s m args below meth c H locs 0 0 Z (F0 m pc ls (.int x0 :: rest)) :=
  g_callSRf (As := [.int x0]) (rest := rest) C (met_m_letterOf l x0 (fun r => r = fm_letterOf x0) (m_letterOf_f rfl)) (va_cwS 1 C.2.2.2.2 (lw_S q1574 q1575 q207 q1576) rfl rfl rfl (by decide +kernel) hR) rfl hsz rfl hrm ⟨Nat.zero_le _, Nat.zero_le _⟩ hdg kk
def m_newLefts_p4 (σ : St) (Q : Int32 → Prop) (K4 : Int32 → Int32 → Prop) (x1 : Int32) (x2 : Int32) : Prop :=
  (((σ.1 16) ≤ x2 → Q x1) ∧ (¬ (σ.1 16) ≤ x2 → (vp_in x2 12 ∧ (m_isNewLeft σ (gI σ 10 x2) x2 (fun r21 => ((r21 = 0 → K4 (x1 + 1) (x2 + 1)) ∧ (¬ r21 = 0 → K4 (x1 + 0) (x2 + 1))))))))
def m_newLefts (σ : St) (Q : Int32 → Prop) : Prop :=
  (Lp2 (m_newLefts_p4 σ Q) 0 0)
abbrev rm_m_newLefts : Room := { frames := 1, cells := 0, slots := 0, locals := 23 }
set_option maxHeartbeats 4000000 in
theorem met_m_newLefts (l : Launch) (D : va_G) (ct : Ct) (ad : Nat → Nat) (hJ : gJ shM ad ct) (σ : St) (Q : Int32 → Prop) (hf : m_newLefts σ Q) : Met l yX3_newLefts (ws_ yX3_newLefts cX3_newLefts 3 (some .int)) rm_m_newLefts (va_Pc [.ref (ad 0)] (gP D ct shM ad σ)) (gR rvI Q) 0 0 (fun _ => False) := by
  refine g_metRI hJ (by decide) (Nat.le_of_ble_eq_true rfl) ?_
  intro p e s m args below meth c QQ ls H C hw hl hret
  replace hl : lv_has ls 3 [(0, .ref (ad 0))] := hl
  have B4 : ∀ (K4 : Int32 → Int32 → Prop) (_ : ∀ (x1 : Int32) (x2 : Int32) (ls : Array Slot), K4 x1 x2 → lv_has ls 3 [(0, .ref (ad 0)), (1, .int x1), (2, .int x2)] → W p l e rm_m_newLefts s m args below meth c H [] 0 0 QQ (F0 m 4 ls [])) (x1 : Int32) (x2 : Int32) (ls : Array Slot), m_newLefts_p4 σ Q K4 x1 x2 → lv_has ls 3 [(0, .ref (ad 0)), (1, .int x1), (2, .int x2)] → W p l e rm_m_newLefts s m args below meth c H [] 0 0 QQ (F0 m 4 ls []) := by
    intro K4 hK4 x1 x2 ls hf hl
    unfold m_newLefts_p4 at hf
    refine lv_iload_n C.1 C.2.1 dX3_newLefts_4 rfl (lv_at hl 2 rfl) ?_
    refine lv_aload_n C.1 C.2.1 dX3_newLefts_5 rfl (lv_at hl 0 rfl) ?_
    refine mg_newMany C hw dX3_newLefts_6 ?_
    refine lv_icmp_ge (tgt := 40) C.1 C.2.1 dX3_newLefts_9 (by decide) (fun h9 => ?_) (fun h9 => ?_)
    · replace hf := hf.1 h9
      refine lv_iload_n C.1 C.2.1 dX3_newLefts_40 rfl (lv_at hl 1 rfl) ?_
      exact hret _ _ _ hf dX3_newLefts_41
    · replace hf := hf.2 h9
      refine lv_iload_n C.1 C.2.1 dX3_newLefts_12 rfl (lv_at hl 1 rfl) ?_
      refine lv_aload_n C.1 C.2.1 dX3_newLefts_13 rfl (lv_at hl 0 rfl) ?_
      refine lv_aload_n C.1 C.2.1 dX3_newLefts_14 rfl (lv_at hl 0 rfl) ?_
      refine mg_newLeft C hw dX3_newLefts_15 ?_
      refine lv_iload_n C.1 C.2.1 dX3_newLefts_18 rfl (lv_at hl 2 rfl) ?_
      obtain ⟨b19, hf⟩ := hf
      refine g_iald C hw 10 rfl b19 dX3_newLefts_19 ?_
      refine lv_iload_n C.1 C.2.1 dX3_newLefts_20 rfl (lv_at hl 2 rfl) ?_
      refine km_isNewLeft C hw hl.1 (Nat.le_of_ble_eq_true rfl) ⟨Nat.le_of_ble_eq_true rfl, Nat.le_of_ble_eq_true rfl⟩ dX3_newLefts_21 hf (fun r21 hf => ?_)
      refine lv_if_eq (tgt := 31) C.1 C.2.1 dX3_newLefts_24 (by decide) (fun h24 => ?_) (fun h24 => ?_)
      · replace hf := hf.1 h24
        refine lv_iconst (v := 1) C.1 C.2.1 dX3_newLefts_31 rfl ?_
        refine lv_iadd C.1 C.2.1 dX3_newLefts_32 ?_
        refine lv_istore_n (lv' := [(1, .int (x1 + 1)), (0, .ref (ad 0)), (2, .int x2)]) C.1 C.2.1 dX3_newLefts_33 rfl hl (Nat.le_of_ble_eq_true rfl) rfl (fun ls hl => ?_)
        refine lv_iinc (v := (x2 + 1)) (lv' := [(2, .int (x2 + 1)), (1, .int (x1 + 1)), (0, .ref (ad 0))]) C.1 C.2.1 dX3_newLefts_34 hl (k := 2) rfl rfl (Nat.le_of_ble_eq_true rfl) rfl (fun ls hl => ?_)
        refine lv_goto (tgt := 4) C.1 C.2.1 dX3_newLefts_37 (by decide) ?_
        exact hK4 _ _ _ hf (lv_sub hl [2, 1, 0] rfl)
      · replace hf := hf.2 h24
        refine lv_iconst (v := 0) C.1 C.2.1 dX3_newLefts_27 rfl ?_
        refine lv_goto (tgt := 32) C.1 C.2.1 dX3_newLefts_28 (by decide) ?_
        refine lv_iadd C.1 C.2.1 dX3_newLefts_32 ?_
        refine lv_istore_n (lv' := [(1, .int (x1 + 0)), (0, .ref (ad 0)), (2, .int x2)]) C.1 C.2.1 dX3_newLefts_33 rfl hl (Nat.le_of_ble_eq_true rfl) rfl (fun ls hl => ?_)
        refine lv_iinc (v := (x2 + 1)) (lv' := [(2, .int (x2 + 1)), (1, .int (x1 + 0)), (0, .ref (ad 0))]) C.1 C.2.1 dX3_newLefts_34 hl (k := 2) rfl rfl (Nat.le_of_ble_eq_true rfl) rfl (fun ls hl => ?_)
        refine lv_goto (tgt := 4) C.1 C.2.1 dX3_newLefts_37 (by decide) ?_
        exact hK4 _ _ _ hf (lv_sub hl [2, 1, 0] rfl)
  have P4 : ∀ (n : Nat) (x1 : Int32) (x2 : Int32) (ls : Array Slot), LL2 (m_newLefts_p4 σ Q) n x1 x2 → lv_has ls 3 [(0, .ref (ad 0)), (1, .int x1), (2, .int x2)] → W p l e rm_m_newLefts s m args below meth c H [] 0 0 QQ (F0 m 4 ls []) := by
    intro  n
    induction n with
    | zero => intro x1 x2 ls hf; exact False.elim hf
    | succ n ih => intro x1 x2 ls hf hl; exact B4  (LL2 _ n) ih x1 x2 ls hf hl
  unfold m_newLefts at hf
  refine lv_iconst (v := 0) C.1 C.2.1 dX3_newLefts_0 rfl ?_
  refine lv_istore_n (lv' := [(1, .int 0), (0, .ref (ad 0))]) C.1 C.2.1 dX3_newLefts_1 rfl hl (Nat.le_of_ble_eq_true rfl) rfl (fun ls hl => ?_)
  refine lv_iconst (v := 0) C.1 C.2.1 dX3_newLefts_2 rfl ?_
  refine lv_istore_n (lv' := [(2, .int 0), (1, .int 0), (0, .ref (ad 0))]) C.1 C.2.1 dX3_newLefts_3 rfl hl (Nat.le_of_ble_eq_true rfl) rfl (fun ls hl => ?_)
  obtain ⟨n, hf⟩ := hf
  exact P4  n _ _ _ hf (lv_sub hl [2, 1, 0] rfl)
theorem km_newLefts {p : Program} {l : Launch} {e : Env} {R : Room} {s : State} {m : MethodId} {args : Array Value} {below : List Frame} {meth : Method} {c : Code} {H : Heap} {locs : List Loc} {Z : State → Prop} {cc : ByteArray} {nL pc : Nat} {ls : Array Slot} {rest : List Value} {D : va_G} {ct : Ct} {ad : Nat → Nat} {σ : St} {Qp : Int32 → Prop} (C : CallFix p m c cc nL s args lw_all RX3) (hw : gH D ct shM ad s σ H locs) (hsz : ls.size = nL) (hrm : (rest.map fun v => v.category).sum ≤ 8) (hR : rm_m_newLefts.frames + 1 ≤ R.frames ∧ 8 + (3 + 11) + rm_m_newLefts.locals ≤ R.locals) (hdg : decode cc pc = .ok (.invokevirtual 209, 3)) (hf : m_newLefts σ Qp) (kk : ∀ (r : Int32), Qp r → W p l e R s m args below meth c H locs 0 0 Z (F0 m (pc + 3) ls (.int r :: rest))) : W p l e R s m args below meth c H locs 0 0 Z (F0 m pc ls (.ref (ad 0) :: rest)) :=
  g_callVR (As := []) (rest := rest) C hw rfl rfl (met_m_newLefts l D ct ad hw.2.1 σ Qp hf) (cwV 0 C.2.2.2.2 (lw_V q1595 q1597 qs105 q207 q1598) rfl rfl rfl (by decide +kernel) hR) rfl hsz rfl hrm ⟨Nat.zero_le _, Nat.zero_le _⟩ hdg kk
def m_readsRank_p124 (σ : St) (Q : Unit → St → Prop) (v0 : Int32) (v1 : Int32) : Prop :=
  (∀ s125 : St, s125 = s_I σ 18 (v1 + v0) → Q () s125)
def m_readsRank_p64 (σ : St) (Q : Unit → St → Prop) (v0 : Int32) : Prop :=
  (m_fails σ v0 (σ.1 18) (fun _ s68 => Q () s68))
def m_readsRank (σ : St) (Q : Unit → St → Prop) : Prop :=
  ((0 < (σ.1 19) → Q () σ) ∧ (¬ 0 < (σ.1 19) → (m_sign σ (fun r15 s15 => ((r15 = 58 → (∀ s31 : St, s31 = s_I s15 18 ((s15.1 18) + 1) → (m_sign s31 (fun r35 s35 => (((fm_in (Int32.toInt64 r35) 49 57) = 0 → ((r35 = (-1) → (m_readsRank_p64 s35 Q 0)) ∧ (¬ r35 = (-1) → (m_readsRank_p64 s35 Q 1)))) ∧ (¬ (fm_in (Int32.toInt64 r35) 49 57) = 0 → (vp_in ((σ.1 16) - 1) 12 ∧ (∀ s81 : St, s81 = s_A s35 13 (Int32.toNatClampNeg ((σ.1 16) - 1)) (r35 - 48) → (∀ s89 : St, s89 = s_I s81 18 ((s81.1 18) + 1) → (m_sign s89 (fun r98 s98 => (vp_in ((σ.1 16) - 1) 12 ∧ (∀ s104 : St, s104 = s_A s98 14 (Int32.toNatClampNeg ((σ.1 16) - 1)) (fm_sideOf r98) → (((gI s104 14 ((σ.1 16) - 1)) ≤ 0 → (m_readsRank_p124 s104 Q 0 (s104.1 18))) ∧ (¬ (gI s104 14 ((σ.1 16) - 1)) ≤ 0 → (m_readsRank_p124 s104 Q 1 (s104.1 18))))))))))))))))) ∧ (¬ r15 = 58 → Q () s15))))))
abbrev rm_m_readsRank : Room := { frames := 1, cells := 0, slots := 0, locals := 25 }
set_option maxHeartbeats 4000000 in
theorem met_m_readsRank (l : Launch) (D : va_G) (ct : Ct) (ad : Nat → Nat) (hJ : gJ shM ad ct) (σ : St) (Q : Unit → St → Prop) (hf : m_readsRank σ Q) : Met l yX3_readsRank (ws_ yX3_readsRank cX3_readsRank 3 (none)) rm_m_readsRank (va_Pc [.ref (ad 0)] (gP D ct shM ad σ)) (gQ rvV D ct shM ad Q) 0 0 (gA shM ad) := by
  refine g_metV hJ (by decide) (Nat.le_of_ble_eq_true rfl) ?_
  intro p e s m args below meth c QQ ls C hw hl hret
  replace hl : lv_has ls 3 [(0, .ref (ad 0))] := hl
  have J124 : ∀ (σ : St) (H : Heap) (locs : List Loc) (v0 : Int32) (v1 : Int32) (ls : Array Slot), m_readsRank_p124 σ Q v0 v1 → gH D ct shM ad s σ H locs → lv_has ls 3 [] → W p l e rm_m_readsRank s m args below meth c H locs 0 0 QQ (F0 m 124 ls [.int v0, .int v1, .ref (ad 0)]) := by
    intro σ H locs v0 v1 ls hf hw hl
    unfold m_readsRank_p124 at hf
    refine lv_iadd C.1 C.2.1 dX3_readsRank_124 ?_
    refine mp_p C hw dX3_readsRank_125 (fun s125 H locs e125 hw => ?_)
    replace hf := hf s125 e125
    exact hret _ _ _ _ _ _ hf hw dX3_readsRank_128
  have J64 : ∀ (σ : St) (H : Heap) (locs : List Loc) (v0 : Int32) (ls : Array Slot), m_readsRank_p64 σ Q v0 → gH D ct shM ad s σ H locs → lv_has ls 3 [(0, .ref (ad 0))] → W p l e rm_m_readsRank s m args below meth c H locs 0 0 QQ (F0 m 64 ls [.int v0, .ref (ad 0)]) := by
    intro σ H locs v0 ls hf hw hl
    unfold m_readsRank_p64 at hf
    refine lv_aload_n C.1 C.2.1 dX3_readsRank_64 rfl (lv_at hl 0 rfl) ?_
    refine mg_p C hw dX3_readsRank_65 ?_
    refine km_fails C hw hl.1 (Nat.le_of_ble_eq_true rfl) ⟨Nat.le_of_ble_eq_true rfl, Nat.le_of_ble_eq_true rfl⟩ dX3_readsRank_68 hf (fun _ s68 H locs hf hw => ?_)
    exact hret _ _ _ _ _ _ hf hw dX3_readsRank_71
  unfold m_readsRank at hf
  obtain ⟨H, hH⟩ : ∃ q, q = s.heap := ⟨_, rfl⟩
  obtain ⟨locs, hL⟩ : ∃ q : List Loc, q = [] := ⟨_, rfl⟩
  rw [← hH, ← hL] at hw ⊢
  refine lv_aload_n C.1 C.2.1 dX3_readsRank_0 rfl (lv_at hl 0 rfl) ?_
  refine mg_newMany C hw dX3_readsRank_1 ?_
  refine lv_iconst (v := 1) C.1 C.2.1 dX3_readsRank_4 rfl ?_
  refine lv_isub C.1 C.2.1 dX3_readsRank_5 ?_
  refine lv_istore_n (lv' := [(1, .int ((σ.1 16) - 1)), (0, .ref (ad 0))]) C.1 C.2.1 dX3_readsRank_6 rfl hl (Nat.le_of_ble_eq_true rfl) rfl (fun ls hl => ?_)
  refine lv_aload_n C.1 C.2.1 dX3_readsRank_7 rfl (lv_at hl 1 rfl) ?_
  refine mg_fault C hw dX3_readsRank_8 ?_
  refine lv_if_gt (tgt := 23) C.1 C.2.1 dX3_readsRank_11 (by decide) (fun h11 => ?_) (fun h11 => ?_)
  · replace hf := hf.1 h11
    exact hret _ _ _ _ _ _ hf hw dX3_readsRank_23
  · replace hf := hf.2 h11
    refine lv_aload_n C.1 C.2.1 dX3_readsRank_14 rfl (lv_at hl 1 rfl) ?_
    refine km_sign C hw hl.1 (Nat.le_of_ble_eq_true rfl) ⟨Nat.le_of_ble_eq_true rfl, Nat.le_of_ble_eq_true rfl⟩ dX3_readsRank_15 hf (fun r15 s15 H locs hf hw => ?_)
    refine lv_bipush (v := 58) C.1 C.2.1 dX3_readsRank_18 rfl ?_
    refine lv_icmp_eq (tgt := 24) C.1 C.2.1 dX3_readsRank_20 (by decide) (fun h20 => ?_) (fun h20 => ?_)
    · replace hf := hf.1 h20
      refine lv_aload_n C.1 C.2.1 dX3_readsRank_24 rfl (lv_at hl 1 rfl) ?_
      refine lv_dup C.1 C.2.1 dX3_readsRank_25 rfl ?_
      refine mg_p C hw dX3_readsRank_26 ?_
      refine lv_iconst (v := 1) C.1 C.2.1 dX3_readsRank_29 rfl ?_
      refine lv_iadd C.1 C.2.1 dX3_readsRank_30 ?_
      refine mp_p C hw dX3_readsRank_31 (fun s31 H locs e31 hw => ?_)
      replace hf := hf s31 e31
      refine lv_aload_n C.1 C.2.1 dX3_readsRank_34 rfl (lv_at hl 1 rfl) ?_
      refine km_sign C hw hl.1 (Nat.le_of_ble_eq_true rfl) ⟨Nat.le_of_ble_eq_true rfl, Nat.le_of_ble_eq_true rfl⟩ dX3_readsRank_35 hf (fun r35 s35 H locs hf hw => ?_)
      refine lv_istore_n (lv' := [(2, .int r35), (1, .int ((σ.1 16) - 1)), (0, .ref (ad 0))]) C.1 C.2.1 dX3_readsRank_38 rfl hl (Nat.le_of_ble_eq_true rfl) rfl (fun ls hl => ?_)
      refine lv_iload_n C.1 C.2.1 dX3_readsRank_39 rfl (lv_at hl 0 rfl) ?_
      refine lv_i2l C.1 C.2.1 dX3_readsRank_40 rfl ?_
      refine lv_ldc2 C.1 C.2.1 C.2.2.2.1 (C.2.2.2.2 _ q1607) dX3_readsRank_41 ?_
      refine lv_ldc2 C.1 C.2.1 C.2.2.2.1 (C.2.2.2.2 _ q1608) dX3_readsRank_44 ?_
      refine km_in C hl.1 (Nat.le_of_ble_eq_true rfl) ⟨Nat.le_of_ble_eq_true rfl, Nat.le_of_ble_eq_true rfl⟩ dX3_readsRank_47 ?_
      refine lv_if_ne (tgt := 72) C.1 C.2.1 dX3_readsRank_50 (by decide) (fun h50 => ?_) (fun h50 => ?_)
      · replace hf := hf.2 h50
        refine lv_aload_n C.1 C.2.1 dX3_readsRank_72 rfl (lv_at hl 2 rfl) ?_
        refine mg_newRank C hw dX3_readsRank_73 ?_
        refine lv_iload_n C.1 C.2.1 dX3_readsRank_76 rfl (lv_at hl 1 rfl) ?_
        refine lv_iload_n C.1 C.2.1 dX3_readsRank_77 rfl (lv_at hl 0 rfl) ?_
        refine lv_bipush (v := 48) C.1 C.2.1 dX3_readsRank_78 rfl ?_
        refine lv_isub C.1 C.2.1 dX3_readsRank_80 ?_
        obtain ⟨b81, hf⟩ := hf
        refine g_iast C shM_sep hw 13 rfl b81 dX3_readsRank_81 (fun s81 H locs e81 hw => ?_)
        replace hf := hf s81 e81
        refine lv_aload_n C.1 C.2.1 dX3_readsRank_82 rfl (lv_at hl 2 rfl) ?_
        refine lv_dup C.1 C.2.1 dX3_readsRank_83 rfl ?_
        refine mg_p C hw dX3_readsRank_84 ?_
        refine lv_iconst (v := 1) C.1 C.2.1 dX3_readsRank_87 rfl ?_
        refine lv_iadd C.1 C.2.1 dX3_readsRank_88 ?_
        refine mp_p C hw dX3_readsRank_89 (fun s89 H locs e89 hw => ?_)
        replace hf := hf s89 e89
        refine lv_aload_n C.1 C.2.1 dX3_readsRank_92 rfl (lv_at hl 2 rfl) ?_
        refine mg_newSide C hw dX3_readsRank_93 ?_
        refine lv_iload_n C.1 C.2.1 dX3_readsRank_96 rfl (lv_at hl 1 rfl) ?_
        refine lv_aload_n C.1 C.2.1 dX3_readsRank_97 rfl (lv_at hl 2 rfl) ?_
        refine km_sign C hw hl.1 (Nat.le_of_ble_eq_true rfl) ⟨Nat.le_of_ble_eq_true rfl, Nat.le_of_ble_eq_true rfl⟩ dX3_readsRank_98 hf (fun r98 s98 H locs hf hw => ?_)
        refine km_sideOf C hl.1 (Nat.le_of_ble_eq_true rfl) ⟨Nat.le_of_ble_eq_true rfl, Nat.le_of_ble_eq_true rfl⟩ dX3_readsRank_101 ?_
        obtain ⟨b104, hf⟩ := hf
        refine g_iast C shM_sep hw 14 rfl b104 dX3_readsRank_104 (fun s104 H locs e104 hw => ?_)
        replace hf := hf s104 e104
        refine lv_aload_n C.1 C.2.1 dX3_readsRank_105 rfl (lv_at hl 2 rfl) ?_
        refine lv_dup C.1 C.2.1 dX3_readsRank_106 rfl ?_
        refine mg_p C hw dX3_readsRank_107 ?_
        refine lv_aload_n C.1 C.2.1 dX3_readsRank_110 rfl (lv_at hl 2 rfl) ?_
        refine mg_newSide C hw dX3_readsRank_111 ?_
        refine lv_iload_n C.1 C.2.1 dX3_readsRank_114 rfl (lv_at hl 1 rfl) ?_
        refine g_iald C hw 14 rfl b104 dX3_readsRank_115 ?_
        refine lv_if_le (tgt := 123) C.1 C.2.1 dX3_readsRank_116 (by decide) (fun h116 => ?_) (fun h116 => ?_)
        · replace hf := hf.1 h116
          refine lv_iconst (v := 0) C.1 C.2.1 dX3_readsRank_123 rfl ?_
          exact J124 _ _ _ _ _ _ hf hw (lv_sub hl [] rfl)
        · replace hf := hf.2 h116
          refine lv_iconst (v := 1) C.1 C.2.1 dX3_readsRank_119 rfl ?_
          refine lv_goto (tgt := 124) C.1 C.2.1 dX3_readsRank_120 (by decide) ?_
          exact J124 _ _ _ _ _ _ hf hw (lv_sub hl [] rfl)
      · replace hf := hf.1 h50
        refine lv_aload_n C.1 C.2.1 dX3_readsRank_53 rfl (lv_at hl 2 rfl) ?_
        refine lv_iload_n C.1 C.2.1 dX3_readsRank_54 rfl (lv_at hl 0 rfl) ?_
        refine lv_iconst (v := (-1)) C.1 C.2.1 dX3_readsRank_55 rfl ?_
        refine lv_icmp_ne (tgt := 63) C.1 C.2.1 dX3_readsRank_56 (by decide) (fun h56 => ?_) (fun h56 => ?_)
        · replace hf := hf.2 h56
          refine lv_iconst (v := 1) C.1 C.2.1 dX3_readsRank_63 rfl ?_
          exact J64 _ _ _ _ _ hf hw (lv_sub hl [2] rfl)
        · replace hf := hf.1 h56
          refine lv_iconst (v := 0) C.1 C.2.1 dX3_readsRank_59 rfl ?_
          refine lv_goto (tgt := 64) C.1 C.2.1 dX3_readsRank_60 (by decide) ?_
          exact J64 _ _ _ _ _ hf hw (lv_sub hl [2] rfl)
    · replace hf := hf.2 h20
      exact hret _ _ _ _ _ _ hf hw dX3_readsRank_23
theorem km_readsRank {p : Program} {l : Launch} {e : Env} {R : Room} {s : State} {m : MethodId} {args : Array Value} {below : List Frame} {meth : Method} {c : Code} {H : Heap} {locs : List Loc} {Z : State → Prop} {cc : ByteArray} {nL pc : Nat} {ls : Array Slot} {rest : List Value} {D : va_G} {ct : Ct} {ad : Nat → Nat} {σ : St} {Qp : Unit → St → Prop} (C : CallFix p m c cc nL s args lw_all RX3) (hw : gH D ct shM ad s σ H locs) (hsz : ls.size = nL) (hrm : (rest.map fun v => v.category).sum ≤ 8) (hR : rm_m_readsRank.frames + 1 ≤ R.frames ∧ 8 + (3 + 11) + rm_m_readsRank.locals ≤ R.locals) (hdg : decode cc pc = .ok (.invokevirtual 225, 3)) (hf : m_readsRank σ Qp) (kk : ∀ (r : Unit) (σ1 : St) (H1 : Heap) (locs1 : List Loc), Qp r σ1 → gH D ct shM ad s σ1 H1 locs1 → W p l e R s m args below meth c H1 locs1 0 0 Z (F0 m (pc + 3) ls (rest))) : W p l e R s m args below meth c H locs 0 0 Z (F0 m pc ls (.ref (ad 0) :: rest)) :=
  g_callV (As := []) (rest := rest) C hw rfl rfl (met_m_readsRank l D ct ad hw.2.1 σ Qp hf) (cwV 0 C.2.2.2.2 (lw_V q1603 q1605 qs107 q207 q1606) rfl rfl rfl (by decide +kernel) hR) rfl hsz rfl hrm ⟨Nat.zero_le _, Nat.zero_le _⟩ hdg kk
def m_isMore_p34 (σ : St) (x1 : Int32) (Q : Int32 → St → Prop) : Prop :=
  (∀ s41 : St, s41 = s_I σ 18 ((σ.1 18) + 1) → ((x1 = 59 → Q 1 s41) ∧ (¬ x1 = 59 → Q 0 s41)))
def m_isMore (σ : St) (Q : Int32 → St → Prop) : Prop :=
  (((σ.1 19) ≤ 0 → (m_sign σ (fun r10 s10 => ((r10 = (-1) → (m_isMore_p34 s10 r10 Q)) ∧ (¬ r10 = (-1) → ((r10 = 59 → (m_isMore_p34 s10 r10 Q)) ∧ (¬ r10 = 59 → (m_fails s10 0 (s10.1 18) (fun _ s31 => (m_isMore_p34 s31 r10 Q)))))))))) ∧ (¬ (σ.1 19) ≤ 0 → Q 0 σ))
abbrev rm_m_isMore : Room := { frames := 1, cells := 0, slots := 0, locals := 22 }
set_option maxHeartbeats 4000000 in
theorem met_m_isMore (l : Launch) (D : va_G) (ct : Ct) (ad : Nat → Nat) (hJ : gJ shM ad ct) (σ : St) (Q : Int32 → St → Prop) (hf : m_isMore σ Q) : Met l yX3_isMore (ws_ yX3_isMore cX3_isMore 2 (some .boolean)) rm_m_isMore (va_Pc [.ref (ad 0)] (gP D ct shM ad σ)) (gQ rvI D ct shM ad Q) 0 0 (gA shM ad) := by
  refine g_metZ hJ (by decide) (Nat.le_of_ble_eq_true rfl) ?_
  intro p e s m args below meth c QQ ls C hw hl hret
  replace hl : lv_has ls 2 [(0, .ref (ad 0))] := hl
  have J34 : ∀ (σ : St) (H : Heap) (locs : List Loc) (x1 : Int32) (ls : Array Slot), m_isMore_p34 σ x1 Q → gH D ct shM ad s σ H locs → lv_has ls 2 [(0, .ref (ad 0)), (1, .int x1)] → W p l e rm_m_isMore s m args below meth c H locs 0 0 QQ (F0 m 34 ls []) := by
    intro σ H locs x1 ls hf hw hl
    unfold m_isMore_p34 at hf
    refine lv_aload_n C.1 C.2.1 dX3_isMore_34 rfl (lv_at hl 0 rfl) ?_
    refine lv_dup C.1 C.2.1 dX3_isMore_35 rfl ?_
    refine mg_p C hw dX3_isMore_36 ?_
    refine lv_iconst (v := 1) C.1 C.2.1 dX3_isMore_39 rfl ?_
    refine lv_iadd C.1 C.2.1 dX3_isMore_40 ?_
    refine mp_p C hw dX3_isMore_41 (fun s41 H locs e41 hw => ?_)
    replace hf := hf s41 e41
    refine lv_iload_n C.1 C.2.1 dX3_isMore_44 rfl (lv_at hl 1 rfl) ?_
    refine lv_bipush (v := 59) C.1 C.2.1 dX3_isMore_45 rfl ?_
    refine lv_icmp_ne (tgt := 54) C.1 C.2.1 dX3_isMore_47 (by decide) (fun h47 => ?_) (fun h47 => ?_)
    · replace hf := hf.2 h47
      refine lv_iconst (v := 0) C.1 C.2.1 dX3_isMore_54 rfl ?_
      exact hret _ _ _ _ _ _ hf hw (Or.inl rfl) dX3_isMore_55
    · replace hf := hf.1 h47
      refine lv_iconst (v := 1) C.1 C.2.1 dX3_isMore_50 rfl ?_
      refine lv_goto (tgt := 55) C.1 C.2.1 dX3_isMore_51 (by decide) ?_
      exact hret _ _ _ _ _ _ hf hw (Or.inr rfl) dX3_isMore_55
  unfold m_isMore at hf
  obtain ⟨H, hH⟩ : ∃ q, q = s.heap := ⟨_, rfl⟩
  obtain ⟨locs, hL⟩ : ∃ q : List Loc, q = [] := ⟨_, rfl⟩
  rw [← hH, ← hL] at hw ⊢
  refine lv_aload_n C.1 C.2.1 dX3_isMore_0 rfl (lv_at hl 0 rfl) ?_
  refine mg_fault C hw dX3_isMore_1 ?_
  refine lv_if_le (tgt := 9) C.1 C.2.1 dX3_isMore_4 (by decide) (fun h4 => ?_) (fun h4 => ?_)
  · replace hf := hf.1 h4
    refine lv_aload_n C.1 C.2.1 dX3_isMore_9 rfl (lv_at hl 0 rfl) ?_
    refine km_sign C hw hl.1 (Nat.le_of_ble_eq_true rfl) ⟨Nat.le_of_ble_eq_true rfl, Nat.le_of_ble_eq_true rfl⟩ dX3_isMore_10 hf (fun r10 s10 H locs hf hw => ?_)
    refine lv_istore_n (lv' := [(1, .int r10), (0, .ref (ad 0))]) C.1 C.2.1 dX3_isMore_13 rfl hl (Nat.le_of_ble_eq_true rfl) rfl (fun ls hl => ?_)
    refine lv_iload_n C.1 C.2.1 dX3_isMore_14 rfl (lv_at hl 0 rfl) ?_
    refine lv_iconst (v := (-1)) C.1 C.2.1 dX3_isMore_15 rfl ?_
    refine lv_icmp_eq (tgt := 34) C.1 C.2.1 dX3_isMore_16 (by decide) (fun h16 => ?_) (fun h16 => ?_)
    · replace hf := hf.1 h16
      exact J34 _ _ _ _ _ hf hw (lv_sub hl [1, 0] rfl)
    · replace hf := hf.2 h16
      refine lv_iload_n C.1 C.2.1 dX3_isMore_19 rfl (lv_at hl 0 rfl) ?_
      refine lv_bipush (v := 59) C.1 C.2.1 dX3_isMore_20 rfl ?_
      refine lv_icmp_eq (tgt := 34) C.1 C.2.1 dX3_isMore_22 (by decide) (fun h22 => ?_) (fun h22 => ?_)
      · replace hf := hf.1 h22
        exact J34 _ _ _ _ _ hf hw (lv_sub hl [1, 0] rfl)
      · replace hf := hf.2 h22
        refine lv_aload_n C.1 C.2.1 dX3_isMore_25 rfl (lv_at hl 1 rfl) ?_
        refine lv_iconst (v := 0) C.1 C.2.1 dX3_isMore_26 rfl ?_
        refine lv_aload_n C.1 C.2.1 dX3_isMore_27 rfl (lv_at hl 1 rfl) ?_
        refine mg_p C hw dX3_isMore_28 ?_
        refine km_fails C hw hl.1 (Nat.le_of_ble_eq_true rfl) ⟨Nat.le_of_ble_eq_true rfl, Nat.le_of_ble_eq_true rfl⟩ dX3_isMore_31 hf (fun _ s31 H locs hf hw => ?_)
        exact J34 _ _ _ _ _ hf hw (lv_sub hl [1, 0] rfl)
  · replace hf := hf.2 h4
    refine lv_iconst (v := 0) C.1 C.2.1 dX3_isMore_7 rfl ?_
    exact hret _ _ _ _ _ _ hf hw (Or.inl rfl) dX3_isMore_8
theorem km_isMore {p : Program} {l : Launch} {e : Env} {R : Room} {s : State} {m : MethodId} {args : Array Value} {below : List Frame} {meth : Method} {c : Code} {H : Heap} {locs : List Loc} {Z : State → Prop} {cc : ByteArray} {nL pc : Nat} {ls : Array Slot} {rest : List Value} {D : va_G} {ct : Ct} {ad : Nat → Nat} {σ : St} {Qp : Int32 → St → Prop} (C : CallFix p m c cc nL s args lw_all RX3) (hw : gH D ct shM ad s σ H locs) (hsz : ls.size = nL) (hrm : (rest.map fun v => v.category).sum ≤ 8) (hR : rm_m_isMore.frames + 1 ≤ R.frames ∧ 8 + (2 + 11) + rm_m_isMore.locals ≤ R.locals) (hdg : decode cc pc = .ok (.invokevirtual 228, 3)) (hf : m_isMore σ Qp) (kk : ∀ (r : Int32) (σ1 : St) (H1 : Heap) (locs1 : List Loc), Qp r σ1 → gH D ct shM ad s σ1 H1 locs1 → W p l e R s m args below meth c H1 locs1 0 0 Z (F0 m (pc + 3) ls (.int r :: rest))) : W p l e R s m args below meth c H locs 0 0 Z (F0 m pc ls (.ref (ad 0) :: rest)) :=
  g_callV (As := []) (rest := rest) C hw rfl rfl (met_m_isMore l D ct ad hw.2.1 σ Qp hf) (cwV 0 C.2.2.2.2 (lw_V q1612 q1614 qs108 q207 q1615) rfl rfl rfl (by decide +kernel) hR) rfl hsz rfl hrm ⟨Nat.zero_le _, Nat.zero_le _⟩ hdg kk
def m_keepsOld (σ : St) (Q : Unit → St → Prop) : Prop :=
  (m_copies σ 7 7 2 21 (fun _ s8 => (m_copies s8 12 12 3 22 (fun _ s19 => (m_copies s19 12 12 4 23 (fun _ s30 => (m_copies s30 48 48 5 24 (fun _ s41 => (m_copies s41 12 12 6 25 (fun _ s52 => (m_copies s52 12 12 7 26 (fun _ s63 => Q () s63))))))))))))
abbrev rm_m_keepsOld : Room := { frames := 1, cells := 0, slots := 0, locals := 22 }
set_option maxHeartbeats 4000000 in
theorem met_m_keepsOld (l : Launch) (D : va_G) (ct : Ct) (ad : Nat → Nat) (hJ : gJ shM ad ct) (σ : St) (Q : Unit → St → Prop) (hf : m_keepsOld σ Q) : Met l yX3_keepsOld (ws_ yX3_keepsOld cX3_keepsOld 1 (none)) rm_m_keepsOld (va_Pc [.ref (ad 0)] (gP D ct shM ad σ)) (gQ rvV D ct shM ad Q) 0 0 (gA shM ad) := by
  refine g_metV hJ (by decide) (Nat.le_of_ble_eq_true rfl) ?_
  intro p e s m args below meth c QQ ls C hw hl hret
  replace hl : lv_has ls 1 [(0, .ref (ad 0))] := hl
  unfold m_keepsOld at hf
  obtain ⟨H, hH⟩ : ∃ q, q = s.heap := ⟨_, rfl⟩
  obtain ⟨locs, hL⟩ : ∃ q : List Loc, q = [] := ⟨_, rfl⟩
  rw [← hH, ← hL] at hw ⊢
  refine lv_aload_n C.1 C.2.1 dX3_keepsOld_0 rfl (lv_at hl 0 rfl) ?_
  refine mg_scalar C hw dX3_keepsOld_1 ?_
  refine lv_aload_n C.1 C.2.1 dX3_keepsOld_4 rfl (lv_at hl 0 rfl) ?_
  refine mg_oldScalar C hw dX3_keepsOld_5 ?_
  refine km_copies C hw hl.1 (Nat.le_of_ble_eq_true rfl) ⟨Nat.le_of_ble_eq_true rfl, Nat.le_of_ble_eq_true rfl⟩ dX3_keepsOld_8 rfl rfl hf (fun _ s8 H locs hf hw => ?_)
  refine lv_aload_n C.1 C.2.1 dX3_keepsOld_11 rfl (lv_at hl 0 rfl) ?_
  refine mg_left C hw dX3_keepsOld_12 ?_
  refine lv_aload_n C.1 C.2.1 dX3_keepsOld_15 rfl (lv_at hl 0 rfl) ?_
  refine mg_oldLeft C hw dX3_keepsOld_16 ?_
  refine km_copies C hw hl.1 (Nat.le_of_ble_eq_true rfl) ⟨Nat.le_of_ble_eq_true rfl, Nat.le_of_ble_eq_true rfl⟩ dX3_keepsOld_19 rfl rfl hf (fun _ s19 H locs hf hw => ?_)
  refine lv_aload_n C.1 C.2.1 dX3_keepsOld_22 rfl (lv_at hl 0 rfl) ?_
  refine mg_size C hw dX3_keepsOld_23 ?_
  refine lv_aload_n C.1 C.2.1 dX3_keepsOld_26 rfl (lv_at hl 0 rfl) ?_
  refine mg_oldSize C hw dX3_keepsOld_27 ?_
  refine km_copies C hw hl.1 (Nat.le_of_ble_eq_true rfl) ⟨Nat.le_of_ble_eq_true rfl, Nat.le_of_ble_eq_true rfl⟩ dX3_keepsOld_30 rfl rfl hf (fun _ s30 H locs hf hw => ?_)
  refine lv_aload_n C.1 C.2.1 dX3_keepsOld_33 rfl (lv_at hl 0 rfl) ?_
  refine mg_sym C hw dX3_keepsOld_34 ?_
  refine lv_aload_n C.1 C.2.1 dX3_keepsOld_37 rfl (lv_at hl 0 rfl) ?_
  refine mg_oldSym C hw dX3_keepsOld_38 ?_
  refine km_copies C hw hl.1 (Nat.le_of_ble_eq_true rfl) ⟨Nat.le_of_ble_eq_true rfl, Nat.le_of_ble_eq_true rfl⟩ dX3_keepsOld_41 rfl rfl hf (fun _ s41 H locs hf hw => ?_)
  refine lv_aload_n C.1 C.2.1 dX3_keepsOld_44 rfl (lv_at hl 0 rfl) ?_
  refine mg_rank C hw dX3_keepsOld_45 ?_
  refine lv_aload_n C.1 C.2.1 dX3_keepsOld_48 rfl (lv_at hl 0 rfl) ?_
  refine mg_oldRank C hw dX3_keepsOld_49 ?_
  refine km_copies C hw hl.1 (Nat.le_of_ble_eq_true rfl) ⟨Nat.le_of_ble_eq_true rfl, Nat.le_of_ble_eq_true rfl⟩ dX3_keepsOld_52 rfl rfl hf (fun _ s52 H locs hf hw => ?_)
  refine lv_aload_n C.1 C.2.1 dX3_keepsOld_55 rfl (lv_at hl 0 rfl) ?_
  refine mg_side C hw dX3_keepsOld_56 ?_
  refine lv_aload_n C.1 C.2.1 dX3_keepsOld_59 rfl (lv_at hl 0 rfl) ?_
  refine mg_oldSide C hw dX3_keepsOld_60 ?_
  refine km_copies C hw hl.1 (Nat.le_of_ble_eq_true rfl) ⟨Nat.le_of_ble_eq_true rfl, Nat.le_of_ble_eq_true rfl⟩ dX3_keepsOld_63 rfl rfl hf (fun _ s63 H locs hf hw => ?_)
  exact hret _ _ _ _ _ _ hf hw dX3_keepsOld_66
theorem km_keepsOld {p : Program} {l : Launch} {e : Env} {R : Room} {s : State} {m : MethodId} {args : Array Value} {below : List Frame} {meth : Method} {c : Code} {H : Heap} {locs : List Loc} {Z : State → Prop} {cc : ByteArray} {nL pc : Nat} {ls : Array Slot} {rest : List Value} {D : va_G} {ct : Ct} {ad : Nat → Nat} {σ : St} {Qp : Unit → St → Prop} (C : CallFix p m c cc nL s args lw_all RX3) (hw : gH D ct shM ad s σ H locs) (hsz : ls.size = nL) (hrm : (rest.map fun v => v.category).sum ≤ 8) (hR : rm_m_keepsOld.frames + 1 ≤ R.frames ∧ 8 + (1 + 11) + rm_m_keepsOld.locals ≤ R.locals) (hdg : decode cc pc = .ok (.invokevirtual 239, 3)) (hf : m_keepsOld σ Qp) (kk : ∀ (r : Unit) (σ1 : St) (H1 : Heap) (locs1 : List Loc), Qp r σ1 → gH D ct shM ad s σ1 H1 locs1 → W p l e R s m args below meth c H1 locs1 0 0 Z (F0 m (pc + 3) ls (rest))) : W p l e R s m args below meth c H locs 0 0 Z (F0 m pc ls (.ref (ad 0) :: rest)) :=
  g_callV (As := []) (rest := rest) C hw rfl rfl (met_m_keepsOld l D ct ad hw.2.1 σ Qp hf) (cwV 0 C.2.2.2.2 (lw_V q1616 q1618 qs109 q207 q1619) rfl rfl rfl (by decide +kernel) hR) rfl hsz rfl hrm ⟨Nat.zero_le _, Nat.zero_le _⟩ hdg kk
def m_laysOld (σ : St) (Q : Unit → St → Prop) : Prop :=
  (m_copies σ 7 7 21 2 (fun _ s8 => (m_copies s8 12 12 22 3 (fun _ s19 => (m_copies s19 12 12 23 4 (fun _ s30 => (m_copies s30 48 48 24 5 (fun _ s41 => (m_copies s41 12 12 25 6 (fun _ s52 => (m_copies s52 12 12 26 7 (fun _ s63 => Q () s63))))))))))))
abbrev rm_m_laysOld : Room := { frames := 1, cells := 0, slots := 0, locals := 22 }
set_option maxHeartbeats 4000000 in
theorem met_m_laysOld (l : Launch) (D : va_G) (ct : Ct) (ad : Nat → Nat) (hJ : gJ shM ad ct) (σ : St) (Q : Unit → St → Prop) (hf : m_laysOld σ Q) : Met l yX3_laysOld (ws_ yX3_laysOld cX3_laysOld 1 (none)) rm_m_laysOld (va_Pc [.ref (ad 0)] (gP D ct shM ad σ)) (gQ rvV D ct shM ad Q) 0 0 (gA shM ad) := by
  refine g_metV hJ (by decide) (Nat.le_of_ble_eq_true rfl) ?_
  intro p e s m args below meth c QQ ls C hw hl hret
  replace hl : lv_has ls 1 [(0, .ref (ad 0))] := hl
  unfold m_laysOld at hf
  obtain ⟨H, hH⟩ : ∃ q, q = s.heap := ⟨_, rfl⟩
  obtain ⟨locs, hL⟩ : ∃ q : List Loc, q = [] := ⟨_, rfl⟩
  rw [← hH, ← hL] at hw ⊢
  refine lv_aload_n C.1 C.2.1 dX3_laysOld_0 rfl (lv_at hl 0 rfl) ?_
  refine mg_oldScalar C hw dX3_laysOld_1 ?_
  refine lv_aload_n C.1 C.2.1 dX3_laysOld_4 rfl (lv_at hl 0 rfl) ?_
  refine mg_scalar C hw dX3_laysOld_5 ?_
  refine km_copies C hw hl.1 (Nat.le_of_ble_eq_true rfl) ⟨Nat.le_of_ble_eq_true rfl, Nat.le_of_ble_eq_true rfl⟩ dX3_laysOld_8 rfl rfl hf (fun _ s8 H locs hf hw => ?_)
  refine lv_aload_n C.1 C.2.1 dX3_laysOld_11 rfl (lv_at hl 0 rfl) ?_
  refine mg_oldLeft C hw dX3_laysOld_12 ?_
  refine lv_aload_n C.1 C.2.1 dX3_laysOld_15 rfl (lv_at hl 0 rfl) ?_
  refine mg_left C hw dX3_laysOld_16 ?_
  refine km_copies C hw hl.1 (Nat.le_of_ble_eq_true rfl) ⟨Nat.le_of_ble_eq_true rfl, Nat.le_of_ble_eq_true rfl⟩ dX3_laysOld_19 rfl rfl hf (fun _ s19 H locs hf hw => ?_)
  refine lv_aload_n C.1 C.2.1 dX3_laysOld_22 rfl (lv_at hl 0 rfl) ?_
  refine mg_oldSize C hw dX3_laysOld_23 ?_
  refine lv_aload_n C.1 C.2.1 dX3_laysOld_26 rfl (lv_at hl 0 rfl) ?_
  refine mg_size C hw dX3_laysOld_27 ?_
  refine km_copies C hw hl.1 (Nat.le_of_ble_eq_true rfl) ⟨Nat.le_of_ble_eq_true rfl, Nat.le_of_ble_eq_true rfl⟩ dX3_laysOld_30 rfl rfl hf (fun _ s30 H locs hf hw => ?_)
  refine lv_aload_n C.1 C.2.1 dX3_laysOld_33 rfl (lv_at hl 0 rfl) ?_
  refine mg_oldSym C hw dX3_laysOld_34 ?_
  refine lv_aload_n C.1 C.2.1 dX3_laysOld_37 rfl (lv_at hl 0 rfl) ?_
  refine mg_sym C hw dX3_laysOld_38 ?_
  refine km_copies C hw hl.1 (Nat.le_of_ble_eq_true rfl) ⟨Nat.le_of_ble_eq_true rfl, Nat.le_of_ble_eq_true rfl⟩ dX3_laysOld_41 rfl rfl hf (fun _ s41 H locs hf hw => ?_)
  refine lv_aload_n C.1 C.2.1 dX3_laysOld_44 rfl (lv_at hl 0 rfl) ?_
  refine mg_oldRank C hw dX3_laysOld_45 ?_
  refine lv_aload_n C.1 C.2.1 dX3_laysOld_48 rfl (lv_at hl 0 rfl) ?_
  refine mg_rank C hw dX3_laysOld_49 ?_
  refine km_copies C hw hl.1 (Nat.le_of_ble_eq_true rfl) ⟨Nat.le_of_ble_eq_true rfl, Nat.le_of_ble_eq_true rfl⟩ dX3_laysOld_52 rfl rfl hf (fun _ s52 H locs hf hw => ?_)
  refine lv_aload_n C.1 C.2.1 dX3_laysOld_55 rfl (lv_at hl 0 rfl) ?_
  refine mg_oldSide C hw dX3_laysOld_56 ?_
  refine lv_aload_n C.1 C.2.1 dX3_laysOld_59 rfl (lv_at hl 0 rfl) ?_
  refine mg_side C hw dX3_laysOld_60 ?_
  refine km_copies C hw hl.1 (Nat.le_of_ble_eq_true rfl) ⟨Nat.le_of_ble_eq_true rfl, Nat.le_of_ble_eq_true rfl⟩ dX3_laysOld_63 rfl rfl hf (fun _ s63 H locs hf hw => ?_)
  exact hret _ _ _ _ _ _ hf hw dX3_laysOld_66
theorem km_laysOld {p : Program} {l : Launch} {e : Env} {R : Room} {s : State} {m : MethodId} {args : Array Value} {below : List Frame} {meth : Method} {c : Code} {H : Heap} {locs : List Loc} {Z : State → Prop} {cc : ByteArray} {nL pc : Nat} {ls : Array Slot} {rest : List Value} {D : va_G} {ct : Ct} {ad : Nat → Nat} {σ : St} {Qp : Unit → St → Prop} (C : CallFix p m c cc nL s args lw_all RX3) (hw : gH D ct shM ad s σ H locs) (hsz : ls.size = nL) (hrm : (rest.map fun v => v.category).sum ≤ 8) (hR : rm_m_laysOld.frames + 1 ≤ R.frames ∧ 8 + (1 + 11) + rm_m_laysOld.locals ≤ R.locals) (hdg : decode cc pc = .ok (.invokevirtual 251, 3)) (hf : m_laysOld σ Qp) (kk : ∀ (r : Unit) (σ1 : St) (H1 : Heap) (locs1 : List Loc), Qp r σ1 → gH D ct shM ad s σ1 H1 locs1 → W p l e R s m args below meth c H1 locs1 0 0 Z (F0 m (pc + 3) ls (rest))) : W p l e R s m args below meth c H locs 0 0 Z (F0 m pc ls (.ref (ad 0) :: rest)) :=
  g_callV (As := []) (rest := rest) C hw rfl rfl (met_m_laysOld l D ct ad hw.2.1 σ Qp hf) (cwV 0 C.2.2.2.2 (lw_V q1664 q1666 qs118 q207 q1667) rfl rfl rfl (by decide +kernel) hR) rfl hsz rfl hrm ⟨Nat.zero_le _, Nat.zero_le _⟩ hdg kk
def m_takesNew (σ : St) (Q : Unit → St → Prop) : Prop :=
  (m_copies σ 12 12 10 3 (fun _ s8 => (m_copies s8 12 12 11 4 (fun _ s19 => (m_copies s19 48 48 12 5 (fun _ s30 => (m_copies s30 12 12 13 6 (fun _ s41 => (m_copies s41 12 12 14 7 (fun _ s52 => (∀ s64 : St, s64 = s_A s52 2 (Int32.toNatClampNeg 0) (s52.1 16) → (∀ s76 : St, s76 = s_A s64 2 (Int32.toNatClampNeg 1) (gI s64 10 0) → (∀ s83 : St, s83 = s_A s76 2 (Int32.toNatClampNeg 3) 0 → Q () s83)))))))))))))
abbrev rm_m_takesNew : Room := { frames := 1, cells := 0, slots := 0, locals := 22 }
set_option maxHeartbeats 4000000 in
theorem met_m_takesNew (l : Launch) (D : va_G) (ct : Ct) (ad : Nat → Nat) (hJ : gJ shM ad ct) (σ : St) (Q : Unit → St → Prop) (hf : m_takesNew σ Q) : Met l yX3_takesNew (ws_ yX3_takesNew cX3_takesNew 1 (none)) rm_m_takesNew (va_Pc [.ref (ad 0)] (gP D ct shM ad σ)) (gQ rvV D ct shM ad Q) 0 0 (gA shM ad) := by
  refine g_metV hJ (by decide) (Nat.le_of_ble_eq_true rfl) ?_
  intro p e s m args below meth c QQ ls C hw hl hret
  replace hl : lv_has ls 1 [(0, .ref (ad 0))] := hl
  unfold m_takesNew at hf
  obtain ⟨H, hH⟩ : ∃ q, q = s.heap := ⟨_, rfl⟩
  obtain ⟨locs, hL⟩ : ∃ q : List Loc, q = [] := ⟨_, rfl⟩
  rw [← hH, ← hL] at hw ⊢
  refine lv_aload_n C.1 C.2.1 dX3_takesNew_0 rfl (lv_at hl 0 rfl) ?_
  refine mg_newLeft C hw dX3_takesNew_1 ?_
  refine lv_aload_n C.1 C.2.1 dX3_takesNew_4 rfl (lv_at hl 0 rfl) ?_
  refine mg_left C hw dX3_takesNew_5 ?_
  refine km_copies C hw hl.1 (Nat.le_of_ble_eq_true rfl) ⟨Nat.le_of_ble_eq_true rfl, Nat.le_of_ble_eq_true rfl⟩ dX3_takesNew_8 rfl rfl hf (fun _ s8 H locs hf hw => ?_)
  refine lv_aload_n C.1 C.2.1 dX3_takesNew_11 rfl (lv_at hl 0 rfl) ?_
  refine mg_newSize C hw dX3_takesNew_12 ?_
  refine lv_aload_n C.1 C.2.1 dX3_takesNew_15 rfl (lv_at hl 0 rfl) ?_
  refine mg_size C hw dX3_takesNew_16 ?_
  refine km_copies C hw hl.1 (Nat.le_of_ble_eq_true rfl) ⟨Nat.le_of_ble_eq_true rfl, Nat.le_of_ble_eq_true rfl⟩ dX3_takesNew_19 rfl rfl hf (fun _ s19 H locs hf hw => ?_)
  refine lv_aload_n C.1 C.2.1 dX3_takesNew_22 rfl (lv_at hl 0 rfl) ?_
  refine mg_newSym C hw dX3_takesNew_23 ?_
  refine lv_aload_n C.1 C.2.1 dX3_takesNew_26 rfl (lv_at hl 0 rfl) ?_
  refine mg_sym C hw dX3_takesNew_27 ?_
  refine km_copies C hw hl.1 (Nat.le_of_ble_eq_true rfl) ⟨Nat.le_of_ble_eq_true rfl, Nat.le_of_ble_eq_true rfl⟩ dX3_takesNew_30 rfl rfl hf (fun _ s30 H locs hf hw => ?_)
  refine lv_aload_n C.1 C.2.1 dX3_takesNew_33 rfl (lv_at hl 0 rfl) ?_
  refine mg_newRank C hw dX3_takesNew_34 ?_
  refine lv_aload_n C.1 C.2.1 dX3_takesNew_37 rfl (lv_at hl 0 rfl) ?_
  refine mg_rank C hw dX3_takesNew_38 ?_
  refine km_copies C hw hl.1 (Nat.le_of_ble_eq_true rfl) ⟨Nat.le_of_ble_eq_true rfl, Nat.le_of_ble_eq_true rfl⟩ dX3_takesNew_41 rfl rfl hf (fun _ s41 H locs hf hw => ?_)
  refine lv_aload_n C.1 C.2.1 dX3_takesNew_44 rfl (lv_at hl 0 rfl) ?_
  refine mg_newSide C hw dX3_takesNew_45 ?_
  refine lv_aload_n C.1 C.2.1 dX3_takesNew_48 rfl (lv_at hl 0 rfl) ?_
  refine mg_side C hw dX3_takesNew_49 ?_
  refine km_copies C hw hl.1 (Nat.le_of_ble_eq_true rfl) ⟨Nat.le_of_ble_eq_true rfl, Nat.le_of_ble_eq_true rfl⟩ dX3_takesNew_52 rfl rfl hf (fun _ s52 H locs hf hw => ?_)
  refine lv_aload_n C.1 C.2.1 dX3_takesNew_55 rfl (lv_at hl 0 rfl) ?_
  refine mg_scalar C hw dX3_takesNew_56 ?_
  refine lv_iconst (v := 0) C.1 C.2.1 dX3_takesNew_59 rfl ?_
  refine lv_aload_n C.1 C.2.1 dX3_takesNew_60 rfl (lv_at hl 0 rfl) ?_
  refine mg_newMany C hw dX3_takesNew_61 ?_
  refine g_iast C shM_sep hw 2 rfl (vpD rfl) dX3_takesNew_64 (fun s64 H locs e64 hw => ?_)
  replace hf := hf s64 e64
  refine lv_aload_n C.1 C.2.1 dX3_takesNew_65 rfl (lv_at hl 0 rfl) ?_
  refine mg_scalar C hw dX3_takesNew_66 ?_
  refine lv_iconst (v := 1) C.1 C.2.1 dX3_takesNew_69 rfl ?_
  refine lv_aload_n C.1 C.2.1 dX3_takesNew_70 rfl (lv_at hl 0 rfl) ?_
  refine mg_newLeft C hw dX3_takesNew_71 ?_
  refine lv_iconst (v := 0) C.1 C.2.1 dX3_takesNew_74 rfl ?_
  refine g_iald C hw 10 rfl (vpD rfl) dX3_takesNew_75 ?_
  refine g_iast C shM_sep hw 2 rfl (vpD rfl) dX3_takesNew_76 (fun s76 H locs e76 hw => ?_)
  replace hf := hf s76 e76
  refine lv_aload_n C.1 C.2.1 dX3_takesNew_77 rfl (lv_at hl 0 rfl) ?_
  refine mg_scalar C hw dX3_takesNew_78 ?_
  refine lv_iconst (v := 3) C.1 C.2.1 dX3_takesNew_81 rfl ?_
  refine lv_iconst (v := 0) C.1 C.2.1 dX3_takesNew_82 rfl ?_
  refine g_iast C shM_sep hw 2 rfl (vpD rfl) dX3_takesNew_83 (fun s83 H locs e83 hw => ?_)
  replace hf := hf s83 e83
  exact hret _ _ _ _ _ _ hf hw dX3_takesNew_84
theorem km_takesNew {p : Program} {l : Launch} {e : Env} {R : Room} {s : State} {m : MethodId} {args : Array Value} {below : List Frame} {meth : Method} {c : Code} {H : Heap} {locs : List Loc} {Z : State → Prop} {cc : ByteArray} {nL pc : Nat} {ls : Array Slot} {rest : List Value} {D : va_G} {ct : Ct} {ad : Nat → Nat} {σ : St} {Qp : Unit → St → Prop} (C : CallFix p m c cc nL s args lw_all RX3) (hw : gH D ct shM ad s σ H locs) (hsz : ls.size = nL) (hrm : (rest.map fun v => v.category).sum ≤ 8) (hR : rm_m_takesNew.frames + 1 ≤ R.frames ∧ 8 + (1 + 11) + rm_m_takesNew.locals ≤ R.locals) (hdg : decode cc pc = .ok (.invokevirtual 242, 3)) (hf : m_takesNew σ Qp) (kk : ∀ (r : Unit) (σ1 : St) (H1 : Heap) (locs1 : List Loc), Qp r σ1 → gH D ct shM ad s σ1 H1 locs1 → W p l e R s m args below meth c H1 locs1 0 0 Z (F0 m (pc + 3) ls (rest))) : W p l e R s m args below meth c H locs 0 0 Z (F0 m pc ls (.ref (ad 0) :: rest)) :=
  g_callV (As := []) (rest := rest) C hw rfl rfl (met_m_takesNew l D ct ad hw.2.1 σ Qp hf) (cwV 0 C.2.2.2.2 (lw_V q1623 q1625 qs110 q207 q1626) rfl rfl rfl (by decide +kernel) hR) rfl hsz rfl hrm ⟨Nat.zero_le _, Nat.zero_le _⟩ hdg kk
def m_bitOf (x0 : Int32) (Q : Int32 → Prop) : Prop :=
  (((fm_isCapital x0) = 0 → Q 0) ∧ (¬ (fm_isCapital x0) = 0 → Q (1 <<< ((x0 - 26) &&& 31))))
abbrev rm_m_bitOf : Room := { frames := 1, cells := 0, slots := 0, locals := 20 }
set_option maxHeartbeats 4000000 in
theorem met_m_bitOf (l : Launch) (x0 : Int32) (Q : Int32 → Prop) (hf : m_bitOf x0 Q) : Met l yX3_bitOf (ws_ yX3_bitOf cX3_bitOf 1 (some .int)) rm_m_bitOf (va_Pc [.int x0] (fun _ => True)) (gR rvI Q) 0 0 (fun _ => False) := by
  refine g_metSI (by decide) (Nat.le_of_ble_eq_true rfl) ?_
  intro p e s m args below meth c QQ ls H C hl hret
  replace hl : lv_has ls 1 [(0, .int x0)] := hl
  unfold m_bitOf at hf
  refine lv_iload_n C.1 C.2.1 dX3_bitOf_0 rfl (lv_at hl 0 rfl) ?_
  refine km_isCapital C hl.1 (Nat.le_of_ble_eq_true rfl) ⟨Nat.le_of_ble_eq_true rfl, Nat.le_of_ble_eq_true rfl⟩ dX3_bitOf_1 ?_
  refine lv_if_eq (tgt := 16) C.1 C.2.1 dX3_bitOf_4 (by decide) (fun h4 => ?_) (fun h4 => ?_)
  · replace hf := hf.1 h4
    refine lv_iconst (v := 0) C.1 C.2.1 dX3_bitOf_16 rfl ?_
    exact hret _ _ _ hf dX3_bitOf_17
  · replace hf := hf.2 h4
    refine lv_iconst (v := 1) C.1 C.2.1 dX3_bitOf_7 rfl ?_
    refine lv_iload_n C.1 C.2.1 dX3_bitOf_8 rfl (lv_at hl 0 rfl) ?_
    refine lv_bipush (v := 26) C.1 C.2.1 dX3_bitOf_9 rfl ?_
    refine lv_isub C.1 C.2.1 dX3_bitOf_11 ?_
    refine lv_ishl C.1 C.2.1 dX3_bitOf_12 ?_
    refine lv_goto (tgt := 17) C.1 C.2.1 dX3_bitOf_13 (by decide) ?_
    exact hret _ _ _ hf dX3_bitOf_17
def fm_bitOf (x0 : Int32) : Int32 :=
  (if (fm_isCapital x0) = 0 then 0 else (1 <<< ((x0 - 26) &&& 31)))
theorem m_bitOf_f {Q : Int32 → Prop} {x0 : Int32} (h : Q (fm_bitOf x0)) : m_bitOf x0 Q := by
  unfold fm_bitOf at h
  unfold m_bitOf
  refine ⟨fun c => ?_, fun c => ?_⟩
  · rw [if_pos c] at h
    exact h
  · rw [if_neg c] at h
    exact h
theorem km_bitOf {p : Program} {l : Launch} {e : Env} {R : Room} {s : State} {m : MethodId} {args : Array Value} {below : List Frame} {meth : Method} {c : Code} {H : Heap} {locs : List Loc} {Z : State → Prop} {cc : ByteArray} {nL pc : Nat} {ls : Array Slot} {rest : List Value} {x0 : Int32} (C : CallFix p m c cc nL s args lw_all RX3) (hsz : ls.size = nL) (hrm : (rest.map fun v => v.category).sum ≤ 8) (hR : rm_m_bitOf.frames + 1 ≤ R.frames ∧ 8 + (1 + 11) + rm_m_bitOf.locals ≤ R.locals) (hdg : decode cc pc = .ok (.invokestatic 263, 3)) (kk : W p l e R s m args below meth c H locs 0 0 Z (F0 m (pc + 3) ls (.int (fm_bitOf x0) :: rest))) : W p l e R s m args below meth c H locs 0 0 Z (F0 m pc ls (.int x0 :: rest)) :=
  g_callSRf (As := [.int x0]) (rest := rest) C (met_m_bitOf l x0 (fun r => r = fm_bitOf x0) (m_bitOf_f rfl)) (va_cwS 1 C.2.2.2.2 (lw_S q1692 q1693 q207 q1694) rfl rfl rfl (by decide +kernel) hR) rfl hsz rfl hrm ⟨Nat.zero_le _, Nat.zero_le _⟩ hdg kk
def m_firstOf (σ : St) (x1 : Int32) (Q : Int32 → Prop) : Prop :=
  (((fm_isCapital x1) = 0 → Q (1 <<< (x1 &&& 31))) ∧ (¬ (fm_isCapital x1) = 0 → (vp_in (x1 - 26) 26 ∧ Q (gI σ 31 (x1 - 26)))))
abbrev rm_m_firstOf : Room := { frames := 1, cells := 0, slots := 0, locals := 20 }
set_option maxHeartbeats 4000000 in
theorem met_m_firstOf (l : Launch) (D : va_G) (ct : Ct) (ad : Nat → Nat) (hJ : gJ shM ad ct) (σ : St) (x1 : Int32) (Q : Int32 → Prop) (hf : m_firstOf σ x1 Q) : Met l yX3_firstOf (ws_ yX3_firstOf cX3_firstOf 2 (some .int)) rm_m_firstOf (va_Pc [.ref (ad 0), .int x1] (gP D ct shM ad σ)) (gR rvI Q) 0 0 (fun _ => False) := by
  refine g_metRI hJ (by decide) (Nat.le_of_ble_eq_true rfl) ?_
  intro p e s m args below meth c QQ ls H C hw hl hret
  replace hl : lv_has ls 2 [(0, .ref (ad 0)), (1, .int x1)] := hl
  unfold m_firstOf at hf
  refine lv_iload_n C.1 C.2.1 dX3_firstOf_0 rfl (lv_at hl 1 rfl) ?_
  refine km_isCapital C hl.1 (Nat.le_of_ble_eq_true rfl) ⟨Nat.le_of_ble_eq_true rfl, Nat.le_of_ble_eq_true rfl⟩ dX3_firstOf_1 ?_
  refine lv_if_eq (tgt := 19) C.1 C.2.1 dX3_firstOf_4 (by decide) (fun h4 => ?_) (fun h4 => ?_)
  · replace hf := hf.1 h4
    refine lv_iconst (v := 1) C.1 C.2.1 dX3_firstOf_19 rfl ?_
    refine lv_iload_n C.1 C.2.1 dX3_firstOf_20 rfl (lv_at hl 1 rfl) ?_
    refine lv_ishl C.1 C.2.1 dX3_firstOf_21 ?_
    exact hret _ _ _ hf dX3_firstOf_22
  · replace hf := hf.2 h4
    refine lv_aload_n C.1 C.2.1 dX3_firstOf_7 rfl (lv_at hl 0 rfl) ?_
    refine mg_first C hw dX3_firstOf_8 ?_
    refine lv_iload_n C.1 C.2.1 dX3_firstOf_11 rfl (lv_at hl 1 rfl) ?_
    refine lv_bipush (v := 26) C.1 C.2.1 dX3_firstOf_12 rfl ?_
    refine lv_isub C.1 C.2.1 dX3_firstOf_14 ?_
    obtain ⟨b15, hf⟩ := hf
    refine g_iald C hw 31 rfl b15 dX3_firstOf_15 ?_
    refine lv_goto (tgt := 22) C.1 C.2.1 dX3_firstOf_16 (by decide) ?_
    exact hret _ _ _ hf dX3_firstOf_22
theorem km_firstOf {p : Program} {l : Launch} {e : Env} {R : Room} {s : State} {m : MethodId} {args : Array Value} {below : List Frame} {meth : Method} {c : Code} {H : Heap} {locs : List Loc} {Z : State → Prop} {cc : ByteArray} {nL pc : Nat} {ls : Array Slot} {rest : List Value} {D : va_G} {ct : Ct} {ad : Nat → Nat} {σ : St} {x1 : Int32} {Qp : Int32 → Prop} (C : CallFix p m c cc nL s args lw_all RX3) (hw : gH D ct shM ad s σ H locs) (hsz : ls.size = nL) (hrm : (rest.map fun v => v.category).sum ≤ 8) (hR : rm_m_firstOf.frames + 1 ≤ R.frames ∧ 8 + (2 + 11) + rm_m_firstOf.locals ≤ R.locals) (hdg : decode cc pc = .ok (.invokevirtual 308, 3)) (hf : m_firstOf σ x1 Qp) (kk : ∀ (r : Int32), Qp r → W p l e R s m args below meth c H locs 0 0 Z (F0 m (pc + 3) ls (.int r :: rest))) : W p l e R s m args below meth c H locs 0 0 Z (F0 m pc ls (.int x1 :: .ref (ad 0) :: rest)) :=
  g_callVR (As := [.int x1]) (rest := rest) C hw rfl rfl (met_m_firstOf l D ct ad hw.2.1 σ x1 Qp hf) (cwV 1 C.2.2.2.2 (lw_V q1739 q1741 qs132 q207 q1742) rfl rfl rfl (by decide +kernel) hR) rfl hsz rfl hrm ⟨Nat.zero_le _, Nat.zero_le _⟩ hdg kk
def m_fewestIn_p49 (σ : St) (x1 : Int32) (x3 : Int32) (Q : Int32 → Prop) (K4 : Int32 → Int32 → Prop) (v0 : Int32) (v1 : Int32) : Prop :=
  K4 (fm_joined v1 v0) (x3 + 1)
def m_fewestIn_p4 (σ : St) (x1 : Int32) (Q : Int32 → Prop) (K4 : Int32 → Int32 → Prop) (x2 : Int32) (x3 : Int32) : Prop :=
  (vp_in x1 12 ∧ (((gI σ 4 x1) ≤ x3 → Q x2) ∧ (¬ (gI σ 4 x1) ≤ x3 → (vp_in ((4 * x1) + x3) 48 ∧ (((fm_isCapital (gI σ 5 ((4 * x1) + x3))) = 0 → (m_fewestIn_p49 σ x1 x3 Q K4 1 x2)) ∧ (¬ (fm_isCapital (gI σ 5 ((4 * x1) + x3))) = 0 → (vp_in ((gI σ 5 ((4 * x1) + x3)) - 26) 26 ∧ (m_fewestIn_p49 σ x1 x3 Q K4 (gI σ 33 ((gI σ 5 ((4 * x1) + x3)) - 26)) x2))))))))
def m_fewestIn (σ : St) (x1 : Int32) (Q : Int32 → Prop) : Prop :=
  (Lp2 (m_fewestIn_p4 σ x1 Q) 0 0)
abbrev rm_m_fewestIn : Room := { frames := 1, cells := 0, slots := 0, locals := 21 }
set_option maxHeartbeats 4000000 in
theorem met_m_fewestIn (l : Launch) (D : va_G) (ct : Ct) (ad : Nat → Nat) (hJ : gJ shM ad ct) (σ : St) (x1 : Int32) (Q : Int32 → Prop) (hf : m_fewestIn σ x1 Q) : Met l yX3_fewestIn (ws_ yX3_fewestIn cX3_fewestIn 5 (some .int)) rm_m_fewestIn (va_Pc [.ref (ad 0), .int x1] (gP D ct shM ad σ)) (gR rvI Q) 0 0 (fun _ => False) := by
  refine g_metRI hJ (by decide) (Nat.le_of_ble_eq_true rfl) ?_
  intro p e s m args below meth c QQ ls H C hw hl hret
  replace hl : lv_has ls 5 [(0, .ref (ad 0)), (1, .int x1)] := hl
  have J49 : ∀ (x1 : Int32) (x3 : Int32) (v0 : Int32) (v1 : Int32) (K4 : Int32 → Int32 → Prop) (_ : ∀ (x2 : Int32) (x3 : Int32) (ls : Array Slot), K4 x2 x3 → lv_has ls 5 [(0, .ref (ad 0)), (1, .int x1), (2, .int x2), (3, .int x3)] → W p l e rm_m_fewestIn s m args below meth c H [] 0 0 QQ (F0 m 4 ls [])) (ls : Array Slot), m_fewestIn_p49 σ x1 x3 Q K4 v0 v1 → lv_has ls 5 [(0, .ref (ad 0)), (1, .int x1), (3, .int x3)] → W p l e rm_m_fewestIn s m args below meth c H [] 0 0 QQ (F0 m 49 ls [.int v0, .int v1]) := by
    intro x1 x3 v0 v1 K4 hK4 ls hf hl
    unfold m_fewestIn_p49 at hf
    refine km_joined C hl.1 (Nat.le_of_ble_eq_true rfl) ⟨Nat.le_of_ble_eq_true rfl, Nat.le_of_ble_eq_true rfl⟩ dX3_fewestIn_49 ?_
    refine lv_istore_n (lv' := [(2, .int (fm_joined v1 v0)), (0, .ref (ad 0)), (1, .int x1), (3, .int x3)]) C.1 C.2.1 dX3_fewestIn_52 rfl hl (Nat.le_of_ble_eq_true rfl) rfl (fun ls hl => ?_)
    refine lv_iinc (v := (x3 + 1)) (lv' := [(3, .int (x3 + 1)), (2, .int (fm_joined v1 v0)), (0, .ref (ad 0)), (1, .int x1)]) C.1 C.2.1 dX3_fewestIn_53 hl (k := 3) rfl rfl (Nat.le_of_ble_eq_true rfl) rfl (fun ls hl => ?_)
    refine lv_goto (tgt := 4) C.1 C.2.1 dX3_fewestIn_56 (by decide) ?_
    exact hK4 _ _ _ hf (lv_sub hl [2, 3, 1, 0] rfl)
  have B4 : ∀ (x1 : Int32) (K4 : Int32 → Int32 → Prop) (_ : ∀ (x2 : Int32) (x3 : Int32) (ls : Array Slot), K4 x2 x3 → lv_has ls 5 [(0, .ref (ad 0)), (1, .int x1), (2, .int x2), (3, .int x3)] → W p l e rm_m_fewestIn s m args below meth c H [] 0 0 QQ (F0 m 4 ls [])) (x2 : Int32) (x3 : Int32) (ls : Array Slot), m_fewestIn_p4 σ x1 Q K4 x2 x3 → lv_has ls 5 [(0, .ref (ad 0)), (1, .int x1), (2, .int x2), (3, .int x3)] → W p l e rm_m_fewestIn s m args below meth c H [] 0 0 QQ (F0 m 4 ls []) := by
    intro x1 K4 hK4 x2 x3 ls hf hl
    unfold m_fewestIn_p4 at hf
    refine lv_iload_n C.1 C.2.1 dX3_fewestIn_4 rfl (lv_at hl 3 rfl) ?_
    refine lv_aload_n C.1 C.2.1 dX3_fewestIn_5 rfl (lv_at hl 0 rfl) ?_
    refine mg_size C hw dX3_fewestIn_6 ?_
    refine lv_iload_n C.1 C.2.1 dX3_fewestIn_9 rfl (lv_at hl 1 rfl) ?_
    obtain ⟨b10, hf⟩ := hf
    refine g_iald C hw 4 rfl b10 dX3_fewestIn_10 ?_
    refine lv_icmp_ge (tgt := 59) C.1 C.2.1 dX3_fewestIn_11 (by decide) (fun h11 => ?_) (fun h11 => ?_)
    · replace hf := hf.1 h11
      refine lv_iload_n C.1 C.2.1 dX3_fewestIn_59 rfl (lv_at hl 2 rfl) ?_
      exact hret _ _ _ hf dX3_fewestIn_60
    · replace hf := hf.2 h11
      refine lv_aload_n C.1 C.2.1 dX3_fewestIn_14 rfl (lv_at hl 0 rfl) ?_
      refine mg_sym C hw dX3_fewestIn_15 ?_
      refine lv_iconst (v := 4) C.1 C.2.1 dX3_fewestIn_18 rfl ?_
      refine lv_iload_n C.1 C.2.1 dX3_fewestIn_19 rfl (lv_at hl 1 rfl) ?_
      refine lv_imul C.1 C.2.1 dX3_fewestIn_20 ?_
      refine lv_iload_n C.1 C.2.1 dX3_fewestIn_21 rfl (lv_at hl 3 rfl) ?_
      refine lv_iadd C.1 C.2.1 dX3_fewestIn_22 ?_
      obtain ⟨b23, hf⟩ := hf
      refine g_iald C hw 5 rfl b23 dX3_fewestIn_23 ?_
      refine lv_istore (lv' := [(4, .int (gI σ 5 ((4 * x1) + x3))), (0, .ref (ad 0)), (1, .int x1), (2, .int x2), (3, .int x3)]) C.1 C.2.1 dX3_fewestIn_24 hl (Nat.le_of_ble_eq_true rfl) rfl (fun ls hl => ?_)
      refine lv_iload_n C.1 C.2.1 dX3_fewestIn_26 rfl (lv_at hl 3 rfl) ?_
      refine lv_iload C.1 C.2.1 dX3_fewestIn_27 (lv_at hl 0 rfl) ?_
      refine km_isCapital C hl.1 (Nat.le_of_ble_eq_true rfl) ⟨Nat.le_of_ble_eq_true rfl, Nat.le_of_ble_eq_true rfl⟩ dX3_fewestIn_29 ?_
      refine lv_if_eq (tgt := 48) C.1 C.2.1 dX3_fewestIn_32 (by decide) (fun h32 => ?_) (fun h32 => ?_)
      · replace hf := hf.1 h32
        refine lv_iconst (v := 1) C.1 C.2.1 dX3_fewestIn_48 rfl ?_
        exact J49 _ _ _ _ _ hK4 _ hf (lv_sub hl [1, 2, 4] rfl)
      · replace hf := hf.2 h32
        refine lv_aload_n C.1 C.2.1 dX3_fewestIn_35 rfl (lv_at hl 1 rfl) ?_
        refine mg_fewest C hw dX3_fewestIn_36 ?_
        refine lv_iload C.1 C.2.1 dX3_fewestIn_39 (lv_at hl 0 rfl) ?_
        refine lv_bipush (v := 26) C.1 C.2.1 dX3_fewestIn_41 rfl ?_
        refine lv_isub C.1 C.2.1 dX3_fewestIn_43 ?_
        obtain ⟨b44, hf⟩ := hf
        refine g_iald C hw 33 rfl b44 dX3_fewestIn_44 ?_
        refine lv_goto (tgt := 49) C.1 C.2.1 dX3_fewestIn_45 (by decide) ?_
        exact J49 _ _ _ _ _ hK4 _ hf (lv_sub hl [1, 2, 4] rfl)
  have P4 : ∀ (x1 : Int32) (n : Nat) (x2 : Int32) (x3 : Int32) (ls : Array Slot), LL2 (m_fewestIn_p4 σ x1 Q) n x2 x3 → lv_has ls 5 [(0, .ref (ad 0)), (1, .int x1), (2, .int x2), (3, .int x3)] → W p l e rm_m_fewestIn s m args below meth c H [] 0 0 QQ (F0 m 4 ls []) := by
    intro x1 n
    induction n with
    | zero => intro x2 x3 ls hf; exact False.elim hf
    | succ n ih => intro x2 x3 ls hf hl; exact B4 x1 (LL2 _ n) ih x2 x3 ls hf hl
  unfold m_fewestIn at hf
  refine lv_iconst (v := 0) C.1 C.2.1 dX3_fewestIn_0 rfl ?_
  refine lv_istore_n (lv' := [(2, .int 0), (0, .ref (ad 0)), (1, .int x1)]) C.1 C.2.1 dX3_fewestIn_1 rfl hl (Nat.le_of_ble_eq_true rfl) rfl (fun ls hl => ?_)
  refine lv_iconst (v := 0) C.1 C.2.1 dX3_fewestIn_2 rfl ?_
  refine lv_istore_n (lv' := [(3, .int 0), (2, .int 0), (0, .ref (ad 0)), (1, .int x1)]) C.1 C.2.1 dX3_fewestIn_3 rfl hl (Nat.le_of_ble_eq_true rfl) rfl (fun ls hl => ?_)
  obtain ⟨n, hf⟩ := hf
  exact P4 _ n _ _ _ hf (lv_sub hl [2, 3, 1, 0] rfl)
theorem km_fewestIn {p : Program} {l : Launch} {e : Env} {R : Room} {s : State} {m : MethodId} {args : Array Value} {below : List Frame} {meth : Method} {c : Code} {H : Heap} {locs : List Loc} {Z : State → Prop} {cc : ByteArray} {nL pc : Nat} {ls : Array Slot} {rest : List Value} {D : va_G} {ct : Ct} {ad : Nat → Nat} {σ : St} {x1 : Int32} {Qp : Int32 → Prop} (C : CallFix p m c cc nL s args lw_all RX3) (hw : gH D ct shM ad s σ H locs) (hsz : ls.size = nL) (hrm : (rest.map fun v => v.category).sum ≤ 8) (hR : rm_m_fewestIn.frames + 1 ≤ R.frames ∧ 8 + (5 + 11) + rm_m_fewestIn.locals ≤ R.locals) (hdg : decode cc pc = .ok (.invokevirtual 332, 3)) (hf : m_fewestIn σ x1 Qp) (kk : ∀ (r : Int32), Qp r → W p l e R s m args below meth c H locs 0 0 Z (F0 m (pc + 3) ls (.int r :: rest))) : W p l e R s m args below meth c H locs 0 0 Z (F0 m pc ls (.int x1 :: .ref (ad 0) :: rest)) :=
  g_callVR (As := [.int x1]) (rest := rest) C hw rfl rfl (met_m_fewestIn l D ct ad hw.2.1 σ x1 Qp hf) (cwV 1 C.2.2.2.2 (lw_V q1761 q1763 qs135 q207 q1764) rfl rfl rfl (by decide +kernel) hR) rfl hsz rfl hrm ⟨Nat.zero_le _, Nat.zero_le _⟩ hdg kk
def m_doesClash_p38 (σ : St) (x1 : Int32) (x2 : Int32) (Q : Int32 → Prop) (K2 : Int32 → Prop) (K38 : Int32 → Int32 → Prop) (x3 : Int32) (x4 : Int32) : Prop :=
  (((gI σ 2 0) ≤ x4 → ((x3 ≤ 1 → K2 (x2 + 1)) ∧ (¬ x3 ≤ 1 → Q 1))) ∧ (¬ (gI σ 2 0) ≤ x4 → (vp_in x1 90 ∧ (vp_in x4 12 ∧ (((fm_isPoint (gL σ 34 x1) x4 (gI σ 4 x4)) = 0 → K38 (x3 + 0) (x4 + 1)) ∧ (¬ (fm_isPoint (gL σ 34 x1) x4 (gI σ 4 x4)) = 0 → (vp_in x4 12 ∧ (vp_in ((gI σ 3 x4) - 26) 26 ∧ (((fm_has (gI σ 32 ((gI σ 3 x4) - 26)) x2) = 0 → K38 (x3 + 0) (x4 + 1)) ∧ (¬ (fm_has (gI σ 32 ((gI σ 3 x4) - 26)) x2) = 0 → K38 (x3 + 1) (x4 + 1)))))))))))
def m_doesClash_p2 (σ : St) (x1 : Int32) (Q : Int32 → Prop) (K2 : Int32 → Prop) (x2 : Int32) : Prop :=
  ((26 < x2 → Q 0) ∧ (¬ 26 < x2 → ((26 ≤ x2 → (Lp2 (m_doesClash_p38 σ x1 x2 Q K2) 0 0)) ∧ (¬ 26 ≤ x2 → (vp_in ((52 * x1) + x2) 4680 ∧ (((gI σ 35 ((52 * x1) + x2)) = (-1) → (Lp2 (m_doesClash_p38 σ x1 x2 Q K2) 0 0)) ∧ (¬ (gI σ 35 ((52 * x1) + x2)) = (-1) → (Lp2 (m_doesClash_p38 σ x1 x2 Q K2) 1 0))))))))
def m_doesClash (σ : St) (x1 : Int32) (Q : Int32 → Prop) : Prop :=
  (Lp1 (m_doesClash_p2 σ x1 Q) 0)
abbrev rm_m_doesClash : Room := { frames := 1, cells := 0, slots := 0, locals := 23 }
set_option maxHeartbeats 4000000 in
theorem met_m_doesClash (l : Launch) (D : va_G) (ct : Ct) (ad : Nat → Nat) (hJ : gJ shM ad ct) (σ : St) (x1 : Int32) (Q : Int32 → Prop) (hf : m_doesClash σ x1 Q) : Met l yX3_doesClash (ws_ yX3_doesClash cX3_doesClash 5 (some .boolean)) rm_m_doesClash (va_Pc [.ref (ad 0), .int x1] (gP D ct shM ad σ)) (gR rvI Q) 0 0 (fun _ => False) := by
  refine g_metRZ hJ (by decide) (Nat.le_of_ble_eq_true rfl) ?_
  intro p e s m args below meth c QQ ls H C hw hl hret
  replace hl : lv_has ls 5 [(0, .ref (ad 0)), (1, .int x1)] := hl
  have B38 : ∀ (x1 : Int32) (x2 : Int32) (K2 : Int32 → Prop) (_ : ∀ (x2 : Int32) (ls : Array Slot), K2 x2 → lv_has ls 5 [(0, .ref (ad 0)), (1, .int x1), (2, .int x2)] → W p l e rm_m_doesClash s m args below meth c H [] 0 0 QQ (F0 m 2 ls [])) (K38 : Int32 → Int32 → Prop) (_ : ∀ (x3 : Int32) (x4 : Int32) (ls : Array Slot), K38 x3 x4 → lv_has ls 5 [(0, .ref (ad 0)), (1, .int x1), (2, .int x2), (3, .int x3), (4, .int x4)] → W p l e rm_m_doesClash s m args below meth c H [] 0 0 QQ (F0 m 38 ls [])) (x3 : Int32) (x4 : Int32) (ls : Array Slot), m_doesClash_p38 σ x1 x2 Q K2 K38 x3 x4 → lv_has ls 5 [(0, .ref (ad 0)), (1, .int x1), (2, .int x2), (3, .int x3), (4, .int x4)] → W p l e rm_m_doesClash s m args below meth c H [] 0 0 QQ (F0 m 38 ls []) := by
    intro x1 x2 K2 hK2 K38 hK38 x3 x4 ls hf hl
    unfold m_doesClash_p38 at hf
    refine lv_iload C.1 C.2.1 dX3_doesClash_38 (lv_at hl 4 rfl) ?_
    refine lv_aload_n C.1 C.2.1 dX3_doesClash_40 rfl (lv_at hl 0 rfl) ?_
    refine mg_scalar C hw dX3_doesClash_41 ?_
    refine lv_iconst (v := 0) C.1 C.2.1 dX3_doesClash_44 rfl ?_
    refine g_iald C hw 2 rfl (vpD rfl) dX3_doesClash_45 ?_
    refine lv_icmp_ge (tgt := 106) C.1 C.2.1 dX3_doesClash_46 (by decide) (fun h46 => ?_) (fun h46 => ?_)
    · replace hf := hf.1 h46
      refine lv_iload_n C.1 C.2.1 dX3_doesClash_106 rfl (lv_at hl 3 rfl) ?_
      refine lv_iconst (v := 1) C.1 C.2.1 dX3_doesClash_107 rfl ?_
      refine lv_icmp_le (tgt := 113) C.1 C.2.1 dX3_doesClash_108 (by decide) (fun h108 => ?_) (fun h108 => ?_)
      · replace hf := hf.1 h108
        refine lv_iinc (v := (x2 + 1)) (lv' := [(2, .int (x2 + 1)), (0, .ref (ad 0)), (1, .int x1), (3, .int x3), (4, .int x4)]) C.1 C.2.1 dX3_doesClash_113 hl (k := 2) rfl rfl (Nat.le_of_ble_eq_true rfl) rfl (fun ls hl => ?_)
        refine lv_goto (tgt := 2) C.1 C.2.1 dX3_doesClash_116 (by decide) ?_
        exact hK2 _ _ hf (lv_sub hl [1, 2, 0] rfl)
      · replace hf := hf.2 h108
        refine lv_iconst (v := 1) C.1 C.2.1 dX3_doesClash_111 rfl ?_
        exact hret _ _ _ hf (Or.inr rfl) dX3_doesClash_112
    · replace hf := hf.2 h46
      refine lv_iload_n C.1 C.2.1 dX3_doesClash_49 rfl (lv_at hl 3 rfl) ?_
      refine lv_aload_n C.1 C.2.1 dX3_doesClash_50 rfl (lv_at hl 0 rfl) ?_
      refine mg_stateOf C hw dX3_doesClash_51 ?_
      refine lv_iload_n C.1 C.2.1 dX3_doesClash_54 rfl (lv_at hl 1 rfl) ?_
      obtain ⟨b55, hf⟩ := hf
      refine g_lald C hw 34 rfl b55 dX3_doesClash_55 ?_
      refine lv_iload C.1 C.2.1 dX3_doesClash_56 (lv_at hl 4 rfl) ?_
      refine lv_aload_n C.1 C.2.1 dX3_doesClash_58 rfl (lv_at hl 0 rfl) ?_
      refine mg_size C hw dX3_doesClash_59 ?_
      refine lv_iload C.1 C.2.1 dX3_doesClash_62 (lv_at hl 4 rfl) ?_
      obtain ⟨b64, hf⟩ := hf
      refine g_iald C hw 4 rfl b64 dX3_doesClash_64 ?_
      refine km_isPoint C hl.1 (Nat.le_of_ble_eq_true rfl) ⟨Nat.le_of_ble_eq_true rfl, Nat.le_of_ble_eq_true rfl⟩ dX3_doesClash_65 ?_
      refine lv_if_eq (tgt := 97) C.1 C.2.1 dX3_doesClash_68 (by decide) (fun h68 => ?_) (fun h68 => ?_)
      · replace hf := hf.1 h68
        refine lv_iconst (v := 0) C.1 C.2.1 dX3_doesClash_97 rfl ?_
        refine lv_iadd C.1 C.2.1 dX3_doesClash_98 ?_
        refine lv_istore_n (lv' := [(3, .int (x3 + 0)), (0, .ref (ad 0)), (1, .int x1), (2, .int x2), (4, .int x4)]) C.1 C.2.1 dX3_doesClash_99 rfl hl (Nat.le_of_ble_eq_true rfl) rfl (fun ls hl => ?_)
        refine lv_iinc (v := (x4 + 1)) (lv' := [(4, .int (x4 + 1)), (3, .int (x3 + 0)), (0, .ref (ad 0)), (1, .int x1), (2, .int x2)]) C.1 C.2.1 dX3_doesClash_100 hl (k := 4) rfl rfl (Nat.le_of_ble_eq_true rfl) rfl (fun ls hl => ?_)
        refine lv_goto (tgt := 38) C.1 C.2.1 dX3_doesClash_103 (by decide) ?_
        exact hK38 _ _ _ hf (lv_sub hl [2, 3, 4, 1, 0] rfl)
      · replace hf := hf.2 h68
        refine lv_aload_n C.1 C.2.1 dX3_doesClash_71 rfl (lv_at hl 0 rfl) ?_
        refine mg_follow C hw dX3_doesClash_72 ?_
        refine lv_aload_n C.1 C.2.1 dX3_doesClash_75 rfl (lv_at hl 0 rfl) ?_
        refine mg_left C hw dX3_doesClash_76 ?_
        refine lv_iload C.1 C.2.1 dX3_doesClash_79 (lv_at hl 4 rfl) ?_
        obtain ⟨b81, hf⟩ := hf
        refine g_iald C hw 3 rfl b81 dX3_doesClash_81 ?_
        refine lv_bipush (v := 26) C.1 C.2.1 dX3_doesClash_82 rfl ?_
        refine lv_isub C.1 C.2.1 dX3_doesClash_84 ?_
        obtain ⟨b85, hf⟩ := hf
        refine g_iald C hw 32 rfl b85 dX3_doesClash_85 ?_
        refine lv_iload_n C.1 C.2.1 dX3_doesClash_86 rfl (lv_at hl 2 rfl) ?_
        refine km_has C hl.1 (Nat.le_of_ble_eq_true rfl) ⟨Nat.le_of_ble_eq_true rfl, Nat.le_of_ble_eq_true rfl⟩ dX3_doesClash_87 ?_
        refine lv_if_eq (tgt := 97) C.1 C.2.1 dX3_doesClash_90 (by decide) (fun h90 => ?_) (fun h90 => ?_)
        · replace hf := hf.1 h90
          refine lv_iconst (v := 0) C.1 C.2.1 dX3_doesClash_97 rfl ?_
          refine lv_iadd C.1 C.2.1 dX3_doesClash_98 ?_
          refine lv_istore_n (lv' := [(3, .int (x3 + 0)), (0, .ref (ad 0)), (1, .int x1), (2, .int x2), (4, .int x4)]) C.1 C.2.1 dX3_doesClash_99 rfl hl (Nat.le_of_ble_eq_true rfl) rfl (fun ls hl => ?_)
          refine lv_iinc (v := (x4 + 1)) (lv' := [(4, .int (x4 + 1)), (3, .int (x3 + 0)), (0, .ref (ad 0)), (1, .int x1), (2, .int x2)]) C.1 C.2.1 dX3_doesClash_100 hl (k := 4) rfl rfl (Nat.le_of_ble_eq_true rfl) rfl (fun ls hl => ?_)
          refine lv_goto (tgt := 38) C.1 C.2.1 dX3_doesClash_103 (by decide) ?_
          exact hK38 _ _ _ hf (lv_sub hl [2, 3, 4, 1, 0] rfl)
        · replace hf := hf.2 h90
          refine lv_iconst (v := 1) C.1 C.2.1 dX3_doesClash_93 rfl ?_
          refine lv_goto (tgt := 98) C.1 C.2.1 dX3_doesClash_94 (by decide) ?_
          refine lv_iadd C.1 C.2.1 dX3_doesClash_98 ?_
          refine lv_istore_n (lv' := [(3, .int (x3 + 1)), (0, .ref (ad 0)), (1, .int x1), (2, .int x2), (4, .int x4)]) C.1 C.2.1 dX3_doesClash_99 rfl hl (Nat.le_of_ble_eq_true rfl) rfl (fun ls hl => ?_)
          refine lv_iinc (v := (x4 + 1)) (lv' := [(4, .int (x4 + 1)), (3, .int (x3 + 1)), (0, .ref (ad 0)), (1, .int x1), (2, .int x2)]) C.1 C.2.1 dX3_doesClash_100 hl (k := 4) rfl rfl (Nat.le_of_ble_eq_true rfl) rfl (fun ls hl => ?_)
          refine lv_goto (tgt := 38) C.1 C.2.1 dX3_doesClash_103 (by decide) ?_
          exact hK38 _ _ _ hf (lv_sub hl [2, 3, 4, 1, 0] rfl)
  have P38 : ∀ (x1 : Int32) (x2 : Int32) (K2 : Int32 → Prop) (_ : ∀ (x2 : Int32) (ls : Array Slot), K2 x2 → lv_has ls 5 [(0, .ref (ad 0)), (1, .int x1), (2, .int x2)] → W p l e rm_m_doesClash s m args below meth c H [] 0 0 QQ (F0 m 2 ls [])) (n : Nat) (x3 : Int32) (x4 : Int32) (ls : Array Slot), LL2 (m_doesClash_p38 σ x1 x2 Q K2) n x3 x4 → lv_has ls 5 [(0, .ref (ad 0)), (1, .int x1), (2, .int x2), (3, .int x3), (4, .int x4)] → W p l e rm_m_doesClash s m args below meth c H [] 0 0 QQ (F0 m 38 ls []) := by
    intro x1 x2 K2 hK2 n
    induction n with
    | zero => intro x3 x4 ls hf; exact False.elim hf
    | succ n ih => intro x3 x4 ls hf hl; exact B38 x1 x2 K2 hK2 (LL2 _ n) ih x3 x4 ls hf hl
  have B2 : ∀ (x1 : Int32) (K2 : Int32 → Prop) (_ : ∀ (x2 : Int32) (ls : Array Slot), K2 x2 → lv_has ls 5 [(0, .ref (ad 0)), (1, .int x1), (2, .int x2)] → W p l e rm_m_doesClash s m args below meth c H [] 0 0 QQ (F0 m 2 ls [])) (x2 : Int32) (ls : Array Slot), m_doesClash_p2 σ x1 Q K2 x2 → lv_has ls 5 [(0, .ref (ad 0)), (1, .int x1), (2, .int x2)] → W p l e rm_m_doesClash s m args below meth c H [] 0 0 QQ (F0 m 2 ls []) := by
    intro x1 K2 hK2 x2 ls hf hl
    unfold m_doesClash_p2 at hf
    refine lv_iload_n C.1 C.2.1 dX3_doesClash_2 rfl (lv_at hl 2 rfl) ?_
    refine lv_bipush (v := 26) C.1 C.2.1 dX3_doesClash_3 rfl ?_
    refine lv_icmp_gt (tgt := 119) C.1 C.2.1 dX3_doesClash_5 (by decide) (fun h5 => ?_) (fun h5 => ?_)
    · replace hf := hf.1 h5
      refine lv_iconst (v := 0) C.1 C.2.1 dX3_doesClash_119 rfl ?_
      exact hret _ _ _ hf (Or.inl rfl) dX3_doesClash_120
    · replace hf := hf.2 h5
      refine lv_iload_n C.1 C.2.1 dX3_doesClash_8 rfl (lv_at hl 2 rfl) ?_
      refine lv_bipush (v := 26) C.1 C.2.1 dX3_doesClash_9 rfl ?_
      refine lv_icmp_ge (tgt := 33) C.1 C.2.1 dX3_doesClash_11 (by decide) (fun h11 => ?_) (fun h11 => ?_)
      · replace hf := hf.1 h11
        refine lv_iconst (v := 0) C.1 C.2.1 dX3_doesClash_33 rfl ?_
        refine lv_istore_n (lv' := [(3, .int 0), (0, .ref (ad 0)), (1, .int x1), (2, .int x2)]) C.1 C.2.1 dX3_doesClash_34 rfl hl (Nat.le_of_ble_eq_true rfl) rfl (fun ls hl => ?_)
        refine lv_iconst (v := 0) C.1 C.2.1 dX3_doesClash_35 rfl ?_
        refine lv_istore (lv' := [(4, .int 0), (3, .int 0), (0, .ref (ad 0)), (1, .int x1), (2, .int x2)]) C.1 C.2.1 dX3_doesClash_36 hl (Nat.le_of_ble_eq_true rfl) rfl (fun ls hl => ?_)
        obtain ⟨n, hf⟩ := hf
        exact P38 _ _ _ hK2 n _ _ _ hf (lv_sub hl [2, 3, 4, 1, 0] rfl)
      · replace hf := hf.2 h11
        refine lv_aload_n C.1 C.2.1 dX3_doesClash_14 rfl (lv_at hl 0 rfl) ?_
        refine mg_goTo C hw dX3_doesClash_15 ?_
        refine lv_bipush (v := 52) C.1 C.2.1 dX3_doesClash_18 rfl ?_
        refine lv_iload_n C.1 C.2.1 dX3_doesClash_20 rfl (lv_at hl 1 rfl) ?_
        refine lv_imul C.1 C.2.1 dX3_doesClash_21 ?_
        refine lv_iload_n C.1 C.2.1 dX3_doesClash_22 rfl (lv_at hl 2 rfl) ?_
        refine lv_iadd C.1 C.2.1 dX3_doesClash_23 ?_
        obtain ⟨b24, hf⟩ := hf
        refine g_iald C hw 35 rfl b24 dX3_doesClash_24 ?_
        refine lv_iconst (v := (-1)) C.1 C.2.1 dX3_doesClash_25 rfl ?_
        refine lv_icmp_eq (tgt := 33) C.1 C.2.1 dX3_doesClash_26 (by decide) (fun h26 => ?_) (fun h26 => ?_)
        · replace hf := hf.1 h26
          refine lv_iconst (v := 0) C.1 C.2.1 dX3_doesClash_33 rfl ?_
          refine lv_istore_n (lv' := [(3, .int 0), (0, .ref (ad 0)), (1, .int x1), (2, .int x2)]) C.1 C.2.1 dX3_doesClash_34 rfl hl (Nat.le_of_ble_eq_true rfl) rfl (fun ls hl => ?_)
          refine lv_iconst (v := 0) C.1 C.2.1 dX3_doesClash_35 rfl ?_
          refine lv_istore (lv' := [(4, .int 0), (3, .int 0), (0, .ref (ad 0)), (1, .int x1), (2, .int x2)]) C.1 C.2.1 dX3_doesClash_36 hl (Nat.le_of_ble_eq_true rfl) rfl (fun ls hl => ?_)
          obtain ⟨n, hf⟩ := hf
          exact P38 _ _ _ hK2 n _ _ _ hf (lv_sub hl [2, 3, 4, 1, 0] rfl)
        · replace hf := hf.2 h26
          refine lv_iconst (v := 1) C.1 C.2.1 dX3_doesClash_29 rfl ?_
          refine lv_goto (tgt := 34) C.1 C.2.1 dX3_doesClash_30 (by decide) ?_
          refine lv_istore_n (lv' := [(3, .int 1), (0, .ref (ad 0)), (1, .int x1), (2, .int x2)]) C.1 C.2.1 dX3_doesClash_34 rfl hl (Nat.le_of_ble_eq_true rfl) rfl (fun ls hl => ?_)
          refine lv_iconst (v := 0) C.1 C.2.1 dX3_doesClash_35 rfl ?_
          refine lv_istore (lv' := [(4, .int 0), (3, .int 1), (0, .ref (ad 0)), (1, .int x1), (2, .int x2)]) C.1 C.2.1 dX3_doesClash_36 hl (Nat.le_of_ble_eq_true rfl) rfl (fun ls hl => ?_)
          obtain ⟨n, hf⟩ := hf
          exact P38 _ _ _ hK2 n _ _ _ hf (lv_sub hl [2, 3, 4, 1, 0] rfl)
  have P2 : ∀ (x1 : Int32) (n : Nat) (x2 : Int32) (ls : Array Slot), LL1 (m_doesClash_p2 σ x1 Q) n x2 → lv_has ls 5 [(0, .ref (ad 0)), (1, .int x1), (2, .int x2)] → W p l e rm_m_doesClash s m args below meth c H [] 0 0 QQ (F0 m 2 ls []) := by
    intro x1 n
    induction n with
    | zero => intro x2 ls hf; exact False.elim hf
    | succ n ih => intro x2 ls hf hl; exact B2 x1 (LL1 _ n) ih x2 ls hf hl
  unfold m_doesClash at hf
  refine lv_iconst (v := 0) C.1 C.2.1 dX3_doesClash_0 rfl ?_
  refine lv_istore_n (lv' := [(2, .int 0), (0, .ref (ad 0)), (1, .int x1)]) C.1 C.2.1 dX3_doesClash_1 rfl hl (Nat.le_of_ble_eq_true rfl) rfl (fun ls hl => ?_)
  obtain ⟨n, hf⟩ := hf
  exact P2 _ n _ _ hf (lv_sub hl [1, 2, 0] rfl)
theorem km_doesClash {p : Program} {l : Launch} {e : Env} {R : Room} {s : State} {m : MethodId} {args : Array Value} {below : List Frame} {meth : Method} {c : Code} {H : Heap} {locs : List Loc} {Z : State → Prop} {cc : ByteArray} {nL pc : Nat} {ls : Array Slot} {rest : List Value} {D : va_G} {ct : Ct} {ad : Nat → Nat} {σ : St} {x1 : Int32} {Qp : Int32 → Prop} (C : CallFix p m c cc nL s args lw_all RX3) (hw : gH D ct shM ad s σ H locs) (hsz : ls.size = nL) (hrm : (rest.map fun v => v.category).sum ≤ 8) (hR : rm_m_doesClash.frames + 1 ≤ R.frames ∧ 8 + (5 + 11) + rm_m_doesClash.locals ≤ R.locals) (hdg : decode cc pc = .ok (.invokevirtual 372, 3)) (hf : m_doesClash σ x1 Qp) (kk : ∀ (r : Int32), Qp r → W p l e R s m args below meth c H locs 0 0 Z (F0 m (pc + 3) ls (.int r :: rest))) : W p l e R s m args below meth c H locs 0 0 Z (F0 m pc ls (.int x1 :: .ref (ad 0) :: rest)) :=
  g_callVR (As := [.int x1]) (rest := rest) C hw rfl rfl (met_m_doesClash l D ct ad hw.2.1 σ x1 Qp hf) (cwV 1 C.2.2.2.2 (lw_V q1794 q1796 qs137 q207 q1797) rfl rfl rfl (by decide +kernel) hR) rfl hsz rfl hrm ⟨Nat.zero_le _, Nat.zero_le _⟩ hdg kk
def m_movesRow_p2 (lnx1 : Nat) (x1 : Nat) (Q : Unit → St → Prop) (K2 : St → Int32 → Prop) (σ : St) (x2 : Int32) : Prop :=
  (((nI lnx1) ≤ x2 → Q () σ) ∧ (¬ (nI lnx1) ≤ x2 → (vp_in x2 lnx1 ∧ (m_moves σ (gI σ x1 x2) (fun r14 s14 => (∀ s17 : St, s17 = s_A s14 x1 (Int32.toNatClampNeg x2) r14 → K2 s17 (x2 + 1)))))))
def m_movesRow (σ : St) (lnx1 : Nat) (x1 : Nat) (Q : Unit → St → Prop) : Prop :=
  (Lp2 (m_movesRow_p2 lnx1 x1 Q) σ 0)
abbrev rm_m_movesRow : Room := { frames := 1, cells := 0, slots := 0, locals := 22 }
set_option maxHeartbeats 4000000 in
theorem met_m_movesRow (l : Launch) (D : va_G) (ct : Ct) (ad : Nat → Nat) (hJ : gJ shM ad ct) (σ : St) (lnx1 : Nat) (x1 : Nat) (hkx1 : shM.2 x1 = (2, lnx1)) (Q : Unit → St → Prop) (hf : m_movesRow σ lnx1 x1 Q) : Met l yX3_movesRow (ws_ yX3_movesRow cX3_movesRow 3 (none)) rm_m_movesRow (va_Pc [.ref (ad 0), .ref (ad x1)] (gP D ct shM ad σ)) (gQ rvV D ct shM ad Q) 0 0 (gA shM ad) := by
  refine g_metV hJ (by decide) (Nat.le_of_ble_eq_true rfl) ?_
  intro p e s m args below meth c QQ ls C hw hl hret
  replace hl : lv_has ls 3 [(0, .ref (ad 0)), (1, .ref (ad x1))] := hl
  have B2 : ∀ (K2 : St → Int32 → Prop) (_ : ∀ (σ : St) (H : Heap) (locs : List Loc) (x2 : Int32) (ls : Array Slot), K2 σ x2 → gH D ct shM ad s σ H locs → lv_has ls 3 [(0, .ref (ad 0)), (1, .ref (ad x1)), (2, .int x2)] → W p l e rm_m_movesRow s m args below meth c H locs 0 0 QQ (F0 m 2 ls [])) (σ : St) (H : Heap) (locs : List Loc) (x2 : Int32) (ls : Array Slot), m_movesRow_p2 lnx1 x1 Q K2 σ x2 → gH D ct shM ad s σ H locs → lv_has ls 3 [(0, .ref (ad 0)), (1, .ref (ad x1)), (2, .int x2)] → W p l e rm_m_movesRow s m args below meth c H locs 0 0 QQ (F0 m 2 ls []) := by
    intro K2 hK2 σ H locs x2 ls hf hw hl
    unfold m_movesRow_p2 at hf
    refine lv_iload_n C.1 C.2.1 dX3_movesRow_2 rfl (lv_at hl 2 rfl) ?_
    refine lv_aload_n C.1 C.2.1 dX3_movesRow_3 rfl (lv_at hl 1 rfl) ?_
    refine g_alen C hw x1 hkx1 dX3_movesRow_4 ?_
    refine lv_icmp_ge (tgt := 24) C.1 C.2.1 dX3_movesRow_5 (by decide) (fun h5 => ?_) (fun h5 => ?_)
    · replace hf := hf.1 h5
      exact hret _ _ _ _ _ _ hf hw dX3_movesRow_24
    · replace hf := hf.2 h5
      refine lv_aload_n C.1 C.2.1 dX3_movesRow_8 rfl (lv_at hl 1 rfl) ?_
      refine lv_iload_n C.1 C.2.1 dX3_movesRow_9 rfl (lv_at hl 2 rfl) ?_
      refine lv_aload_n C.1 C.2.1 dX3_movesRow_10 rfl (lv_at hl 0 rfl) ?_
      refine lv_aload_n C.1 C.2.1 dX3_movesRow_11 rfl (lv_at hl 1 rfl) ?_
      refine lv_iload_n C.1 C.2.1 dX3_movesRow_12 rfl (lv_at hl 2 rfl) ?_
      obtain ⟨b13, hf⟩ := hf
      refine g_iald C hw x1 hkx1 b13 dX3_movesRow_13 ?_
      refine km_moves C hw hl.1 (Nat.le_of_ble_eq_true rfl) ⟨Nat.le_of_ble_eq_true rfl, Nat.le_of_ble_eq_true rfl⟩ dX3_movesRow_14 hf (fun r14 s14 H locs hf hw => ?_)
      refine g_iast C shM_sep hw x1 hkx1 b13 dX3_movesRow_17 (fun s17 H locs e17 hw => ?_)
      replace hf := hf s17 e17
      refine lv_iinc (v := (x2 + 1)) (lv' := [(2, .int (x2 + 1)), (0, .ref (ad 0)), (1, .ref (ad x1))]) C.1 C.2.1 dX3_movesRow_18 hl (k := 2) rfl rfl (Nat.le_of_ble_eq_true rfl) rfl (fun ls hl => ?_)
      refine lv_goto (tgt := 2) C.1 C.2.1 dX3_movesRow_21 (by decide) ?_
      exact hK2 _ _ _ _ _ hf hw (lv_sub hl [1, 2, 0] rfl)
  have P2 : ∀ (n : Nat) (σ : St) (x2 : Int32) (ls : Array Slot) (H : Heap) (locs : List Loc), LL2 (m_movesRow_p2 lnx1 x1 Q) n σ x2 → gH D ct shM ad s σ H locs → lv_has ls 3 [(0, .ref (ad 0)), (1, .ref (ad x1)), (2, .int x2)] → W p l e rm_m_movesRow s m args below meth c H locs 0 0 QQ (F0 m 2 ls []) := by
    intro  n
    induction n with
    | zero => intro σ x2 ls H locs hf; exact False.elim hf
    | succ n ih => intro σ x2 ls H locs hf hw hl; exact B2  (LL2 _ n) (fun σ H locs x2 ls hf hw hl => ih σ x2 ls H locs hf hw hl) σ H locs x2 ls hf hw hl
  unfold m_movesRow at hf
  obtain ⟨H, hH⟩ : ∃ q, q = s.heap := ⟨_, rfl⟩
  obtain ⟨locs, hL⟩ : ∃ q : List Loc, q = [] := ⟨_, rfl⟩
  rw [← hH, ← hL] at hw ⊢
  refine lv_iconst (v := 0) C.1 C.2.1 dX3_movesRow_0 rfl ?_
  refine lv_istore_n (lv' := [(2, .int 0), (0, .ref (ad 0)), (1, .ref (ad x1))]) C.1 C.2.1 dX3_movesRow_1 rfl hl (Nat.le_of_ble_eq_true rfl) rfl (fun ls hl => ?_)
  obtain ⟨n, hf⟩ := hf
  exact P2  n _ _ _ _ _ hf hw (lv_sub hl [1, 2, 0] rfl)
theorem km_movesRow {p : Program} {l : Launch} {e : Env} {R : Room} {s : State} {m : MethodId} {args : Array Value} {below : List Frame} {meth : Method} {c : Code} {H : Heap} {locs : List Loc} {Z : State → Prop} {cc : ByteArray} {nL pc : Nat} {ls : Array Slot} {rest : List Value} {D : va_G} {ct : Ct} {ad : Nat → Nat} {σ : St} {lnx1 : Nat} {x1 : Nat} {Qp : Unit → St → Prop} (C : CallFix p m c cc nL s args lw_all RX3) (hw : gH D ct shM ad s σ H locs) (hsz : ls.size = nL) (hrm : (rest.map fun v => v.category).sum ≤ 8) (hR : rm_m_movesRow.frames + 1 ≤ R.frames ∧ 8 + (3 + 11) + rm_m_movesRow.locals ≤ R.locals) (hdg : decode cc pc = .ok (.invokevirtual 385, 3)) (hkx1 : shM.2 x1 = (2, lnx1)) (hf : m_movesRow σ lnx1 x1 Qp) (kk : ∀ (r : Unit) (σ1 : St) (H1 : Heap) (locs1 : List Loc), Qp r σ1 → gH D ct shM ad s σ1 H1 locs1 → W p l e R s m args below meth c H1 locs1 0 0 Z (F0 m (pc + 3) ls (rest))) : W p l e R s m args below meth c H locs 0 0 Z (F0 m pc ls (.ref (ad x1) :: .ref (ad 0) :: rest)) :=
  g_callV (As := [.ref (ad x1)]) (rest := rest) C hw rfl rfl (met_m_movesRow l D ct ad hw.2.1 σ lnx1 x1 hkx1 Qp hf) (cwV 1 C.2.2.2.2 (lw_V q1810 q1812 qs140 q207 q1813) rfl rfl rfl (by decide +kernel) hR) rfl hsz rfl hrm ⟨Nat.zero_le _, Nat.zero_le _⟩ hdg kk
def m_letter (σ : St) (x1 : Int32) (Q : Int32 → Prop) : Prop :=
  (((fm_in (Int32.toInt64 x1) 0 (Int32.toInt64 ((gI σ 2 2) - 1))) = 0 → Q (-1)) ∧ (¬ (fm_in (Int32.toInt64 x1) 0 (Int32.toInt64 ((gI σ 2 2) - 1))) = 0 → (vp_in x1 12 ∧ Q (gI σ 8 x1))))
abbrev rm_m_letter : Room := { frames := 1, cells := 0, slots := 0, locals := 25 }
set_option maxHeartbeats 4000000 in
theorem met_m_letter (l : Launch) (D : va_G) (ct : Ct) (ad : Nat → Nat) (hJ : gJ shM ad ct) (σ : St) (x1 : Int32) (Q : Int32 → Prop) (hf : m_letter σ x1 Q) : Met l yX3_letter (ws_ yX3_letter cX3_letter 2 (some .int)) rm_m_letter (va_Pc [.ref (ad 0), .int x1] (gP D ct shM ad σ)) (gR rvI Q) 0 0 (fun _ => False) := by
  refine g_metRI hJ (by decide) (Nat.le_of_ble_eq_true rfl) ?_
  intro p e s m args below meth c QQ ls H C hw hl hret
  replace hl : lv_has ls 2 [(0, .ref (ad 0)), (1, .int x1)] := hl
  unfold m_letter at hf
  refine lv_iload_n C.1 C.2.1 dX3_letter_0 rfl (lv_at hl 1 rfl) ?_
  refine lv_i2l C.1 C.2.1 dX3_letter_1 rfl ?_
  refine lv_lconst (v := 0) C.1 C.2.1 dX3_letter_2 rfl ?_
  refine lv_aload_n C.1 C.2.1 dX3_letter_3 rfl (lv_at hl 0 rfl) ?_
  refine mg_scalar C hw dX3_letter_4 ?_
  refine lv_iconst (v := 2) C.1 C.2.1 dX3_letter_7 rfl ?_
  refine g_iald C hw 2 rfl (vpD rfl) dX3_letter_8 ?_
  refine lv_iconst (v := 1) C.1 C.2.1 dX3_letter_9 rfl ?_
  refine lv_isub C.1 C.2.1 dX3_letter_10 ?_
  refine lv_i2l C.1 C.2.1 dX3_letter_11 rfl ?_
  refine km_in C hl.1 (Nat.le_of_ble_eq_true rfl) ⟨Nat.le_of_ble_eq_true rfl, Nat.le_of_ble_eq_true rfl⟩ dX3_letter_12 ?_
  refine lv_if_eq (tgt := 27) C.1 C.2.1 dX3_letter_15 (by decide) (fun h15 => ?_) (fun h15 => ?_)
  · replace hf := hf.1 h15
    refine lv_iconst (v := (-1)) C.1 C.2.1 dX3_letter_27 rfl ?_
    exact hret _ _ _ hf dX3_letter_28
  · replace hf := hf.2 h15
    refine lv_aload_n C.1 C.2.1 dX3_letter_18 rfl (lv_at hl 0 rfl) ?_
    refine mg_text C hw dX3_letter_19 ?_
    refine lv_iload_n C.1 C.2.1 dX3_letter_22 rfl (lv_at hl 1 rfl) ?_
    obtain ⟨b23, hf⟩ := hf
    refine g_iald C hw 8 rfl b23 dX3_letter_23 ?_
    refine lv_goto (tgt := 28) C.1 C.2.1 dX3_letter_24 (by decide) ?_
    exact hret _ _ _ hf dX3_letter_28
def m_isForbidden_p104 (σ : St) (x1 : Int32) (x2 : Int32) (x3 : Int32) (Q : Int32 → Prop) : Prop :=
  (((fm_has (gI σ 2 5) 2) = 0 → Q 0) ∧ (¬ (fm_has (gI σ 2 5) 2) = 0 → (m_banOf σ ((12 * ((4 * x1) + x2)) + x3) (fun r128 => ((r128 = (-1) → Q 0) ∧ (¬ r128 = (-1) → Q 1))))))
def m_isForbidden_p60 (σ : St) (x1 : Int32) (x2 : Int32) (x3 : Int32) (x4 : Int32) (Q : Int32 → Prop) : Prop :=
  (((fm_has (gI σ 2 5) 1) = 0 → (m_isForbidden_p104 σ x1 x2 x3 Q)) ∧ (¬ (fm_has (gI σ 2 5) 1) = 0 → ((x4 = 0 → (m_isForbidden_p104 σ x1 x2 x3 Q)) ∧ (¬ x4 = 0 → (vp_in x3 12 ∧ (vp_in x1 12 ∧ (((gI σ 6 x3) = (gI σ 6 x1) → (m_isBySide σ x1 x2 (fun r96 => ((r96 = 0 → (m_isForbidden_p104 σ x1 x2 x3 Q)) ∧ (¬ r96 = 0 → Q 1))))) ∧ (¬ (gI σ 6 x3) = (gI σ 6 x1) → (m_isForbidden_p104 σ x1 x2 x3 Q)))))))))
def m_isForbidden_p23 (σ : St) (x1 : Int32) (x2 : Int32) (x3 : Int32) (Q : Int32 → Prop) (v0 : Int32) : Prop :=
  (((fm_has (gI σ 2 5) 0) = 0 → (m_isForbidden_p60 σ x1 x2 x3 v0 Q)) ∧ (¬ (fm_has (gI σ 2 5) 0) = 0 → ((v0 = 0 → (m_isForbidden_p60 σ x1 x2 x3 v0 Q)) ∧ (¬ v0 = 0 → (vp_in x3 12 ∧ (vp_in x1 12 ∧ (((gI σ 6 x1) ≤ (gI σ 6 x3) → (m_isForbidden_p60 σ x1 x2 x3 v0 Q)) ∧ (¬ (gI σ 6 x1) ≤ (gI σ 6 x3) → Q 1))))))))
def m_isForbidden_p22 (σ : St) (x1 : Int32) (x2 : Int32) (x3 : Int32) (Q : Int32 → Prop) : Prop :=
  (m_isForbidden_p23 σ x1 x2 x3 Q 0)
def m_isForbidden (σ : St) (x1 : Int32) (x2 : Int32) (x3 : Int32) (Q : Int32 → Prop) : Prop :=
  (vp_in x1 12 ∧ (((gI σ 6 x1) ≤ 0 → (m_isForbidden_p22 σ x1 x2 x3 Q)) ∧ (¬ (gI σ 6 x1) ≤ 0 → (vp_in x3 12 ∧ (((gI σ 6 x3) ≤ 0 → (m_isForbidden_p22 σ x1 x2 x3 Q)) ∧ (¬ (gI σ 6 x3) ≤ 0 → (m_isForbidden_p23 σ x1 x2 x3 Q 1)))))))
abbrev rm_m_isForbidden : Room := { frames := 1, cells := 0, slots := 0, locals := 22 }
set_option maxHeartbeats 4000000 in
theorem met_m_isForbidden (l : Launch) (D : va_G) (ct : Ct) (ad : Nat → Nat) (hJ : gJ shM ad ct) (σ : St) (x1 : Int32) (x2 : Int32) (x3 : Int32) (Q : Int32 → Prop) (hf : m_isForbidden σ x1 x2 x3 Q) : Met l yX3_isForbidden (ws_ yX3_isForbidden cX3_isForbidden 5 (some .boolean)) rm_m_isForbidden (va_Pc [.ref (ad 0), .int x1, .int x2, .int x3] (gP D ct shM ad σ)) (gR rvI Q) 0 0 (fun _ => False) := by
  refine g_metRZ hJ (by decide) (Nat.le_of_ble_eq_true rfl) ?_
  intro p e s m args below meth c QQ ls H C hw hl hret
  replace hl : lv_has ls 5 [(0, .ref (ad 0)), (1, .int x1), (2, .int x2), (3, .int x3)] := hl
  have J104 : ∀ (x1 : Int32) (x2 : Int32) (x3 : Int32) (ls : Array Slot), m_isForbidden_p104 σ x1 x2 x3 Q → lv_has ls 5 [(0, .ref (ad 0)), (1, .int x1), (2, .int x2), (3, .int x3)] → W p l e rm_m_isForbidden s m args below meth c H [] 0 0 QQ (F0 m 104 ls []) := by
    intro x1 x2 x3 ls hf hl
    unfold m_isForbidden_p104 at hf
    refine lv_aload_n C.1 C.2.1 dX3_isForbidden_104 rfl (lv_at hl 0 rfl) ?_
    refine mg_scalar C hw dX3_isForbidden_105 ?_
    refine lv_iconst (v := 5) C.1 C.2.1 dX3_isForbidden_108 rfl ?_
    refine g_iald C hw 2 rfl (vpD rfl) dX3_isForbidden_109 ?_
    refine lv_iconst (v := 2) C.1 C.2.1 dX3_isForbidden_110 rfl ?_
    refine km_has C hl.1 (Nat.le_of_ble_eq_true rfl) ⟨Nat.le_of_ble_eq_true rfl, Nat.le_of_ble_eq_true rfl⟩ dX3_isForbidden_111 ?_
    refine lv_if_eq (tgt := 139) C.1 C.2.1 dX3_isForbidden_114 (by decide) (fun h114 => ?_) (fun h114 => ?_)
    · replace hf := hf.1 h114
      refine lv_iconst (v := 0) C.1 C.2.1 dX3_isForbidden_139 rfl ?_
      exact hret _ _ _ hf (Or.inl rfl) dX3_isForbidden_140
    · replace hf := hf.2 h114
      refine lv_aload_n C.1 C.2.1 dX3_isForbidden_117 rfl (lv_at hl 0 rfl) ?_
      refine lv_bipush (v := 12) C.1 C.2.1 dX3_isForbidden_118 rfl ?_
      refine lv_iconst (v := 4) C.1 C.2.1 dX3_isForbidden_120 rfl ?_
      refine lv_iload_n C.1 C.2.1 dX3_isForbidden_121 rfl (lv_at hl 1 rfl) ?_
      refine lv_imul C.1 C.2.1 dX3_isForbidden_122 ?_
      refine lv_iload_n C.1 C.2.1 dX3_isForbidden_123 rfl (lv_at hl 2 rfl) ?_
      refine lv_iadd C.1 C.2.1 dX3_isForbidden_124 ?_
      refine lv_imul C.1 C.2.1 dX3_isForbidden_125 ?_
      refine lv_iload_n C.1 C.2.1 dX3_isForbidden_126 rfl (lv_at hl 3 rfl) ?_
      refine lv_iadd C.1 C.2.1 dX3_isForbidden_127 ?_
      refine km_banOf C hw hl.1 (Nat.le_of_ble_eq_true rfl) ⟨Nat.le_of_ble_eq_true rfl, Nat.le_of_ble_eq_true rfl⟩ dX3_isForbidden_128 hf (fun r128 hf => ?_)
      refine lv_iconst (v := (-1)) C.1 C.2.1 dX3_isForbidden_131 rfl ?_
      refine lv_icmp_eq (tgt := 139) C.1 C.2.1 dX3_isForbidden_132 (by decide) (fun h132 => ?_) (fun h132 => ?_)
      · replace hf := hf.1 h132
        refine lv_iconst (v := 0) C.1 C.2.1 dX3_isForbidden_139 rfl ?_
        exact hret _ _ _ hf (Or.inl rfl) dX3_isForbidden_140
      · replace hf := hf.2 h132
        refine lv_iconst (v := 1) C.1 C.2.1 dX3_isForbidden_135 rfl ?_
        refine lv_goto (tgt := 140) C.1 C.2.1 dX3_isForbidden_136 (by decide) ?_
        exact hret _ _ _ hf (Or.inr rfl) dX3_isForbidden_140
  have J60 : ∀ (x1 : Int32) (x2 : Int32) (x3 : Int32) (x4 : Int32) (ls : Array Slot), m_isForbidden_p60 σ x1 x2 x3 x4 Q → lv_has ls 5 [(0, .ref (ad 0)), (1, .int x1), (2, .int x2), (3, .int x3), (4, .int x4)] → W p l e rm_m_isForbidden s m args below meth c H [] 0 0 QQ (F0 m 60 ls []) := by
    intro x1 x2 x3 x4 ls hf hl
    unfold m_isForbidden_p60 at hf
    refine lv_aload_n C.1 C.2.1 dX3_isForbidden_60 rfl (lv_at hl 0 rfl) ?_
    refine mg_scalar C hw dX3_isForbidden_61 ?_
    refine lv_iconst (v := 5) C.1 C.2.1 dX3_isForbidden_64 rfl ?_
    refine g_iald C hw 2 rfl (vpD rfl) dX3_isForbidden_65 ?_
    refine lv_iconst (v := 1) C.1 C.2.1 dX3_isForbidden_66 rfl ?_
    refine km_has C hl.1 (Nat.le_of_ble_eq_true rfl) ⟨Nat.le_of_ble_eq_true rfl, Nat.le_of_ble_eq_true rfl⟩ dX3_isForbidden_67 ?_
    refine lv_if_eq (tgt := 104) C.1 C.2.1 dX3_isForbidden_70 (by decide) (fun h70 => ?_) (fun h70 => ?_)
    · replace hf := hf.1 h70
      exact J104 _ _ _ _ hf (lv_sub hl [0, 1, 2, 3] rfl)
    · replace hf := hf.2 h70
      refine lv_iload C.1 C.2.1 dX3_isForbidden_73 (lv_at hl 4 rfl) ?_
      refine lv_if_eq (tgt := 104) C.1 C.2.1 dX3_isForbidden_75 (by decide) (fun h75 => ?_) (fun h75 => ?_)
      · replace hf := hf.1 h75
        exact J104 _ _ _ _ hf (lv_sub hl [0, 1, 2, 3] rfl)
      · replace hf := hf.2 h75
        refine lv_aload_n C.1 C.2.1 dX3_isForbidden_78 rfl (lv_at hl 0 rfl) ?_
        refine mg_rank C hw dX3_isForbidden_79 ?_
        refine lv_iload_n C.1 C.2.1 dX3_isForbidden_82 rfl (lv_at hl 3 rfl) ?_
        obtain ⟨b83, hf⟩ := hf
        refine g_iald C hw 6 rfl b83 dX3_isForbidden_83 ?_
        refine lv_aload_n C.1 C.2.1 dX3_isForbidden_84 rfl (lv_at hl 0 rfl) ?_
        refine mg_rank C hw dX3_isForbidden_85 ?_
        refine lv_iload_n C.1 C.2.1 dX3_isForbidden_88 rfl (lv_at hl 1 rfl) ?_
        obtain ⟨b89, hf⟩ := hf
        refine g_iald C hw 6 rfl b89 dX3_isForbidden_89 ?_
        refine lv_icmp_ne (tgt := 104) C.1 C.2.1 dX3_isForbidden_90 (by decide) (fun h90 => ?_) (fun h90 => ?_)
        · replace hf := hf.2 h90
          exact J104 _ _ _ _ hf (lv_sub hl [0, 1, 2, 3] rfl)
        · replace hf := hf.1 h90
          refine lv_aload_n C.1 C.2.1 dX3_isForbidden_93 rfl (lv_at hl 0 rfl) ?_
          refine lv_iload_n C.1 C.2.1 dX3_isForbidden_94 rfl (lv_at hl 1 rfl) ?_
          refine lv_iload_n C.1 C.2.1 dX3_isForbidden_95 rfl (lv_at hl 2 rfl) ?_
          refine km_isBySide C hw hl.1 (Nat.le_of_ble_eq_true rfl) ⟨Nat.le_of_ble_eq_true rfl, Nat.le_of_ble_eq_true rfl⟩ dX3_isForbidden_96 hf (fun r96 hf => ?_)
          refine lv_if_eq (tgt := 104) C.1 C.2.1 dX3_isForbidden_99 (by decide) (fun h99 => ?_) (fun h99 => ?_)
          · replace hf := hf.1 h99
            exact J104 _ _ _ _ hf (lv_sub hl [0, 1, 2, 3] rfl)
          · replace hf := hf.2 h99
            refine lv_iconst (v := 1) C.1 C.2.1 dX3_isForbidden_102 rfl ?_
            exact hret _ _ _ hf (Or.inr rfl) dX3_isForbidden_103
  have J23 : ∀ (x1 : Int32) (x2 : Int32) (x3 : Int32) (v0 : Int32) (ls : Array Slot), m_isForbidden_p23 σ x1 x2 x3 Q v0 → lv_has ls 5 [(0, .ref (ad 0)), (1, .int x1), (2, .int x2), (3, .int x3)] → W p l e rm_m_isForbidden s m args below meth c H [] 0 0 QQ (F0 m 23 ls [.int v0]) := by
    intro x1 x2 x3 v0 ls hf hl
    unfold m_isForbidden_p23 at hf
    refine lv_istore (lv' := [(4, .int v0), (0, .ref (ad 0)), (1, .int x1), (2, .int x2), (3, .int x3)]) C.1 C.2.1 dX3_isForbidden_23 hl (Nat.le_of_ble_eq_true rfl) rfl (fun ls hl => ?_)
    refine lv_aload_n C.1 C.2.1 dX3_isForbidden_25 rfl (lv_at hl 1 rfl) ?_
    refine mg_scalar C hw dX3_isForbidden_26 ?_
    refine lv_iconst (v := 5) C.1 C.2.1 dX3_isForbidden_29 rfl ?_
    refine g_iald C hw 2 rfl (vpD rfl) dX3_isForbidden_30 ?_
    refine lv_iconst (v := 0) C.1 C.2.1 dX3_isForbidden_31 rfl ?_
    refine km_has C hl.1 (Nat.le_of_ble_eq_true rfl) ⟨Nat.le_of_ble_eq_true rfl, Nat.le_of_ble_eq_true rfl⟩ dX3_isForbidden_32 ?_
    refine lv_if_eq (tgt := 60) C.1 C.2.1 dX3_isForbidden_35 (by decide) (fun h35 => ?_) (fun h35 => ?_)
    · replace hf := hf.1 h35
      exact J60 _ _ _ _ _ hf (lv_sub hl [1, 2, 3, 4, 0] rfl)
    · replace hf := hf.2 h35
      refine lv_iload C.1 C.2.1 dX3_isForbidden_38 (lv_at hl 0 rfl) ?_
      refine lv_if_eq (tgt := 60) C.1 C.2.1 dX3_isForbidden_40 (by decide) (fun h40 => ?_) (fun h40 => ?_)
      · replace hf := hf.1 h40
        exact J60 _ _ _ _ _ hf (lv_sub hl [1, 2, 3, 4, 0] rfl)
      · replace hf := hf.2 h40
        refine lv_aload_n C.1 C.2.1 dX3_isForbidden_43 rfl (lv_at hl 1 rfl) ?_
        refine mg_rank C hw dX3_isForbidden_44 ?_
        refine lv_iload_n C.1 C.2.1 dX3_isForbidden_47 rfl (lv_at hl 4 rfl) ?_
        obtain ⟨b48, hf⟩ := hf
        refine g_iald C hw 6 rfl b48 dX3_isForbidden_48 ?_
        refine lv_aload_n C.1 C.2.1 dX3_isForbidden_49 rfl (lv_at hl 1 rfl) ?_
        refine mg_rank C hw dX3_isForbidden_50 ?_
        refine lv_iload_n C.1 C.2.1 dX3_isForbidden_53 rfl (lv_at hl 2 rfl) ?_
        obtain ⟨b54, hf⟩ := hf
        refine g_iald C hw 6 rfl b54 dX3_isForbidden_54 ?_
        refine lv_icmp_ge (tgt := 60) C.1 C.2.1 dX3_isForbidden_55 (by decide) (fun h55 => ?_) (fun h55 => ?_)
        · replace hf := hf.1 h55
          exact J60 _ _ _ _ _ hf (lv_sub hl [1, 2, 3, 4, 0] rfl)
        · replace hf := hf.2 h55
          refine lv_iconst (v := 1) C.1 C.2.1 dX3_isForbidden_58 rfl ?_
          exact hret _ _ _ hf (Or.inr rfl) dX3_isForbidden_59
  have J22 : ∀ (x1 : Int32) (x2 : Int32) (x3 : Int32) (ls : Array Slot), m_isForbidden_p22 σ x1 x2 x3 Q → lv_has ls 5 [(0, .ref (ad 0)), (1, .int x1), (2, .int x2), (3, .int x3)] → W p l e rm_m_isForbidden s m args below meth c H [] 0 0 QQ (F0 m 22 ls []) := by
    intro x1 x2 x3 ls hf hl
    unfold m_isForbidden_p22 at hf
    refine lv_iconst (v := 0) C.1 C.2.1 dX3_isForbidden_22 rfl ?_
    exact J23 _ _ _ _ _ hf (lv_sub hl [0, 1, 2, 3] rfl)
  unfold m_isForbidden at hf
  refine lv_aload_n C.1 C.2.1 dX3_isForbidden_0 rfl (lv_at hl 0 rfl) ?_
  refine mg_rank C hw dX3_isForbidden_1 ?_
  refine lv_iload_n C.1 C.2.1 dX3_isForbidden_4 rfl (lv_at hl 1 rfl) ?_
  obtain ⟨b5, hf⟩ := hf
  refine g_iald C hw 6 rfl b5 dX3_isForbidden_5 ?_
  refine lv_if_le (tgt := 22) C.1 C.2.1 dX3_isForbidden_6 (by decide) (fun h6 => ?_) (fun h6 => ?_)
  · replace hf := hf.1 h6
    exact J22 _ _ _ _ hf (lv_sub hl [0, 1, 2, 3] rfl)
  · replace hf := hf.2 h6
    refine lv_aload_n C.1 C.2.1 dX3_isForbidden_9 rfl (lv_at hl 0 rfl) ?_
    refine mg_rank C hw dX3_isForbidden_10 ?_
    refine lv_iload_n C.1 C.2.1 dX3_isForbidden_13 rfl (lv_at hl 3 rfl) ?_
    obtain ⟨b14, hf⟩ := hf
    refine g_iald C hw 6 rfl b14 dX3_isForbidden_14 ?_
    refine lv_if_le (tgt := 22) C.1 C.2.1 dX3_isForbidden_15 (by decide) (fun h15 => ?_) (fun h15 => ?_)
    · replace hf := hf.1 h15
      exact J22 _ _ _ _ hf (lv_sub hl [0, 1, 2, 3] rfl)
    · replace hf := hf.2 h15
      refine lv_iconst (v := 1) C.1 C.2.1 dX3_isForbidden_18 rfl ?_
      refine lv_goto (tgt := 23) C.1 C.2.1 dX3_isForbidden_19 (by decide) ?_
      exact J23 _ _ _ _ _ hf (lv_sub hl [0, 1, 2, 3] rfl)
theorem km_isForbidden {p : Program} {l : Launch} {e : Env} {R : Room} {s : State} {m : MethodId} {args : Array Value} {below : List Frame} {meth : Method} {c : Code} {H : Heap} {locs : List Loc} {Z : State → Prop} {cc : ByteArray} {nL pc : Nat} {ls : Array Slot} {rest : List Value} {D : va_G} {ct : Ct} {ad : Nat → Nat} {σ : St} {x1 : Int32} {x2 : Int32} {x3 : Int32} {Qp : Int32 → Prop} (C : CallFix p m c cc nL s args lw_all RX3) (hw : gH D ct shM ad s σ H locs) (hsz : ls.size = nL) (hrm : (rest.map fun v => v.category).sum ≤ 8) (hR : rm_m_isForbidden.frames + 1 ≤ R.frames ∧ 8 + (5 + 11) + rm_m_isForbidden.locals ≤ R.locals) (hdg : decode cc pc = .ok (.invokevirtual 409, 3)) (hf : m_isForbidden σ x1 x2 x3 Qp) (kk : ∀ (r : Int32), Qp r → W p l e R s m args below meth c H locs 0 0 Z (F0 m (pc + 3) ls (.int r :: rest))) : W p l e R s m args below meth c H locs 0 0 Z (F0 m pc ls (.int x3 :: .int x2 :: .int x1 :: .ref (ad 0) :: rest)) :=
  g_callVR (As := [.int x1, .int x2, .int x3]) (rest := rest) C hw rfl rfl (met_m_isForbidden l D ct ad hw.2.1 σ x1 x2 x3 Qp hf) (cwV 3 C.2.2.2.2 (lw_V q1899 q1901 qs153 q207 q1902) rfl rfl rfl (by decide +kernel) hR) rfl hsz rfl hrm ⟨Nat.zero_le _, Nat.zero_le _⟩ hdg kk
def m_isCapitalAt (σ : St) (x1 : Int32) (x2 : Int32) (Q : Int32 → Prop) : Prop :=
  (vp_in ((4 * x1) + x2) 48 ∧ (zB (fm_isCapital (gI σ 5 ((4 * x1) + x2))) ∧ Q (fm_isCapital (gI σ 5 ((4 * x1) + x2)))))
abbrev rm_m_isCapitalAt : Room := { frames := 1, cells := 0, slots := 0, locals := 20 }
set_option maxHeartbeats 4000000 in
theorem met_m_isCapitalAt (l : Launch) (D : va_G) (ct : Ct) (ad : Nat → Nat) (hJ : gJ shM ad ct) (σ : St) (x1 : Int32) (x2 : Int32) (Q : Int32 → Prop) (hf : m_isCapitalAt σ x1 x2 Q) : Met l yX3_isCapitalAt (ws_ yX3_isCapitalAt cX3_isCapitalAt 3 (some .boolean)) rm_m_isCapitalAt (va_Pc [.ref (ad 0), .int x1, .int x2] (gP D ct shM ad σ)) (gR rvI Q) 0 0 (fun _ => False) := by
  refine g_metRZ hJ (by decide) (Nat.le_of_ble_eq_true rfl) ?_
  intro p e s m args below meth c QQ ls H C hw hl hret
  replace hl : lv_has ls 3 [(0, .ref (ad 0)), (1, .int x1), (2, .int x2)] := hl
  unfold m_isCapitalAt at hf
  refine lv_aload_n C.1 C.2.1 dX3_isCapitalAt_0 rfl (lv_at hl 0 rfl) ?_
  refine mg_sym C hw dX3_isCapitalAt_1 ?_
  refine lv_iconst (v := 4) C.1 C.2.1 dX3_isCapitalAt_4 rfl ?_
  refine lv_iload_n C.1 C.2.1 dX3_isCapitalAt_5 rfl (lv_at hl 1 rfl) ?_
  refine lv_imul C.1 C.2.1 dX3_isCapitalAt_6 ?_
  refine lv_iload_n C.1 C.2.1 dX3_isCapitalAt_7 rfl (lv_at hl 2 rfl) ?_
  refine lv_iadd C.1 C.2.1 dX3_isCapitalAt_8 ?_
  obtain ⟨b9, hf⟩ := hf
  refine g_iald C hw 5 rfl b9 dX3_isCapitalAt_9 ?_
  refine km_isCapital C hl.1 (Nat.le_of_ble_eq_true rfl) ⟨Nat.le_of_ble_eq_true rfl, Nat.le_of_ble_eq_true rfl⟩ dX3_isCapitalAt_10 ?_
  obtain ⟨hz, hf⟩ := hf
  exact hret _ _ _ hf hz dX3_isCapitalAt_13
theorem km_isCapitalAt {p : Program} {l : Launch} {e : Env} {R : Room} {s : State} {m : MethodId} {args : Array Value} {below : List Frame} {meth : Method} {c : Code} {H : Heap} {locs : List Loc} {Z : State → Prop} {cc : ByteArray} {nL pc : Nat} {ls : Array Slot} {rest : List Value} {D : va_G} {ct : Ct} {ad : Nat → Nat} {σ : St} {x1 : Int32} {x2 : Int32} {Qp : Int32 → Prop} (C : CallFix p m c cc nL s args lw_all RX3) (hw : gH D ct shM ad s σ H locs) (hsz : ls.size = nL) (hrm : (rest.map fun v => v.category).sum ≤ 8) (hR : rm_m_isCapitalAt.frames + 1 ≤ R.frames ∧ 8 + (3 + 11) + rm_m_isCapitalAt.locals ≤ R.locals) (hdg : decode cc pc = .ok (.invokevirtual 413, 3)) (hf : m_isCapitalAt σ x1 x2 Qp) (kk : ∀ (r : Int32), Qp r → W p l e R s m args below meth c H locs 0 0 Z (F0 m (pc + 3) ls (.int r :: rest))) : W p l e R s m args below meth c H locs 0 0 Z (F0 m pc ls (.int x2 :: .int x1 :: .ref (ad 0) :: rest)) :=
  g_callVR (As := [.int x1, .int x2]) (rest := rest) C hw rfl rfl (met_m_isCapitalAt l D ct ad hw.2.1 σ x1 x2 Qp hf) (cwV 2 C.2.2.2.2 (lw_V q1887 q1889 qs150 q207 q1890) rfl rfl rfl (by decide +kernel) hR) rfl hsz rfl hrm ⟨Nat.zero_le _, Nat.zero_le _⟩ hdg kk
def m_isMadeOf_p33 (σ : St) (x1 : Int32) (x2 : Int32) (x3 : Int32) (Q : Int32 → Prop) (K33 : Int32 → Prop) (x4 : Int32) : Prop :=
  (((gI σ 2 0) ≤ x4 → Q 0) ∧ (¬ (gI σ 2 0) ≤ x4 → (vp_in x4 12 ∧ (((gI σ 3 x4) = x1 → (vp_in (fm_spot x4 x2 x3) 4056 ∧ (((gI σ 43 (fm_spot x4 x2 x3)) = 0 → K33 (x4 + 1)) ∧ (¬ (gI σ 43 (fm_spot x4 x2 x3)) = 0 → Q 1)))) ∧ (¬ (gI σ 3 x4) = x1 → K33 (x4 + 1))))))
def m_isMadeOf (σ : St) (x1 : Int32) (x2 : Int32) (x3 : Int32) (Q : Int32 → Prop) : Prop :=
  (((fm_isCapital x1) = 0 → ((x3 = (x2 + 1) → (vp_in x2 12 ∧ (((gI σ 8 x2) = x1 → Q 1) ∧ (¬ (gI σ 8 x2) = x1 → Q 0)))) ∧ (¬ x3 = (x2 + 1) → Q 0))) ∧ (¬ (fm_isCapital x1) = 0 → (Lp1 (m_isMadeOf_p33 σ x1 x2 x3 Q) 0)))
abbrev rm_m_isMadeOf : Room := { frames := 1, cells := 0, slots := 0, locals := 22 }
set_option maxHeartbeats 4000000 in
theorem met_m_isMadeOf (l : Launch) (D : va_G) (ct : Ct) (ad : Nat → Nat) (hJ : gJ shM ad ct) (σ : St) (x1 : Int32) (x2 : Int32) (x3 : Int32) (Q : Int32 → Prop) (hf : m_isMadeOf σ x1 x2 x3 Q) : Met l yX3_isMadeOf (ws_ yX3_isMadeOf cX3_isMadeOf 5 (some .boolean)) rm_m_isMadeOf (va_Pc [.ref (ad 0), .int x1, .int x2, .int x3] (gP D ct shM ad σ)) (gR rvI Q) 0 0 (fun _ => False) := by
  refine g_metRZ hJ (by decide) (Nat.le_of_ble_eq_true rfl) ?_
  intro p e s m args below meth c QQ ls H C hw hl hret
  replace hl : lv_has ls 5 [(0, .ref (ad 0)), (1, .int x1), (2, .int x2), (3, .int x3)] := hl
  have B33 : ∀ (x1 : Int32) (x2 : Int32) (x3 : Int32) (K33 : Int32 → Prop) (_ : ∀ (x4 : Int32) (ls : Array Slot), K33 x4 → lv_has ls 5 [(0, .ref (ad 0)), (1, .int x1), (2, .int x2), (3, .int x3), (4, .int x4)] → W p l e rm_m_isMadeOf s m args below meth c H [] 0 0 QQ (F0 m 33 ls [])) (x4 : Int32) (ls : Array Slot), m_isMadeOf_p33 σ x1 x2 x3 Q K33 x4 → lv_has ls 5 [(0, .ref (ad 0)), (1, .int x1), (2, .int x2), (3, .int x3), (4, .int x4)] → W p l e rm_m_isMadeOf s m args below meth c H [] 0 0 QQ (F0 m 33 ls []) := by
    intro x1 x2 x3 K33 hK33 x4 ls hf hl
    unfold m_isMadeOf_p33 at hf
    refine lv_iload C.1 C.2.1 dX3_isMadeOf_33 (lv_at hl 4 rfl) ?_
    refine lv_aload_n C.1 C.2.1 dX3_isMadeOf_35 rfl (lv_at hl 0 rfl) ?_
    refine mg_scalar C hw dX3_isMadeOf_36 ?_
    refine lv_iconst (v := 0) C.1 C.2.1 dX3_isMadeOf_39 rfl ?_
    refine g_iald C hw 2 rfl (vpD rfl) dX3_isMadeOf_40 ?_
    refine lv_icmp_ge (tgt := 78) C.1 C.2.1 dX3_isMadeOf_41 (by decide) (fun h41 => ?_) (fun h41 => ?_)
    · replace hf := hf.1 h41
      refine lv_iconst (v := 0) C.1 C.2.1 dX3_isMadeOf_78 rfl ?_
      exact hret _ _ _ hf (Or.inl rfl) dX3_isMadeOf_79
    · replace hf := hf.2 h41
      refine lv_aload_n C.1 C.2.1 dX3_isMadeOf_44 rfl (lv_at hl 0 rfl) ?_
      refine mg_left C hw dX3_isMadeOf_45 ?_
      refine lv_iload C.1 C.2.1 dX3_isMadeOf_48 (lv_at hl 4 rfl) ?_
      obtain ⟨b50, hf⟩ := hf
      refine g_iald C hw 3 rfl b50 dX3_isMadeOf_50 ?_
      refine lv_iload_n C.1 C.2.1 dX3_isMadeOf_51 rfl (lv_at hl 1 rfl) ?_
      refine lv_icmp_ne (tgt := 72) C.1 C.2.1 dX3_isMadeOf_52 (by decide) (fun h52 => ?_) (fun h52 => ?_)
      · replace hf := hf.2 h52
        refine lv_iinc (v := (x4 + 1)) (lv' := [(4, .int (x4 + 1)), (0, .ref (ad 0)), (1, .int x1), (2, .int x2), (3, .int x3)]) C.1 C.2.1 dX3_isMadeOf_72 hl (k := 4) rfl rfl (Nat.le_of_ble_eq_true rfl) rfl (fun ls hl => ?_)
        refine lv_goto (tgt := 33) C.1 C.2.1 dX3_isMadeOf_75 (by decide) ?_
        exact hK33 _ _ hf (lv_sub hl [1, 2, 3, 4, 0] rfl)
      · replace hf := hf.1 h52
        refine lv_aload_n C.1 C.2.1 dX3_isMadeOf_55 rfl (lv_at hl 0 rfl) ?_
        refine mg_made C hw dX3_isMadeOf_56 ?_
        refine lv_iload C.1 C.2.1 dX3_isMadeOf_59 (lv_at hl 4 rfl) ?_
        refine lv_iload_n C.1 C.2.1 dX3_isMadeOf_61 rfl (lv_at hl 2 rfl) ?_
        refine lv_iload_n C.1 C.2.1 dX3_isMadeOf_62 rfl (lv_at hl 3 rfl) ?_
        refine km_spot C hl.1 (Nat.le_of_ble_eq_true rfl) ⟨Nat.le_of_ble_eq_true rfl, Nat.le_of_ble_eq_true rfl⟩ dX3_isMadeOf_63 ?_
        obtain ⟨b66, hf⟩ := hf
        refine g_zald C hw 43 rfl b66 dX3_isMadeOf_66 ?_
        refine lv_if_eq (tgt := 72) C.1 C.2.1 dX3_isMadeOf_67 (by decide) (fun h67 => ?_) (fun h67 => ?_)
        · replace hf := hf.1 h67
          refine lv_iinc (v := (x4 + 1)) (lv' := [(4, .int (x4 + 1)), (0, .ref (ad 0)), (1, .int x1), (2, .int x2), (3, .int x3)]) C.1 C.2.1 dX3_isMadeOf_72 hl (k := 4) rfl rfl (Nat.le_of_ble_eq_true rfl) rfl (fun ls hl => ?_)
          refine lv_goto (tgt := 33) C.1 C.2.1 dX3_isMadeOf_75 (by decide) ?_
          exact hK33 _ _ hf (lv_sub hl [1, 2, 3, 4, 0] rfl)
        · replace hf := hf.2 h67
          refine lv_iconst (v := 1) C.1 C.2.1 dX3_isMadeOf_70 rfl ?_
          exact hret _ _ _ hf (Or.inr rfl) dX3_isMadeOf_71
  have P33 : ∀ (x1 : Int32) (x2 : Int32) (x3 : Int32) (n : Nat) (x4 : Int32) (ls : Array Slot), LL1 (m_isMadeOf_p33 σ x1 x2 x3 Q) n x4 → lv_has ls 5 [(0, .ref (ad 0)), (1, .int x1), (2, .int x2), (3, .int x3), (4, .int x4)] → W p l e rm_m_isMadeOf s m args below meth c H [] 0 0 QQ (F0 m 33 ls []) := by
    intro x1 x2 x3 n
    induction n with
    | zero => intro x4 ls hf; exact False.elim hf
    | succ n ih => intro x4 ls hf hl; exact B33 x1 x2 x3 (LL1 _ n) ih x4 ls hf hl
  unfold m_isMadeOf at hf
  refine lv_iload_n C.1 C.2.1 dX3_isMadeOf_0 rfl (lv_at hl 1 rfl) ?_
  refine km_isCapital C hl.1 (Nat.le_of_ble_eq_true rfl) ⟨Nat.le_of_ble_eq_true rfl, Nat.le_of_ble_eq_true rfl⟩ dX3_isMadeOf_1 ?_
  refine lv_if_ne (tgt := 30) C.1 C.2.1 dX3_isMadeOf_4 (by decide) (fun h4 => ?_) (fun h4 => ?_)
  · replace hf := hf.2 h4
    refine lv_iconst (v := 0) C.1 C.2.1 dX3_isMadeOf_30 rfl ?_
    refine lv_istore (lv' := [(4, .int 0), (0, .ref (ad 0)), (1, .int x1), (2, .int x2), (3, .int x3)]) C.1 C.2.1 dX3_isMadeOf_31 hl (Nat.le_of_ble_eq_true rfl) rfl (fun ls hl => ?_)
    obtain ⟨n, hf⟩ := hf
    exact P33 _ _ _ n _ _ hf (lv_sub hl [1, 2, 3, 4, 0] rfl)
  · replace hf := hf.1 h4
    refine lv_iload_n C.1 C.2.1 dX3_isMadeOf_7 rfl (lv_at hl 3 rfl) ?_
    refine lv_iload_n C.1 C.2.1 dX3_isMadeOf_8 rfl (lv_at hl 2 rfl) ?_
    refine lv_iconst (v := 1) C.1 C.2.1 dX3_isMadeOf_9 rfl ?_
    refine lv_iadd C.1 C.2.1 dX3_isMadeOf_10 ?_
    refine lv_icmp_ne (tgt := 28) C.1 C.2.1 dX3_isMadeOf_11 (by decide) (fun h11 => ?_) (fun h11 => ?_)
    · replace hf := hf.2 h11
      refine lv_iconst (v := 0) C.1 C.2.1 dX3_isMadeOf_28 rfl ?_
      exact hret _ _ _ hf (Or.inl rfl) dX3_isMadeOf_29
    · replace hf := hf.1 h11
      refine lv_aload_n C.1 C.2.1 dX3_isMadeOf_14 rfl (lv_at hl 0 rfl) ?_
      refine mg_text C hw dX3_isMadeOf_15 ?_
      refine lv_iload_n C.1 C.2.1 dX3_isMadeOf_18 rfl (lv_at hl 2 rfl) ?_
      obtain ⟨b19, hf⟩ := hf
      refine g_iald C hw 8 rfl b19 dX3_isMadeOf_19 ?_
      refine lv_iload_n C.1 C.2.1 dX3_isMadeOf_20 rfl (lv_at hl 1 rfl) ?_
      refine lv_icmp_ne (tgt := 28) C.1 C.2.1 dX3_isMadeOf_21 (by decide) (fun h21 => ?_) (fun h21 => ?_)
      · replace hf := hf.2 h21
        refine lv_iconst (v := 0) C.1 C.2.1 dX3_isMadeOf_28 rfl ?_
        exact hret _ _ _ hf (Or.inl rfl) dX3_isMadeOf_29
      · replace hf := hf.1 h21
        refine lv_iconst (v := 1) C.1 C.2.1 dX3_isMadeOf_24 rfl ?_
        refine lv_goto (tgt := 29) C.1 C.2.1 dX3_isMadeOf_25 (by decide) ?_
        exact hret _ _ _ hf (Or.inr rfl) dX3_isMadeOf_29
theorem km_isMadeOf {p : Program} {l : Launch} {e : Env} {R : Room} {s : State} {m : MethodId} {args : Array Value} {below : List Frame} {meth : Method} {c : Code} {H : Heap} {locs : List Loc} {Z : State → Prop} {cc : ByteArray} {nL pc : Nat} {ls : Array Slot} {rest : List Value} {D : va_G} {ct : Ct} {ad : Nat → Nat} {σ : St} {x1 : Int32} {x2 : Int32} {x3 : Int32} {Qp : Int32 → Prop} (C : CallFix p m c cc nL s args lw_all RX3) (hw : gH D ct shM ad s σ H locs) (hsz : ls.size = nL) (hrm : (rest.map fun v => v.category).sum ≤ 8) (hR : rm_m_isMadeOf.frames + 1 ≤ R.frames ∧ 8 + (5 + 11) + rm_m_isMadeOf.locals ≤ R.locals) (hdg : decode cc pc = .ok (.invokevirtual 446, 3)) (hf : m_isMadeOf σ x1 x2 x3 Qp) (kk : ∀ (r : Int32), Qp r → W p l e R s m args below meth c H locs 0 0 Z (F0 m (pc + 3) ls (.int r :: rest))) : W p l e R s m args below meth c H locs 0 0 Z (F0 m pc ls (.int x3 :: .int x2 :: .int x1 :: .ref (ad 0) :: rest)) :=
  g_callVR (As := [.int x1, .int x2, .int x3]) (rest := rest) C hw rfl rfl (met_m_isMadeOf l D ct ad hw.2.1 σ x1 x2 x3 Qp hf) (cwV 3 C.2.2.2.2 (lw_V q1907 q1909 qs155 q207 q1910) rfl rfl rfl (by decide +kernel) hR) rfl hsz rfl hrm ⟨Nat.zero_le _, Nat.zero_le _⟩ hdg kk
def m_isLevel (σ : St) (x1 : Int32) (Q : Int32 → Prop) : Prop :=
  (((fm_isGrammar σ) = 0 → Q 0) ∧ (¬ (fm_isGrammar σ) = 0 → (((fm_in (Int32.toInt64 x1) 0 (Int32.toInt64 (gI σ 2 2))) = 0 → Q 0) ∧ (¬ (fm_in (Int32.toInt64 x1) 0 (Int32.toInt64 (gI σ 2 2))) = 0 → Q 1))))
abbrev rm_m_isLevel : Room := { frames := 1, cells := 0, slots := 0, locals := 25 }
set_option maxHeartbeats 4000000 in
theorem met_m_isLevel (l : Launch) (D : va_G) (ct : Ct) (ad : Nat → Nat) (hJ : gJ shM ad ct) (σ : St) (x1 : Int32) (Q : Int32 → Prop) (hf : m_isLevel σ x1 Q) : Met l yX3_isLevel (ws_ yX3_isLevel cX3_isLevel 2 (some .boolean)) rm_m_isLevel (va_Pc [.ref (ad 0), .int x1] (gP D ct shM ad σ)) (gR rvI Q) 0 0 (fun _ => False) := by
  refine g_metRZ hJ (by decide) (Nat.le_of_ble_eq_true rfl) ?_
  intro p e s m args below meth c QQ ls H C hw hl hret
  replace hl : lv_has ls 2 [(0, .ref (ad 0)), (1, .int x1)] := hl
  unfold m_isLevel at hf
  refine lv_aload_n C.1 C.2.1 dX3_isLevel_0 rfl (lv_at hl 0 rfl) ?_
  refine km_isGrammar C hw hl.1 (Nat.le_of_ble_eq_true rfl) ⟨Nat.le_of_ble_eq_true rfl, Nat.le_of_ble_eq_true rfl⟩ dX3_isLevel_1 ?_
  refine lv_if_eq (tgt := 27) C.1 C.2.1 dX3_isLevel_4 (by decide) (fun h4 => ?_) (fun h4 => ?_)
  · replace hf := hf.1 h4
    refine lv_iconst (v := 0) C.1 C.2.1 dX3_isLevel_27 rfl ?_
    exact hret _ _ _ hf (Or.inl rfl) dX3_isLevel_28
  · replace hf := hf.2 h4
    refine lv_iload_n C.1 C.2.1 dX3_isLevel_7 rfl (lv_at hl 1 rfl) ?_
    refine lv_i2l C.1 C.2.1 dX3_isLevel_8 rfl ?_
    refine lv_lconst (v := 0) C.1 C.2.1 dX3_isLevel_9 rfl ?_
    refine lv_aload_n C.1 C.2.1 dX3_isLevel_10 rfl (lv_at hl 0 rfl) ?_
    refine mg_scalar C hw dX3_isLevel_11 ?_
    refine lv_iconst (v := 2) C.1 C.2.1 dX3_isLevel_14 rfl ?_
    refine g_iald C hw 2 rfl (vpD rfl) dX3_isLevel_15 ?_
    refine lv_i2l C.1 C.2.1 dX3_isLevel_16 rfl ?_
    refine km_in C hl.1 (Nat.le_of_ble_eq_true rfl) ⟨Nat.le_of_ble_eq_true rfl, Nat.le_of_ble_eq_true rfl⟩ dX3_isLevel_17 ?_
    refine lv_if_eq (tgt := 27) C.1 C.2.1 dX3_isLevel_20 (by decide) (fun h20 => ?_) (fun h20 => ?_)
    · replace hf := hf.1 h20
      refine lv_iconst (v := 0) C.1 C.2.1 dX3_isLevel_27 rfl ?_
      exact hret _ _ _ hf (Or.inl rfl) dX3_isLevel_28
    · replace hf := hf.2 h20
      refine lv_iconst (v := 1) C.1 C.2.1 dX3_isLevel_23 rfl ?_
      refine lv_goto (tgt := 28) C.1 C.2.1 dX3_isLevel_24 (by decide) ?_
      exact hret _ _ _ hf (Or.inr rfl) dX3_isLevel_28
def fm_isLevel (σ : St) (x1 : Int32) : Int32 :=
  (if (fm_isGrammar σ) = 0 then 0 else (if (fm_in (Int32.toInt64 x1) 0 (Int32.toInt64 (gI σ 2 2))) = 0 then 0 else 1))
theorem fm_isLevel_z {σ : St} {x1 : Int32} : zB (fm_isLevel σ x1) := by
  unfold fm_isLevel
  repeat' split
  all_goals first | exact Or.inl rfl | exact Or.inr rfl | exact fm_isGrammar_z | exact fm_in_z
theorem m_isLevel_f {Q : Int32 → Prop} {σ : St} {x1 : Int32} (h : Q (fm_isLevel σ x1)) : m_isLevel σ x1 Q := by
  unfold fm_isLevel at h
  unfold m_isLevel
  refine ⟨fun c => ?_, fun c => ?_⟩
  · rw [if_pos c] at h
    exact h
  · rw [if_neg c] at h
    refine ⟨fun c => ?_, fun c => ?_⟩
    · rw [if_pos c] at h
      exact h
    · rw [if_neg c] at h
      exact h
theorem km_isLevel {p : Program} {l : Launch} {e : Env} {R : Room} {s : State} {m : MethodId} {args : Array Value} {below : List Frame} {meth : Method} {c : Code} {H : Heap} {locs : List Loc} {Z : State → Prop} {cc : ByteArray} {nL pc : Nat} {ls : Array Slot} {rest : List Value} {D : va_G} {ct : Ct} {ad : Nat → Nat} {σ : St} {x1 : Int32} (C : CallFix p m c cc nL s args lw_all RX3) (hw : gH D ct shM ad s σ H locs) (hsz : ls.size = nL) (hrm : (rest.map fun v => v.category).sum ≤ 8) (hR : rm_m_isLevel.frames + 1 ≤ R.frames ∧ 8 + (2 + 11) + rm_m_isLevel.locals ≤ R.locals) (hdg : decode cc pc = .ok (.invokevirtual 455, 3)) (kk : W p l e R s m args below meth c H locs 0 0 Z (F0 m (pc + 3) ls (.int (fm_isLevel σ x1) :: rest))) : W p l e R s m args below meth c H locs 0 0 Z (F0 m pc ls (.int x1 :: .ref (ad 0) :: rest)) :=
  g_callVRf (As := [.int x1]) (rest := rest) C hw rfl rfl (met_m_isLevel l D ct ad hw.2.1 σ x1 (fun r => r = fm_isLevel σ x1) (m_isLevel_f rfl)) (cwV 1 C.2.2.2.2 (lw_V q1919 q1921 qs156 q207 q1922) rfl rfl rfl (by decide +kernel) hR) rfl hsz rfl hrm ⟨Nat.zero_le _, Nat.zero_le _⟩ hdg kk
def m_leastRule_p4 (σ : St) (Q : Int32 → Prop) (K4 : Int32 → Int32 → Prop) (x1 : Int32) (x2 : Int32) : Prop :=
  (((gI σ 2 0) ≤ x2 → Q x1) ∧ (¬ (gI σ 2 0) ≤ x2 → (vp_in x2 12 ∧ (((gI σ 3 x2) = (gI σ 2 1) → (vp_in (fm_spot x2 0 (gI σ 2 2)) 2028 ∧ ((2000000000 ≤ (gI σ 59 (fm_spot x2 0 (gI σ 2 2))) → K4 x1 (x2 + 1)) ∧ (¬ 2000000000 ≤ (gI σ 59 (fm_spot x2 0 (gI σ 2 2))) → ((x1 = (-1) → K4 x2 (x2 + 1)) ∧ (¬ x1 = (-1) → (vp_in (fm_spot x1 0 (gI σ 2 2)) 2028 ∧ (((gI σ 59 (fm_spot x1 0 (gI σ 2 2))) ≤ (gI σ 59 (fm_spot x2 0 (gI σ 2 2))) → K4 x1 (x2 + 1)) ∧ (¬ (gI σ 59 (fm_spot x1 0 (gI σ 2 2))) ≤ (gI σ 59 (fm_spot x2 0 (gI σ 2 2))) → K4 x2 (x2 + 1)))))))))) ∧ (¬ (gI σ 3 x2) = (gI σ 2 1) → K4 x1 (x2 + 1))))))
def m_leastRule (σ : St) (Q : Int32 → Prop) : Prop :=
  (Lp2 (m_leastRule_p4 σ Q) (-1) 0)
abbrev rm_m_leastRule : Room := { frames := 1, cells := 0, slots := 0, locals := 22 }
set_option maxHeartbeats 4000000 in
theorem met_m_leastRule (l : Launch) (D : va_G) (ct : Ct) (ad : Nat → Nat) (hJ : gJ shM ad ct) (σ : St) (Q : Int32 → Prop) (hf : m_leastRule σ Q) : Met l yX3_leastRule (ws_ yX3_leastRule cX3_leastRule 4 (some .int)) rm_m_leastRule (va_Pc [.ref (ad 0)] (gP D ct shM ad σ)) (gR rvI Q) 0 0 (fun _ => False) := by
  refine g_metRI hJ (by decide) (Nat.le_of_ble_eq_true rfl) ?_
  intro p e s m args below meth c QQ ls H C hw hl hret
  replace hl : lv_has ls 4 [(0, .ref (ad 0))] := hl
  have B4 : ∀ (K4 : Int32 → Int32 → Prop) (_ : ∀ (x1 : Int32) (x2 : Int32) (ls : Array Slot), K4 x1 x2 → lv_has ls 4 [(0, .ref (ad 0)), (1, .int x1), (2, .int x2)] → W p l e rm_m_leastRule s m args below meth c H [] 0 0 QQ (F0 m 4 ls [])) (x1 : Int32) (x2 : Int32) (ls : Array Slot), m_leastRule_p4 σ Q K4 x1 x2 → lv_has ls 4 [(0, .ref (ad 0)), (1, .int x1), (2, .int x2)] → W p l e rm_m_leastRule s m args below meth c H [] 0 0 QQ (F0 m 4 ls []) := by
    intro K4 hK4 x1 x2 ls hf hl
    unfold m_leastRule_p4 at hf
    refine lv_iload_n C.1 C.2.1 dX3_leastRule_4 rfl (lv_at hl 2 rfl) ?_
    refine lv_aload_n C.1 C.2.1 dX3_leastRule_5 rfl (lv_at hl 0 rfl) ?_
    refine mg_scalar C hw dX3_leastRule_6 ?_
    refine lv_iconst (v := 0) C.1 C.2.1 dX3_leastRule_9 rfl ?_
    refine g_iald C hw 2 rfl (vpD rfl) dX3_leastRule_10 ?_
    refine lv_icmp_ge (tgt := 95) C.1 C.2.1 dX3_leastRule_11 (by decide) (fun h11 => ?_) (fun h11 => ?_)
    · replace hf := hf.1 h11
      refine lv_iload_n C.1 C.2.1 dX3_leastRule_95 rfl (lv_at hl 1 rfl) ?_
      exact hret _ _ _ hf dX3_leastRule_96
    · replace hf := hf.2 h11
      refine lv_iload_n C.1 C.2.1 dX3_leastRule_14 rfl (lv_at hl 2 rfl) ?_
      refine lv_iconst (v := 0) C.1 C.2.1 dX3_leastRule_15 rfl ?_
      refine lv_aload_n C.1 C.2.1 dX3_leastRule_16 rfl (lv_at hl 0 rfl) ?_
      refine mg_scalar C hw dX3_leastRule_17 ?_
      refine lv_iconst (v := 2) C.1 C.2.1 dX3_leastRule_20 rfl ?_
      refine g_iald C hw 2 rfl (vpD rfl) dX3_leastRule_21 ?_
      refine km_spot C hl.1 (Nat.le_of_ble_eq_true rfl) ⟨Nat.le_of_ble_eq_true rfl, Nat.le_of_ble_eq_true rfl⟩ dX3_leastRule_22 ?_
      refine lv_istore_n (lv' := [(3, .int (fm_spot x2 0 (gI σ 2 2))), (0, .ref (ad 0)), (1, .int x1), (2, .int x2)]) C.1 C.2.1 dX3_leastRule_25 rfl hl (Nat.le_of_ble_eq_true rfl) rfl (fun ls hl => ?_)
      refine lv_aload_n C.1 C.2.1 dX3_leastRule_26 rfl (lv_at hl 1 rfl) ?_
      refine mg_left C hw dX3_leastRule_27 ?_
      refine lv_iload_n C.1 C.2.1 dX3_leastRule_30 rfl (lv_at hl 3 rfl) ?_
      obtain ⟨b31, hf⟩ := hf
      refine g_iald C hw 3 rfl b31 dX3_leastRule_31 ?_
      refine lv_aload_n C.1 C.2.1 dX3_leastRule_32 rfl (lv_at hl 1 rfl) ?_
      refine mg_scalar C hw dX3_leastRule_33 ?_
      refine lv_iconst (v := 1) C.1 C.2.1 dX3_leastRule_36 rfl ?_
      refine g_iald C hw 2 rfl (vpD rfl) dX3_leastRule_37 ?_
      refine lv_icmp_ne (tgt := 89) C.1 C.2.1 dX3_leastRule_38 (by decide) (fun h38 => ?_) (fun h38 => ?_)
      · replace hf := hf.2 h38
        refine lv_iinc (v := (x2 + 1)) (lv' := [(2, .int (x2 + 1)), (3, .int (fm_spot x2 0 (gI σ 2 2))), (0, .ref (ad 0)), (1, .int x1)]) C.1 C.2.1 dX3_leastRule_89 hl (k := 3) rfl rfl (Nat.le_of_ble_eq_true rfl) rfl (fun ls hl => ?_)
        refine lv_goto (tgt := 4) C.1 C.2.1 dX3_leastRule_92 (by decide) ?_
        exact hK4 _ _ _ hf (lv_sub hl [2, 3, 0] rfl)
      · replace hf := hf.1 h38
        refine lv_aload_n C.1 C.2.1 dX3_leastRule_41 rfl (lv_at hl 1 rfl) ?_
        refine mg_sizeOf C hw dX3_leastRule_42 ?_
        refine lv_iload_n C.1 C.2.1 dX3_leastRule_45 rfl (lv_at hl 0 rfl) ?_
        obtain ⟨b46, hf⟩ := hf
        refine g_iald C hw 59 rfl b46 dX3_leastRule_46 ?_
        refine lv_ldcw C.1 C.2.1 C.2.2.2.1 (C.2.2.2.2 _ q1760) dX3_leastRule_47 ?_
        refine lv_icmp_ge (tgt := 89) C.1 C.2.1 dX3_leastRule_50 (by decide) (fun h50 => ?_) (fun h50 => ?_)
        · replace hf := hf.1 h50
          refine lv_iinc (v := (x2 + 1)) (lv' := [(2, .int (x2 + 1)), (3, .int (fm_spot x2 0 (gI σ 2 2))), (0, .ref (ad 0)), (1, .int x1)]) C.1 C.2.1 dX3_leastRule_89 hl (k := 3) rfl rfl (Nat.le_of_ble_eq_true rfl) rfl (fun ls hl => ?_)
          refine lv_goto (tgt := 4) C.1 C.2.1 dX3_leastRule_92 (by decide) ?_
          exact hK4 _ _ _ hf (lv_sub hl [2, 3, 0] rfl)
        · replace hf := hf.2 h50
          refine lv_iload_n C.1 C.2.1 dX3_leastRule_53 rfl (lv_at hl 2 rfl) ?_
          refine lv_iconst (v := (-1)) C.1 C.2.1 dX3_leastRule_54 rfl ?_
          refine lv_icmp_eq (tgt := 83) C.1 C.2.1 dX3_leastRule_55 (by decide) (fun h55 => ?_) (fun h55 => ?_)
          · replace hf := hf.1 h55
            refine lv_iload_n C.1 C.2.1 dX3_leastRule_83 rfl (lv_at hl 3 rfl) ?_
            refine lv_goto (tgt := 88) C.1 C.2.1 dX3_leastRule_84 (by decide) ?_
            refine lv_istore_n (lv' := [(1, .int x2), (3, .int (fm_spot x2 0 (gI σ 2 2))), (0, .ref (ad 0)), (2, .int x2)]) C.1 C.2.1 dX3_leastRule_88 rfl hl (Nat.le_of_ble_eq_true rfl) rfl (fun ls hl => ?_)
            refine lv_iinc (v := (x2 + 1)) (lv' := [(2, .int (x2 + 1)), (1, .int x2), (3, .int (fm_spot x2 0 (gI σ 2 2))), (0, .ref (ad 0))]) C.1 C.2.1 dX3_leastRule_89 hl (k := 3) rfl rfl (Nat.le_of_ble_eq_true rfl) rfl (fun ls hl => ?_)
            refine lv_goto (tgt := 4) C.1 C.2.1 dX3_leastRule_92 (by decide) ?_
            exact hK4 _ _ _ hf (lv_sub hl [3, 1, 0] rfl)
          · replace hf := hf.2 h55
            refine lv_aload_n C.1 C.2.1 dX3_leastRule_58 rfl (lv_at hl 1 rfl) ?_
            refine mg_sizeOf C hw dX3_leastRule_59 ?_
            refine lv_iload_n C.1 C.2.1 dX3_leastRule_62 rfl (lv_at hl 0 rfl) ?_
            refine g_iald C hw 59 rfl b46 dX3_leastRule_63 ?_
            refine lv_aload_n C.1 C.2.1 dX3_leastRule_64 rfl (lv_at hl 1 rfl) ?_
            refine mg_sizeOf C hw dX3_leastRule_65 ?_
            refine lv_iload_n C.1 C.2.1 dX3_leastRule_68 rfl (lv_at hl 2 rfl) ?_
            refine lv_iconst (v := 0) C.1 C.2.1 dX3_leastRule_69 rfl ?_
            refine lv_aload_n C.1 C.2.1 dX3_leastRule_70 rfl (lv_at hl 1 rfl) ?_
            refine mg_scalar C hw dX3_leastRule_71 ?_
            refine lv_iconst (v := 2) C.1 C.2.1 dX3_leastRule_74 rfl ?_
            refine g_iald C hw 2 rfl (vpD rfl) dX3_leastRule_75 ?_
            refine km_spot C hl.1 (Nat.le_of_ble_eq_true rfl) ⟨Nat.le_of_ble_eq_true rfl, Nat.le_of_ble_eq_true rfl⟩ dX3_leastRule_76 ?_
            obtain ⟨b79, hf⟩ := hf
            refine g_iald C hw 59 rfl b79 dX3_leastRule_79 ?_
            refine lv_icmp_ge (tgt := 87) C.1 C.2.1 dX3_leastRule_80 (by decide) (fun h80 => ?_) (fun h80 => ?_)
            · replace hf := hf.1 h80
              refine lv_iload_n C.1 C.2.1 dX3_leastRule_87 rfl (lv_at hl 2 rfl) ?_
              refine lv_istore_n (lv' := [(1, .int x1), (3, .int (fm_spot x2 0 (gI σ 2 2))), (0, .ref (ad 0)), (2, .int x2)]) C.1 C.2.1 dX3_leastRule_88 rfl hl (Nat.le_of_ble_eq_true rfl) rfl (fun ls hl => ?_)
              refine lv_iinc (v := (x2 + 1)) (lv' := [(2, .int (x2 + 1)), (1, .int x1), (3, .int (fm_spot x2 0 (gI σ 2 2))), (0, .ref (ad 0))]) C.1 C.2.1 dX3_leastRule_89 hl (k := 3) rfl rfl (Nat.le_of_ble_eq_true rfl) rfl (fun ls hl => ?_)
              refine lv_goto (tgt := 4) C.1 C.2.1 dX3_leastRule_92 (by decide) ?_
              exact hK4 _ _ _ hf (lv_sub hl [3, 1, 0] rfl)
            · replace hf := hf.2 h80
              refine lv_iload_n C.1 C.2.1 dX3_leastRule_83 rfl (lv_at hl 3 rfl) ?_
              refine lv_goto (tgt := 88) C.1 C.2.1 dX3_leastRule_84 (by decide) ?_
              refine lv_istore_n (lv' := [(1, .int x2), (3, .int (fm_spot x2 0 (gI σ 2 2))), (0, .ref (ad 0)), (2, .int x2)]) C.1 C.2.1 dX3_leastRule_88 rfl hl (Nat.le_of_ble_eq_true rfl) rfl (fun ls hl => ?_)
              refine lv_iinc (v := (x2 + 1)) (lv' := [(2, .int (x2 + 1)), (1, .int x2), (3, .int (fm_spot x2 0 (gI σ 2 2))), (0, .ref (ad 0))]) C.1 C.2.1 dX3_leastRule_89 hl (k := 3) rfl rfl (Nat.le_of_ble_eq_true rfl) rfl (fun ls hl => ?_)
              refine lv_goto (tgt := 4) C.1 C.2.1 dX3_leastRule_92 (by decide) ?_
              exact hK4 _ _ _ hf (lv_sub hl [3, 1, 0] rfl)
  have P4 : ∀ (n : Nat) (x1 : Int32) (x2 : Int32) (ls : Array Slot), LL2 (m_leastRule_p4 σ Q) n x1 x2 → lv_has ls 4 [(0, .ref (ad 0)), (1, .int x1), (2, .int x2)] → W p l e rm_m_leastRule s m args below meth c H [] 0 0 QQ (F0 m 4 ls []) := by
    intro  n
    induction n with
    | zero => intro x1 x2 ls hf; exact False.elim hf
    | succ n ih => intro x1 x2 ls hf hl; exact B4  (LL2 _ n) ih x1 x2 ls hf hl
  unfold m_leastRule at hf
  refine lv_iconst (v := (-1)) C.1 C.2.1 dX3_leastRule_0 rfl ?_
  refine lv_istore_n (lv' := [(1, .int (-1)), (0, .ref (ad 0))]) C.1 C.2.1 dX3_leastRule_1 rfl hl (Nat.le_of_ble_eq_true rfl) rfl (fun ls hl => ?_)
  refine lv_iconst (v := 0) C.1 C.2.1 dX3_leastRule_2 rfl ?_
  refine lv_istore_n (lv' := [(2, .int 0), (1, .int (-1)), (0, .ref (ad 0))]) C.1 C.2.1 dX3_leastRule_3 rfl hl (Nat.le_of_ble_eq_true rfl) rfl (fun ls hl => ?_)
  obtain ⟨n, hf⟩ := hf
  exact P4  n _ _ _ hf (lv_sub hl [2, 1, 0] rfl)
theorem km_leastRule {p : Program} {l : Launch} {e : Env} {R : Room} {s : State} {m : MethodId} {args : Array Value} {below : List Frame} {meth : Method} {c : Code} {H : Heap} {locs : List Loc} {Z : State → Prop} {cc : ByteArray} {nL pc : Nat} {ls : Array Slot} {rest : List Value} {D : va_G} {ct : Ct} {ad : Nat → Nat} {σ : St} {Qp : Int32 → Prop} (C : CallFix p m c cc nL s args lw_all RX3) (hw : gH D ct shM ad s σ H locs) (hsz : ls.size = nL) (hrm : (rest.map fun v => v.category).sum ≤ 8) (hR : rm_m_leastRule.frames + 1 ≤ R.frames ∧ 8 + (4 + 11) + rm_m_leastRule.locals ≤ R.locals) (hdg : decode cc pc = .ok (.invokevirtual 556, 3)) (hf : m_leastRule σ Qp) (kk : ∀ (r : Int32), Qp r → W p l e R s m args below meth c H locs 0 0 Z (F0 m (pc + 3) ls (.int r :: rest))) : W p l e R s m args below meth c H locs 0 0 Z (F0 m pc ls (.ref (ad 0) :: rest)) :=
  g_callVR (As := []) (rest := rest) C hw rfl rfl (met_m_leastRule l D ct ad hw.2.1 σ Qp hf) (cwV 0 C.2.2.2.2 (lw_V q2065 q2067 qs185 q207 q2068) rfl rfl rfl (by decide +kernel) hR) rfl hsz rfl hrm ⟨Nat.zero_le _, Nat.zero_le _⟩ hdg kk
def m_capitalAt_p2 (σ : St) (Q : Int32 → Prop) (K2 : Int32 → Prop) (x1 : Int32) : Prop :=
  (((σ.1 68) ≤ x1 → Q (-1)) ∧ (¬ (σ.1 68) ≤ x1 → (vp_in x1 28 ∧ (((fm_isCapital (gI σ 67 x1)) = 0 → K2 (x1 + 1)) ∧ (¬ (fm_isCapital (gI σ 67 x1)) = 0 → Q x1)))))
def m_capitalAt (σ : St) (Q : Int32 → Prop) : Prop :=
  (Lp1 (m_capitalAt_p2 σ Q) 0)
abbrev rm_m_capitalAt : Room := { frames := 1, cells := 0, slots := 0, locals := 20 }
set_option maxHeartbeats 4000000 in
theorem met_m_capitalAt (l : Launch) (D : va_G) (ct : Ct) (ad : Nat → Nat) (hJ : gJ shM ad ct) (σ : St) (Q : Int32 → Prop) (hf : m_capitalAt σ Q) : Met l yX3_capitalAt (ws_ yX3_capitalAt cX3_capitalAt 2 (some .int)) rm_m_capitalAt (va_Pc [.ref (ad 0)] (gP D ct shM ad σ)) (gR rvI Q) 0 0 (fun _ => False) := by
  refine g_metRI hJ (by decide) (Nat.le_of_ble_eq_true rfl) ?_
  intro p e s m args below meth c QQ ls H C hw hl hret
  replace hl : lv_has ls 2 [(0, .ref (ad 0))] := hl
  have B2 : ∀ (K2 : Int32 → Prop) (_ : ∀ (x1 : Int32) (ls : Array Slot), K2 x1 → lv_has ls 2 [(0, .ref (ad 0)), (1, .int x1)] → W p l e rm_m_capitalAt s m args below meth c H [] 0 0 QQ (F0 m 2 ls [])) (x1 : Int32) (ls : Array Slot), m_capitalAt_p2 σ Q K2 x1 → lv_has ls 2 [(0, .ref (ad 0)), (1, .int x1)] → W p l e rm_m_capitalAt s m args below meth c H [] 0 0 QQ (F0 m 2 ls []) := by
    intro K2 hK2 x1 ls hf hl
    unfold m_capitalAt_p2 at hf
    refine lv_iload_n C.1 C.2.1 dX3_capitalAt_2 rfl (lv_at hl 1 rfl) ?_
    refine lv_aload_n C.1 C.2.1 dX3_capitalAt_3 rfl (lv_at hl 0 rfl) ?_
    refine mg_rowMany C hw dX3_capitalAt_4 ?_
    refine lv_icmp_ge (tgt := 30) C.1 C.2.1 dX3_capitalAt_7 (by decide) (fun h7 => ?_) (fun h7 => ?_)
    · replace hf := hf.1 h7
      refine lv_iconst (v := (-1)) C.1 C.2.1 dX3_capitalAt_30 rfl ?_
      exact hret _ _ _ hf dX3_capitalAt_31
    · replace hf := hf.2 h7
      refine lv_aload_n C.1 C.2.1 dX3_capitalAt_10 rfl (lv_at hl 0 rfl) ?_
      refine mg_row C hw dX3_capitalAt_11 ?_
      refine lv_iload_n C.1 C.2.1 dX3_capitalAt_14 rfl (lv_at hl 1 rfl) ?_
      obtain ⟨b15, hf⟩ := hf
      refine g_iald C hw 67 rfl b15 dX3_capitalAt_15 ?_
      refine km_isCapital C hl.1 (Nat.le_of_ble_eq_true rfl) ⟨Nat.le_of_ble_eq_true rfl, Nat.le_of_ble_eq_true rfl⟩ dX3_capitalAt_16 ?_
      refine lv_if_eq (tgt := 24) C.1 C.2.1 dX3_capitalAt_19 (by decide) (fun h19 => ?_) (fun h19 => ?_)
      · replace hf := hf.1 h19
        refine lv_iinc (v := (x1 + 1)) (lv' := [(1, .int (x1 + 1)), (0, .ref (ad 0))]) C.1 C.2.1 dX3_capitalAt_24 hl (k := 1) rfl rfl (Nat.le_of_ble_eq_true rfl) rfl (fun ls hl => ?_)
        refine lv_goto (tgt := 2) C.1 C.2.1 dX3_capitalAt_27 (by decide) ?_
        exact hK2 _ _ hf (lv_sub hl [1, 0] rfl)
      · replace hf := hf.2 h19
        refine lv_iload_n C.1 C.2.1 dX3_capitalAt_22 rfl (lv_at hl 1 rfl) ?_
        exact hret _ _ _ hf dX3_capitalAt_23
  have P2 : ∀ (n : Nat) (x1 : Int32) (ls : Array Slot), LL1 (m_capitalAt_p2 σ Q) n x1 → lv_has ls 2 [(0, .ref (ad 0)), (1, .int x1)] → W p l e rm_m_capitalAt s m args below meth c H [] 0 0 QQ (F0 m 2 ls []) := by
    intro  n
    induction n with
    | zero => intro x1 ls hf; exact False.elim hf
    | succ n ih => intro x1 ls hf hl; exact B2  (LL1 _ n) ih x1 ls hf hl
  unfold m_capitalAt at hf
  refine lv_iconst (v := 0) C.1 C.2.1 dX3_capitalAt_0 rfl ?_
  refine lv_istore_n (lv' := [(1, .int 0), (0, .ref (ad 0))]) C.1 C.2.1 dX3_capitalAt_1 rfl hl (Nat.le_of_ble_eq_true rfl) rfl (fun ls hl => ?_)
  obtain ⟨n, hf⟩ := hf
  exact P2  n _ _ hf (lv_sub hl [1, 0] rfl)
theorem km_capitalAt {p : Program} {l : Launch} {e : Env} {R : Room} {s : State} {m : MethodId} {args : Array Value} {below : List Frame} {meth : Method} {c : Code} {H : Heap} {locs : List Loc} {Z : State → Prop} {cc : ByteArray} {nL pc : Nat} {ls : Array Slot} {rest : List Value} {D : va_G} {ct : Ct} {ad : Nat → Nat} {σ : St} {Qp : Int32 → Prop} (C : CallFix p m c cc nL s args lw_all RX3) (hw : gH D ct shM ad s σ H locs) (hsz : ls.size = nL) (hrm : (rest.map fun v => v.category).sum ≤ 8) (hR : rm_m_capitalAt.frames + 1 ≤ R.frames ∧ 8 + (2 + 11) + rm_m_capitalAt.locals ≤ R.locals) (hdg : decode cc pc = .ok (.invokevirtual 597, 3)) (hf : m_capitalAt σ Qp) (kk : ∀ (r : Int32), Qp r → W p l e R s m args below meth c H locs 0 0 Z (F0 m (pc + 3) ls (.int r :: rest))) : W p l e R s m args below meth c H locs 0 0 Z (F0 m pc ls (.ref (ad 0) :: rest)) :=
  g_callVR (As := []) (rest := rest) C hw rfl rfl (met_m_capitalAt l D ct ad hw.2.1 σ Qp hf) (cwV 0 C.2.2.2.2 (lw_V q2113 q2115 qs192 q207 q2116) rfl rfl rfl (by decide +kernel) hR) rfl hsz rfl hrm ⟨Nat.zero_le _, Nat.zero_le _⟩ hdg kk
