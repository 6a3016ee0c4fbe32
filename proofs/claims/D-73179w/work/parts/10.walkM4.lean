set_option maxRecDepth 100000
def m_closed_p32 (σ : St) (x5 : Int64) (x7 : Int32) (Q : Int64 → Prop) (K5 : Int64 → Int64 → Prop) (K18 : Int64 → Int32 → Prop) (K32 : Int64 → Int32 → Prop) (x3 : Int64) (x8 : Int32) : Prop :=
  (vp_in x7 12 ∧ (((gI σ 4 x7) ≤ x8 → K18 x3 (x7 + 1)) ∧ (¬ (gI σ 4 x7) ≤ x8 → (vp_in ((4 * x7) + x8) 48 ∧ (((fm_isPoint x3 x7 x8) = 0 → K32 (x3 ||| 0) (x8 + 1)) ∧ (¬ (fm_isPoint x3 x7 x8) = 0 → (((fm_isCapital (gI σ 5 ((4 * x7) + x8))) = 0 → K32 (x3 ||| 0) (x8 + 1)) ∧ (¬ (fm_isCapital (gI σ 5 ((4 * x7) + x8))) = 0 → (m_begun σ (gI σ 5 ((4 * x7) + x8)) (fun r81 => K32 (x3 ||| r81) (x8 + 1)))))))))))
def m_closed_p18 (σ : St) (x5 : Int64) (Q : Int64 → Prop) (K5 : Int64 → Int64 → Prop) (K18 : Int64 → Int32 → Prop) (x3 : Int64) (x7 : Int32) : Prop :=
  (((gI σ 2 0) ≤ x7 → K5 x3 x5) ∧ (¬ (gI σ 2 0) ≤ x7 → (Lp2 (m_closed_p32 σ x5 x7 Q K5 K18) x3 0)))
def m_closed_p5 (σ : St) (Q : Int64 → Prop) (K5 : Int64 → Int64 → Prop) (x3 : Int64) (x5 : Int64) : Prop :=
  ((x3 = x5 → Q x3) ∧ (¬ x3 = x5 → (Lp2 (m_closed_p18 σ x3 Q K5) x3 0)))
def m_closed (σ : St) (x1 : Int64) (Q : Int64 → Prop) : Prop :=
  (Lp2 (m_closed_p5 σ Q) x1 0)
abbrev rm_m_closed : Room := { frames := 3, cells := 0, slots := 0, locals := 66 }
set_option maxHeartbeats 4000000 in
theorem met_m_closed (l : Launch) (D : va_G) (ct : Ct) (ad : Nat → Nat) (hJ : gJ shM ad ct) (σ : St) (x1 : Int64) (Q : Int64 → Prop) (hf : m_closed σ x1 Q) : Met l yX3_closed (ws_ yX3_closed cX3_closed 10 (some .long)) rm_m_closed (va_Pc [.ref (ad 0), .long x1] (gP D ct shM ad σ)) (gR rvL Q) 0 0 (fun _ => False) := by
  refine g_metRL hJ (by decide) (Nat.le_of_ble_eq_true rfl) ?_
  intro p e s m args below meth c QQ ls H C hw hl hret
  replace hl : lv_has ls 10 [(0, .ref (ad 0)), (1, .long x1)] := hl
  have B32 : ∀ (x5 : Int64) (x7 : Int32) (K5 : Int64 → Int64 → Prop) (_ : ∀ (x3 : Int64) (x5 : Int64) (ls : Array Slot), K5 x3 x5 → lv_has ls 10 [(0, .ref (ad 0)), (3, .long x3), (5, .long x5)] → W p l e rm_m_closed s m args below meth c H [] 0 0 QQ (F0 m 5 ls [])) (K18 : Int64 → Int32 → Prop) (_ : ∀ (x3 : Int64) (x7 : Int32) (ls : Array Slot), K18 x3 x7 → lv_has ls 10 [(0, .ref (ad 0)), (3, .long x3), (5, .long x5), (7, .int x7)] → W p l e rm_m_closed s m args below meth c H [] 0 0 QQ (F0 m 18 ls [])) (K32 : Int64 → Int32 → Prop) (_ : ∀ (x3 : Int64) (x8 : Int32) (ls : Array Slot), K32 x3 x8 → lv_has ls 10 [(0, .ref (ad 0)), (3, .long x3), (5, .long x5), (7, .int x7), (8, .int x8)] → W p l e rm_m_closed s m args below meth c H [] 0 0 QQ (F0 m 32 ls [])) (x3 : Int64) (x8 : Int32) (ls : Array Slot), m_closed_p32 σ x5 x7 Q K5 K18 K32 x3 x8 → lv_has ls 10 [(0, .ref (ad 0)), (3, .long x3), (5, .long x5), (7, .int x7), (8, .int x8)] → W p l e rm_m_closed s m args below meth c H [] 0 0 QQ (F0 m 32 ls []) := by
    intro x5 x7 K5 hK5 K18 hK18 K32 hK32 x3 x8 ls hf hl
    unfold m_closed_p32 at hf
    refine lv_iload C.1 C.2.1 dX3_closed_32 (lv_at hl 4 rfl) ?_
    refine lv_aload_n C.1 C.2.1 dX3_closed_34 rfl (lv_at hl 0 rfl) ?_
    refine mg_size C hw dX3_closed_35 ?_
    refine lv_iload C.1 C.2.1 dX3_closed_38 (lv_at hl 3 rfl) ?_
    obtain ⟨b40, hf⟩ := hf
    refine g_iald C hw 4 rfl b40 dX3_closed_40 ?_
    refine lv_icmp_ge (tgt := 96) C.1 C.2.1 dX3_closed_41 (by decide) (fun h41 => ?_) (fun h41 => ?_)
    · replace hf := hf.1 h41
      refine lv_iinc (v := (x7 + 1)) (lv' := [(7, .int (x7 + 1)), (0, .ref (ad 0)), (3, .long x3), (5, .long x5), (8, .int x8)]) C.1 C.2.1 dX3_closed_96 hl (k := 3) rfl rfl (Nat.le_of_ble_eq_true rfl) rfl (fun ls hl => ?_)
      refine lv_goto (tgt := 18) C.1 C.2.1 dX3_closed_99 (by decide) ?_
      exact hK18 _ _ _ hf (lv_sub hl [1, 2, 3, 0] rfl)
    · replace hf := hf.2 h41
      refine lv_aload_n C.1 C.2.1 dX3_closed_44 rfl (lv_at hl 0 rfl) ?_
      refine mg_sym C hw dX3_closed_45 ?_
      refine lv_iconst (v := 4) C.1 C.2.1 dX3_closed_48 rfl ?_
      refine lv_iload C.1 C.2.1 dX3_closed_49 (lv_at hl 3 rfl) ?_
      refine lv_imul C.1 C.2.1 dX3_closed_51 ?_
      refine lv_iload C.1 C.2.1 dX3_closed_52 (lv_at hl 4 rfl) ?_
      refine lv_iadd C.1 C.2.1 dX3_closed_54 ?_
      obtain ⟨b55, hf⟩ := hf
      refine g_iald C hw 5 rfl b55 dX3_closed_55 ?_
      refine lv_istore (lv' := [(9, .int (gI σ 5 ((4 * x7) + x8))), (0, .ref (ad 0)), (3, .long x3), (5, .long x5), (7, .int x7), (8, .int x8)]) C.1 C.2.1 dX3_closed_56 hl (Nat.le_of_ble_eq_true rfl) rfl (fun ls hl => ?_)
      refine lv_lload_n C.1 C.2.1 dX3_closed_58 rfl (lv_at hl 2 rfl) ?_
      refine lv_lload_n C.1 C.2.1 dX3_closed_59 rfl (lv_at hl 2 rfl) ?_
      refine lv_iload C.1 C.2.1 dX3_closed_60 (lv_at hl 4 rfl) ?_
      refine lv_iload C.1 C.2.1 dX3_closed_62 (lv_at hl 5 rfl) ?_
      refine km_isPoint C hl.1 (Nat.le_of_ble_eq_true rfl) ⟨Nat.le_of_ble_eq_true rfl, Nat.le_of_ble_eq_true rfl⟩ dX3_closed_64 ?_
      refine lv_if_eq (tgt := 87) C.1 C.2.1 dX3_closed_67 (by decide) (fun h67 => ?_) (fun h67 => ?_)
      · replace hf := hf.1 h67
        refine lv_lconst (v := 0) C.1 C.2.1 dX3_closed_87 rfl ?_
        refine lv_lor C.1 C.2.1 dX3_closed_88 ?_
        refine lv_lstore_n (lv' := [(3, .long (x3 ||| 0)), (9, .int (gI σ 5 ((4 * x7) + x8))), (0, .ref (ad 0)), (5, .long x5), (7, .int x7), (8, .int x8)]) C.1 C.2.1 dX3_closed_89 rfl hl (Nat.le_of_ble_eq_true rfl) rfl (fun ls hl => ?_)
        refine lv_iinc (v := (x8 + 1)) (lv' := [(8, .int (x8 + 1)), (3, .long (x3 ||| 0)), (9, .int (gI σ 5 ((4 * x7) + x8))), (0, .ref (ad 0)), (5, .long x5), (7, .int x7)]) C.1 C.2.1 dX3_closed_90 hl (k := 5) rfl rfl (Nat.le_of_ble_eq_true rfl) rfl (fun ls hl => ?_)
        refine lv_goto (tgt := 32) C.1 C.2.1 dX3_closed_93 (by decide) ?_
        exact hK32 _ _ _ hf (lv_sub hl [3, 1, 4, 5, 0] rfl)
      · replace hf := hf.2 h67
        refine lv_iload C.1 C.2.1 dX3_closed_70 (lv_at hl 0 rfl) ?_
        refine km_isCapital C hl.1 (Nat.le_of_ble_eq_true rfl) ⟨Nat.le_of_ble_eq_true rfl, Nat.le_of_ble_eq_true rfl⟩ dX3_closed_72 ?_
        refine lv_if_eq (tgt := 87) C.1 C.2.1 dX3_closed_75 (by decide) (fun h75 => ?_) (fun h75 => ?_)
        · replace hf := hf.1 h75
          refine lv_lconst (v := 0) C.1 C.2.1 dX3_closed_87 rfl ?_
          refine lv_lor C.1 C.2.1 dX3_closed_88 ?_
          refine lv_lstore_n (lv' := [(3, .long (x3 ||| 0)), (9, .int (gI σ 5 ((4 * x7) + x8))), (0, .ref (ad 0)), (5, .long x5), (7, .int x7), (8, .int x8)]) C.1 C.2.1 dX3_closed_89 rfl hl (Nat.le_of_ble_eq_true rfl) rfl (fun ls hl => ?_)
          refine lv_iinc (v := (x8 + 1)) (lv' := [(8, .int (x8 + 1)), (3, .long (x3 ||| 0)), (9, .int (gI σ 5 ((4 * x7) + x8))), (0, .ref (ad 0)), (5, .long x5), (7, .int x7)]) C.1 C.2.1 dX3_closed_90 hl (k := 5) rfl rfl (Nat.le_of_ble_eq_true rfl) rfl (fun ls hl => ?_)
          refine lv_goto (tgt := 32) C.1 C.2.1 dX3_closed_93 (by decide) ?_
          exact hK32 _ _ _ hf (lv_sub hl [3, 1, 4, 5, 0] rfl)
        · replace hf := hf.2 h75
          refine lv_aload_n C.1 C.2.1 dX3_closed_78 rfl (lv_at hl 1 rfl) ?_
          refine lv_iload C.1 C.2.1 dX3_closed_79 (lv_at hl 0 rfl) ?_
          refine km_begun C hw hl.1 (Nat.le_of_ble_eq_true rfl) ⟨Nat.le_of_ble_eq_true rfl, Nat.le_of_ble_eq_true rfl⟩ dX3_closed_81 hf (fun r81 hf => ?_)
          refine lv_goto (tgt := 88) C.1 C.2.1 dX3_closed_84 (by decide) ?_
          refine lv_lor C.1 C.2.1 dX3_closed_88 ?_
          refine lv_lstore_n (lv' := [(3, .long (x3 ||| r81)), (9, .int (gI σ 5 ((4 * x7) + x8))), (0, .ref (ad 0)), (5, .long x5), (7, .int x7), (8, .int x8)]) C.1 C.2.1 dX3_closed_89 rfl hl (Nat.le_of_ble_eq_true rfl) rfl (fun ls hl => ?_)
          refine lv_iinc (v := (x8 + 1)) (lv' := [(8, .int (x8 + 1)), (3, .long (x3 ||| r81)), (9, .int (gI σ 5 ((4 * x7) + x8))), (0, .ref (ad 0)), (5, .long x5), (7, .int x7)]) C.1 C.2.1 dX3_closed_90 hl (k := 5) rfl rfl (Nat.le_of_ble_eq_true rfl) rfl (fun ls hl => ?_)
          refine lv_goto (tgt := 32) C.1 C.2.1 dX3_closed_93 (by decide) ?_
          exact hK32 _ _ _ hf (lv_sub hl [3, 1, 4, 5, 0] rfl)
  have P32 : ∀ (x5 : Int64) (x7 : Int32) (K5 : Int64 → Int64 → Prop) (_ : ∀ (x3 : Int64) (x5 : Int64) (ls : Array Slot), K5 x3 x5 → lv_has ls 10 [(0, .ref (ad 0)), (3, .long x3), (5, .long x5)] → W p l e rm_m_closed s m args below meth c H [] 0 0 QQ (F0 m 5 ls [])) (K18 : Int64 → Int32 → Prop) (_ : ∀ (x3 : Int64) (x7 : Int32) (ls : Array Slot), K18 x3 x7 → lv_has ls 10 [(0, .ref (ad 0)), (3, .long x3), (5, .long x5), (7, .int x7)] → W p l e rm_m_closed s m args below meth c H [] 0 0 QQ (F0 m 18 ls [])) (n : Nat) (x3 : Int64) (x8 : Int32) (ls : Array Slot), LL2 (m_closed_p32 σ x5 x7 Q K5 K18) n x3 x8 → lv_has ls 10 [(0, .ref (ad 0)), (3, .long x3), (5, .long x5), (7, .int x7), (8, .int x8)] → W p l e rm_m_closed s m args below meth c H [] 0 0 QQ (F0 m 32 ls []) := by
    intro x5 x7 K5 hK5 K18 hK18 n
    induction n with
    | zero => intro x3 x8 ls hf; exact False.elim hf
    | succ n ih => intro x3 x8 ls hf hl; exact B32 x5 x7 K5 hK5 K18 hK18 (LL2 _ n) ih x3 x8 ls hf hl
  have B18 : ∀ (x5 : Int64) (K5 : Int64 → Int64 → Prop) (_ : ∀ (x3 : Int64) (x5 : Int64) (ls : Array Slot), K5 x3 x5 → lv_has ls 10 [(0, .ref (ad 0)), (3, .long x3), (5, .long x5)] → W p l e rm_m_closed s m args below meth c H [] 0 0 QQ (F0 m 5 ls [])) (K18 : Int64 → Int32 → Prop) (_ : ∀ (x3 : Int64) (x7 : Int32) (ls : Array Slot), K18 x3 x7 → lv_has ls 10 [(0, .ref (ad 0)), (3, .long x3), (5, .long x5), (7, .int x7)] → W p l e rm_m_closed s m args below meth c H [] 0 0 QQ (F0 m 18 ls [])) (x3 : Int64) (x7 : Int32) (ls : Array Slot), m_closed_p18 σ x5 Q K5 K18 x3 x7 → lv_has ls 10 [(0, .ref (ad 0)), (3, .long x3), (5, .long x5), (7, .int x7)] → W p l e rm_m_closed s m args below meth c H [] 0 0 QQ (F0 m 18 ls []) := by
    intro x5 K5 hK5 K18 hK18 x3 x7 ls hf hl
    unfold m_closed_p18 at hf
    refine lv_iload C.1 C.2.1 dX3_closed_18 (lv_at hl 3 rfl) ?_
    refine lv_aload_n C.1 C.2.1 dX3_closed_20 rfl (lv_at hl 0 rfl) ?_
    refine mg_scalar C hw dX3_closed_21 ?_
    refine lv_iconst (v := 0) C.1 C.2.1 dX3_closed_24 rfl ?_
    refine g_iald C hw 2 rfl (vpD rfl) dX3_closed_25 ?_
    refine lv_icmp_ge (tgt := 102) C.1 C.2.1 dX3_closed_26 (by decide) (fun h26 => ?_) (fun h26 => ?_)
    · replace hf := hf.1 h26
      refine lv_goto (tgt := 5) C.1 C.2.1 dX3_closed_102 (by decide) ?_
      exact hK5 _ _ _ hf (lv_sub hl [0, 1, 2] rfl)
    · replace hf := hf.2 h26
      refine lv_iconst (v := 0) C.1 C.2.1 dX3_closed_29 rfl ?_
      refine lv_istore (lv' := [(8, .int 0), (0, .ref (ad 0)), (3, .long x3), (5, .long x5), (7, .int x7)]) C.1 C.2.1 dX3_closed_30 hl (Nat.le_of_ble_eq_true rfl) rfl (fun ls hl => ?_)
      obtain ⟨n, hf⟩ := hf
      exact P32 _ _ _ hK5 _ hK18 n _ _ _ hf (lv_sub hl [1, 2, 3, 4, 0] rfl)
  have P18 : ∀ (x5 : Int64) (K5 : Int64 → Int64 → Prop) (_ : ∀ (x3 : Int64) (x5 : Int64) (ls : Array Slot), K5 x3 x5 → lv_has ls 10 [(0, .ref (ad 0)), (3, .long x3), (5, .long x5)] → W p l e rm_m_closed s m args below meth c H [] 0 0 QQ (F0 m 5 ls [])) (n : Nat) (x3 : Int64) (x7 : Int32) (ls : Array Slot), LL2 (m_closed_p18 σ x5 Q K5) n x3 x7 → lv_has ls 10 [(0, .ref (ad 0)), (3, .long x3), (5, .long x5), (7, .int x7)] → W p l e rm_m_closed s m args below meth c H [] 0 0 QQ (F0 m 18 ls []) := by
    intro x5 K5 hK5 n
    induction n with
    | zero => intro x3 x7 ls hf; exact False.elim hf
    | succ n ih => intro x3 x7 ls hf hl; exact B18 x5 K5 hK5 (LL2 _ n) ih x3 x7 ls hf hl
  have B5 : ∀ (K5 : Int64 → Int64 → Prop) (_ : ∀ (x3 : Int64) (x5 : Int64) (ls : Array Slot), K5 x3 x5 → lv_has ls 10 [(0, .ref (ad 0)), (3, .long x3), (5, .long x5)] → W p l e rm_m_closed s m args below meth c H [] 0 0 QQ (F0 m 5 ls [])) (x3 : Int64) (x5 : Int64) (ls : Array Slot), m_closed_p5 σ Q K5 x3 x5 → lv_has ls 10 [(0, .ref (ad 0)), (3, .long x3), (5, .long x5)] → W p l e rm_m_closed s m args below meth c H [] 0 0 QQ (F0 m 5 ls []) := by
    intro K5 hK5 x3 x5 ls hf hl
    unfold m_closed_p5 at hf
    refine lv_lload_n C.1 C.2.1 dX3_closed_5 rfl (lv_at hl 1 rfl) ?_
    refine lv_lload C.1 C.2.1 dX3_closed_6 (lv_at hl 2 rfl) ?_
    refine W.lcmp C.1 C.2.1 dX3_closed_8 ?_
    refine lv_if_eq (tgt := 105) C.1 C.2.1 dX3_closed_9 (by decide) (fun h9 => ?_) (fun h9 => ?_)
    · replace hf := hf.1 ((lg_cmp_eq _ _).mp h9)
      refine lv_lload_n C.1 C.2.1 dX3_closed_105 rfl (lv_at hl 1 rfl) ?_
      exact hret _ _ _ hf dX3_closed_106
    · replace hf := hf.2 (fun q => h9 ((lg_cmp_eq _ _).mpr q))
      refine lv_lload_n C.1 C.2.1 dX3_closed_12 rfl (lv_at hl 1 rfl) ?_
      refine lv_lstore (lv' := [(5, .long x3), (0, .ref (ad 0)), (3, .long x3)]) C.1 C.2.1 dX3_closed_13 hl (Nat.le_of_ble_eq_true rfl) rfl (fun ls hl => ?_)
      refine lv_iconst (v := 0) C.1 C.2.1 dX3_closed_15 rfl ?_
      refine lv_istore (lv' := [(7, .int 0), (5, .long x3), (0, .ref (ad 0)), (3, .long x3)]) C.1 C.2.1 dX3_closed_16 hl (Nat.le_of_ble_eq_true rfl) rfl (fun ls hl => ?_)
      obtain ⟨n, hf⟩ := hf
      exact P18 _ _ hK5 n _ _ _ hf (lv_sub hl [2, 3, 1, 0] rfl)
  have P5 : ∀ (n : Nat) (x3 : Int64) (x5 : Int64) (ls : Array Slot), LL2 (m_closed_p5 σ Q) n x3 x5 → lv_has ls 10 [(0, .ref (ad 0)), (3, .long x3), (5, .long x5)] → W p l e rm_m_closed s m args below meth c H [] 0 0 QQ (F0 m 5 ls []) := by
    intro  n
    induction n with
    | zero => intro x3 x5 ls hf; exact False.elim hf
    | succ n ih => intro x3 x5 ls hf hl; exact B5  (LL2 _ n) ih x3 x5 ls hf hl
  unfold m_closed at hf
  refine lv_lload_n C.1 C.2.1 dX3_closed_0 rfl (lv_at hl 1 rfl) ?_
  refine lv_lstore_n (lv' := [(3, .long x1), (0, .ref (ad 0)), (1, .long x1)]) C.1 C.2.1 dX3_closed_1 rfl hl (Nat.le_of_ble_eq_true rfl) rfl (fun ls hl => ?_)
  refine lv_lconst (v := 0) C.1 C.2.1 dX3_closed_2 rfl ?_
  refine lv_lstore (lv' := [(5, .long 0), (3, .long x1), (0, .ref (ad 0)), (1, .long x1)]) C.1 C.2.1 dX3_closed_3 hl (Nat.le_of_ble_eq_true rfl) rfl (fun ls hl => ?_)
  obtain ⟨n, hf⟩ := hf
  exact P5  n _ _ _ hf (lv_sub hl [2, 1, 0] rfl)
theorem km_closed {p : Program} {l : Launch} {e : Env} {R : Room} {s : State} {m : MethodId} {args : Array Value} {below : List Frame} {meth : Method} {c : Code} {H : Heap} {locs : List Loc} {Z : State → Prop} {cc : ByteArray} {nL pc : Nat} {ls : Array Slot} {rest : List Value} {D : va_G} {ct : Ct} {ad : Nat → Nat} {σ : St} {x1 : Int64} {Qp : Int64 → Prop} (C : CallFix p m c cc nL s args lw_all RX3) (hw : gH D ct shM ad s σ H locs) (hsz : ls.size = nL) (hrm : (rest.map fun v => v.category).sum ≤ 8) (hR : rm_m_closed.frames + 1 ≤ R.frames ∧ 8 + (10 + 11) + rm_m_closed.locals ≤ R.locals) (hdg : decode cc pc = .ok (.invokevirtual 347, 3)) (hf : m_closed σ x1 Qp) (kk : ∀ (r : Int64), Qp r → W p l e R s m args below meth c H locs 0 0 Z (F0 m (pc + 3) ls (.long r :: rest))) : W p l e R s m args below meth c H locs 0 0 Z (F0 m pc ls (.long x1 :: .ref (ad 0) :: rest)) :=
  g_callVR (As := [.long x1]) (rest := rest) C hw rfl rfl (met_m_closed l D ct ad hw.2.1 σ x1 Qp hf) (cwV 1 C.2.2.2.2 (lw_V q1645 q1647 qs114 q207 q1648) rfl rfl rfl (by decide +kernel) hR) rfl hsz rfl hrm ⟨Nat.zero_le _, Nat.zero_le _⟩ hdg kk
def m_keepsAct_p50 (σ : St) (Q : Unit → St → Prop) : Prop :=
  (m_movesAll σ (σ.1 40) 0 (fun _ s56 => (∀ s66 : St, s66 = s_I s56 40 ((s56.1 40) + 1) → (m_isNew s66 (fun _ s70 => Q () s70)))))
def m_keepsAct_p12 (Q : Unit → St → Prop) (K12 : St → Int32 → Prop) (σ : St) (x1 : Int32) : Prop :=
  ((480 ≤ x1 → (∀ s47 : St, s47 = s_I σ 40 ((σ.1 40) - 1) → (m_keepsAct_p50 s47 Q))) ∧ (¬ 480 ≤ x1 → (vp_in x1 480 ∧ (vp_in (x1 - 24) 480 ∧ (∀ s33 : St, s33 = s_A σ 38 (Int32.toNatClampNeg (x1 - 24)) (gI σ 38 x1) → K12 s33 (x1 + 1))))))
def m_keepsAct (σ : St) (Q : Unit → St → Prop) : Prop :=
  (((σ.1 40) = 20 → (Lp2 (m_keepsAct_p12 Q) σ 24)) ∧ (¬ (σ.1 40) = 20 → (m_keepsAct_p50 σ Q)))
abbrev rm_m_keepsAct : Room := { frames := 3, cells := 0, slots := 0, locals := 67 }
set_option maxHeartbeats 4000000 in
theorem met_m_keepsAct (l : Launch) (D : va_G) (ct : Ct) (ad : Nat → Nat) (hJ : gJ shM ad ct) (σ : St) (Q : Unit → St → Prop) (hf : m_keepsAct σ Q) : Met l yX3_keepsAct (ws_ yX3_keepsAct cX3_keepsAct 2 (none)) rm_m_keepsAct (va_Pc [.ref (ad 0)] (gP D ct shM ad σ)) (gQ rvV D ct shM ad Q) 0 0 (gA shM ad) := by
  refine g_metV hJ (by decide) (Nat.le_of_ble_eq_true rfl) ?_
  intro p e s m args below meth c QQ ls C hw hl hret
  replace hl : lv_has ls 2 [(0, .ref (ad 0))] := hl
  have J50 : ∀ (σ : St) (H : Heap) (locs : List Loc) (ls : Array Slot), m_keepsAct_p50 σ Q → gH D ct shM ad s σ H locs → lv_has ls 2 [(0, .ref (ad 0))] → W p l e rm_m_keepsAct s m args below meth c H locs 0 0 QQ (F0 m 50 ls []) := by
    intro σ H locs ls hf hw hl
    unfold m_keepsAct_p50 at hf
    refine lv_aload_n C.1 C.2.1 dX3_keepsAct_50 rfl (lv_at hl 0 rfl) ?_
    refine lv_aload_n C.1 C.2.1 dX3_keepsAct_51 rfl (lv_at hl 0 rfl) ?_
    refine mg_pastMany C hw dX3_keepsAct_52 ?_
    refine lv_iconst (v := 0) C.1 C.2.1 dX3_keepsAct_55 rfl ?_
    refine km_movesAll C hw hl.1 (Nat.le_of_ble_eq_true rfl) ⟨Nat.le_of_ble_eq_true rfl, Nat.le_of_ble_eq_true rfl⟩ dX3_keepsAct_56 hf (fun _ s56 H locs hf hw => ?_)
    refine lv_aload_n C.1 C.2.1 dX3_keepsAct_59 rfl (lv_at hl 0 rfl) ?_
    refine lv_dup C.1 C.2.1 dX3_keepsAct_60 rfl ?_
    refine mg_pastMany C hw dX3_keepsAct_61 ?_
    refine lv_iconst (v := 1) C.1 C.2.1 dX3_keepsAct_64 rfl ?_
    refine lv_iadd C.1 C.2.1 dX3_keepsAct_65 ?_
    refine mp_pastMany C hw dX3_keepsAct_66 (fun s66 H locs e66 hw => ?_)
    replace hf := hf s66 e66
    refine lv_aload_n C.1 C.2.1 dX3_keepsAct_69 rfl (lv_at hl 0 rfl) ?_
    refine km_isNew C hw hl.1 (Nat.le_of_ble_eq_true rfl) ⟨Nat.le_of_ble_eq_true rfl, Nat.le_of_ble_eq_true rfl⟩ dX3_keepsAct_70 hf (fun _ s70 H locs hf hw => ?_)
    exact hret _ _ _ _ _ _ hf hw dX3_keepsAct_73
  have B12 : ∀ (K12 : St → Int32 → Prop) (_ : ∀ (σ : St) (H : Heap) (locs : List Loc) (x1 : Int32) (ls : Array Slot), K12 σ x1 → gH D ct shM ad s σ H locs → lv_has ls 2 [(0, .ref (ad 0)), (1, .int x1)] → W p l e rm_m_keepsAct s m args below meth c H locs 0 0 QQ (F0 m 12 ls [])) (σ : St) (H : Heap) (locs : List Loc) (x1 : Int32) (ls : Array Slot), m_keepsAct_p12 Q K12 σ x1 → gH D ct shM ad s σ H locs → lv_has ls 2 [(0, .ref (ad 0)), (1, .int x1)] → W p l e rm_m_keepsAct s m args below meth c H locs 0 0 QQ (F0 m 12 ls []) := by
    intro K12 hK12 σ H locs x1 ls hf hw hl
    unfold m_keepsAct_p12 at hf
    refine lv_iload_n C.1 C.2.1 dX3_keepsAct_12 rfl (lv_at hl 1 rfl) ?_
    refine lv_sipush (v := 480) C.1 C.2.1 dX3_keepsAct_13 rfl ?_
    refine lv_icmp_ge (tgt := 40) C.1 C.2.1 dX3_keepsAct_16 (by decide) (fun h16 => ?_) (fun h16 => ?_)
    · replace hf := hf.1 h16
      refine lv_aload_n C.1 C.2.1 dX3_keepsAct_40 rfl (lv_at hl 0 rfl) ?_
      refine lv_dup C.1 C.2.1 dX3_keepsAct_41 rfl ?_
      refine mg_pastMany C hw dX3_keepsAct_42 ?_
      refine lv_iconst (v := 1) C.1 C.2.1 dX3_keepsAct_45 rfl ?_
      refine lv_isub C.1 C.2.1 dX3_keepsAct_46 ?_
      refine mp_pastMany C hw dX3_keepsAct_47 (fun s47 H locs e47 hw => ?_)
      replace hf := hf s47 e47
      exact J50 _ _ _ _ hf hw (lv_sub hl [0] rfl)
    · replace hf := hf.2 h16
      refine lv_aload_n C.1 C.2.1 dX3_keepsAct_19 rfl (lv_at hl 0 rfl) ?_
      refine mg_past C hw dX3_keepsAct_20 ?_
      refine lv_iload_n C.1 C.2.1 dX3_keepsAct_23 rfl (lv_at hl 1 rfl) ?_
      refine lv_bipush (v := 24) C.1 C.2.1 dX3_keepsAct_24 rfl ?_
      refine lv_isub C.1 C.2.1 dX3_keepsAct_26 ?_
      refine lv_aload_n C.1 C.2.1 dX3_keepsAct_27 rfl (lv_at hl 0 rfl) ?_
      refine mg_past C hw dX3_keepsAct_28 ?_
      refine lv_iload_n C.1 C.2.1 dX3_keepsAct_31 rfl (lv_at hl 1 rfl) ?_
      obtain ⟨b32, hf⟩ := hf
      refine g_iald C hw 38 rfl b32 dX3_keepsAct_32 ?_
      obtain ⟨b33, hf⟩ := hf
      refine g_iast C shM_sep hw 38 rfl b33 dX3_keepsAct_33 (fun s33 H locs e33 hw => ?_)
      replace hf := hf s33 e33
      refine lv_iinc (v := (x1 + 1)) (lv' := [(1, .int (x1 + 1)), (0, .ref (ad 0))]) C.1 C.2.1 dX3_keepsAct_34 hl (k := 1) rfl rfl (Nat.le_of_ble_eq_true rfl) rfl (fun ls hl => ?_)
      refine lv_goto (tgt := 12) C.1 C.2.1 dX3_keepsAct_37 (by decide) ?_
      exact hK12 _ _ _ _ _ hf hw (lv_sub hl [1, 0] rfl)
  have P12 : ∀ (n : Nat) (σ : St) (x1 : Int32) (ls : Array Slot) (H : Heap) (locs : List Loc), LL2 (m_keepsAct_p12 Q) n σ x1 → gH D ct shM ad s σ H locs → lv_has ls 2 [(0, .ref (ad 0)), (1, .int x1)] → W p l e rm_m_keepsAct s m args below meth c H locs 0 0 QQ (F0 m 12 ls []) := by
    intro  n
    induction n with
    | zero => intro σ x1 ls H locs hf; exact False.elim hf
    | succ n ih => intro σ x1 ls H locs hf hw hl; exact B12  (LL2 _ n) (fun σ H locs x1 ls hf hw hl => ih σ x1 ls H locs hf hw hl) σ H locs x1 ls hf hw hl
  unfold m_keepsAct at hf
  obtain ⟨H, hH⟩ : ∃ q, q = s.heap := ⟨_, rfl⟩
  obtain ⟨locs, hL⟩ : ∃ q : List Loc, q = [] := ⟨_, rfl⟩
  rw [← hH, ← hL] at hw ⊢
  refine lv_aload_n C.1 C.2.1 dX3_keepsAct_0 rfl (lv_at hl 0 rfl) ?_
  refine mg_pastMany C hw dX3_keepsAct_1 ?_
  refine lv_bipush (v := 20) C.1 C.2.1 dX3_keepsAct_4 rfl ?_
  refine lv_icmp_ne (tgt := 50) C.1 C.2.1 dX3_keepsAct_6 (by decide) (fun h6 => ?_) (fun h6 => ?_)
  · replace hf := hf.2 h6
    exact J50 _ _ _ _ hf hw (lv_sub hl [0] rfl)
  · replace hf := hf.1 h6
    refine lv_bipush (v := 24) C.1 C.2.1 dX3_keepsAct_9 rfl ?_
    refine lv_istore_n (lv' := [(1, .int 24), (0, .ref (ad 0))]) C.1 C.2.1 dX3_keepsAct_11 rfl hl (Nat.le_of_ble_eq_true rfl) rfl (fun ls hl => ?_)
    obtain ⟨n, hf⟩ := hf
    exact P12  n _ _ _ _ _ hf hw (lv_sub hl [1, 0] rfl)
theorem km_keepsAct {p : Program} {l : Launch} {e : Env} {R : Room} {s : State} {m : MethodId} {args : Array Value} {below : List Frame} {meth : Method} {c : Code} {H : Heap} {locs : List Loc} {Z : State → Prop} {cc : ByteArray} {nL pc : Nat} {ls : Array Slot} {rest : List Value} {D : va_G} {ct : Ct} {ad : Nat → Nat} {σ : St} {Qp : Unit → St → Prop} (C : CallFix p m c cc nL s args lw_all RX3) (hw : gH D ct shM ad s σ H locs) (hsz : ls.size = nL) (hrm : (rest.map fun v => v.category).sum ≤ 8) (hR : rm_m_keepsAct.frames + 1 ≤ R.frames ∧ 8 + (2 + 11) + rm_m_keepsAct.locals ≤ R.locals) (hdg : decode cc pc = .ok (.invokevirtual 398, 3)) (hf : m_keepsAct σ Qp) (kk : ∀ (r : Unit) (σ1 : St) (H1 : Heap) (locs1 : List Loc), Qp r σ1 → gH D ct shM ad s σ1 H1 locs1 → W p l e R s m args below meth c H1 locs1 0 0 Z (F0 m (pc + 3) ls (rest))) : W p l e R s m args below meth c H locs 0 0 Z (F0 m pc ls (.ref (ad 0) :: rest)) :=
  g_callV (As := []) (rest := rest) C hw rfl rfl (met_m_keepsAct l D ct ad hw.2.1 σ Qp hf) (cwV 0 C.2.2.2.2 (lw_V q1819 q1821 qs141 q207 q1822) rfl rfl rfl (by decide +kernel) hR) rfl hsz rfl hrm ⟨Nat.zero_le _, Nat.zero_le _⟩ hdg kk
def m_undo (σ : St) (Q : Int32 → St → Prop) : Prop :=
  (((σ.1 40) = 0 → Q (-2) σ) ∧ (¬ (σ.1 40) = 0 → (∀ s17 : St, s17 = s_I σ 40 ((σ.1 40) - 1) → (m_movesAll s17 (s17.1 40) 1 (fun _ s26 => (∀ s31 : St, s31 = s_I s26 37 0 → Q (s31.1 40) s31))))))
abbrev rm_m_undo : Room := { frames := 3, cells := 0, slots := 0, locals := 67 }
set_option maxHeartbeats 4000000 in
theorem met_m_undo (l : Launch) (D : va_G) (ct : Ct) (ad : Nat → Nat) (hJ : gJ shM ad ct) (σ : St) (Q : Int32 → St → Prop) (hf : m_undo σ Q) : Met l yX3_undo (ws_ yX3_undo cX3_undo 1 (some .int)) rm_m_undo (va_Pc [.ref (ad 0)] (gP D ct shM ad σ)) (gQ rvI D ct shM ad Q) 0 0 (gA shM ad) := by
  refine g_metI hJ (by decide) (Nat.le_of_ble_eq_true rfl) ?_
  intro p e s m args below meth c QQ ls C hw hl hret
  replace hl : lv_has ls 1 [(0, .ref (ad 0))] := hl
  unfold m_undo at hf
  obtain ⟨H, hH⟩ : ∃ q, q = s.heap := ⟨_, rfl⟩
  obtain ⟨locs, hL⟩ : ∃ q : List Loc, q = [] := ⟨_, rfl⟩
  rw [← hH, ← hL] at hw ⊢
  refine lv_aload_n C.1 C.2.1 dX3_undo_0 rfl (lv_at hl 0 rfl) ?_
  refine mg_pastMany C hw dX3_undo_1 ?_
  refine lv_if_ne (tgt := 10) C.1 C.2.1 dX3_undo_4 (by decide) (fun h4 => ?_) (fun h4 => ?_)
  · replace hf := hf.2 h4
    refine lv_aload_n C.1 C.2.1 dX3_undo_10 rfl (lv_at hl 0 rfl) ?_
    refine lv_dup C.1 C.2.1 dX3_undo_11 rfl ?_
    refine mg_pastMany C hw dX3_undo_12 ?_
    refine lv_iconst (v := 1) C.1 C.2.1 dX3_undo_15 rfl ?_
    refine lv_isub C.1 C.2.1 dX3_undo_16 ?_
    refine mp_pastMany C hw dX3_undo_17 (fun s17 H locs e17 hw => ?_)
    replace hf := hf s17 e17
    refine lv_aload_n C.1 C.2.1 dX3_undo_20 rfl (lv_at hl 0 rfl) ?_
    refine lv_aload_n C.1 C.2.1 dX3_undo_21 rfl (lv_at hl 0 rfl) ?_
    refine mg_pastMany C hw dX3_undo_22 ?_
    refine lv_iconst (v := 1) C.1 C.2.1 dX3_undo_25 rfl ?_
    refine km_movesAll C hw hl.1 (Nat.le_of_ble_eq_true rfl) ⟨Nat.le_of_ble_eq_true rfl, Nat.le_of_ble_eq_true rfl⟩ dX3_undo_26 hf (fun _ s26 H locs hf hw => ?_)
    refine lv_aload_n C.1 C.2.1 dX3_undo_29 rfl (lv_at hl 0 rfl) ?_
    refine lv_iconst (v := 0) C.1 C.2.1 dX3_undo_30 rfl ?_
    refine mp_isLaid C hw dX3_undo_31 (fun s31 H locs e31 hw => ?_)
    replace hf := hf s31 e31
    refine lv_aload_n C.1 C.2.1 dX3_undo_34 rfl (lv_at hl 0 rfl) ?_
    refine mg_pastMany C hw dX3_undo_35 ?_
    exact hret _ _ _ _ _ _ hf hw dX3_undo_38
  · replace hf := hf.1 h4
    refine lv_bipush (v := (-2)) C.1 C.2.1 dX3_undo_7 rfl ?_
    exact hret _ _ _ _ _ _ hf hw dX3_undo_9
def m_canBe_p23 (σ : St) (x1 : Int32) (x2 : Int32) (x3 : Int32) (x4 : Int32) (x5 : Int32) (Q : Int32 → Prop) (K23 : Int32 → Prop) (x6 : Int32) : Prop :=
  (((gI σ 2 0) ≤ x6 → Q 0) ∧ (¬ (gI σ 2 0) ≤ x6 → (vp_in ((2028 * x1) + (fm_spot x6 x4 x5)) 4056 ∧ (((gI σ 43 ((2028 * x1) + (fm_spot x6 x4 x5))) = 0 → K23 (x6 + 1)) ∧ (¬ (gI σ 43 ((2028 * x1) + (fm_spot x6 x4 x5))) = 0 → (m_isBelow σ x1 x2 x3 x6 (fun r63 => ((r63 = 0 → K23 (x6 + 1)) ∧ (¬ r63 = 0 → Q 1)))))))))
def m_canBe (σ : St) (x1 : Int32) (x2 : Int32) (x3 : Int32) (x4 : Int32) (x5 : Int32) (Q : Int32 → Prop) : Prop :=
  (m_isCapitalAt σ x2 x3 (fun r3 => ((r3 = 0 → (m_isSmallAt σ x2 x3 x4 x5 (fun r16 => (zB r16 ∧ Q r16)))) ∧ (¬ r3 = 0 → (Lp1 (m_canBe_p23 σ x1 x2 x3 x4 x5 Q) 0)))))
abbrev rm_m_canBe : Room := { frames := 3, cells := 0, slots := 0, locals := 70 }
set_option maxHeartbeats 4000000 in
theorem met_m_canBe (l : Launch) (D : va_G) (ct : Ct) (ad : Nat → Nat) (hJ : gJ shM ad ct) (σ : St) (x1 : Int32) (x2 : Int32) (x3 : Int32) (x4 : Int32) (x5 : Int32) (Q : Int32 → Prop) (hf : m_canBe σ x1 x2 x3 x4 x5 Q) : Met l yX3_canBe (ws_ yX3_canBe cX3_canBe 7 (some .boolean)) rm_m_canBe (va_Pc [.ref (ad 0), .int x1, .int x2, .int x3, .int x4, .int x5] (gP D ct shM ad σ)) (gR rvI Q) 0 0 (fun _ => False) := by
  refine g_metRZ hJ (by decide) (Nat.le_of_ble_eq_true rfl) ?_
  intro p e s m args below meth c QQ ls H C hw hl hret
  replace hl : lv_has ls 7 [(0, .ref (ad 0)), (1, .int x1), (2, .int x2), (3, .int x3), (4, .int x4), (5, .int x5)] := hl
  have B23 : ∀ (x1 : Int32) (x2 : Int32) (x3 : Int32) (x4 : Int32) (x5 : Int32) (K23 : Int32 → Prop) (_ : ∀ (x6 : Int32) (ls : Array Slot), K23 x6 → lv_has ls 7 [(0, .ref (ad 0)), (1, .int x1), (2, .int x2), (3, .int x3), (4, .int x4), (5, .int x5), (6, .int x6)] → W p l e rm_m_canBe s m args below meth c H [] 0 0 QQ (F0 m 23 ls [])) (x6 : Int32) (ls : Array Slot), m_canBe_p23 σ x1 x2 x3 x4 x5 Q K23 x6 → lv_has ls 7 [(0, .ref (ad 0)), (1, .int x1), (2, .int x2), (3, .int x3), (4, .int x4), (5, .int x5), (6, .int x6)] → W p l e rm_m_canBe s m args below meth c H [] 0 0 QQ (F0 m 23 ls []) := by
    intro x1 x2 x3 x4 x5 K23 hK23 x6 ls hf hl
    unfold m_canBe_p23 at hf
    refine lv_iload C.1 C.2.1 dX3_canBe_23 (lv_at hl 6 rfl) ?_
    refine lv_aload_n C.1 C.2.1 dX3_canBe_25 rfl (lv_at hl 0 rfl) ?_
    refine mg_scalar C hw dX3_canBe_26 ?_
    refine lv_iconst (v := 0) C.1 C.2.1 dX3_canBe_29 rfl ?_
    refine g_iald C hw 2 rfl (vpD rfl) dX3_canBe_30 ?_
    refine lv_icmp_ge (tgt := 77) C.1 C.2.1 dX3_canBe_31 (by decide) (fun h31 => ?_) (fun h31 => ?_)
    · replace hf := hf.1 h31
      refine lv_iconst (v := 0) C.1 C.2.1 dX3_canBe_77 rfl ?_
      exact hret _ _ _ hf (Or.inl rfl) dX3_canBe_78
    · replace hf := hf.2 h31
      refine lv_aload_n C.1 C.2.1 dX3_canBe_34 rfl (lv_at hl 0 rfl) ?_
      refine mg_made C hw dX3_canBe_35 ?_
      refine lv_sipush (v := 2028) C.1 C.2.1 dX3_canBe_38 rfl ?_
      refine lv_iload_n C.1 C.2.1 dX3_canBe_41 rfl (lv_at hl 1 rfl) ?_
      refine lv_imul C.1 C.2.1 dX3_canBe_42 ?_
      refine lv_iload C.1 C.2.1 dX3_canBe_43 (lv_at hl 6 rfl) ?_
      refine lv_iload C.1 C.2.1 dX3_canBe_45 (lv_at hl 4 rfl) ?_
      refine lv_iload C.1 C.2.1 dX3_canBe_47 (lv_at hl 5 rfl) ?_
      refine km_spot C hl.1 (Nat.le_of_ble_eq_true rfl) ⟨Nat.le_of_ble_eq_true rfl, Nat.le_of_ble_eq_true rfl⟩ dX3_canBe_49 ?_
      refine lv_iadd C.1 C.2.1 dX3_canBe_52 ?_
      obtain ⟨b53, hf⟩ := hf
      refine g_zald C hw 43 rfl b53 dX3_canBe_53 ?_
      refine lv_if_eq (tgt := 71) C.1 C.2.1 dX3_canBe_54 (by decide) (fun h54 => ?_) (fun h54 => ?_)
      · replace hf := hf.1 h54
        refine lv_iinc (v := (x6 + 1)) (lv' := [(6, .int (x6 + 1)), (0, .ref (ad 0)), (1, .int x1), (2, .int x2), (3, .int x3), (4, .int x4), (5, .int x5)]) C.1 C.2.1 dX3_canBe_71 hl (k := 6) rfl rfl (Nat.le_of_ble_eq_true rfl) rfl (fun ls hl => ?_)
        refine lv_goto (tgt := 23) C.1 C.2.1 dX3_canBe_74 (by decide) ?_
        exact hK23 _ _ hf (lv_sub hl [1, 2, 3, 4, 5, 6, 0] rfl)
      · replace hf := hf.2 h54
        refine lv_aload_n C.1 C.2.1 dX3_canBe_57 rfl (lv_at hl 0 rfl) ?_
        refine lv_iload_n C.1 C.2.1 dX3_canBe_58 rfl (lv_at hl 1 rfl) ?_
        refine lv_iload_n C.1 C.2.1 dX3_canBe_59 rfl (lv_at hl 2 rfl) ?_
        refine lv_iload_n C.1 C.2.1 dX3_canBe_60 rfl (lv_at hl 3 rfl) ?_
        refine lv_iload C.1 C.2.1 dX3_canBe_61 (lv_at hl 6 rfl) ?_
        refine km_isBelow C hw hl.1 (Nat.le_of_ble_eq_true rfl) ⟨Nat.le_of_ble_eq_true rfl, Nat.le_of_ble_eq_true rfl⟩ dX3_canBe_63 hf (fun r63 hf => ?_)
        refine lv_if_eq (tgt := 71) C.1 C.2.1 dX3_canBe_66 (by decide) (fun h66 => ?_) (fun h66 => ?_)
        · replace hf := hf.1 h66
          refine lv_iinc (v := (x6 + 1)) (lv' := [(6, .int (x6 + 1)), (0, .ref (ad 0)), (1, .int x1), (2, .int x2), (3, .int x3), (4, .int x4), (5, .int x5)]) C.1 C.2.1 dX3_canBe_71 hl (k := 6) rfl rfl (Nat.le_of_ble_eq_true rfl) rfl (fun ls hl => ?_)
          refine lv_goto (tgt := 23) C.1 C.2.1 dX3_canBe_74 (by decide) ?_
          exact hK23 _ _ hf (lv_sub hl [1, 2, 3, 4, 5, 6, 0] rfl)
        · replace hf := hf.2 h66
          refine lv_iconst (v := 1) C.1 C.2.1 dX3_canBe_69 rfl ?_
          exact hret _ _ _ hf (Or.inr rfl) dX3_canBe_70
  have P23 : ∀ (x1 : Int32) (x2 : Int32) (x3 : Int32) (x4 : Int32) (x5 : Int32) (n : Nat) (x6 : Int32) (ls : Array Slot), LL1 (m_canBe_p23 σ x1 x2 x3 x4 x5 Q) n x6 → lv_has ls 7 [(0, .ref (ad 0)), (1, .int x1), (2, .int x2), (3, .int x3), (4, .int x4), (5, .int x5), (6, .int x6)] → W p l e rm_m_canBe s m args below meth c H [] 0 0 QQ (F0 m 23 ls []) := by
    intro x1 x2 x3 x4 x5 n
    induction n with
    | zero => intro x6 ls hf; exact False.elim hf
    | succ n ih => intro x6 ls hf hl; exact B23 x1 x2 x3 x4 x5 (LL1 _ n) ih x6 ls hf hl
  unfold m_canBe at hf
  refine lv_aload_n C.1 C.2.1 dX3_canBe_0 rfl (lv_at hl 0 rfl) ?_
  refine lv_iload_n C.1 C.2.1 dX3_canBe_1 rfl (lv_at hl 2 rfl) ?_
  refine lv_iload_n C.1 C.2.1 dX3_canBe_2 rfl (lv_at hl 3 rfl) ?_
  refine km_isCapitalAt C hw hl.1 (Nat.le_of_ble_eq_true rfl) ⟨Nat.le_of_ble_eq_true rfl, Nat.le_of_ble_eq_true rfl⟩ dX3_canBe_3 hf (fun r3 hf => ?_)
  refine lv_if_ne (tgt := 20) C.1 C.2.1 dX3_canBe_6 (by decide) (fun h6 => ?_) (fun h6 => ?_)
  · replace hf := hf.2 h6
    refine lv_iconst (v := 0) C.1 C.2.1 dX3_canBe_20 rfl ?_
    refine lv_istore (lv' := [(6, .int 0), (0, .ref (ad 0)), (1, .int x1), (2, .int x2), (3, .int x3), (4, .int x4), (5, .int x5)]) C.1 C.2.1 dX3_canBe_21 hl (Nat.le_of_ble_eq_true rfl) rfl (fun ls hl => ?_)
    obtain ⟨n, hf⟩ := hf
    exact P23 _ _ _ _ _ n _ _ hf (lv_sub hl [1, 2, 3, 4, 5, 6, 0] rfl)
  · replace hf := hf.1 h6
    refine lv_aload_n C.1 C.2.1 dX3_canBe_9 rfl (lv_at hl 0 rfl) ?_
    refine lv_iload_n C.1 C.2.1 dX3_canBe_10 rfl (lv_at hl 2 rfl) ?_
    refine lv_iload_n C.1 C.2.1 dX3_canBe_11 rfl (lv_at hl 3 rfl) ?_
    refine lv_iload C.1 C.2.1 dX3_canBe_12 (lv_at hl 4 rfl) ?_
    refine lv_iload C.1 C.2.1 dX3_canBe_14 (lv_at hl 5 rfl) ?_
    refine km_isSmallAt C hw hl.1 (Nat.le_of_ble_eq_true rfl) ⟨Nat.le_of_ble_eq_true rfl, Nat.le_of_ble_eq_true rfl⟩ dX3_canBe_16 hf (fun r16 hf => ?_)
    obtain ⟨hz, hf⟩ := hf
    exact hret _ _ _ hf hz dX3_canBe_19
theorem km_canBe {p : Program} {l : Launch} {e : Env} {R : Room} {s : State} {m : MethodId} {args : Array Value} {below : List Frame} {meth : Method} {c : Code} {H : Heap} {locs : List Loc} {Z : State → Prop} {cc : ByteArray} {nL pc : Nat} {ls : Array Slot} {rest : List Value} {D : va_G} {ct : Ct} {ad : Nat → Nat} {σ : St} {x1 : Int32} {x2 : Int32} {x3 : Int32} {x4 : Int32} {x5 : Int32} {Qp : Int32 → Prop} (C : CallFix p m c cc nL s args lw_all RX3) (hw : gH D ct shM ad s σ H locs) (hsz : ls.size = nL) (hrm : (rest.map fun v => v.category).sum ≤ 8) (hR : rm_m_canBe.frames + 1 ≤ R.frames ∧ 8 + (7 + 11) + rm_m_canBe.locals ≤ R.locals) (hdg : decode cc pc = .ok (.invokevirtual 427, 3)) (hf : m_canBe σ x1 x2 x3 x4 x5 Qp) (kk : ∀ (r : Int32), Qp r → W p l e R s m args below meth c H locs 0 0 Z (F0 m (pc + 3) ls (.int r :: rest))) : W p l e R s m args below meth c H locs 0 0 Z (F0 m pc ls (.int x5 :: .int x4 :: .int x3 :: .int x2 :: .int x1 :: .ref (ad 0) :: rest)) :=
  g_callVR (As := [.int x1, .int x2, .int x3, .int x4, .int x5]) (rest := rest) C hw rfl rfl (met_m_canBe l D ct ad hw.2.1 σ x1 x2 x3 x4 x5 Qp hf) (cwV 5 C.2.2.2.2 (lw_V q1883 q1885 qs149 q207 q1886) rfl rfl rfl (by decide +kernel) hR) rfl hsz rfl hrm ⟨Nat.zero_le _, Nat.zero_le _⟩ hdg kk
def m_wakes_p12 (x1 : Int32) (x3 : Int32) (Q : Int32 → St → Prop) (K4 : St → Int32 → Int32 → Prop) (K12 : St → Int32 → Int32 → Prop) (σ : St) (x2 : Int32) (x4 : Int32) : Prop :=
  (((σ.1 36) ≤ x4 → K4 σ x2 (x3 + 1)) ∧ (¬ (σ.1 36) ≤ x4 → (vp_in ((90 * x3) + x4) 1170 ∧ (((gI σ 46 ((90 * x3) + x4)) = 0 → K12 σ x2 (x4 + 1)) ∧ (¬ (gI σ 46 ((90 * x3) + x4)) = 0 → (m_wakesFrom σ x3 x4 x1 (fun r41 s41 => ((r41 = 0 → ((x2 = 0 → K12 s41 0 (x4 + 1)) ∧ (¬ x2 = 0 → K12 s41 1 (x4 + 1)))) ∧ (¬ r41 = 0 → K12 s41 1 (x4 + 1))))))))))
def m_wakes_p4 (x1 : Int32) (Q : Int32 → St → Prop) (K4 : St → Int32 → Int32 → Prop) (σ : St) (x2 : Int32) (x3 : Int32) : Prop :=
  ((x1 < x3 → (zB x2 ∧ Q x2 σ)) ∧ (¬ x1 < x3 → (Lp3 (m_wakes_p12 x1 x3 Q K4) σ x2 0)))
def m_wakes (σ : St) (x1 : Int32) (Q : Int32 → St → Prop) : Prop :=
  (Lp3 (m_wakes_p4 x1 Q) σ 0 0)
abbrev rm_m_wakes : Room := { frames := 3, cells := 0, slots := 0, locals := 72 }
set_option maxHeartbeats 4000000 in
theorem met_m_wakes (l : Launch) (D : va_G) (ct : Ct) (ad : Nat → Nat) (hJ : gJ shM ad ct) (σ : St) (x1 : Int32) (Q : Int32 → St → Prop) (hf : m_wakes σ x1 Q) : Met l yX3_wakes (ws_ yX3_wakes cX3_wakes 5 (some .boolean)) rm_m_wakes (va_Pc [.ref (ad 0), .int x1] (gP D ct shM ad σ)) (gQ rvI D ct shM ad Q) 0 0 (gA shM ad) := by
  refine g_metZ hJ (by decide) (Nat.le_of_ble_eq_true rfl) ?_
  intro p e s m args below meth c QQ ls C hw hl hret
  replace hl : lv_has ls 5 [(0, .ref (ad 0)), (1, .int x1)] := hl
  have B12 : ∀ (x1 : Int32) (x3 : Int32) (K4 : St → Int32 → Int32 → Prop) (_ : ∀ (σ : St) (H : Heap) (locs : List Loc) (x2 : Int32) (x3 : Int32) (ls : Array Slot), K4 σ x2 x3 → gH D ct shM ad s σ H locs → lv_has ls 5 [(0, .ref (ad 0)), (1, .int x1), (2, .int x2), (3, .int x3)] → W p l e rm_m_wakes s m args below meth c H locs 0 0 QQ (F0 m 4 ls [])) (K12 : St → Int32 → Int32 → Prop) (_ : ∀ (σ : St) (H : Heap) (locs : List Loc) (x2 : Int32) (x4 : Int32) (ls : Array Slot), K12 σ x2 x4 → gH D ct shM ad s σ H locs → lv_has ls 5 [(0, .ref (ad 0)), (1, .int x1), (2, .int x2), (3, .int x3), (4, .int x4)] → W p l e rm_m_wakes s m args below meth c H locs 0 0 QQ (F0 m 12 ls [])) (σ : St) (H : Heap) (locs : List Loc) (x2 : Int32) (x4 : Int32) (ls : Array Slot), m_wakes_p12 x1 x3 Q K4 K12 σ x2 x4 → gH D ct shM ad s σ H locs → lv_has ls 5 [(0, .ref (ad 0)), (1, .int x1), (2, .int x2), (3, .int x3), (4, .int x4)] → W p l e rm_m_wakes s m args below meth c H locs 0 0 QQ (F0 m 12 ls []) := by
    intro x1 x3 K4 hK4 K12 hK12 σ H locs x2 x4 ls hf hw hl
    unfold m_wakes_p12 at hf
    refine lv_iload C.1 C.2.1 dX3_wakes_12 (lv_at hl 4 rfl) ?_
    refine lv_aload_n C.1 C.2.1 dX3_wakes_14 rfl (lv_at hl 0 rfl) ?_
    refine mg_manyStates C hw dX3_wakes_15 ?_
    refine lv_icmp_ge (tgt := 63) C.1 C.2.1 dX3_wakes_18 (by decide) (fun h18 => ?_) (fun h18 => ?_)
    · replace hf := hf.1 h18
      refine lv_iinc (v := (x3 + 1)) (lv' := [(3, .int (x3 + 1)), (0, .ref (ad 0)), (1, .int x1), (2, .int x2), (4, .int x4)]) C.1 C.2.1 dX3_wakes_63 hl (k := 3) rfl rfl (Nat.le_of_ble_eq_true rfl) rfl (fun ls hl => ?_)
      refine lv_goto (tgt := 4) C.1 C.2.1 dX3_wakes_66 (by decide) ?_
      exact hK4 _ _ _ _ _ _ hf hw (lv_sub hl [1, 2, 3, 0] rfl)
    · replace hf := hf.2 h18
      refine lv_aload_n C.1 C.2.1 dX3_wakes_21 rfl (lv_at hl 0 rfl) ?_
      refine mg_isAlive C hw dX3_wakes_22 ?_
      refine lv_bipush (v := 90) C.1 C.2.1 dX3_wakes_25 rfl ?_
      refine lv_iload_n C.1 C.2.1 dX3_wakes_27 rfl (lv_at hl 3 rfl) ?_
      refine lv_imul C.1 C.2.1 dX3_wakes_28 ?_
      refine lv_iload C.1 C.2.1 dX3_wakes_29 (lv_at hl 4 rfl) ?_
      refine lv_iadd C.1 C.2.1 dX3_wakes_31 ?_
      obtain ⟨b32, hf⟩ := hf
      refine g_zald C hw 46 rfl b32 dX3_wakes_32 ?_
      refine lv_if_eq (tgt := 57) C.1 C.2.1 dX3_wakes_33 (by decide) (fun h33 => ?_) (fun h33 => ?_)
      · replace hf := hf.1 h33
        refine lv_iinc (v := (x4 + 1)) (lv' := [(4, .int (x4 + 1)), (0, .ref (ad 0)), (1, .int x1), (2, .int x2), (3, .int x3)]) C.1 C.2.1 dX3_wakes_57 hl (k := 4) rfl rfl (Nat.le_of_ble_eq_true rfl) rfl (fun ls hl => ?_)
        refine lv_goto (tgt := 12) C.1 C.2.1 dX3_wakes_60 (by decide) ?_
        exact hK12 _ _ _ _ _ _ hf hw (lv_sub hl [1, 2, 3, 4, 0] rfl)
      · replace hf := hf.2 h33
        refine lv_aload_n C.1 C.2.1 dX3_wakes_36 rfl (lv_at hl 0 rfl) ?_
        refine lv_iload_n C.1 C.2.1 dX3_wakes_37 rfl (lv_at hl 3 rfl) ?_
        refine lv_iload C.1 C.2.1 dX3_wakes_38 (lv_at hl 4 rfl) ?_
        refine lv_iload_n C.1 C.2.1 dX3_wakes_40 rfl (lv_at hl 1 rfl) ?_
        refine km_wakesFrom C hw hl.1 (Nat.le_of_ble_eq_true rfl) ⟨Nat.le_of_ble_eq_true rfl, Nat.le_of_ble_eq_true rfl⟩ dX3_wakes_41 hf (fun r41 s41 H locs hf hw => ?_)
        refine lv_if_ne (tgt := 51) C.1 C.2.1 dX3_wakes_44 (by decide) (fun h44 => ?_) (fun h44 => ?_)
        · replace hf := hf.2 h44
          refine lv_iconst (v := 1) C.1 C.2.1 dX3_wakes_51 rfl ?_
          refine lv_goto (tgt := 56) C.1 C.2.1 dX3_wakes_52 (by decide) ?_
          refine lv_istore_n (lv' := [(2, .int 1), (0, .ref (ad 0)), (1, .int x1), (3, .int x3), (4, .int x4)]) C.1 C.2.1 dX3_wakes_56 rfl hl (Nat.le_of_ble_eq_true rfl) rfl (fun ls hl => ?_)
          refine lv_iinc (v := (x4 + 1)) (lv' := [(4, .int (x4 + 1)), (2, .int 1), (0, .ref (ad 0)), (1, .int x1), (3, .int x3)]) C.1 C.2.1 dX3_wakes_57 hl (k := 4) rfl rfl (Nat.le_of_ble_eq_true rfl) rfl (fun ls hl => ?_)
          refine lv_goto (tgt := 12) C.1 C.2.1 dX3_wakes_60 (by decide) ?_
          exact hK12 _ _ _ _ _ _ hf hw (lv_sub hl [2, 3, 1, 4, 0] rfl)
        · replace hf := hf.1 h44
          refine lv_iload_n C.1 C.2.1 dX3_wakes_47 rfl (lv_at hl 2 rfl) ?_
          refine lv_if_eq (tgt := 55) C.1 C.2.1 dX3_wakes_48 (by decide) (fun h48 => ?_) (fun h48 => ?_)
          · replace hf := hf.1 h48
            refine lv_iconst (v := 0) C.1 C.2.1 dX3_wakes_55 rfl ?_
            refine lv_istore_n (lv' := [(2, .int 0), (0, .ref (ad 0)), (1, .int x1), (3, .int x3), (4, .int x4)]) C.1 C.2.1 dX3_wakes_56 rfl hl (Nat.le_of_ble_eq_true rfl) rfl (fun ls hl => ?_)
            refine lv_iinc (v := (x4 + 1)) (lv' := [(4, .int (x4 + 1)), (2, .int 0), (0, .ref (ad 0)), (1, .int x1), (3, .int x3)]) C.1 C.2.1 dX3_wakes_57 hl (k := 4) rfl rfl (Nat.le_of_ble_eq_true rfl) rfl (fun ls hl => ?_)
            refine lv_goto (tgt := 12) C.1 C.2.1 dX3_wakes_60 (by decide) ?_
            exact hK12 _ _ _ _ _ _ hf hw (lv_sub hl [2, 3, 1, 4, 0] rfl)
          · replace hf := hf.2 h48
            refine lv_iconst (v := 1) C.1 C.2.1 dX3_wakes_51 rfl ?_
            refine lv_goto (tgt := 56) C.1 C.2.1 dX3_wakes_52 (by decide) ?_
            refine lv_istore_n (lv' := [(2, .int 1), (0, .ref (ad 0)), (1, .int x1), (3, .int x3), (4, .int x4)]) C.1 C.2.1 dX3_wakes_56 rfl hl (Nat.le_of_ble_eq_true rfl) rfl (fun ls hl => ?_)
            refine lv_iinc (v := (x4 + 1)) (lv' := [(4, .int (x4 + 1)), (2, .int 1), (0, .ref (ad 0)), (1, .int x1), (3, .int x3)]) C.1 C.2.1 dX3_wakes_57 hl (k := 4) rfl rfl (Nat.le_of_ble_eq_true rfl) rfl (fun ls hl => ?_)
            refine lv_goto (tgt := 12) C.1 C.2.1 dX3_wakes_60 (by decide) ?_
            exact hK12 _ _ _ _ _ _ hf hw (lv_sub hl [2, 3, 1, 4, 0] rfl)
  have P12 : ∀ (x1 : Int32) (x3 : Int32) (K4 : St → Int32 → Int32 → Prop) (_ : ∀ (σ : St) (H : Heap) (locs : List Loc) (x2 : Int32) (x3 : Int32) (ls : Array Slot), K4 σ x2 x3 → gH D ct shM ad s σ H locs → lv_has ls 5 [(0, .ref (ad 0)), (1, .int x1), (2, .int x2), (3, .int x3)] → W p l e rm_m_wakes s m args below meth c H locs 0 0 QQ (F0 m 4 ls [])) (n : Nat) (σ : St) (x2 : Int32) (x4 : Int32) (ls : Array Slot) (H : Heap) (locs : List Loc), LL3 (m_wakes_p12 x1 x3 Q K4) n σ x2 x4 → gH D ct shM ad s σ H locs → lv_has ls 5 [(0, .ref (ad 0)), (1, .int x1), (2, .int x2), (3, .int x3), (4, .int x4)] → W p l e rm_m_wakes s m args below meth c H locs 0 0 QQ (F0 m 12 ls []) := by
    intro x1 x3 K4 hK4 n
    induction n with
    | zero => intro σ x2 x4 ls H locs hf; exact False.elim hf
    | succ n ih => intro σ x2 x4 ls H locs hf hw hl; exact B12 x1 x3 K4 hK4 (LL3 _ n) (fun σ H locs x2 x4 ls hf hw hl => ih σ x2 x4 ls H locs hf hw hl) σ H locs x2 x4 ls hf hw hl
  have B4 : ∀ (x1 : Int32) (K4 : St → Int32 → Int32 → Prop) (_ : ∀ (σ : St) (H : Heap) (locs : List Loc) (x2 : Int32) (x3 : Int32) (ls : Array Slot), K4 σ x2 x3 → gH D ct shM ad s σ H locs → lv_has ls 5 [(0, .ref (ad 0)), (1, .int x1), (2, .int x2), (3, .int x3)] → W p l e rm_m_wakes s m args below meth c H locs 0 0 QQ (F0 m 4 ls [])) (σ : St) (H : Heap) (locs : List Loc) (x2 : Int32) (x3 : Int32) (ls : Array Slot), m_wakes_p4 x1 Q K4 σ x2 x3 → gH D ct shM ad s σ H locs → lv_has ls 5 [(0, .ref (ad 0)), (1, .int x1), (2, .int x2), (3, .int x3)] → W p l e rm_m_wakes s m args below meth c H locs 0 0 QQ (F0 m 4 ls []) := by
    intro x1 K4 hK4 σ H locs x2 x3 ls hf hw hl
    unfold m_wakes_p4 at hf
    refine lv_iload_n C.1 C.2.1 dX3_wakes_4 rfl (lv_at hl 3 rfl) ?_
    refine lv_iload_n C.1 C.2.1 dX3_wakes_5 rfl (lv_at hl 1 rfl) ?_
    refine lv_icmp_gt (tgt := 69) C.1 C.2.1 dX3_wakes_6 (by decide) (fun h6 => ?_) (fun h6 => ?_)
    · replace hf := hf.1 h6
      refine lv_iload_n C.1 C.2.1 dX3_wakes_69 rfl (lv_at hl 2 rfl) ?_
      obtain ⟨hz, hf⟩ := hf
      exact hret _ _ _ _ _ _ hf hw hz dX3_wakes_70
    · replace hf := hf.2 h6
      refine lv_iconst (v := 0) C.1 C.2.1 dX3_wakes_9 rfl ?_
      refine lv_istore (lv' := [(4, .int 0), (0, .ref (ad 0)), (1, .int x1), (2, .int x2), (3, .int x3)]) C.1 C.2.1 dX3_wakes_10 hl (Nat.le_of_ble_eq_true rfl) rfl (fun ls hl => ?_)
      obtain ⟨n, hf⟩ := hf
      exact P12 _ _ _ hK4 n _ _ _ _ _ _ hf hw (lv_sub hl [1, 2, 3, 4, 0] rfl)
  have P4 : ∀ (x1 : Int32) (n : Nat) (σ : St) (x2 : Int32) (x3 : Int32) (ls : Array Slot) (H : Heap) (locs : List Loc), LL3 (m_wakes_p4 x1 Q) n σ x2 x3 → gH D ct shM ad s σ H locs → lv_has ls 5 [(0, .ref (ad 0)), (1, .int x1), (2, .int x2), (3, .int x3)] → W p l e rm_m_wakes s m args below meth c H locs 0 0 QQ (F0 m 4 ls []) := by
    intro x1 n
    induction n with
    | zero => intro σ x2 x3 ls H locs hf; exact False.elim hf
    | succ n ih => intro σ x2 x3 ls H locs hf hw hl; exact B4 x1 (LL3 _ n) (fun σ H locs x2 x3 ls hf hw hl => ih σ x2 x3 ls H locs hf hw hl) σ H locs x2 x3 ls hf hw hl
  unfold m_wakes at hf
  obtain ⟨H, hH⟩ : ∃ q, q = s.heap := ⟨_, rfl⟩
  obtain ⟨locs, hL⟩ : ∃ q : List Loc, q = [] := ⟨_, rfl⟩
  rw [← hH, ← hL] at hw ⊢
  refine lv_iconst (v := 0) C.1 C.2.1 dX3_wakes_0 rfl ?_
  refine lv_istore_n (lv' := [(2, .int 0), (0, .ref (ad 0)), (1, .int x1)]) C.1 C.2.1 dX3_wakes_1 rfl hl (Nat.le_of_ble_eq_true rfl) rfl (fun ls hl => ?_)
  refine lv_iconst (v := 0) C.1 C.2.1 dX3_wakes_2 rfl ?_
  refine lv_istore_n (lv' := [(3, .int 0), (2, .int 0), (0, .ref (ad 0)), (1, .int x1)]) C.1 C.2.1 dX3_wakes_3 rfl hl (Nat.le_of_ble_eq_true rfl) rfl (fun ls hl => ?_)
  obtain ⟨n, hf⟩ := hf
  exact P4 _ n _ _ _ _ _ _ hf hw (lv_sub hl [2, 3, 1, 0] rfl)
theorem km_wakes {p : Program} {l : Launch} {e : Env} {R : Room} {s : State} {m : MethodId} {args : Array Value} {below : List Frame} {meth : Method} {c : Code} {H : Heap} {locs : List Loc} {Z : State → Prop} {cc : ByteArray} {nL pc : Nat} {ls : Array Slot} {rest : List Value} {D : va_G} {ct : Ct} {ad : Nat → Nat} {σ : St} {x1 : Int32} {Qp : Int32 → St → Prop} (C : CallFix p m c cc nL s args lw_all RX3) (hw : gH D ct shM ad s σ H locs) (hsz : ls.size = nL) (hrm : (rest.map fun v => v.category).sum ≤ 8) (hR : rm_m_wakes.frames + 1 ≤ R.frames ∧ 8 + (5 + 11) + rm_m_wakes.locals ≤ R.locals) (hdg : decode cc pc = .ok (.invokevirtual 452, 3)) (hf : m_wakes σ x1 Qp) (kk : ∀ (r : Int32) (σ1 : St) (H1 : Heap) (locs1 : List Loc), Qp r σ1 → gH D ct shM ad s σ1 H1 locs1 → W p l e R s m args below meth c H1 locs1 0 0 Z (F0 m (pc + 3) ls (.int r :: rest))) : W p l e R s m args below meth c H locs 0 0 Z (F0 m pc ls (.int x1 :: .ref (ad 0) :: rest)) :=
  g_callV (As := [.int x1]) (rest := rest) C hw rfl rfl (met_m_wakes l D ct ad hw.2.1 σ x1 Qp hf) (cwV 1 C.2.2.2.2 (lw_V q1927 q1929 qs158 q207 q1930) rfl rfl rfl (by decide +kernel) hR) rfl hsz rfl hrm ⟨Nat.zero_le _, Nat.zero_le _⟩ hdg kk
def m_isEndlessBelow_p3 (σ : St) (x1 : Int32) (x2 : Int32) (x3 : Int32) (x4 : Int32) (Q : Int32 → Prop) (K3 : Int32 → Prop) (x5 : Int32) : Prop :=
  (((gI σ 2 0) ≤ x5 → Q 0) ∧ (¬ (gI σ 2 0) ≤ x5 → (vp_in (fm_spot x5 x3 x4) 2028 ∧ (((gI σ 47 (fm_spot x5 x3 x4)) = 0 → K3 (x5 + 1)) ∧ (¬ (gI σ 47 (fm_spot x5 x3 x4)) = 0 → (m_isCapitalAt σ x1 x2 (fun r33 => ((r33 = 0 → K3 (x5 + 1)) ∧ (¬ r33 = 0 → (m_isBelow σ 1 x1 x2 x5 (fun r45 => ((r45 = 0 → K3 (x5 + 1)) ∧ (¬ r45 = 0 → Q 1)))))))))))))
def m_isEndlessBelow (σ : St) (x1 : Int32) (x2 : Int32) (x3 : Int32) (x4 : Int32) (Q : Int32 → Prop) : Prop :=
  (Lp1 (m_isEndlessBelow_p3 σ x1 x2 x3 x4 Q) 0)
abbrev rm_m_isEndlessBelow : Room := { frames := 3, cells := 0, slots := 0, locals := 70 }
set_option maxHeartbeats 4000000 in
theorem met_m_isEndlessBelow (l : Launch) (D : va_G) (ct : Ct) (ad : Nat → Nat) (hJ : gJ shM ad ct) (σ : St) (x1 : Int32) (x2 : Int32) (x3 : Int32) (x4 : Int32) (Q : Int32 → Prop) (hf : m_isEndlessBelow σ x1 x2 x3 x4 Q) : Met l yX3_isEndlessBelow (ws_ yX3_isEndlessBelow cX3_isEndlessBelow 6 (some .boolean)) rm_m_isEndlessBelow (va_Pc [.ref (ad 0), .int x1, .int x2, .int x3, .int x4] (gP D ct shM ad σ)) (gR rvI Q) 0 0 (fun _ => False) := by
  refine g_metRZ hJ (by decide) (Nat.le_of_ble_eq_true rfl) ?_
  intro p e s m args below meth c QQ ls H C hw hl hret
  replace hl : lv_has ls 6 [(0, .ref (ad 0)), (1, .int x1), (2, .int x2), (3, .int x3), (4, .int x4)] := hl
  have B3 : ∀ (x1 : Int32) (x2 : Int32) (x3 : Int32) (x4 : Int32) (K3 : Int32 → Prop) (_ : ∀ (x5 : Int32) (ls : Array Slot), K3 x5 → lv_has ls 6 [(0, .ref (ad 0)), (1, .int x1), (2, .int x2), (3, .int x3), (4, .int x4), (5, .int x5)] → W p l e rm_m_isEndlessBelow s m args below meth c H [] 0 0 QQ (F0 m 3 ls [])) (x5 : Int32) (ls : Array Slot), m_isEndlessBelow_p3 σ x1 x2 x3 x4 Q K3 x5 → lv_has ls 6 [(0, .ref (ad 0)), (1, .int x1), (2, .int x2), (3, .int x3), (4, .int x4), (5, .int x5)] → W p l e rm_m_isEndlessBelow s m args below meth c H [] 0 0 QQ (F0 m 3 ls []) := by
    intro x1 x2 x3 x4 K3 hK3 x5 ls hf hl
    unfold m_isEndlessBelow_p3 at hf
    refine lv_iload C.1 C.2.1 dX3_isEndlessBelow_3 (lv_at hl 5 rfl) ?_
    refine lv_aload_n C.1 C.2.1 dX3_isEndlessBelow_5 rfl (lv_at hl 0 rfl) ?_
    refine mg_scalar C hw dX3_isEndlessBelow_6 ?_
    refine lv_iconst (v := 0) C.1 C.2.1 dX3_isEndlessBelow_9 rfl ?_
    refine g_iald C hw 2 rfl (vpD rfl) dX3_isEndlessBelow_10 ?_
    refine lv_icmp_ge (tgt := 59) C.1 C.2.1 dX3_isEndlessBelow_11 (by decide) (fun h11 => ?_) (fun h11 => ?_)
    · replace hf := hf.1 h11
      refine lv_iconst (v := 0) C.1 C.2.1 dX3_isEndlessBelow_59 rfl ?_
      exact hret _ _ _ hf (Or.inl rfl) dX3_isEndlessBelow_60
    · replace hf := hf.2 h11
      refine lv_aload_n C.1 C.2.1 dX3_isEndlessBelow_14 rfl (lv_at hl 0 rfl) ?_
      refine mg_isEndless C hw dX3_isEndlessBelow_15 ?_
      refine lv_iload C.1 C.2.1 dX3_isEndlessBelow_18 (lv_at hl 5 rfl) ?_
      refine lv_iload_n C.1 C.2.1 dX3_isEndlessBelow_20 rfl (lv_at hl 3 rfl) ?_
      refine lv_iload C.1 C.2.1 dX3_isEndlessBelow_21 (lv_at hl 4 rfl) ?_
      refine km_spot C hl.1 (Nat.le_of_ble_eq_true rfl) ⟨Nat.le_of_ble_eq_true rfl, Nat.le_of_ble_eq_true rfl⟩ dX3_isEndlessBelow_23 ?_
      obtain ⟨b26, hf⟩ := hf
      refine g_zald C hw 47 rfl b26 dX3_isEndlessBelow_26 ?_
      refine lv_if_eq (tgt := 53) C.1 C.2.1 dX3_isEndlessBelow_27 (by decide) (fun h27 => ?_) (fun h27 => ?_)
      · replace hf := hf.1 h27
        refine lv_iinc (v := (x5 + 1)) (lv' := [(5, .int (x5 + 1)), (0, .ref (ad 0)), (1, .int x1), (2, .int x2), (3, .int x3), (4, .int x4)]) C.1 C.2.1 dX3_isEndlessBelow_53 hl (k := 5) rfl rfl (Nat.le_of_ble_eq_true rfl) rfl (fun ls hl => ?_)
        refine lv_goto (tgt := 3) C.1 C.2.1 dX3_isEndlessBelow_56 (by decide) ?_
        exact hK3 _ _ hf (lv_sub hl [1, 2, 3, 4, 5, 0] rfl)
      · replace hf := hf.2 h27
        refine lv_aload_n C.1 C.2.1 dX3_isEndlessBelow_30 rfl (lv_at hl 0 rfl) ?_
        refine lv_iload_n C.1 C.2.1 dX3_isEndlessBelow_31 rfl (lv_at hl 1 rfl) ?_
        refine lv_iload_n C.1 C.2.1 dX3_isEndlessBelow_32 rfl (lv_at hl 2 rfl) ?_
        refine km_isCapitalAt C hw hl.1 (Nat.le_of_ble_eq_true rfl) ⟨Nat.le_of_ble_eq_true rfl, Nat.le_of_ble_eq_true rfl⟩ dX3_isEndlessBelow_33 hf (fun r33 hf => ?_)
        refine lv_if_eq (tgt := 53) C.1 C.2.1 dX3_isEndlessBelow_36 (by decide) (fun h36 => ?_) (fun h36 => ?_)
        · replace hf := hf.1 h36
          refine lv_iinc (v := (x5 + 1)) (lv' := [(5, .int (x5 + 1)), (0, .ref (ad 0)), (1, .int x1), (2, .int x2), (3, .int x3), (4, .int x4)]) C.1 C.2.1 dX3_isEndlessBelow_53 hl (k := 5) rfl rfl (Nat.le_of_ble_eq_true rfl) rfl (fun ls hl => ?_)
          refine lv_goto (tgt := 3) C.1 C.2.1 dX3_isEndlessBelow_56 (by decide) ?_
          exact hK3 _ _ hf (lv_sub hl [1, 2, 3, 4, 5, 0] rfl)
        · replace hf := hf.2 h36
          refine lv_aload_n C.1 C.2.1 dX3_isEndlessBelow_39 rfl (lv_at hl 0 rfl) ?_
          refine lv_iconst (v := 1) C.1 C.2.1 dX3_isEndlessBelow_40 rfl ?_
          refine lv_iload_n C.1 C.2.1 dX3_isEndlessBelow_41 rfl (lv_at hl 1 rfl) ?_
          refine lv_iload_n C.1 C.2.1 dX3_isEndlessBelow_42 rfl (lv_at hl 2 rfl) ?_
          refine lv_iload C.1 C.2.1 dX3_isEndlessBelow_43 (lv_at hl 5 rfl) ?_
          refine km_isBelow C hw hl.1 (Nat.le_of_ble_eq_true rfl) ⟨Nat.le_of_ble_eq_true rfl, Nat.le_of_ble_eq_true rfl⟩ dX3_isEndlessBelow_45 hf (fun r45 hf => ?_)
          refine lv_if_eq (tgt := 53) C.1 C.2.1 dX3_isEndlessBelow_48 (by decide) (fun h48 => ?_) (fun h48 => ?_)
          · replace hf := hf.1 h48
            refine lv_iinc (v := (x5 + 1)) (lv' := [(5, .int (x5 + 1)), (0, .ref (ad 0)), (1, .int x1), (2, .int x2), (3, .int x3), (4, .int x4)]) C.1 C.2.1 dX3_isEndlessBelow_53 hl (k := 5) rfl rfl (Nat.le_of_ble_eq_true rfl) rfl (fun ls hl => ?_)
            refine lv_goto (tgt := 3) C.1 C.2.1 dX3_isEndlessBelow_56 (by decide) ?_
            exact hK3 _ _ hf (lv_sub hl [1, 2, 3, 4, 5, 0] rfl)
          · replace hf := hf.2 h48
            refine lv_iconst (v := 1) C.1 C.2.1 dX3_isEndlessBelow_51 rfl ?_
            exact hret _ _ _ hf (Or.inr rfl) dX3_isEndlessBelow_52
  have P3 : ∀ (x1 : Int32) (x2 : Int32) (x3 : Int32) (x4 : Int32) (n : Nat) (x5 : Int32) (ls : Array Slot), LL1 (m_isEndlessBelow_p3 σ x1 x2 x3 x4 Q) n x5 → lv_has ls 6 [(0, .ref (ad 0)), (1, .int x1), (2, .int x2), (3, .int x3), (4, .int x4), (5, .int x5)] → W p l e rm_m_isEndlessBelow s m args below meth c H [] 0 0 QQ (F0 m 3 ls []) := by
    intro x1 x2 x3 x4 n
    induction n with
    | zero => intro x5 ls hf; exact False.elim hf
    | succ n ih => intro x5 ls hf hl; exact B3 x1 x2 x3 x4 (LL1 _ n) ih x5 ls hf hl
  unfold m_isEndlessBelow at hf
  refine lv_iconst (v := 0) C.1 C.2.1 dX3_isEndlessBelow_0 rfl ?_
  refine lv_istore (lv' := [(5, .int 0), (0, .ref (ad 0)), (1, .int x1), (2, .int x2), (3, .int x3), (4, .int x4)]) C.1 C.2.1 dX3_isEndlessBelow_1 hl (Nat.le_of_ble_eq_true rfl) rfl (fun ls hl => ?_)
  obtain ⟨n, hf⟩ := hf
  exact P3 _ _ _ _ n _ _ hf (lv_sub hl [1, 2, 3, 4, 5, 0] rfl)
theorem km_isEndlessBelow {p : Program} {l : Launch} {e : Env} {R : Room} {s : State} {m : MethodId} {args : Array Value} {below : List Frame} {meth : Method} {c : Code} {H : Heap} {locs : List Loc} {Z : State → Prop} {cc : ByteArray} {nL pc : Nat} {ls : Array Slot} {rest : List Value} {D : va_G} {ct : Ct} {ad : Nat → Nat} {σ : St} {x1 : Int32} {x2 : Int32} {x3 : Int32} {x4 : Int32} {Qp : Int32 → Prop} (C : CallFix p m c cc nL s args lw_all RX3) (hw : gH D ct shM ad s σ H locs) (hsz : ls.size = nL) (hrm : (rest.map fun v => v.category).sum ≤ 8) (hR : rm_m_isEndlessBelow.frames + 1 ≤ R.frames ∧ 8 + (6 + 11) + rm_m_isEndlessBelow.locals ≤ R.locals) (hdg : decode cc pc = .ok (.invokevirtual 468, 3)) (hf : m_isEndlessBelow σ x1 x2 x3 x4 Qp) (kk : ∀ (r : Int32), Qp r → W p l e R s m args below meth c H locs 0 0 Z (F0 m (pc + 3) ls (.int r :: rest))) : W p l e R s m args below meth c H locs 0 0 Z (F0 m pc ls (.int x4 :: .int x3 :: .int x2 :: .int x1 :: .ref (ad 0) :: rest)) :=
  g_callVR (As := [.int x1, .int x2, .int x3, .int x4]) (rest := rest) C hw rfl rfl (met_m_isEndlessBelow l D ct ad hw.2.1 σ x1 x2 x3 x4 Qp hf) (cwV 4 C.2.2.2.2 (lw_V q1975 q1977 qs167 q207 q1978) rfl rfl rfl (by decide +kernel) hR) rfl hsz rfl hrm ⟨Nat.zero_le _, Nat.zero_le _⟩ hdg kk
def m_treesBelow_p33 (σ : St) (x1 : Int32) (x2 : Int32) (x3 : Int32) (x4 : Int32) (Q : Int64 → Prop) (K33 : Int64 → Int32 → Prop) (x5 : Int64) (x7 : Int32) : Prop :=
  (((gI σ 2 0) ≤ x7 → ((x5 ≤ 2147483648 → Q x5) ∧ (¬ x5 ≤ 2147483648 → Q 2147483648))) ∧ (¬ (gI σ 2 0) ≤ x7 → (m_isBelow σ 1 x1 x2 x7 (fun r52 => ((r52 = 0 → K33 (x5 + 0) (x7 + 1)) ∧ (¬ r52 = 0 → (vp_in (fm_spot x7 x3 x4) 2028 ∧ K33 (x5 + (gL σ 48 (fm_spot x7 x3 x4))) (x7 + 1))))))))
def m_treesBelow (σ : St) (x1 : Int32) (x2 : Int32) (x3 : Int32) (x4 : Int32) (Q : Int64 → Prop) : Prop :=
  (m_isCapitalAt σ x1 x2 (fun r3 => ((r3 = 0 → (m_isSmallAt σ x1 x2 x3 x4 (fun r15 => ((r15 = 0 → Q 0) ∧ (¬ r15 = 0 → Q 1))))) ∧ (¬ r3 = 0 → (Lp2 (m_treesBelow_p33 σ x1 x2 x3 x4 Q) 0 0)))))
abbrev rm_m_treesBelow : Room := { frames := 3, cells := 0, slots := 0, locals := 70 }
set_option maxHeartbeats 4000000 in
theorem met_m_treesBelow (l : Launch) (D : va_G) (ct : Ct) (ad : Nat → Nat) (hJ : gJ shM ad ct) (σ : St) (x1 : Int32) (x2 : Int32) (x3 : Int32) (x4 : Int32) (Q : Int64 → Prop) (hf : m_treesBelow σ x1 x2 x3 x4 Q) : Met l yX3_treesBelow (ws_ yX3_treesBelow cX3_treesBelow 8 (some .long)) rm_m_treesBelow (va_Pc [.ref (ad 0), .int x1, .int x2, .int x3, .int x4] (gP D ct shM ad σ)) (gR rvL Q) 0 0 (fun _ => False) := by
  refine g_metRL hJ (by decide) (Nat.le_of_ble_eq_true rfl) ?_
  intro p e s m args below meth c QQ ls H C hw hl hret
  replace hl : lv_has ls 8 [(0, .ref (ad 0)), (1, .int x1), (2, .int x2), (3, .int x3), (4, .int x4)] := hl
  have B33 : ∀ (x1 : Int32) (x2 : Int32) (x3 : Int32) (x4 : Int32) (K33 : Int64 → Int32 → Prop) (_ : ∀ (x5 : Int64) (x7 : Int32) (ls : Array Slot), K33 x5 x7 → lv_has ls 8 [(0, .ref (ad 0)), (1, .int x1), (2, .int x2), (3, .int x3), (4, .int x4), (5, .long x5), (7, .int x7)] → W p l e rm_m_treesBelow s m args below meth c H [] 0 0 QQ (F0 m 33 ls [])) (x5 : Int64) (x7 : Int32) (ls : Array Slot), m_treesBelow_p33 σ x1 x2 x3 x4 Q K33 x5 x7 → lv_has ls 8 [(0, .ref (ad 0)), (1, .int x1), (2, .int x2), (3, .int x3), (4, .int x4), (5, .long x5), (7, .int x7)] → W p l e rm_m_treesBelow s m args below meth c H [] 0 0 QQ (F0 m 33 ls []) := by
    intro x1 x2 x3 x4 K33 hK33 x5 x7 ls hf hl
    unfold m_treesBelow_p33 at hf
    refine lv_iload C.1 C.2.1 dX3_treesBelow_33 (lv_at hl 6 rfl) ?_
    refine lv_aload_n C.1 C.2.1 dX3_treesBelow_35 rfl (lv_at hl 0 rfl) ?_
    refine mg_scalar C hw dX3_treesBelow_36 ?_
    refine lv_iconst (v := 0) C.1 C.2.1 dX3_treesBelow_39 rfl ?_
    refine g_iald C hw 2 rfl (vpD rfl) dX3_treesBelow_40 ?_
    refine lv_icmp_ge (tgt := 84) C.1 C.2.1 dX3_treesBelow_41 (by decide) (fun h41 => ?_) (fun h41 => ?_)
    · replace hf := hf.1 h41
      refine lv_lload C.1 C.2.1 dX3_treesBelow_84 (lv_at hl 5 rfl) ?_
      refine lv_ldc2 C.1 C.2.1 C.2.2.2.1 (C.2.2.2.2 _ q1991) dX3_treesBelow_86 ?_
      refine W.lcmp C.1 C.2.1 dX3_treesBelow_89 ?_
      refine lv_if_le (tgt := 99) C.1 C.2.1 dX3_treesBelow_90 (by decide) (fun h90 => ?_) (fun h90 => ?_)
      · replace hf := hf.1 ((lg_cmp_le _ _).mp h90)
        refine lv_lload C.1 C.2.1 dX3_treesBelow_99 (lv_at hl 5 rfl) ?_
        exact hret _ _ _ hf dX3_treesBelow_101
      · replace hf := hf.2 (fun q => h90 ((lg_cmp_le _ _).mpr q))
        refine lv_ldc2 C.1 C.2.1 C.2.2.2.1 (C.2.2.2.2 _ q1991) dX3_treesBelow_93 ?_
        refine lv_goto (tgt := 101) C.1 C.2.1 dX3_treesBelow_96 (by decide) ?_
        exact hret _ _ _ hf dX3_treesBelow_101
    · replace hf := hf.2 h41
      refine lv_lload C.1 C.2.1 dX3_treesBelow_44 (lv_at hl 5 rfl) ?_
      refine lv_aload_n C.1 C.2.1 dX3_treesBelow_46 rfl (lv_at hl 0 rfl) ?_
      refine lv_iconst (v := 1) C.1 C.2.1 dX3_treesBelow_47 rfl ?_
      refine lv_iload_n C.1 C.2.1 dX3_treesBelow_48 rfl (lv_at hl 1 rfl) ?_
      refine lv_iload_n C.1 C.2.1 dX3_treesBelow_49 rfl (lv_at hl 2 rfl) ?_
      refine lv_iload C.1 C.2.1 dX3_treesBelow_50 (lv_at hl 6 rfl) ?_
      refine km_isBelow C hw hl.1 (Nat.le_of_ble_eq_true rfl) ⟨Nat.le_of_ble_eq_true rfl, Nat.le_of_ble_eq_true rfl⟩ dX3_treesBelow_52 hf (fun r52 hf => ?_)
      refine lv_if_eq (tgt := 74) C.1 C.2.1 dX3_treesBelow_55 (by decide) (fun h55 => ?_) (fun h55 => ?_)
      · replace hf := hf.1 h55
        refine lv_lconst (v := 0) C.1 C.2.1 dX3_treesBelow_74 rfl ?_
        refine lv_ladd C.1 C.2.1 dX3_treesBelow_75 ?_
        refine lv_lstore (lv' := [(5, .long (x5 + 0)), (0, .ref (ad 0)), (1, .int x1), (2, .int x2), (3, .int x3), (4, .int x4), (7, .int x7)]) C.1 C.2.1 dX3_treesBelow_76 hl (Nat.le_of_ble_eq_true rfl) rfl (fun ls hl => ?_)
        refine lv_iinc (v := (x7 + 1)) (lv' := [(7, .int (x7 + 1)), (5, .long (x5 + 0)), (0, .ref (ad 0)), (1, .int x1), (2, .int x2), (3, .int x3), (4, .int x4)]) C.1 C.2.1 dX3_treesBelow_78 hl (k := 6) rfl rfl (Nat.le_of_ble_eq_true rfl) rfl (fun ls hl => ?_)
        refine lv_goto (tgt := 33) C.1 C.2.1 dX3_treesBelow_81 (by decide) ?_
        exact hK33 _ _ _ hf (lv_sub hl [2, 3, 4, 5, 6, 1, 0] rfl)
      · replace hf := hf.2 h55
        refine lv_aload_n C.1 C.2.1 dX3_treesBelow_58 rfl (lv_at hl 0 rfl) ?_
        refine mg_manyTrees C hw dX3_treesBelow_59 ?_
        refine lv_iload C.1 C.2.1 dX3_treesBelow_62 (lv_at hl 6 rfl) ?_
        refine lv_iload_n C.1 C.2.1 dX3_treesBelow_64 rfl (lv_at hl 3 rfl) ?_
        refine lv_iload C.1 C.2.1 dX3_treesBelow_65 (lv_at hl 4 rfl) ?_
        refine km_spot C hl.1 (Nat.le_of_ble_eq_true rfl) ⟨Nat.le_of_ble_eq_true rfl, Nat.le_of_ble_eq_true rfl⟩ dX3_treesBelow_67 ?_
        obtain ⟨b70, hf⟩ := hf
        refine g_lald C hw 48 rfl b70 dX3_treesBelow_70 ?_
        refine lv_goto (tgt := 75) C.1 C.2.1 dX3_treesBelow_71 (by decide) ?_
        refine lv_ladd C.1 C.2.1 dX3_treesBelow_75 ?_
        refine lv_lstore (lv' := [(5, .long (x5 + (gL σ 48 (fm_spot x7 x3 x4)))), (0, .ref (ad 0)), (1, .int x1), (2, .int x2), (3, .int x3), (4, .int x4), (7, .int x7)]) C.1 C.2.1 dX3_treesBelow_76 hl (Nat.le_of_ble_eq_true rfl) rfl (fun ls hl => ?_)
        refine lv_iinc (v := (x7 + 1)) (lv' := [(7, .int (x7 + 1)), (5, .long (x5 + (gL σ 48 (fm_spot x7 x3 x4)))), (0, .ref (ad 0)), (1, .int x1), (2, .int x2), (3, .int x3), (4, .int x4)]) C.1 C.2.1 dX3_treesBelow_78 hl (k := 6) rfl rfl (Nat.le_of_ble_eq_true rfl) rfl (fun ls hl => ?_)
        refine lv_goto (tgt := 33) C.1 C.2.1 dX3_treesBelow_81 (by decide) ?_
        exact hK33 _ _ _ hf (lv_sub hl [2, 3, 4, 5, 6, 1, 0] rfl)
  have P33 : ∀ (x1 : Int32) (x2 : Int32) (x3 : Int32) (x4 : Int32) (n : Nat) (x5 : Int64) (x7 : Int32) (ls : Array Slot), LL2 (m_treesBelow_p33 σ x1 x2 x3 x4 Q) n x5 x7 → lv_has ls 8 [(0, .ref (ad 0)), (1, .int x1), (2, .int x2), (3, .int x3), (4, .int x4), (5, .long x5), (7, .int x7)] → W p l e rm_m_treesBelow s m args below meth c H [] 0 0 QQ (F0 m 33 ls []) := by
    intro x1 x2 x3 x4 n
    induction n with
    | zero => intro x5 x7 ls hf; exact False.elim hf
    | succ n ih => intro x5 x7 ls hf hl; exact B33 x1 x2 x3 x4 (LL2 _ n) ih x5 x7 ls hf hl
  unfold m_treesBelow at hf
  refine lv_aload_n C.1 C.2.1 dX3_treesBelow_0 rfl (lv_at hl 0 rfl) ?_
  refine lv_iload_n C.1 C.2.1 dX3_treesBelow_1 rfl (lv_at hl 1 rfl) ?_
  refine lv_iload_n C.1 C.2.1 dX3_treesBelow_2 rfl (lv_at hl 2 rfl) ?_
  refine km_isCapitalAt C hw hl.1 (Nat.le_of_ble_eq_true rfl) ⟨Nat.le_of_ble_eq_true rfl, Nat.le_of_ble_eq_true rfl⟩ dX3_treesBelow_3 hf (fun r3 hf => ?_)
  refine lv_if_ne (tgt := 27) C.1 C.2.1 dX3_treesBelow_6 (by decide) (fun h6 => ?_) (fun h6 => ?_)
  · replace hf := hf.2 h6
    refine lv_lconst (v := 0) C.1 C.2.1 dX3_treesBelow_27 rfl ?_
    refine lv_lstore (lv' := [(5, .long 0), (0, .ref (ad 0)), (1, .int x1), (2, .int x2), (3, .int x3), (4, .int x4)]) C.1 C.2.1 dX3_treesBelow_28 hl (Nat.le_of_ble_eq_true rfl) rfl (fun ls hl => ?_)
    refine lv_iconst (v := 0) C.1 C.2.1 dX3_treesBelow_30 rfl ?_
    refine lv_istore (lv' := [(7, .int 0), (5, .long 0), (0, .ref (ad 0)), (1, .int x1), (2, .int x2), (3, .int x3), (4, .int x4)]) C.1 C.2.1 dX3_treesBelow_31 hl (Nat.le_of_ble_eq_true rfl) rfl (fun ls hl => ?_)
    obtain ⟨n, hf⟩ := hf
    exact P33 _ _ _ _ n _ _ _ hf (lv_sub hl [2, 3, 4, 5, 6, 1, 0] rfl)
  · replace hf := hf.1 h6
    refine lv_aload_n C.1 C.2.1 dX3_treesBelow_9 rfl (lv_at hl 0 rfl) ?_
    refine lv_iload_n C.1 C.2.1 dX3_treesBelow_10 rfl (lv_at hl 1 rfl) ?_
    refine lv_iload_n C.1 C.2.1 dX3_treesBelow_11 rfl (lv_at hl 2 rfl) ?_
    refine lv_iload_n C.1 C.2.1 dX3_treesBelow_12 rfl (lv_at hl 3 rfl) ?_
    refine lv_iload C.1 C.2.1 dX3_treesBelow_13 (lv_at hl 4 rfl) ?_
    refine km_isSmallAt C hw hl.1 (Nat.le_of_ble_eq_true rfl) ⟨Nat.le_of_ble_eq_true rfl, Nat.le_of_ble_eq_true rfl⟩ dX3_treesBelow_15 hf (fun r15 hf => ?_)
    refine lv_if_eq (tgt := 25) C.1 C.2.1 dX3_treesBelow_18 (by decide) (fun h18 => ?_) (fun h18 => ?_)
    · replace hf := hf.1 h18
      refine lv_lconst (v := 0) C.1 C.2.1 dX3_treesBelow_25 rfl ?_
      exact hret _ _ _ hf dX3_treesBelow_26
    · replace hf := hf.2 h18
      refine lv_lconst (v := 1) C.1 C.2.1 dX3_treesBelow_21 rfl ?_
      refine lv_goto (tgt := 26) C.1 C.2.1 dX3_treesBelow_22 (by decide) ?_
      exact hret _ _ _ hf dX3_treesBelow_26
theorem km_treesBelow {p : Program} {l : Launch} {e : Env} {R : Room} {s : State} {m : MethodId} {args : Array Value} {below : List Frame} {meth : Method} {c : Code} {H : Heap} {locs : List Loc} {Z : State → Prop} {cc : ByteArray} {nL pc : Nat} {ls : Array Slot} {rest : List Value} {D : va_G} {ct : Ct} {ad : Nat → Nat} {σ : St} {x1 : Int32} {x2 : Int32} {x3 : Int32} {x4 : Int32} {Qp : Int64 → Prop} (C : CallFix p m c cc nL s args lw_all RX3) (hw : gH D ct shM ad s σ H locs) (hsz : ls.size = nL) (hrm : (rest.map fun v => v.category).sum ≤ 8) (hR : rm_m_treesBelow.frames + 1 ≤ R.frames ∧ 8 + (8 + 11) + rm_m_treesBelow.locals ≤ R.locals) (hdg : decode cc pc = .ok (.invokevirtual 476, 3)) (hf : m_treesBelow σ x1 x2 x3 x4 Qp) (kk : ∀ (r : Int64), Qp r → W p l e R s m args below meth c H locs 0 0 Z (F0 m (pc + 3) ls (.long r :: rest))) : W p l e R s m args below meth c H locs 0 0 Z (F0 m pc ls (.int x4 :: .int x3 :: .int x2 :: .int x1 :: .ref (ad 0) :: rest)) :=
  g_callVR (As := [.int x1, .int x2, .int x3, .int x4]) (rest := rest) C hw rfl rfl (met_m_treesBelow l D ct ad hw.2.1 σ x1 x2 x3 x4 Qp hf) (cwV 4 C.2.2.2.2 (lw_V q1987 q1989 qs170 q207 q1990) rfl rfl rfl (by decide +kernel) hR) rfl hsz rfl hrm ⟨Nat.zero_le _, Nat.zero_le _⟩ hdg kk
def m_marksBelow_p6 (x1 : Int32) (x2 : Int32) (x3 : Int32) (x4 : Int32) (Q : Int32 → St → Prop) (K6 : St → Int32 → Int32 → Prop) (σ : St) (x5 : Int32) (x6 : Int32) : Prop :=
  (((gI σ 2 0) ≤ x6 → (zB x5 ∧ Q x5 σ)) ∧ (¬ (gI σ 2 0) ≤ x6 → (vp_in (2028 + (fm_spot x6 x3 x4)) 4056 ∧ (((gI σ 43 (2028 + (fm_spot x6 x3 x4))) = 0 → K6 σ x5 (x6 + 1)) ∧ (¬ (gI σ 43 (2028 + (fm_spot x6 x3 x4))) = 0 → (vp_in (fm_spot x6 x3 x4) 2028 ∧ (((gI σ 52 (fm_spot x6 x3 x4)) = 0 → (m_isBelow σ 1 x1 x2 x6 (fun r57 => ((r57 = 0 → K6 σ x5 (x6 + 1)) ∧ (¬ r57 = 0 → (∀ s70 : St, s70 = s_A σ 52 (Int32.toNatClampNeg (fm_spot x6 x3 x4)) 1 → K6 s70 1 (x6 + 1))))))) ∧ (¬ (gI σ 52 (fm_spot x6 x3 x4)) = 0 → K6 σ x5 (x6 + 1)))))))))
def m_marksBelow (σ : St) (x1 : Int32) (x2 : Int32) (x3 : Int32) (x4 : Int32) (Q : Int32 → St → Prop) : Prop :=
  (Lp3 (m_marksBelow_p6 x1 x2 x3 x4 Q) σ 0 0)
abbrev rm_m_marksBelow : Room := { frames := 3, cells := 0, slots := 0, locals := 70 }
set_option maxHeartbeats 4000000 in
theorem met_m_marksBelow (l : Launch) (D : va_G) (ct : Ct) (ad : Nat → Nat) (hJ : gJ shM ad ct) (σ : St) (x1 : Int32) (x2 : Int32) (x3 : Int32) (x4 : Int32) (Q : Int32 → St → Prop) (hf : m_marksBelow σ x1 x2 x3 x4 Q) : Met l yX3_marksBelow (ws_ yX3_marksBelow cX3_marksBelow 8 (some .boolean)) rm_m_marksBelow (va_Pc [.ref (ad 0), .int x1, .int x2, .int x3, .int x4] (gP D ct shM ad σ)) (gQ rvI D ct shM ad Q) 0 0 (gA shM ad) := by
  refine g_metZ hJ (by decide) (Nat.le_of_ble_eq_true rfl) ?_
  intro p e s m args below meth c QQ ls C hw hl hret
  replace hl : lv_has ls 8 [(0, .ref (ad 0)), (1, .int x1), (2, .int x2), (3, .int x3), (4, .int x4)] := hl
  have B6 : ∀ (x1 : Int32) (x2 : Int32) (x3 : Int32) (x4 : Int32) (K6 : St → Int32 → Int32 → Prop) (_ : ∀ (σ : St) (H : Heap) (locs : List Loc) (x5 : Int32) (x6 : Int32) (ls : Array Slot), K6 σ x5 x6 → gH D ct shM ad s σ H locs → lv_has ls 8 [(0, .ref (ad 0)), (1, .int x1), (2, .int x2), (3, .int x3), (4, .int x4), (5, .int x5), (6, .int x6)] → W p l e rm_m_marksBelow s m args below meth c H locs 0 0 QQ (F0 m 6 ls [])) (σ : St) (H : Heap) (locs : List Loc) (x5 : Int32) (x6 : Int32) (ls : Array Slot), m_marksBelow_p6 x1 x2 x3 x4 Q K6 σ x5 x6 → gH D ct shM ad s σ H locs → lv_has ls 8 [(0, .ref (ad 0)), (1, .int x1), (2, .int x2), (3, .int x3), (4, .int x4), (5, .int x5), (6, .int x6)] → W p l e rm_m_marksBelow s m args below meth c H locs 0 0 QQ (F0 m 6 ls []) := by
    intro x1 x2 x3 x4 K6 hK6 σ H locs x5 x6 ls hf hw hl
    unfold m_marksBelow_p6 at hf
    refine lv_iload C.1 C.2.1 dX3_marksBelow_6 (lv_at hl 6 rfl) ?_
    refine lv_aload_n C.1 C.2.1 dX3_marksBelow_8 rfl (lv_at hl 0 rfl) ?_
    refine mg_scalar C hw dX3_marksBelow_9 ?_
    refine lv_iconst (v := 0) C.1 C.2.1 dX3_marksBelow_12 rfl ?_
    refine g_iald C hw 2 rfl (vpD rfl) dX3_marksBelow_13 ?_
    refine lv_icmp_ge (tgt := 80) C.1 C.2.1 dX3_marksBelow_14 (by decide) (fun h14 => ?_) (fun h14 => ?_)
    · replace hf := hf.1 h14
      refine lv_iload C.1 C.2.1 dX3_marksBelow_80 (lv_at hl 5 rfl) ?_
      obtain ⟨hz, hf⟩ := hf
      exact hret _ _ _ _ _ _ hf hw hz dX3_marksBelow_82
    · replace hf := hf.2 h14
      refine lv_iload C.1 C.2.1 dX3_marksBelow_17 (lv_at hl 6 rfl) ?_
      refine lv_iload_n C.1 C.2.1 dX3_marksBelow_19 rfl (lv_at hl 3 rfl) ?_
      refine lv_iload C.1 C.2.1 dX3_marksBelow_20 (lv_at hl 4 rfl) ?_
      refine km_spot C hl.1 (Nat.le_of_ble_eq_true rfl) ⟨Nat.le_of_ble_eq_true rfl, Nat.le_of_ble_eq_true rfl⟩ dX3_marksBelow_22 ?_
      refine lv_istore (lv' := [(7, .int (fm_spot x6 x3 x4)), (0, .ref (ad 0)), (1, .int x1), (2, .int x2), (3, .int x3), (4, .int x4), (5, .int x5), (6, .int x6)]) C.1 C.2.1 dX3_marksBelow_25 hl (Nat.le_of_ble_eq_true rfl) rfl (fun ls hl => ?_)
      refine lv_aload_n C.1 C.2.1 dX3_marksBelow_27 rfl (lv_at hl 1 rfl) ?_
      refine mg_made C hw dX3_marksBelow_28 ?_
      refine lv_sipush (v := 2028) C.1 C.2.1 dX3_marksBelow_31 rfl ?_
      refine lv_iload C.1 C.2.1 dX3_marksBelow_34 (lv_at hl 0 rfl) ?_
      refine lv_iadd C.1 C.2.1 dX3_marksBelow_36 ?_
      obtain ⟨b37, hf⟩ := hf
      refine g_zald C hw 43 rfl b37 dX3_marksBelow_37 ?_
      refine lv_if_eq (tgt := 74) C.1 C.2.1 dX3_marksBelow_38 (by decide) (fun h38 => ?_) (fun h38 => ?_)
      · replace hf := hf.1 h38
        refine lv_iinc (v := (x6 + 1)) (lv' := [(6, .int (x6 + 1)), (7, .int (fm_spot x6 x3 x4)), (0, .ref (ad 0)), (1, .int x1), (2, .int x2), (3, .int x3), (4, .int x4), (5, .int x5)]) C.1 C.2.1 dX3_marksBelow_74 hl (k := 7) rfl rfl (Nat.le_of_ble_eq_true rfl) rfl (fun ls hl => ?_)
        refine lv_goto (tgt := 6) C.1 C.2.1 dX3_marksBelow_77 (by decide) ?_
        exact hK6 _ _ _ _ _ _ hf hw (lv_sub hl [2, 3, 4, 5, 6, 7, 0] rfl)
      · replace hf := hf.2 h38
        refine lv_aload_n C.1 C.2.1 dX3_marksBelow_41 rfl (lv_at hl 1 rfl) ?_
        refine mg_isPiece C hw dX3_marksBelow_42 ?_
        refine lv_iload C.1 C.2.1 dX3_marksBelow_45 (lv_at hl 0 rfl) ?_
        obtain ⟨b47, hf⟩ := hf
        refine g_zald C hw 52 rfl b47 dX3_marksBelow_47 ?_
        refine lv_if_ne (tgt := 74) C.1 C.2.1 dX3_marksBelow_48 (by decide) (fun h48 => ?_) (fun h48 => ?_)
        · replace hf := hf.2 h48
          refine lv_iinc (v := (x6 + 1)) (lv' := [(6, .int (x6 + 1)), (7, .int (fm_spot x6 x3 x4)), (0, .ref (ad 0)), (1, .int x1), (2, .int x2), (3, .int x3), (4, .int x4), (5, .int x5)]) C.1 C.2.1 dX3_marksBelow_74 hl (k := 7) rfl rfl (Nat.le_of_ble_eq_true rfl) rfl (fun ls hl => ?_)
          refine lv_goto (tgt := 6) C.1 C.2.1 dX3_marksBelow_77 (by decide) ?_
          exact hK6 _ _ _ _ _ _ hf hw (lv_sub hl [2, 3, 4, 5, 6, 7, 0] rfl)
        · replace hf := hf.1 h48
          refine lv_aload_n C.1 C.2.1 dX3_marksBelow_51 rfl (lv_at hl 1 rfl) ?_
          refine lv_iconst (v := 1) C.1 C.2.1 dX3_marksBelow_52 rfl ?_
          refine lv_iload_n C.1 C.2.1 dX3_marksBelow_53 rfl (lv_at hl 2 rfl) ?_
          refine lv_iload_n C.1 C.2.1 dX3_marksBelow_54 rfl (lv_at hl 3 rfl) ?_
          refine lv_iload C.1 C.2.1 dX3_marksBelow_55 (lv_at hl 7 rfl) ?_
          refine km_isBelow C hw hl.1 (Nat.le_of_ble_eq_true rfl) ⟨Nat.le_of_ble_eq_true rfl, Nat.le_of_ble_eq_true rfl⟩ dX3_marksBelow_57 hf (fun r57 hf => ?_)
          refine lv_if_eq (tgt := 74) C.1 C.2.1 dX3_marksBelow_60 (by decide) (fun h60 => ?_) (fun h60 => ?_)
          · replace hf := hf.1 h60
            refine lv_iinc (v := (x6 + 1)) (lv' := [(6, .int (x6 + 1)), (7, .int (fm_spot x6 x3 x4)), (0, .ref (ad 0)), (1, .int x1), (2, .int x2), (3, .int x3), (4, .int x4), (5, .int x5)]) C.1 C.2.1 dX3_marksBelow_74 hl (k := 7) rfl rfl (Nat.le_of_ble_eq_true rfl) rfl (fun ls hl => ?_)
            refine lv_goto (tgt := 6) C.1 C.2.1 dX3_marksBelow_77 (by decide) ?_
            exact hK6 _ _ _ _ _ _ hf hw (lv_sub hl [2, 3, 4, 5, 6, 7, 0] rfl)
          · replace hf := hf.2 h60
            refine lv_aload_n C.1 C.2.1 dX3_marksBelow_63 rfl (lv_at hl 1 rfl) ?_
            refine mg_isPiece C hw dX3_marksBelow_64 ?_
            refine lv_iload C.1 C.2.1 dX3_marksBelow_67 (lv_at hl 0 rfl) ?_
            refine lv_iconst (v := 1) C.1 C.2.1 dX3_marksBelow_69 rfl ?_
            refine g_zast C shM_sep hw 52 rfl (Or.inr rfl) b47 dX3_marksBelow_70 (fun s70 H locs e70 hw => ?_)
            replace hf := hf s70 e70
            refine lv_iconst (v := 1) C.1 C.2.1 dX3_marksBelow_71 rfl ?_
            refine lv_istore (lv' := [(5, .int 1), (7, .int (fm_spot x6 x3 x4)), (0, .ref (ad 0)), (1, .int x1), (2, .int x2), (3, .int x3), (4, .int x4), (6, .int x6)]) C.1 C.2.1 dX3_marksBelow_72 hl (Nat.le_of_ble_eq_true rfl) rfl (fun ls hl => ?_)
            refine lv_iinc (v := (x6 + 1)) (lv' := [(6, .int (x6 + 1)), (5, .int 1), (7, .int (fm_spot x6 x3 x4)), (0, .ref (ad 0)), (1, .int x1), (2, .int x2), (3, .int x3), (4, .int x4)]) C.1 C.2.1 dX3_marksBelow_74 hl (k := 7) rfl rfl (Nat.le_of_ble_eq_true rfl) rfl (fun ls hl => ?_)
            refine lv_goto (tgt := 6) C.1 C.2.1 dX3_marksBelow_77 (by decide) ?_
            exact hK6 _ _ _ _ _ _ hf hw (lv_sub hl [3, 4, 5, 6, 7, 1, 0] rfl)
  have P6 : ∀ (x1 : Int32) (x2 : Int32) (x3 : Int32) (x4 : Int32) (n : Nat) (σ : St) (x5 : Int32) (x6 : Int32) (ls : Array Slot) (H : Heap) (locs : List Loc), LL3 (m_marksBelow_p6 x1 x2 x3 x4 Q) n σ x5 x6 → gH D ct shM ad s σ H locs → lv_has ls 8 [(0, .ref (ad 0)), (1, .int x1), (2, .int x2), (3, .int x3), (4, .int x4), (5, .int x5), (6, .int x6)] → W p l e rm_m_marksBelow s m args below meth c H locs 0 0 QQ (F0 m 6 ls []) := by
    intro x1 x2 x3 x4 n
    induction n with
    | zero => intro σ x5 x6 ls H locs hf; exact False.elim hf
    | succ n ih => intro σ x5 x6 ls H locs hf hw hl; exact B6 x1 x2 x3 x4 (LL3 _ n) (fun σ H locs x5 x6 ls hf hw hl => ih σ x5 x6 ls H locs hf hw hl) σ H locs x5 x6 ls hf hw hl
  unfold m_marksBelow at hf
  obtain ⟨H, hH⟩ : ∃ q, q = s.heap := ⟨_, rfl⟩
  obtain ⟨locs, hL⟩ : ∃ q : List Loc, q = [] := ⟨_, rfl⟩
  rw [← hH, ← hL] at hw ⊢
  refine lv_iconst (v := 0) C.1 C.2.1 dX3_marksBelow_0 rfl ?_
  refine lv_istore (lv' := [(5, .int 0), (0, .ref (ad 0)), (1, .int x1), (2, .int x2), (3, .int x3), (4, .int x4)]) C.1 C.2.1 dX3_marksBelow_1 hl (Nat.le_of_ble_eq_true rfl) rfl (fun ls hl => ?_)
  refine lv_iconst (v := 0) C.1 C.2.1 dX3_marksBelow_3 rfl ?_
  refine lv_istore (lv' := [(6, .int 0), (5, .int 0), (0, .ref (ad 0)), (1, .int x1), (2, .int x2), (3, .int x3), (4, .int x4)]) C.1 C.2.1 dX3_marksBelow_4 hl (Nat.le_of_ble_eq_true rfl) rfl (fun ls hl => ?_)
  obtain ⟨n, hf⟩ := hf
  exact P6 _ _ _ _ n _ _ _ _ _ _ hf hw (lv_sub hl [2, 3, 4, 5, 6, 1, 0] rfl)
theorem km_marksBelow {p : Program} {l : Launch} {e : Env} {R : Room} {s : State} {m : MethodId} {args : Array Value} {below : List Frame} {meth : Method} {c : Code} {H : Heap} {locs : List Loc} {Z : State → Prop} {cc : ByteArray} {nL pc : Nat} {ls : Array Slot} {rest : List Value} {D : va_G} {ct : Ct} {ad : Nat → Nat} {σ : St} {x1 : Int32} {x2 : Int32} {x3 : Int32} {x4 : Int32} {Qp : Int32 → St → Prop} (C : CallFix p m c cc nL s args lw_all RX3) (hw : gH D ct shM ad s σ H locs) (hsz : ls.size = nL) (hrm : (rest.map fun v => v.category).sum ≤ 8) (hR : rm_m_marksBelow.frames + 1 ≤ R.frames ∧ 8 + (8 + 11) + rm_m_marksBelow.locals ≤ R.locals) (hdg : decode cc pc = .ok (.invokevirtual 503, 3)) (hf : m_marksBelow σ x1 x2 x3 x4 Qp) (kk : ∀ (r : Int32) (σ1 : St) (H1 : Heap) (locs1 : List Loc), Qp r σ1 → gH D ct shM ad s σ1 H1 locs1 → W p l e R s m args below meth c H1 locs1 0 0 Z (F0 m (pc + 3) ls (.int r :: rest))) : W p l e R s m args below meth c H locs 0 0 Z (F0 m pc ls (.int x4 :: .int x3 :: .int x2 :: .int x1 :: .ref (ad 0) :: rest)) :=
  g_callV (As := [.int x1, .int x2, .int x3, .int x4]) (rest := rest) C hw rfl rfl (met_m_marksBelow l D ct ad hw.2.1 σ x1 x2 x3 x4 Qp hf) (cwV 4 C.2.2.2.2 (lw_V q2012 q2014 qs175 q207 q2015) rfl rfl rfl (by decide +kernel) hR) rfl hsz rfl hrm ⟨Nat.zero_le _, Nat.zero_le _⟩ hdg kk
def m_leastBelow_p6 (σ : St) (x1 : Int32) (x2 : Int32) (x3 : Int32) (x4 : Int32) (Q : Int32 → Prop) (K6 : Int32 → Int32 → Prop) (x5 : Int32) (x6 : Int32) : Prop :=
  (((gI σ 2 0) ≤ x6 → Q x5) ∧ (¬ (gI σ 2 0) ≤ x6 → (vp_in (fm_spot x6 x3 x4) 2028 ∧ ((2000000000 ≤ (gI σ 59 (fm_spot x6 x3 x4)) → K6 x5 (x6 + 1)) ∧ (¬ 2000000000 ≤ (gI σ 59 (fm_spot x6 x3 x4)) → (m_isBelow σ 1 x1 x2 x6 (fun r42 => ((r42 = 0 → K6 x5 (x6 + 1)) ∧ (¬ r42 = 0 → ((x5 = (-1) → K6 x6 (x6 + 1)) ∧ (¬ x5 = (-1) → (vp_in (fm_spot x5 x3 x4) 2028 ∧ (((gI σ 59 (fm_spot x5 x3 x4)) ≤ (gI σ 59 (fm_spot x6 x3 x4)) → K6 x5 (x6 + 1)) ∧ (¬ (gI σ 59 (fm_spot x5 x3 x4)) ≤ (gI σ 59 (fm_spot x6 x3 x4)) → K6 x6 (x6 + 1)))))))))))))))
def m_leastBelow (σ : St) (x1 : Int32) (x2 : Int32) (x3 : Int32) (x4 : Int32) (Q : Int32 → Prop) : Prop :=
  (Lp2 (m_leastBelow_p6 σ x1 x2 x3 x4 Q) (-1) 0)
abbrev rm_m_leastBelow : Room := { frames := 3, cells := 0, slots := 0, locals := 70 }
set_option maxHeartbeats 4000000 in
theorem met_m_leastBelow (l : Launch) (D : va_G) (ct : Ct) (ad : Nat → Nat) (hJ : gJ shM ad ct) (σ : St) (x1 : Int32) (x2 : Int32) (x3 : Int32) (x4 : Int32) (Q : Int32 → Prop) (hf : m_leastBelow σ x1 x2 x3 x4 Q) : Met l yX3_leastBelow (ws_ yX3_leastBelow cX3_leastBelow 7 (some .int)) rm_m_leastBelow (va_Pc [.ref (ad 0), .int x1, .int x2, .int x3, .int x4] (gP D ct shM ad σ)) (gR rvI Q) 0 0 (fun _ => False) := by
  refine g_metRI hJ (by decide) (Nat.le_of_ble_eq_true rfl) ?_
  intro p e s m args below meth c QQ ls H C hw hl hret
  replace hl : lv_has ls 7 [(0, .ref (ad 0)), (1, .int x1), (2, .int x2), (3, .int x3), (4, .int x4)] := hl
  have B6 : ∀ (x1 : Int32) (x2 : Int32) (x3 : Int32) (x4 : Int32) (K6 : Int32 → Int32 → Prop) (_ : ∀ (x5 : Int32) (x6 : Int32) (ls : Array Slot), K6 x5 x6 → lv_has ls 7 [(0, .ref (ad 0)), (1, .int x1), (2, .int x2), (3, .int x3), (4, .int x4), (5, .int x5), (6, .int x6)] → W p l e rm_m_leastBelow s m args below meth c H [] 0 0 QQ (F0 m 6 ls [])) (x5 : Int32) (x6 : Int32) (ls : Array Slot), m_leastBelow_p6 σ x1 x2 x3 x4 Q K6 x5 x6 → lv_has ls 7 [(0, .ref (ad 0)), (1, .int x1), (2, .int x2), (3, .int x3), (4, .int x4), (5, .int x5), (6, .int x6)] → W p l e rm_m_leastBelow s m args below meth c H [] 0 0 QQ (F0 m 6 ls []) := by
    intro x1 x2 x3 x4 K6 hK6 x5 x6 ls hf hl
    unfold m_leastBelow_p6 at hf
    refine lv_iload C.1 C.2.1 dX3_leastBelow_6 (lv_at hl 6 rfl) ?_
    refine lv_aload_n C.1 C.2.1 dX3_leastBelow_8 rfl (lv_at hl 0 rfl) ?_
    refine mg_scalar C hw dX3_leastBelow_9 ?_
    refine lv_iconst (v := 0) C.1 C.2.1 dX3_leastBelow_12 rfl ?_
    refine g_iald C hw 2 rfl (vpD rfl) dX3_leastBelow_13 ?_
    refine lv_icmp_ge (tgt := 98) C.1 C.2.1 dX3_leastBelow_14 (by decide) (fun h14 => ?_) (fun h14 => ?_)
    · replace hf := hf.1 h14
      refine lv_iload C.1 C.2.1 dX3_leastBelow_98 (lv_at hl 5 rfl) ?_
      exact hret _ _ _ hf dX3_leastBelow_100
    · replace hf := hf.2 h14
      refine lv_aload_n C.1 C.2.1 dX3_leastBelow_17 rfl (lv_at hl 0 rfl) ?_
      refine mg_sizeOf C hw dX3_leastBelow_18 ?_
      refine lv_iload C.1 C.2.1 dX3_leastBelow_21 (lv_at hl 6 rfl) ?_
      refine lv_iload_n C.1 C.2.1 dX3_leastBelow_23 rfl (lv_at hl 3 rfl) ?_
      refine lv_iload C.1 C.2.1 dX3_leastBelow_24 (lv_at hl 4 rfl) ?_
      refine km_spot C hl.1 (Nat.le_of_ble_eq_true rfl) ⟨Nat.le_of_ble_eq_true rfl, Nat.le_of_ble_eq_true rfl⟩ dX3_leastBelow_26 ?_
      obtain ⟨b29, hf⟩ := hf
      refine g_iald C hw 59 rfl b29 dX3_leastBelow_29 ?_
      refine lv_ldcw C.1 C.2.1 C.2.2.2.1 (C.2.2.2.2 _ q1760) dX3_leastBelow_30 ?_
      refine lv_icmp_ge (tgt := 92) C.1 C.2.1 dX3_leastBelow_33 (by decide) (fun h33 => ?_) (fun h33 => ?_)
      · replace hf := hf.1 h33
        refine lv_iinc (v := (x6 + 1)) (lv' := [(6, .int (x6 + 1)), (0, .ref (ad 0)), (1, .int x1), (2, .int x2), (3, .int x3), (4, .int x4), (5, .int x5)]) C.1 C.2.1 dX3_leastBelow_92 hl (k := 6) rfl rfl (Nat.le_of_ble_eq_true rfl) rfl (fun ls hl => ?_)
        refine lv_goto (tgt := 6) C.1 C.2.1 dX3_leastBelow_95 (by decide) ?_
        exact hK6 _ _ _ hf (lv_sub hl [1, 2, 3, 4, 5, 6, 0] rfl)
      · replace hf := hf.2 h33
        refine lv_aload_n C.1 C.2.1 dX3_leastBelow_36 rfl (lv_at hl 0 rfl) ?_
        refine lv_iconst (v := 1) C.1 C.2.1 dX3_leastBelow_37 rfl ?_
        refine lv_iload_n C.1 C.2.1 dX3_leastBelow_38 rfl (lv_at hl 1 rfl) ?_
        refine lv_iload_n C.1 C.2.1 dX3_leastBelow_39 rfl (lv_at hl 2 rfl) ?_
        refine lv_iload C.1 C.2.1 dX3_leastBelow_40 (lv_at hl 6 rfl) ?_
        refine km_isBelow C hw hl.1 (Nat.le_of_ble_eq_true rfl) ⟨Nat.le_of_ble_eq_true rfl, Nat.le_of_ble_eq_true rfl⟩ dX3_leastBelow_42 hf (fun r42 hf => ?_)
        refine lv_if_eq (tgt := 92) C.1 C.2.1 dX3_leastBelow_45 (by decide) (fun h45 => ?_) (fun h45 => ?_)
        · replace hf := hf.1 h45
          refine lv_iinc (v := (x6 + 1)) (lv' := [(6, .int (x6 + 1)), (0, .ref (ad 0)), (1, .int x1), (2, .int x2), (3, .int x3), (4, .int x4), (5, .int x5)]) C.1 C.2.1 dX3_leastBelow_92 hl (k := 6) rfl rfl (Nat.le_of_ble_eq_true rfl) rfl (fun ls hl => ?_)
          refine lv_goto (tgt := 6) C.1 C.2.1 dX3_leastBelow_95 (by decide) ?_
          exact hK6 _ _ _ hf (lv_sub hl [1, 2, 3, 4, 5, 6, 0] rfl)
        · replace hf := hf.2 h45
          refine lv_iload C.1 C.2.1 dX3_leastBelow_48 (lv_at hl 5 rfl) ?_
          refine lv_iconst (v := (-1)) C.1 C.2.1 dX3_leastBelow_50 rfl ?_
          refine lv_icmp_eq (tgt := 83) C.1 C.2.1 dX3_leastBelow_51 (by decide) (fun h51 => ?_) (fun h51 => ?_)
          · replace hf := hf.1 h51
            refine lv_iload C.1 C.2.1 dX3_leastBelow_83 (lv_at hl 6 rfl) ?_
            refine lv_goto (tgt := 90) C.1 C.2.1 dX3_leastBelow_85 (by decide) ?_
            refine lv_istore (lv' := [(5, .int x6), (0, .ref (ad 0)), (1, .int x1), (2, .int x2), (3, .int x3), (4, .int x4), (6, .int x6)]) C.1 C.2.1 dX3_leastBelow_90 hl (Nat.le_of_ble_eq_true rfl) rfl (fun ls hl => ?_)
            refine lv_iinc (v := (x6 + 1)) (lv' := [(6, .int (x6 + 1)), (5, .int x6), (0, .ref (ad 0)), (1, .int x1), (2, .int x2), (3, .int x3), (4, .int x4)]) C.1 C.2.1 dX3_leastBelow_92 hl (k := 6) rfl rfl (Nat.le_of_ble_eq_true rfl) rfl (fun ls hl => ?_)
            refine lv_goto (tgt := 6) C.1 C.2.1 dX3_leastBelow_95 (by decide) ?_
            exact hK6 _ _ _ hf (lv_sub hl [2, 3, 4, 5, 6, 1, 0] rfl)
          · replace hf := hf.2 h51
            refine lv_aload_n C.1 C.2.1 dX3_leastBelow_54 rfl (lv_at hl 0 rfl) ?_
            refine mg_sizeOf C hw dX3_leastBelow_55 ?_
            refine lv_iload C.1 C.2.1 dX3_leastBelow_58 (lv_at hl 6 rfl) ?_
            refine lv_iload_n C.1 C.2.1 dX3_leastBelow_60 rfl (lv_at hl 3 rfl) ?_
            refine lv_iload C.1 C.2.1 dX3_leastBelow_61 (lv_at hl 4 rfl) ?_
            refine km_spot C hl.1 (Nat.le_of_ble_eq_true rfl) ⟨Nat.le_of_ble_eq_true rfl, Nat.le_of_ble_eq_true rfl⟩ dX3_leastBelow_63 ?_
            refine g_iald C hw 59 rfl b29 dX3_leastBelow_66 ?_
            refine lv_aload_n C.1 C.2.1 dX3_leastBelow_67 rfl (lv_at hl 0 rfl) ?_
            refine mg_sizeOf C hw dX3_leastBelow_68 ?_
            refine lv_iload C.1 C.2.1 dX3_leastBelow_71 (lv_at hl 5 rfl) ?_
            refine lv_iload_n C.1 C.2.1 dX3_leastBelow_73 rfl (lv_at hl 3 rfl) ?_
            refine lv_iload C.1 C.2.1 dX3_leastBelow_74 (lv_at hl 4 rfl) ?_
            refine km_spot C hl.1 (Nat.le_of_ble_eq_true rfl) ⟨Nat.le_of_ble_eq_true rfl, Nat.le_of_ble_eq_true rfl⟩ dX3_leastBelow_76 ?_
            obtain ⟨b79, hf⟩ := hf
            refine g_iald C hw 59 rfl b79 dX3_leastBelow_79 ?_
            refine lv_icmp_ge (tgt := 88) C.1 C.2.1 dX3_leastBelow_80 (by decide) (fun h80 => ?_) (fun h80 => ?_)
            · replace hf := hf.1 h80
              refine lv_iload C.1 C.2.1 dX3_leastBelow_88 (lv_at hl 5 rfl) ?_
              refine lv_istore (lv' := [(5, .int x5), (0, .ref (ad 0)), (1, .int x1), (2, .int x2), (3, .int x3), (4, .int x4), (6, .int x6)]) C.1 C.2.1 dX3_leastBelow_90 hl (Nat.le_of_ble_eq_true rfl) rfl (fun ls hl => ?_)
              refine lv_iinc (v := (x6 + 1)) (lv' := [(6, .int (x6 + 1)), (5, .int x5), (0, .ref (ad 0)), (1, .int x1), (2, .int x2), (3, .int x3), (4, .int x4)]) C.1 C.2.1 dX3_leastBelow_92 hl (k := 6) rfl rfl (Nat.le_of_ble_eq_true rfl) rfl (fun ls hl => ?_)
              refine lv_goto (tgt := 6) C.1 C.2.1 dX3_leastBelow_95 (by decide) ?_
              exact hK6 _ _ _ hf (lv_sub hl [2, 3, 4, 5, 6, 1, 0] rfl)
            · replace hf := hf.2 h80
              refine lv_iload C.1 C.2.1 dX3_leastBelow_83 (lv_at hl 6 rfl) ?_
              refine lv_goto (tgt := 90) C.1 C.2.1 dX3_leastBelow_85 (by decide) ?_
              refine lv_istore (lv' := [(5, .int x6), (0, .ref (ad 0)), (1, .int x1), (2, .int x2), (3, .int x3), (4, .int x4), (6, .int x6)]) C.1 C.2.1 dX3_leastBelow_90 hl (Nat.le_of_ble_eq_true rfl) rfl (fun ls hl => ?_)
              refine lv_iinc (v := (x6 + 1)) (lv' := [(6, .int (x6 + 1)), (5, .int x6), (0, .ref (ad 0)), (1, .int x1), (2, .int x2), (3, .int x3), (4, .int x4)]) C.1 C.2.1 dX3_leastBelow_92 hl (k := 6) rfl rfl (Nat.le_of_ble_eq_true rfl) rfl (fun ls hl => ?_)
              refine lv_goto (tgt := 6) C.1 C.2.1 dX3_leastBelow_95 (by decide) ?_
              exact hK6 _ _ _ hf (lv_sub hl [2, 3, 4, 5, 6, 1, 0] rfl)
  have P6 : ∀ (x1 : Int32) (x2 : Int32) (x3 : Int32) (x4 : Int32) (n : Nat) (x5 : Int32) (x6 : Int32) (ls : Array Slot), LL2 (m_leastBelow_p6 σ x1 x2 x3 x4 Q) n x5 x6 → lv_has ls 7 [(0, .ref (ad 0)), (1, .int x1), (2, .int x2), (3, .int x3), (4, .int x4), (5, .int x5), (6, .int x6)] → W p l e rm_m_leastBelow s m args below meth c H [] 0 0 QQ (F0 m 6 ls []) := by
    intro x1 x2 x3 x4 n
    induction n with
    | zero => intro x5 x6 ls hf; exact False.elim hf
    | succ n ih => intro x5 x6 ls hf hl; exact B6 x1 x2 x3 x4 (LL2 _ n) ih x5 x6 ls hf hl
  unfold m_leastBelow at hf
  refine lv_iconst (v := (-1)) C.1 C.2.1 dX3_leastBelow_0 rfl ?_
  refine lv_istore (lv' := [(5, .int (-1)), (0, .ref (ad 0)), (1, .int x1), (2, .int x2), (3, .int x3), (4, .int x4)]) C.1 C.2.1 dX3_leastBelow_1 hl (Nat.le_of_ble_eq_true rfl) rfl (fun ls hl => ?_)
  refine lv_iconst (v := 0) C.1 C.2.1 dX3_leastBelow_3 rfl ?_
  refine lv_istore (lv' := [(6, .int 0), (5, .int (-1)), (0, .ref (ad 0)), (1, .int x1), (2, .int x2), (3, .int x3), (4, .int x4)]) C.1 C.2.1 dX3_leastBelow_4 hl (Nat.le_of_ble_eq_true rfl) rfl (fun ls hl => ?_)
  obtain ⟨n, hf⟩ := hf
  exact P6 _ _ _ _ n _ _ _ hf (lv_sub hl [2, 3, 4, 5, 6, 1, 0] rfl)
theorem km_leastBelow {p : Program} {l : Launch} {e : Env} {R : Room} {s : State} {m : MethodId} {args : Array Value} {below : List Frame} {meth : Method} {c : Code} {H : Heap} {locs : List Loc} {Z : State → Prop} {cc : ByteArray} {nL pc : Nat} {ls : Array Slot} {rest : List Value} {D : va_G} {ct : Ct} {ad : Nat → Nat} {σ : St} {x1 : Int32} {x2 : Int32} {x3 : Int32} {x4 : Int32} {Qp : Int32 → Prop} (C : CallFix p m c cc nL s args lw_all RX3) (hw : gH D ct shM ad s σ H locs) (hsz : ls.size = nL) (hrm : (rest.map fun v => v.category).sum ≤ 8) (hR : rm_m_leastBelow.frames + 1 ≤ R.frames ∧ 8 + (7 + 11) + rm_m_leastBelow.locals ≤ R.locals) (hdg : decode cc pc = .ok (.invokevirtual 541, 3)) (hf : m_leastBelow σ x1 x2 x3 x4 Qp) (kk : ∀ (r : Int32), Qp r → W p l e R s m args below meth c H locs 0 0 Z (F0 m (pc + 3) ls (.int r :: rest))) : W p l e R s m args below meth c H locs 0 0 Z (F0 m pc ls (.int x4 :: .int x3 :: .int x2 :: .int x1 :: .ref (ad 0) :: rest)) :=
  g_callVR (As := [.int x1, .int x2, .int x3, .int x4]) (rest := rest) C hw rfl rfl (met_m_leastBelow l D ct ad hw.2.1 σ x1 x2 x3 x4 Qp hf) (cwV 4 C.2.2.2.2 (lw_V q2061 q2063 qs184 q207 q2064) rfl rfl rfl (by decide +kernel) hR) rfl hsz rfl hrm ⟨Nat.zero_le _, Nat.zero_le _⟩ hdg kk
def m_mendsBy_p144 (σ : St) (x1 : Int32) (x2 : Int32) (x3 : Int32) (x4 : Int32) (x5 : Int32) (x6 : Int32) (Q : Int32 → St → Prop) (K16 : St → Int32 → Prop) (K30 : St → Int32 → Prop) : Prop :=
  (vp_in ((13 * x4) + x5) 65 ∧ (∀ s158 : St, s158 = s_A σ 66 (Int32.toNatClampNeg ((13 * x4) + x5)) x6 → K30 s158 (x5 + 1)))
def m_mendsBy_p120 (σ : St) (x1 : Int32) (x2 : Int32) (x3 : Int32) (x4 : Int32) (x5 : Int32) (x6 : Int32) (x7 : Int32) (Q : Int32 → St → Prop) (K16 : St → Int32 → Prop) (K30 : St → Int32 → Prop) (K59 : Int32 → Int32 → Prop) (v0 : Int32) : Prop :=
  ((x6 ≤ v0 → K59 x6 (x7 + 1)) ∧ (¬ x6 ≤ v0 → K59 v0 (x7 + 1)))
def m_mendsBy_p59 (σ : St) (x1 : Int32) (x2 : Int32) (x3 : Int32) (x4 : Int32) (x5 : Int32) (Q : Int32 → St → Prop) (K16 : St → Int32 → Prop) (K30 : St → Int32 → Prop) (K59 : Int32 → Int32 → Prop) (x6 : Int32) (x7 : Int32) : Prop :=
  ((x5 < x7 → (m_mendsBy_p144 σ x1 x2 x3 x4 x5 x6 Q K16 K30)) ∧ (¬ x5 < x7 → ((x4 ≤ 0 → (m_mendsBy_p144 σ x1 x2 x3 x4 x5 x6 Q K16 K30)) ∧ (¬ x4 ≤ 0 → (vp_in ((13 * (x4 - 1)) + x7) 65 ∧ ((2000000000 ≤ (gI σ 66 ((13 * (x4 - 1)) + x7)) → (m_mendsBy_p120 σ x1 x2 x3 x4 x5 x6 x7 Q K16 K30 K59 2000000000)) ∧ (¬ 2000000000 ≤ (gI σ 66 ((13 * (x4 - 1)) + x7)) → (m_mendsTo σ x1 (x4 - 1) x7 x5 (fun r108 => (m_mendsBy_p120 σ x1 x2 x3 x4 x5 x6 x7 Q K16 K30 K59 (fm_joined (gI σ 66 ((13 * (x4 - 1)) + x7)) r108)))))))))))
def m_mendsBy_p30 (x1 : Int32) (x2 : Int32) (x3 : Int32) (x4 : Int32) (Q : Int32 → St → Prop) (K16 : St → Int32 → Prop) (K30 : St → Int32 → Prop) (σ : St) (x5 : Int32) : Prop :=
  ((x3 < x5 → K16 σ (x4 + 1)) ∧ (¬ x3 < x5 → ((x4 = 0 → ((x5 = x2 → (Lp2 (m_mendsBy_p59 σ x1 x2 x3 x4 x5 Q K16 K30) 0 x2)) ∧ (¬ x5 = x2 → (Lp2 (m_mendsBy_p59 σ x1 x2 x3 x4 x5 Q K16 K30) 2000000000 x2)))) ∧ (¬ x4 = 0 → (Lp2 (m_mendsBy_p59 σ x1 x2 x3 x4 x5 Q K16 K30) 2000000000 x2)))))
def m_mendsBy_p16 (x1 : Int32) (x2 : Int32) (x3 : Int32) (Q : Int32 → St → Prop) (K16 : St → Int32 → Prop) (σ : St) (x4 : Int32) : Prop :=
  (vp_in x1 12 ∧ (((gI σ 4 x1) < x4 → (vp_in ((13 * (gI σ 4 x1)) + x3) 65 ∧ Q (gI σ 66 ((13 * (gI σ 4 x1)) + x3)) σ)) ∧ (¬ (gI σ 4 x1) < x4 → (Lp2 (m_mendsBy_p30 x1 x2 x3 x4 Q K16) σ x2))))
def m_mendsBy (σ : St) (x1 : Int32) (x2 : Int32) (x3 : Int32) (Q : Int32 → St → Prop) : Prop :=
  (vp_in x1 12 ∧ (((gI σ 4 x1) = 0 → Q (x3 - x2) σ) ∧ (¬ (gI σ 4 x1) = 0 → (Lp2 (m_mendsBy_p16 x1 x2 x3 Q) σ 0))))
abbrev rm_m_mendsBy : Room := { frames := 3, cells := 0, slots := 0, locals := 70 }
set_option maxHeartbeats 4000000 in
theorem met_m_mendsBy (l : Launch) (D : va_G) (ct : Ct) (ad : Nat → Nat) (hJ : gJ shM ad ct) (σ : St) (x1 : Int32) (x2 : Int32) (x3 : Int32) (Q : Int32 → St → Prop) (hf : m_mendsBy σ x1 x2 x3 Q) : Met l yX3_mendsBy (ws_ yX3_mendsBy cX3_mendsBy 10 (some .int)) rm_m_mendsBy (va_Pc [.ref (ad 0), .int x1, .int x2, .int x3] (gP D ct shM ad σ)) (gQ rvI D ct shM ad Q) 0 0 (gA shM ad) := by
  refine g_metI hJ (by decide) (Nat.le_of_ble_eq_true rfl) ?_
  intro p e s m args below meth c QQ ls C hw hl hret
  replace hl : lv_has ls 10 [(0, .ref (ad 0)), (1, .int x1), (2, .int x2), (3, .int x3)] := hl
  have J144 : ∀ (σ : St) (H : Heap) (locs : List Loc) (x1 : Int32) (x2 : Int32) (x3 : Int32) (x4 : Int32) (x5 : Int32) (x6 : Int32) (K16 : St → Int32 → Prop) (_ : ∀ (σ : St) (H : Heap) (locs : List Loc) (x4 : Int32) (ls : Array Slot), K16 σ x4 → gH D ct shM ad s σ H locs → lv_has ls 10 [(0, .ref (ad 0)), (1, .int x1), (2, .int x2), (3, .int x3), (4, .int x4)] → W p l e rm_m_mendsBy s m args below meth c H locs 0 0 QQ (F0 m 16 ls [])) (K30 : St → Int32 → Prop) (_ : ∀ (σ : St) (H : Heap) (locs : List Loc) (x5 : Int32) (ls : Array Slot), K30 σ x5 → gH D ct shM ad s σ H locs → lv_has ls 10 [(0, .ref (ad 0)), (1, .int x1), (2, .int x2), (3, .int x3), (4, .int x4), (5, .int x5)] → W p l e rm_m_mendsBy s m args below meth c H locs 0 0 QQ (F0 m 30 ls [])) (ls : Array Slot), m_mendsBy_p144 σ x1 x2 x3 x4 x5 x6 Q K16 K30 → gH D ct shM ad s σ H locs → lv_has ls 10 [(0, .ref (ad 0)), (1, .int x1), (2, .int x2), (3, .int x3), (4, .int x4), (5, .int x5), (6, .int x6)] → W p l e rm_m_mendsBy s m args below meth c H locs 0 0 QQ (F0 m 144 ls []) := by
    intro σ H locs x1 x2 x3 x4 x5 x6 K16 hK16 K30 hK30 ls hf hw hl
    unfold m_mendsBy_p144 at hf
    refine lv_aload_n C.1 C.2.1 dX3_mendsBy_144 rfl (lv_at hl 0 rfl) ?_
    refine mg_mendedAhead C hw dX3_mendsBy_145 ?_
    refine lv_bipush (v := 13) C.1 C.2.1 dX3_mendsBy_148 rfl ?_
    refine lv_iload C.1 C.2.1 dX3_mendsBy_150 (lv_at hl 4 rfl) ?_
    refine lv_imul C.1 C.2.1 dX3_mendsBy_152 ?_
    refine lv_iload C.1 C.2.1 dX3_mendsBy_153 (lv_at hl 5 rfl) ?_
    refine lv_iadd C.1 C.2.1 dX3_mendsBy_155 ?_
    refine lv_iload C.1 C.2.1 dX3_mendsBy_156 (lv_at hl 6 rfl) ?_
    obtain ⟨b158, hf⟩ := hf
    refine g_iast C shM_sep hw 66 rfl b158 dX3_mendsBy_158 (fun s158 H locs e158 hw => ?_)
    replace hf := hf s158 e158
    refine lv_iinc (v := (x5 + 1)) (lv' := [(5, .int (x5 + 1)), (0, .ref (ad 0)), (1, .int x1), (2, .int x2), (3, .int x3), (4, .int x4), (6, .int x6)]) C.1 C.2.1 dX3_mendsBy_159 hl (k := 5) rfl rfl (Nat.le_of_ble_eq_true rfl) rfl (fun ls hl => ?_)
    refine lv_goto (tgt := 30) C.1 C.2.1 dX3_mendsBy_162 (by decide) ?_
    exact hK30 _ _ _ _ _ hf hw (lv_sub hl [1, 2, 3, 4, 5, 0] rfl)
  have J120 : ∀ (σ : St) (H : Heap) (locs : List Loc) (x1 : Int32) (x2 : Int32) (x3 : Int32) (x4 : Int32) (x5 : Int32) (x6 : Int32) (x7 : Int32) (v0 : Int32) (K16 : St → Int32 → Prop) (_ : ∀ (σ : St) (H : Heap) (locs : List Loc) (x4 : Int32) (ls : Array Slot), K16 σ x4 → gH D ct shM ad s σ H locs → lv_has ls 10 [(0, .ref (ad 0)), (1, .int x1), (2, .int x2), (3, .int x3), (4, .int x4)] → W p l e rm_m_mendsBy s m args below meth c H locs 0 0 QQ (F0 m 16 ls [])) (K30 : St → Int32 → Prop) (_ : ∀ (σ : St) (H : Heap) (locs : List Loc) (x5 : Int32) (ls : Array Slot), K30 σ x5 → gH D ct shM ad s σ H locs → lv_has ls 10 [(0, .ref (ad 0)), (1, .int x1), (2, .int x2), (3, .int x3), (4, .int x4), (5, .int x5)] → W p l e rm_m_mendsBy s m args below meth c H locs 0 0 QQ (F0 m 30 ls [])) (K59 : Int32 → Int32 → Prop) (_ : ∀ (x6 : Int32) (x7 : Int32) (ls : Array Slot), K59 x6 x7 → lv_has ls 10 [(0, .ref (ad 0)), (1, .int x1), (2, .int x2), (3, .int x3), (4, .int x4), (5, .int x5), (6, .int x6), (7, .int x7)] → W p l e rm_m_mendsBy s m args below meth c H locs 0 0 QQ (F0 m 59 ls [])) (ls : Array Slot), m_mendsBy_p120 σ x1 x2 x3 x4 x5 x6 x7 Q K16 K30 K59 v0 → gH D ct shM ad s σ H locs → lv_has ls 10 [(0, .ref (ad 0)), (1, .int x1), (2, .int x2), (3, .int x3), (4, .int x4), (5, .int x5), (6, .int x6), (7, .int x7)] → W p l e rm_m_mendsBy s m args below meth c H locs 0 0 QQ (F0 m 120 ls [.int v0]) := by
    intro σ H locs x1 x2 x3 x4 x5 x6 x7 v0 K16 hK16 K30 hK30 K59 hK59 ls hf hw hl
    unfold m_mendsBy_p120 at hf
    refine lv_istore (lv' := [(9, .int v0), (0, .ref (ad 0)), (1, .int x1), (2, .int x2), (3, .int x3), (4, .int x4), (5, .int x5), (6, .int x6), (7, .int x7)]) C.1 C.2.1 dX3_mendsBy_120 hl (Nat.le_of_ble_eq_true rfl) rfl (fun ls hl => ?_)
    refine lv_iload C.1 C.2.1 dX3_mendsBy_122 (lv_at hl 0 rfl) ?_
    refine lv_iload C.1 C.2.1 dX3_mendsBy_124 (lv_at hl 7 rfl) ?_
    refine lv_icmp_ge (tgt := 134) C.1 C.2.1 dX3_mendsBy_126 (by decide) (fun h126 => ?_) (fun h126 => ?_)
    · replace hf := hf.1 h126
      refine lv_iload C.1 C.2.1 dX3_mendsBy_134 (lv_at hl 7 rfl) ?_
      refine lv_istore (lv' := [(6, .int x6), (9, .int v0), (0, .ref (ad 0)), (1, .int x1), (2, .int x2), (3, .int x3), (4, .int x4), (5, .int x5), (7, .int x7)]) C.1 C.2.1 dX3_mendsBy_136 hl (Nat.le_of_ble_eq_true rfl) rfl (fun ls hl => ?_)
      refine lv_iinc (v := (x7 + 1)) (lv' := [(7, .int (x7 + 1)), (6, .int x6), (9, .int v0), (0, .ref (ad 0)), (1, .int x1), (2, .int x2), (3, .int x3), (4, .int x4), (5, .int x5)]) C.1 C.2.1 dX3_mendsBy_138 hl (k := 8) rfl rfl (Nat.le_of_ble_eq_true rfl) rfl (fun ls hl => ?_)
      refine lv_goto (tgt := 59) C.1 C.2.1 dX3_mendsBy_141 (by decide) ?_
      exact hK59 _ _ _ hf (lv_sub hl [3, 4, 5, 6, 7, 8, 1, 0] rfl)
    · replace hf := hf.2 h126
      refine lv_iload C.1 C.2.1 dX3_mendsBy_129 (lv_at hl 0 rfl) ?_
      refine lv_goto (tgt := 136) C.1 C.2.1 dX3_mendsBy_131 (by decide) ?_
      refine lv_istore (lv' := [(6, .int v0), (9, .int v0), (0, .ref (ad 0)), (1, .int x1), (2, .int x2), (3, .int x3), (4, .int x4), (5, .int x5), (7, .int x7)]) C.1 C.2.1 dX3_mendsBy_136 hl (Nat.le_of_ble_eq_true rfl) rfl (fun ls hl => ?_)
      refine lv_iinc (v := (x7 + 1)) (lv' := [(7, .int (x7 + 1)), (6, .int v0), (9, .int v0), (0, .ref (ad 0)), (1, .int x1), (2, .int x2), (3, .int x3), (4, .int x4), (5, .int x5)]) C.1 C.2.1 dX3_mendsBy_138 hl (k := 8) rfl rfl (Nat.le_of_ble_eq_true rfl) rfl (fun ls hl => ?_)
      refine lv_goto (tgt := 59) C.1 C.2.1 dX3_mendsBy_141 (by decide) ?_
      exact hK59 _ _ _ hf (lv_sub hl [3, 4, 5, 6, 7, 8, 1, 0] rfl)
  have B59 : ∀ (σ : St) (H : Heap) (locs : List Loc) (x1 : Int32) (x2 : Int32) (x3 : Int32) (x4 : Int32) (x5 : Int32) (K16 : St → Int32 → Prop) (_ : ∀ (σ : St) (H : Heap) (locs : List Loc) (x4 : Int32) (ls : Array Slot), K16 σ x4 → gH D ct shM ad s σ H locs → lv_has ls 10 [(0, .ref (ad 0)), (1, .int x1), (2, .int x2), (3, .int x3), (4, .int x4)] → W p l e rm_m_mendsBy s m args below meth c H locs 0 0 QQ (F0 m 16 ls [])) (K30 : St → Int32 → Prop) (_ : ∀ (σ : St) (H : Heap) (locs : List Loc) (x5 : Int32) (ls : Array Slot), K30 σ x5 → gH D ct shM ad s σ H locs → lv_has ls 10 [(0, .ref (ad 0)), (1, .int x1), (2, .int x2), (3, .int x3), (4, .int x4), (5, .int x5)] → W p l e rm_m_mendsBy s m args below meth c H locs 0 0 QQ (F0 m 30 ls [])) (K59 : Int32 → Int32 → Prop) (_ : ∀ (x6 : Int32) (x7 : Int32) (ls : Array Slot), K59 x6 x7 → lv_has ls 10 [(0, .ref (ad 0)), (1, .int x1), (2, .int x2), (3, .int x3), (4, .int x4), (5, .int x5), (6, .int x6), (7, .int x7)] → W p l e rm_m_mendsBy s m args below meth c H locs 0 0 QQ (F0 m 59 ls [])) (x6 : Int32) (x7 : Int32) (ls : Array Slot), m_mendsBy_p59 σ x1 x2 x3 x4 x5 Q K16 K30 K59 x6 x7 → gH D ct shM ad s σ H locs → lv_has ls 10 [(0, .ref (ad 0)), (1, .int x1), (2, .int x2), (3, .int x3), (4, .int x4), (5, .int x5), (6, .int x6), (7, .int x7)] → W p l e rm_m_mendsBy s m args below meth c H locs 0 0 QQ (F0 m 59 ls []) := by
    intro σ H locs x1 x2 x3 x4 x5 K16 hK16 K30 hK30 K59 hK59 x6 x7 ls hf hw hl
    unfold m_mendsBy_p59 at hf
    refine lv_iload C.1 C.2.1 dX3_mendsBy_59 (lv_at hl 7 rfl) ?_
    refine lv_iload C.1 C.2.1 dX3_mendsBy_61 (lv_at hl 5 rfl) ?_
    refine lv_icmp_gt (tgt := 144) C.1 C.2.1 dX3_mendsBy_63 (by decide) (fun h63 => ?_) (fun h63 => ?_)
    · replace hf := hf.1 h63
      exact J144 _ _ _ _ _ _ _ _ _ _ hK16 _ hK30 _ hf hw (lv_sub hl [0, 1, 2, 3, 4, 5, 6] rfl)
    · replace hf := hf.2 h63
      refine lv_iload C.1 C.2.1 dX3_mendsBy_66 (lv_at hl 4 rfl) ?_
      refine lv_if_le (tgt := 144) C.1 C.2.1 dX3_mendsBy_68 (by decide) (fun h68 => ?_) (fun h68 => ?_)
      · replace hf := hf.1 h68
        exact J144 _ _ _ _ _ _ _ _ _ _ hK16 _ hK30 _ hf hw (lv_sub hl [0, 1, 2, 3, 4, 5, 6] rfl)
      · replace hf := hf.2 h68
        refine lv_aload_n C.1 C.2.1 dX3_mendsBy_71 rfl (lv_at hl 0 rfl) ?_
        refine mg_mendedAhead C hw dX3_mendsBy_72 ?_
        refine lv_bipush (v := 13) C.1 C.2.1 dX3_mendsBy_75 rfl ?_
        refine lv_iload C.1 C.2.1 dX3_mendsBy_77 (lv_at hl 4 rfl) ?_
        refine lv_iconst (v := 1) C.1 C.2.1 dX3_mendsBy_79 rfl ?_
        refine lv_isub C.1 C.2.1 dX3_mendsBy_80 ?_
        refine lv_imul C.1 C.2.1 dX3_mendsBy_81 ?_
        refine lv_iload C.1 C.2.1 dX3_mendsBy_82 (lv_at hl 7 rfl) ?_
        refine lv_iadd C.1 C.2.1 dX3_mendsBy_84 ?_
        obtain ⟨b85, hf⟩ := hf
        refine g_iald C hw 66 rfl b85 dX3_mendsBy_85 ?_
        refine lv_istore (lv' := [(8, .int (gI σ 66 ((13 * (x4 - 1)) + x7))), (0, .ref (ad 0)), (1, .int x1), (2, .int x2), (3, .int x3), (4, .int x4), (5, .int x5), (6, .int x6), (7, .int x7)]) C.1 C.2.1 dX3_mendsBy_86 hl (Nat.le_of_ble_eq_true rfl) rfl (fun ls hl => ?_)
        refine lv_iload C.1 C.2.1 dX3_mendsBy_88 (lv_at hl 0 rfl) ?_
        refine lv_ldcw C.1 C.2.1 C.2.2.2.1 (C.2.2.2.2 _ q1760) dX3_mendsBy_90 ?_
        refine lv_icmp_ge (tgt := 117) C.1 C.2.1 dX3_mendsBy_93 (by decide) (fun h93 => ?_) (fun h93 => ?_)
        · replace hf := hf.1 h93
          refine lv_ldcw C.1 C.2.1 C.2.2.2.1 (C.2.2.2.2 _ q1760) dX3_mendsBy_117 ?_
          exact J120 _ _ _ _ _ _ _ _ _ _ _ _ hK16 _ hK30 _ hK59 _ hf hw (lv_sub hl [1, 2, 3, 4, 5, 6, 7, 8] rfl)
        · replace hf := hf.2 h93
          refine lv_iload C.1 C.2.1 dX3_mendsBy_96 (lv_at hl 0 rfl) ?_
          refine lv_aload_n C.1 C.2.1 dX3_mendsBy_98 rfl (lv_at hl 1 rfl) ?_
          refine lv_iload_n C.1 C.2.1 dX3_mendsBy_99 rfl (lv_at hl 2 rfl) ?_
          refine lv_iload C.1 C.2.1 dX3_mendsBy_100 (lv_at hl 5 rfl) ?_
          refine lv_iconst (v := 1) C.1 C.2.1 dX3_mendsBy_102 rfl ?_
          refine lv_isub C.1 C.2.1 dX3_mendsBy_103 ?_
          refine lv_iload C.1 C.2.1 dX3_mendsBy_104 (lv_at hl 8 rfl) ?_
          refine lv_iload C.1 C.2.1 dX3_mendsBy_106 (lv_at hl 6 rfl) ?_
          refine km_mendsTo C hw hl.1 (Nat.le_of_ble_eq_true rfl) ⟨Nat.le_of_ble_eq_true rfl, Nat.le_of_ble_eq_true rfl⟩ dX3_mendsBy_108 hf (fun r108 hf => ?_)
          refine km_joined C hl.1 (Nat.le_of_ble_eq_true rfl) ⟨Nat.le_of_ble_eq_true rfl, Nat.le_of_ble_eq_true rfl⟩ dX3_mendsBy_111 ?_
          refine lv_goto (tgt := 120) C.1 C.2.1 dX3_mendsBy_114 (by decide) ?_
          exact J120 _ _ _ _ _ _ _ _ _ _ _ _ hK16 _ hK30 _ hK59 _ hf hw (lv_sub hl [1, 2, 3, 4, 5, 6, 7, 8] rfl)
  have P59 : ∀ (σ : St) (H : Heap) (locs : List Loc) (x1 : Int32) (x2 : Int32) (x3 : Int32) (x4 : Int32) (x5 : Int32) (K16 : St → Int32 → Prop) (_ : ∀ (σ : St) (H : Heap) (locs : List Loc) (x4 : Int32) (ls : Array Slot), K16 σ x4 → gH D ct shM ad s σ H locs → lv_has ls 10 [(0, .ref (ad 0)), (1, .int x1), (2, .int x2), (3, .int x3), (4, .int x4)] → W p l e rm_m_mendsBy s m args below meth c H locs 0 0 QQ (F0 m 16 ls [])) (K30 : St → Int32 → Prop) (_ : ∀ (σ : St) (H : Heap) (locs : List Loc) (x5 : Int32) (ls : Array Slot), K30 σ x5 → gH D ct shM ad s σ H locs → lv_has ls 10 [(0, .ref (ad 0)), (1, .int x1), (2, .int x2), (3, .int x3), (4, .int x4), (5, .int x5)] → W p l e rm_m_mendsBy s m args below meth c H locs 0 0 QQ (F0 m 30 ls [])) (n : Nat) (x6 : Int32) (x7 : Int32) (ls : Array Slot), LL2 (m_mendsBy_p59 σ x1 x2 x3 x4 x5 Q K16 K30) n x6 x7 → gH D ct shM ad s σ H locs → lv_has ls 10 [(0, .ref (ad 0)), (1, .int x1), (2, .int x2), (3, .int x3), (4, .int x4), (5, .int x5), (6, .int x6), (7, .int x7)] → W p l e rm_m_mendsBy s m args below meth c H locs 0 0 QQ (F0 m 59 ls []) := by
    intro σ H locs x1 x2 x3 x4 x5 K16 hK16 K30 hK30 n
    induction n with
    | zero => intro x6 x7 ls hf; exact False.elim hf
    | succ n ih => intro x6 x7 ls hf hw hl; exact B59 σ H locs x1 x2 x3 x4 x5 K16 hK16 K30 hK30 (LL2 _ n) (fun x6 x7 ls hf hl => ih x6 x7 ls hf hw hl) x6 x7 ls hf hw hl
  have B30 : ∀ (x1 : Int32) (x2 : Int32) (x3 : Int32) (x4 : Int32) (K16 : St → Int32 → Prop) (_ : ∀ (σ : St) (H : Heap) (locs : List Loc) (x4 : Int32) (ls : Array Slot), K16 σ x4 → gH D ct shM ad s σ H locs → lv_has ls 10 [(0, .ref (ad 0)), (1, .int x1), (2, .int x2), (3, .int x3), (4, .int x4)] → W p l e rm_m_mendsBy s m args below meth c H locs 0 0 QQ (F0 m 16 ls [])) (K30 : St → Int32 → Prop) (_ : ∀ (σ : St) (H : Heap) (locs : List Loc) (x5 : Int32) (ls : Array Slot), K30 σ x5 → gH D ct shM ad s σ H locs → lv_has ls 10 [(0, .ref (ad 0)), (1, .int x1), (2, .int x2), (3, .int x3), (4, .int x4), (5, .int x5)] → W p l e rm_m_mendsBy s m args below meth c H locs 0 0 QQ (F0 m 30 ls [])) (σ : St) (H : Heap) (locs : List Loc) (x5 : Int32) (ls : Array Slot), m_mendsBy_p30 x1 x2 x3 x4 Q K16 K30 σ x5 → gH D ct shM ad s σ H locs → lv_has ls 10 [(0, .ref (ad 0)), (1, .int x1), (2, .int x2), (3, .int x3), (4, .int x4), (5, .int x5)] → W p l e rm_m_mendsBy s m args below meth c H locs 0 0 QQ (F0 m 30 ls []) := by
    intro x1 x2 x3 x4 K16 hK16 K30 hK30 σ H locs x5 ls hf hw hl
    unfold m_mendsBy_p30 at hf
    refine lv_iload C.1 C.2.1 dX3_mendsBy_30 (lv_at hl 5 rfl) ?_
    refine lv_iload_n C.1 C.2.1 dX3_mendsBy_32 rfl (lv_at hl 3 rfl) ?_
    refine lv_icmp_gt (tgt := 165) C.1 C.2.1 dX3_mendsBy_33 (by decide) (fun h33 => ?_) (fun h33 => ?_)
    · replace hf := hf.1 h33
      refine lv_iinc (v := (x4 + 1)) (lv' := [(4, .int (x4 + 1)), (0, .ref (ad 0)), (1, .int x1), (2, .int x2), (3, .int x3), (5, .int x5)]) C.1 C.2.1 dX3_mendsBy_165 hl (k := 4) rfl rfl (Nat.le_of_ble_eq_true rfl) rfl (fun ls hl => ?_)
      refine lv_goto (tgt := 16) C.1 C.2.1 dX3_mendsBy_168 (by decide) ?_
      exact hK16 _ _ _ _ _ hf hw (lv_sub hl [1, 2, 3, 4, 0] rfl)
    · replace hf := hf.2 h33
      refine lv_iload C.1 C.2.1 dX3_mendsBy_36 (lv_at hl 4 rfl) ?_
      refine lv_if_ne (tgt := 51) C.1 C.2.1 dX3_mendsBy_38 (by decide) (fun h38 => ?_) (fun h38 => ?_)
      · replace hf := hf.2 h38
        refine lv_ldcw C.1 C.2.1 C.2.2.2.1 (C.2.2.2.2 _ q1760) dX3_mendsBy_51 ?_
        refine lv_istore (lv' := [(6, .int 2000000000), (0, .ref (ad 0)), (1, .int x1), (2, .int x2), (3, .int x3), (4, .int x4), (5, .int x5)]) C.1 C.2.1 dX3_mendsBy_54 hl (Nat.le_of_ble_eq_true rfl) rfl (fun ls hl => ?_)
        refine lv_iload_n C.1 C.2.1 dX3_mendsBy_56 rfl (lv_at hl 3 rfl) ?_
        refine lv_istore (lv' := [(7, .int x2), (6, .int 2000000000), (0, .ref (ad 0)), (1, .int x1), (2, .int x2), (3, .int x3), (4, .int x4), (5, .int x5)]) C.1 C.2.1 dX3_mendsBy_57 hl (Nat.le_of_ble_eq_true rfl) rfl (fun ls hl => ?_)
        obtain ⟨n, hf⟩ := hf
        exact P59 _ _ _ _ _ _ _ _ _ hK16 _ hK30 n _ _ _ hf hw (lv_sub hl [2, 3, 4, 5, 6, 7, 1, 0] rfl)
      · replace hf := hf.1 h38
        refine lv_iload C.1 C.2.1 dX3_mendsBy_41 (lv_at hl 5 rfl) ?_
        refine lv_iload_n C.1 C.2.1 dX3_mendsBy_43 rfl (lv_at hl 2 rfl) ?_
        refine lv_icmp_ne (tgt := 51) C.1 C.2.1 dX3_mendsBy_44 (by decide) (fun h44 => ?_) (fun h44 => ?_)
        · replace hf := hf.2 h44
          refine lv_ldcw C.1 C.2.1 C.2.2.2.1 (C.2.2.2.2 _ q1760) dX3_mendsBy_51 ?_
          refine lv_istore (lv' := [(6, .int 2000000000), (0, .ref (ad 0)), (1, .int x1), (2, .int x2), (3, .int x3), (4, .int x4), (5, .int x5)]) C.1 C.2.1 dX3_mendsBy_54 hl (Nat.le_of_ble_eq_true rfl) rfl (fun ls hl => ?_)
          refine lv_iload_n C.1 C.2.1 dX3_mendsBy_56 rfl (lv_at hl 3 rfl) ?_
          refine lv_istore (lv' := [(7, .int x2), (6, .int 2000000000), (0, .ref (ad 0)), (1, .int x1), (2, .int x2), (3, .int x3), (4, .int x4), (5, .int x5)]) C.1 C.2.1 dX3_mendsBy_57 hl (Nat.le_of_ble_eq_true rfl) rfl (fun ls hl => ?_)
          obtain ⟨n, hf⟩ := hf
          exact P59 _ _ _ _ _ _ _ _ _ hK16 _ hK30 n _ _ _ hf hw (lv_sub hl [2, 3, 4, 5, 6, 7, 1, 0] rfl)
        · replace hf := hf.1 h44
          refine lv_iconst (v := 0) C.1 C.2.1 dX3_mendsBy_47 rfl ?_
          refine lv_goto (tgt := 54) C.1 C.2.1 dX3_mendsBy_48 (by decide) ?_
          refine lv_istore (lv' := [(6, .int 0), (0, .ref (ad 0)), (1, .int x1), (2, .int x2), (3, .int x3), (4, .int x4), (5, .int x5)]) C.1 C.2.1 dX3_mendsBy_54 hl (Nat.le_of_ble_eq_true rfl) rfl (fun ls hl => ?_)
          refine lv_iload_n C.1 C.2.1 dX3_mendsBy_56 rfl (lv_at hl 3 rfl) ?_
          refine lv_istore (lv' := [(7, .int x2), (6, .int 0), (0, .ref (ad 0)), (1, .int x1), (2, .int x2), (3, .int x3), (4, .int x4), (5, .int x5)]) C.1 C.2.1 dX3_mendsBy_57 hl (Nat.le_of_ble_eq_true rfl) rfl (fun ls hl => ?_)
          obtain ⟨n, hf⟩ := hf
          exact P59 _ _ _ _ _ _ _ _ _ hK16 _ hK30 n _ _ _ hf hw (lv_sub hl [2, 3, 4, 5, 6, 7, 1, 0] rfl)
  have P30 : ∀ (x1 : Int32) (x2 : Int32) (x3 : Int32) (x4 : Int32) (K16 : St → Int32 → Prop) (_ : ∀ (σ : St) (H : Heap) (locs : List Loc) (x4 : Int32) (ls : Array Slot), K16 σ x4 → gH D ct shM ad s σ H locs → lv_has ls 10 [(0, .ref (ad 0)), (1, .int x1), (2, .int x2), (3, .int x3), (4, .int x4)] → W p l e rm_m_mendsBy s m args below meth c H locs 0 0 QQ (F0 m 16 ls [])) (n : Nat) (σ : St) (x5 : Int32) (ls : Array Slot) (H : Heap) (locs : List Loc), LL2 (m_mendsBy_p30 x1 x2 x3 x4 Q K16) n σ x5 → gH D ct shM ad s σ H locs → lv_has ls 10 [(0, .ref (ad 0)), (1, .int x1), (2, .int x2), (3, .int x3), (4, .int x4), (5, .int x5)] → W p l e rm_m_mendsBy s m args below meth c H locs 0 0 QQ (F0 m 30 ls []) := by
    intro x1 x2 x3 x4 K16 hK16 n
    induction n with
    | zero => intro σ x5 ls H locs hf; exact False.elim hf
    | succ n ih => intro σ x5 ls H locs hf hw hl; exact B30 x1 x2 x3 x4 K16 hK16 (LL2 _ n) (fun σ H locs x5 ls hf hw hl => ih σ x5 ls H locs hf hw hl) σ H locs x5 ls hf hw hl
  have B16 : ∀ (x1 : Int32) (x2 : Int32) (x3 : Int32) (K16 : St → Int32 → Prop) (_ : ∀ (σ : St) (H : Heap) (locs : List Loc) (x4 : Int32) (ls : Array Slot), K16 σ x4 → gH D ct shM ad s σ H locs → lv_has ls 10 [(0, .ref (ad 0)), (1, .int x1), (2, .int x2), (3, .int x3), (4, .int x4)] → W p l e rm_m_mendsBy s m args below meth c H locs 0 0 QQ (F0 m 16 ls [])) (σ : St) (H : Heap) (locs : List Loc) (x4 : Int32) (ls : Array Slot), m_mendsBy_p16 x1 x2 x3 Q K16 σ x4 → gH D ct shM ad s σ H locs → lv_has ls 10 [(0, .ref (ad 0)), (1, .int x1), (2, .int x2), (3, .int x3), (4, .int x4)] → W p l e rm_m_mendsBy s m args below meth c H locs 0 0 QQ (F0 m 16 ls []) := by
    intro x1 x2 x3 K16 hK16 σ H locs x4 ls hf hw hl
    unfold m_mendsBy_p16 at hf
    refine lv_iload C.1 C.2.1 dX3_mendsBy_16 (lv_at hl 4 rfl) ?_
    refine lv_aload_n C.1 C.2.1 dX3_mendsBy_18 rfl (lv_at hl 0 rfl) ?_
    refine mg_size C hw dX3_mendsBy_19 ?_
    refine lv_iload_n C.1 C.2.1 dX3_mendsBy_22 rfl (lv_at hl 1 rfl) ?_
    obtain ⟨b23, hf⟩ := hf
    refine g_iald C hw 4 rfl b23 dX3_mendsBy_23 ?_
    refine lv_icmp_gt (tgt := 171) C.1 C.2.1 dX3_mendsBy_24 (by decide) (fun h24 => ?_) (fun h24 => ?_)
    · replace hf := hf.1 h24
      refine lv_aload_n C.1 C.2.1 dX3_mendsBy_171 rfl (lv_at hl 0 rfl) ?_
      refine mg_mendedAhead C hw dX3_mendsBy_172 ?_
      refine lv_bipush (v := 13) C.1 C.2.1 dX3_mendsBy_175 rfl ?_
      refine lv_aload_n C.1 C.2.1 dX3_mendsBy_177 rfl (lv_at hl 0 rfl) ?_
      refine mg_size C hw dX3_mendsBy_178 ?_
      refine lv_iload_n C.1 C.2.1 dX3_mendsBy_181 rfl (lv_at hl 1 rfl) ?_
      refine g_iald C hw 4 rfl b23 dX3_mendsBy_182 ?_
      refine lv_imul C.1 C.2.1 dX3_mendsBy_183 ?_
      refine lv_iload_n C.1 C.2.1 dX3_mendsBy_184 rfl (lv_at hl 3 rfl) ?_
      refine lv_iadd C.1 C.2.1 dX3_mendsBy_185 ?_
      obtain ⟨b186, hf⟩ := hf
      refine g_iald C hw 66 rfl b186 dX3_mendsBy_186 ?_
      exact hret _ _ _ _ _ _ hf hw dX3_mendsBy_187
    · replace hf := hf.2 h24
      refine lv_iload_n C.1 C.2.1 dX3_mendsBy_27 rfl (lv_at hl 2 rfl) ?_
      refine lv_istore (lv' := [(5, .int x2), (0, .ref (ad 0)), (1, .int x1), (2, .int x2), (3, .int x3), (4, .int x4)]) C.1 C.2.1 dX3_mendsBy_28 hl (Nat.le_of_ble_eq_true rfl) rfl (fun ls hl => ?_)
      obtain ⟨n, hf⟩ := hf
      exact P30 _ _ _ _ _ hK16 n _ _ _ _ _ hf hw (lv_sub hl [1, 2, 3, 4, 5, 0] rfl)
  have P16 : ∀ (x1 : Int32) (x2 : Int32) (x3 : Int32) (n : Nat) (σ : St) (x4 : Int32) (ls : Array Slot) (H : Heap) (locs : List Loc), LL2 (m_mendsBy_p16 x1 x2 x3 Q) n σ x4 → gH D ct shM ad s σ H locs → lv_has ls 10 [(0, .ref (ad 0)), (1, .int x1), (2, .int x2), (3, .int x3), (4, .int x4)] → W p l e rm_m_mendsBy s m args below meth c H locs 0 0 QQ (F0 m 16 ls []) := by
    intro x1 x2 x3 n
    induction n with
    | zero => intro σ x4 ls H locs hf; exact False.elim hf
    | succ n ih => intro σ x4 ls H locs hf hw hl; exact B16 x1 x2 x3 (LL2 _ n) (fun σ H locs x4 ls hf hw hl => ih σ x4 ls H locs hf hw hl) σ H locs x4 ls hf hw hl
  unfold m_mendsBy at hf
  obtain ⟨H, hH⟩ : ∃ q, q = s.heap := ⟨_, rfl⟩
  obtain ⟨locs, hL⟩ : ∃ q : List Loc, q = [] := ⟨_, rfl⟩
  rw [← hH, ← hL] at hw ⊢
  refine lv_aload_n C.1 C.2.1 dX3_mendsBy_0 rfl (lv_at hl 0 rfl) ?_
  refine mg_size C hw dX3_mendsBy_1 ?_
  refine lv_iload_n C.1 C.2.1 dX3_mendsBy_4 rfl (lv_at hl 1 rfl) ?_
  obtain ⟨b5, hf⟩ := hf
  refine g_iald C hw 4 rfl b5 dX3_mendsBy_5 ?_
  refine lv_if_ne (tgt := 13) C.1 C.2.1 dX3_mendsBy_6 (by decide) (fun h6 => ?_) (fun h6 => ?_)
  · replace hf := hf.2 h6
    refine lv_iconst (v := 0) C.1 C.2.1 dX3_mendsBy_13 rfl ?_
    refine lv_istore (lv' := [(4, .int 0), (0, .ref (ad 0)), (1, .int x1), (2, .int x2), (3, .int x3)]) C.1 C.2.1 dX3_mendsBy_14 hl (Nat.le_of_ble_eq_true rfl) rfl (fun ls hl => ?_)
    obtain ⟨n, hf⟩ := hf
    exact P16 _ _ _ n _ _ _ _ _ hf hw (lv_sub hl [1, 2, 3, 4, 0] rfl)
  · replace hf := hf.1 h6
    refine lv_iload_n C.1 C.2.1 dX3_mendsBy_9 rfl (lv_at hl 3 rfl) ?_
    refine lv_iload_n C.1 C.2.1 dX3_mendsBy_10 rfl (lv_at hl 2 rfl) ?_
    refine lv_isub C.1 C.2.1 dX3_mendsBy_11 ?_
    exact hret _ _ _ _ _ _ hf hw dX3_mendsBy_12
theorem km_mendsBy {p : Program} {l : Launch} {e : Env} {R : Room} {s : State} {m : MethodId} {args : Array Value} {below : List Frame} {meth : Method} {c : Code} {H : Heap} {locs : List Loc} {Z : State → Prop} {cc : ByteArray} {nL pc : Nat} {ls : Array Slot} {rest : List Value} {D : va_G} {ct : Ct} {ad : Nat → Nat} {σ : St} {x1 : Int32} {x2 : Int32} {x3 : Int32} {Qp : Int32 → St → Prop} (C : CallFix p m c cc nL s args lw_all RX3) (hw : gH D ct shM ad s σ H locs) (hsz : ls.size = nL) (hrm : (rest.map fun v => v.category).sum ≤ 8) (hR : rm_m_mendsBy.frames + 1 ≤ R.frames ∧ 8 + (10 + 11) + rm_m_mendsBy.locals ≤ R.locals) (hdg : decode cc pc = .ok (.invokevirtual 583, 3)) (hf : m_mendsBy σ x1 x2 x3 Qp) (kk : ∀ (r : Int32) (σ1 : St) (H1 : Heap) (locs1 : List Loc), Qp r σ1 → gH D ct shM ad s σ1 H1 locs1 → W p l e R s m args below meth c H1 locs1 0 0 Z (F0 m (pc + 3) ls (.int r :: rest))) : W p l e R s m args below meth c H locs 0 0 Z (F0 m pc ls (.int x3 :: .int x2 :: .int x1 :: .ref (ad 0) :: rest)) :=
  g_callV (As := [.int x1, .int x2, .int x3]) (rest := rest) C hw rfl rfl (met_m_mendsBy l D ct ad hw.2.1 σ x1 x2 x3 Qp hf) (cwV 3 C.2.2.2.2 (lw_V q2090 q2092 qs189 q207 q2093) rfl rfl rfl (by decide +kernel) hR) rfl hsz rfl hrm ⟨Nat.zero_le _, Nat.zero_le _⟩ hdg kk
def m_speaks_p24 (Q : Int32 → St → Prop) (K24 : St → Int32 → Int32 → Prop) (σ : St) (x1 : Int32) (x2 : Int32) : Prop :=
  ((x2 = (-1) → Q 1 σ) ∧ (¬ x2 = (-1) → (vp_in x2 28 ∧ (m_rulesOf σ (gI σ 67 x2) (fun r36 => ((r36 = 0 → Q 0 σ) ∧ (¬ r36 = 0 → ((x1 = 30 → Q 0 σ) ∧ (¬ x1 = 30 → (m_draws σ r36 (fun r63 s63 => (m_ruleOf s63 (gI σ 67 x2) r63 (fun r66 => (m_replaces s63 x2 r66 (fun _ s69 => (((s69.1 68) ≤ 24 → (m_capitalAt s69 (fun r87 => K24 s69 (x1 + 1) r87))) ∧ (¬ (s69.1 68) ≤ 24 → Q 0 s69)))))))))))))))))
def m_speaks (σ : St) (Q : Int32 → St → Prop) : Prop :=
  (∀ s11 : St, s11 = s_A σ 67 (Int32.toNatClampNeg 0) (gI σ 2 1) → (∀ s14 : St, s14 = s_I s11 68 1 → (m_capitalAt s14 (fun r20 => (Lp3 (m_speaks_p24 Q) s14 0 r20)))))
abbrev rm_m_speaks : Room := { frames := 3, cells := 0, slots := 0, locals := 66 }
set_option maxHeartbeats 4000000 in
theorem met_m_speaks (l : Launch) (D : va_G) (ct : Ct) (ad : Nat → Nat) (hJ : gJ shM ad ct) (σ : St) (Q : Int32 → St → Prop) (hf : m_speaks σ Q) : Met l yX3_speaks (ws_ yX3_speaks cX3_speaks 4 (some .boolean)) rm_m_speaks (va_Pc [.ref (ad 0)] (gP D ct shM ad σ)) (gQ rvI D ct shM ad Q) 0 0 (gA shM ad) := by
  refine g_metZ hJ (by decide) (Nat.le_of_ble_eq_true rfl) ?_
  intro p e s m args below meth c QQ ls C hw hl hret
  replace hl : lv_has ls 4 [(0, .ref (ad 0))] := hl
  have B24 : ∀ (K24 : St → Int32 → Int32 → Prop) (_ : ∀ (σ : St) (H : Heap) (locs : List Loc) (x1 : Int32) (x2 : Int32) (ls : Array Slot), K24 σ x1 x2 → gH D ct shM ad s σ H locs → lv_has ls 4 [(0, .ref (ad 0)), (1, .int x1), (2, .int x2)] → W p l e rm_m_speaks s m args below meth c H locs 0 0 QQ (F0 m 24 ls [])) (σ : St) (H : Heap) (locs : List Loc) (x1 : Int32) (x2 : Int32) (ls : Array Slot), m_speaks_p24 Q K24 σ x1 x2 → gH D ct shM ad s σ H locs → lv_has ls 4 [(0, .ref (ad 0)), (1, .int x1), (2, .int x2)] → W p l e rm_m_speaks s m args below meth c H locs 0 0 QQ (F0 m 24 ls []) := by
    intro K24 hK24 σ H locs x1 x2 ls hf hw hl
    unfold m_speaks_p24 at hf
    refine lv_iload_n C.1 C.2.1 dX3_speaks_24 rfl (lv_at hl 2 rfl) ?_
    refine lv_iconst (v := (-1)) C.1 C.2.1 dX3_speaks_25 rfl ?_
    refine lv_icmp_eq (tgt := 94) C.1 C.2.1 dX3_speaks_26 (by decide) (fun h26 => ?_) (fun h26 => ?_)
    · replace hf := hf.1 h26
      refine lv_iconst (v := 1) C.1 C.2.1 dX3_speaks_94 rfl ?_
      exact hret _ _ _ _ _ _ hf hw (Or.inr rfl) dX3_speaks_95
    · replace hf := hf.2 h26
      refine lv_aload_n C.1 C.2.1 dX3_speaks_29 rfl (lv_at hl 0 rfl) ?_
      refine lv_aload_n C.1 C.2.1 dX3_speaks_30 rfl (lv_at hl 0 rfl) ?_
      refine mg_row C hw dX3_speaks_31 ?_
      refine lv_iload_n C.1 C.2.1 dX3_speaks_34 rfl (lv_at hl 2 rfl) ?_
      obtain ⟨b35, hf⟩ := hf
      refine g_iald C hw 67 rfl b35 dX3_speaks_35 ?_
      refine km_rulesOf C hw hl.1 (Nat.le_of_ble_eq_true rfl) ⟨Nat.le_of_ble_eq_true rfl, Nat.le_of_ble_eq_true rfl⟩ dX3_speaks_36 hf (fun r36 hf => ?_)
      refine lv_istore_n (lv' := [(3, .int r36), (0, .ref (ad 0)), (1, .int x1), (2, .int x2)]) C.1 C.2.1 dX3_speaks_39 rfl hl (Nat.le_of_ble_eq_true rfl) rfl (fun ls hl => ?_)
      refine lv_iload_n C.1 C.2.1 dX3_speaks_40 rfl (lv_at hl 0 rfl) ?_
      refine lv_if_eq (tgt := 50) C.1 C.2.1 dX3_speaks_41 (by decide) (fun h41 => ?_) (fun h41 => ?_)
      · replace hf := hf.1 h41
        refine lv_iconst (v := 0) C.1 C.2.1 dX3_speaks_50 rfl ?_
        exact hret _ _ _ _ _ _ hf hw (Or.inl rfl) dX3_speaks_51
      · replace hf := hf.2 h41
        refine lv_iload_n C.1 C.2.1 dX3_speaks_44 rfl (lv_at hl 2 rfl) ?_
        refine lv_bipush (v := 30) C.1 C.2.1 dX3_speaks_45 rfl ?_
        refine lv_icmp_ne (tgt := 52) C.1 C.2.1 dX3_speaks_47 (by decide) (fun h47 => ?_) (fun h47 => ?_)
        · replace hf := hf.2 h47
          refine lv_aload_n C.1 C.2.1 dX3_speaks_52 rfl (lv_at hl 1 rfl) ?_
          refine lv_iload_n C.1 C.2.1 dX3_speaks_53 rfl (lv_at hl 3 rfl) ?_
          refine lv_aload_n C.1 C.2.1 dX3_speaks_54 rfl (lv_at hl 1 rfl) ?_
          refine lv_aload_n C.1 C.2.1 dX3_speaks_55 rfl (lv_at hl 1 rfl) ?_
          refine mg_row C hw dX3_speaks_56 ?_
          refine lv_iload_n C.1 C.2.1 dX3_speaks_59 rfl (lv_at hl 3 rfl) ?_
          refine g_iald C hw 67 rfl b35 dX3_speaks_60 ?_
          refine lv_aload_n C.1 C.2.1 dX3_speaks_61 rfl (lv_at hl 1 rfl) ?_
          refine lv_iload_n C.1 C.2.1 dX3_speaks_62 rfl (lv_at hl 0 rfl) ?_
          refine km_draws C hw hl.1 (Nat.le_of_ble_eq_true rfl) ⟨Nat.le_of_ble_eq_true rfl, Nat.le_of_ble_eq_true rfl⟩ dX3_speaks_63 hf (fun r63 s63 H locs hf hw => ?_)
          refine km_ruleOf C hw hl.1 (Nat.le_of_ble_eq_true rfl) ⟨Nat.le_of_ble_eq_true rfl, Nat.le_of_ble_eq_true rfl⟩ dX3_speaks_66 hf (fun r66 hf => ?_)
          refine km_replaces C hw hl.1 (Nat.le_of_ble_eq_true rfl) ⟨Nat.le_of_ble_eq_true rfl, Nat.le_of_ble_eq_true rfl⟩ dX3_speaks_69 hf (fun _ s69 H locs hf hw => ?_)
          refine lv_iinc (v := (x1 + 1)) (lv' := [(1, .int (x1 + 1)), (3, .int r36), (0, .ref (ad 0)), (2, .int x2)]) C.1 C.2.1 dX3_speaks_72 hl (k := 2) rfl rfl (Nat.le_of_ble_eq_true rfl) rfl (fun ls hl => ?_)
          refine lv_aload_n C.1 C.2.1 dX3_speaks_75 rfl (lv_at hl 2 rfl) ?_
          refine mg_rowMany C hw dX3_speaks_76 ?_
          refine lv_bipush (v := 24) C.1 C.2.1 dX3_speaks_79 rfl ?_
          refine lv_icmp_le (tgt := 86) C.1 C.2.1 dX3_speaks_81 (by decide) (fun h81 => ?_) (fun h81 => ?_)
          · replace hf := hf.1 h81
            refine lv_aload_n C.1 C.2.1 dX3_speaks_86 rfl (lv_at hl 2 rfl) ?_
            refine km_capitalAt C hw hl.1 (Nat.le_of_ble_eq_true rfl) ⟨Nat.le_of_ble_eq_true rfl, Nat.le_of_ble_eq_true rfl⟩ dX3_speaks_87 hf (fun r87 hf => ?_)
            refine lv_istore_n (lv' := [(2, .int r87), (1, .int (x1 + 1)), (3, .int r36), (0, .ref (ad 0))]) C.1 C.2.1 dX3_speaks_90 rfl hl (Nat.le_of_ble_eq_true rfl) rfl (fun ls hl => ?_)
            refine lv_goto (tgt := 24) C.1 C.2.1 dX3_speaks_91 (by decide) ?_
            exact hK24 _ _ _ _ _ _ hf hw (lv_sub hl [3, 1, 0] rfl)
          · replace hf := hf.2 h81
            refine lv_iconst (v := 0) C.1 C.2.1 dX3_speaks_84 rfl ?_
            exact hret _ _ _ _ _ _ hf hw (Or.inl rfl) dX3_speaks_85
        · replace hf := hf.1 h47
          refine lv_iconst (v := 0) C.1 C.2.1 dX3_speaks_50 rfl ?_
          exact hret _ _ _ _ _ _ hf hw (Or.inl rfl) dX3_speaks_51
  have P24 : ∀ (n : Nat) (σ : St) (x1 : Int32) (x2 : Int32) (ls : Array Slot) (H : Heap) (locs : List Loc), LL3 (m_speaks_p24 Q) n σ x1 x2 → gH D ct shM ad s σ H locs → lv_has ls 4 [(0, .ref (ad 0)), (1, .int x1), (2, .int x2)] → W p l e rm_m_speaks s m args below meth c H locs 0 0 QQ (F0 m 24 ls []) := by
    intro  n
    induction n with
    | zero => intro σ x1 x2 ls H locs hf; exact False.elim hf
    | succ n ih => intro σ x1 x2 ls H locs hf hw hl; exact B24  (LL3 _ n) (fun σ H locs x1 x2 ls hf hw hl => ih σ x1 x2 ls H locs hf hw hl) σ H locs x1 x2 ls hf hw hl
  unfold m_speaks at hf
  obtain ⟨H, hH⟩ : ∃ q, q = s.heap := ⟨_, rfl⟩
  obtain ⟨locs, hL⟩ : ∃ q : List Loc, q = [] := ⟨_, rfl⟩
  rw [← hH, ← hL] at hw ⊢
  refine lv_aload_n C.1 C.2.1 dX3_speaks_0 rfl (lv_at hl 0 rfl) ?_
  refine mg_row C hw dX3_speaks_1 ?_
  refine lv_iconst (v := 0) C.1 C.2.1 dX3_speaks_4 rfl ?_
  refine lv_aload_n C.1 C.2.1 dX3_speaks_5 rfl (lv_at hl 0 rfl) ?_
  refine mg_scalar C hw dX3_speaks_6 ?_
  refine lv_iconst (v := 1) C.1 C.2.1 dX3_speaks_9 rfl ?_
  refine g_iald C hw 2 rfl (vpD rfl) dX3_speaks_10 ?_
  refine g_iast C shM_sep hw 67 rfl (vpD rfl) dX3_speaks_11 (fun s11 H locs e11 hw => ?_)
  replace hf := hf s11 e11
  refine lv_aload_n C.1 C.2.1 dX3_speaks_12 rfl (lv_at hl 0 rfl) ?_
  refine lv_iconst (v := 1) C.1 C.2.1 dX3_speaks_13 rfl ?_
  refine mp_rowMany C hw dX3_speaks_14 (fun s14 H locs e14 hw => ?_)
  replace hf := hf s14 e14
  refine lv_iconst (v := 0) C.1 C.2.1 dX3_speaks_17 rfl ?_
  refine lv_istore_n (lv' := [(1, .int 0), (0, .ref (ad 0))]) C.1 C.2.1 dX3_speaks_18 rfl hl (Nat.le_of_ble_eq_true rfl) rfl (fun ls hl => ?_)
  refine lv_aload_n C.1 C.2.1 dX3_speaks_19 rfl (lv_at hl 1 rfl) ?_
  refine km_capitalAt C hw hl.1 (Nat.le_of_ble_eq_true rfl) ⟨Nat.le_of_ble_eq_true rfl, Nat.le_of_ble_eq_true rfl⟩ dX3_speaks_20 hf (fun r20 hf => ?_)
  refine lv_istore_n (lv' := [(2, .int r20), (1, .int 0), (0, .ref (ad 0))]) C.1 C.2.1 dX3_speaks_23 rfl hl (Nat.le_of_ble_eq_true rfl) rfl (fun ls hl => ?_)
  obtain ⟨n, hf⟩ := hf
  exact P24  n _ _ _ _ _ _ hf hw (lv_sub hl [2, 1, 0] rfl)
theorem km_speaks {p : Program} {l : Launch} {e : Env} {R : Room} {s : State} {m : MethodId} {args : Array Value} {below : List Frame} {meth : Method} {c : Code} {H : Heap} {locs : List Loc} {Z : State → Prop} {cc : ByteArray} {nL pc : Nat} {ls : Array Slot} {rest : List Value} {D : va_G} {ct : Ct} {ad : Nat → Nat} {σ : St} {Qp : Int32 → St → Prop} (C : CallFix p m c cc nL s args lw_all RX3) (hw : gH D ct shM ad s σ H locs) (hsz : ls.size = nL) (hrm : (rest.map fun v => v.category).sum ≤ 8) (hR : rm_m_speaks.frames + 1 ≤ R.frames ∧ 8 + (4 + 11) + rm_m_speaks.locals ≤ R.locals) (hdg : decode cc pc = .ok (.invokevirtual 618, 3)) (hf : m_speaks σ Qp) (kk : ∀ (r : Int32) (σ1 : St) (H1 : Heap) (locs1 : List Loc), Qp r σ1 → gH D ct shM ad s σ1 H1 locs1 → W p l e R s m args below meth c H1 locs1 0 0 Z (F0 m (pc + 3) ls (.int r :: rest))) : W p l e R s m args below meth c H locs 0 0 Z (F0 m pc ls (.ref (ad 0) :: rest)) :=
  g_callV (As := []) (rest := rest) C hw rfl rfl (met_m_speaks l D ct ad hw.2.1 σ Qp hf) (cwV 0 C.2.2.2.2 (lw_V q2109 q2111 qs191 q207 q2112) rfl rfl rfl (by decide +kernel) hR) rfl hsz rfl hrm ⟨Nat.zero_le _, Nat.zero_le _⟩ hdg kk
def m_laysFacts_p80 (Q : Unit → St → Prop) (K80 : St → Int32 → Prop) (σ : St) (x1 : Int32) : Prop :=
  (((gI σ 2 0) ≤ x1 → Q () σ) ∧ (¬ (gI σ 2 0) ≤ x1 → (vp_in x1 12 ∧ (∀ s105 : St, s105 = s_I σ 30 ((σ.1 30) ||| (fm_bitOf (gI σ 3 x1))) → K80 s105 (x1 + 1)))))
def m_laysFacts_p30 (Q : Unit → St → Prop) (K30 : St → Int32 → Prop) (σ : St) (x1 : Int32) : Prop :=
  ((12 ≤ x1 → (Lp2 (m_laysFacts_p80 Q) σ 0)) ∧ (¬ 12 ≤ x1 → (m_growsEmpty σ (σ.1 27) (fun r42 => (∀ s45 : St, s45 = s_I σ 27 r42 → (m_growsEnding s45 (s45.1 28) (fun r54 => (∀ s57 : St, s57 = s_I s45 28 r54 → (m_growsReached s57 (s57.1 29) (fun r66 => (∀ s69 : St, s69 = s_I s57 29 r66 → K30 s69 (x1 + 1))))))))))))
def m_laysFacts (σ : St) (Q : Unit → St → Prop) : Prop :=
  (∀ s2 : St, s2 = s_I σ 27 0 → (∀ s7 : St, s7 = s_I s2 28 0 → (∀ s20 : St, s20 = s_I s7 29 (fm_bitOf (gI s7 2 1)) → (∀ s25 : St, s25 = s_I s20 30 0 → (Lp2 (m_laysFacts_p30 Q) s25 0)))))
abbrev rm_m_laysFacts : Room := { frames := 4, cells := 0, slots := 0, locals := 90 }
set_option maxHeartbeats 4000000 in
theorem met_m_laysFacts (l : Launch) (D : va_G) (ct : Ct) (ad : Nat → Nat) (hJ : gJ shM ad ct) (σ : St) (Q : Unit → St → Prop) (hf : m_laysFacts σ Q) : Met l yX3_laysFacts (ws_ yX3_laysFacts cX3_laysFacts 2 (none)) rm_m_laysFacts (va_Pc [.ref (ad 0)] (gP D ct shM ad σ)) (gQ rvV D ct shM ad Q) 0 0 (gA shM ad) := by
  refine g_metV hJ (by decide) (Nat.le_of_ble_eq_true rfl) ?_
  intro p e s m args below meth c QQ ls C hw hl hret
  replace hl : lv_has ls 2 [(0, .ref (ad 0))] := hl
  have B80 : ∀ (K80 : St → Int32 → Prop) (_ : ∀ (σ : St) (H : Heap) (locs : List Loc) (x1 : Int32) (ls : Array Slot), K80 σ x1 → gH D ct shM ad s σ H locs → lv_has ls 2 [(0, .ref (ad 0)), (1, .int x1)] → W p l e rm_m_laysFacts s m args below meth c H locs 0 0 QQ (F0 m 80 ls [])) (σ : St) (H : Heap) (locs : List Loc) (x1 : Int32) (ls : Array Slot), m_laysFacts_p80 Q K80 σ x1 → gH D ct shM ad s σ H locs → lv_has ls 2 [(0, .ref (ad 0)), (1, .int x1)] → W p l e rm_m_laysFacts s m args below meth c H locs 0 0 QQ (F0 m 80 ls []) := by
    intro K80 hK80 σ H locs x1 ls hf hw hl
    unfold m_laysFacts_p80 at hf
    refine lv_iload_n C.1 C.2.1 dX3_laysFacts_80 rfl (lv_at hl 1 rfl) ?_
    refine lv_aload_n C.1 C.2.1 dX3_laysFacts_81 rfl (lv_at hl 0 rfl) ?_
    refine mg_scalar C hw dX3_laysFacts_82 ?_
    refine lv_iconst (v := 0) C.1 C.2.1 dX3_laysFacts_85 rfl ?_
    refine g_iald C hw 2 rfl (vpD rfl) dX3_laysFacts_86 ?_
    refine lv_icmp_ge (tgt := 114) C.1 C.2.1 dX3_laysFacts_87 (by decide) (fun h87 => ?_) (fun h87 => ?_)
    · replace hf := hf.1 h87
      exact hret _ _ _ _ _ _ hf hw dX3_laysFacts_114
    · replace hf := hf.2 h87
      refine lv_aload_n C.1 C.2.1 dX3_laysFacts_90 rfl (lv_at hl 0 rfl) ?_
      refine lv_dup C.1 C.2.1 dX3_laysFacts_91 rfl ?_
      refine mg_all C hw dX3_laysFacts_92 ?_
      refine lv_aload_n C.1 C.2.1 dX3_laysFacts_95 rfl (lv_at hl 0 rfl) ?_
      refine mg_left C hw dX3_laysFacts_96 ?_
      refine lv_iload_n C.1 C.2.1 dX3_laysFacts_99 rfl (lv_at hl 1 rfl) ?_
      obtain ⟨b100, hf⟩ := hf
      refine g_iald C hw 3 rfl b100 dX3_laysFacts_100 ?_
      refine km_bitOf C hl.1 (Nat.le_of_ble_eq_true rfl) ⟨Nat.le_of_ble_eq_true rfl, Nat.le_of_ble_eq_true rfl⟩ dX3_laysFacts_101 ?_
      refine lv_ior C.1 C.2.1 dX3_laysFacts_104 ?_
      refine mp_all C hw dX3_laysFacts_105 (fun s105 H locs e105 hw => ?_)
      replace hf := hf s105 e105
      refine lv_iinc (v := (x1 + 1)) (lv' := [(1, .int (x1 + 1)), (0, .ref (ad 0))]) C.1 C.2.1 dX3_laysFacts_108 hl (k := 1) rfl rfl (Nat.le_of_ble_eq_true rfl) rfl (fun ls hl => ?_)
      refine lv_goto (tgt := 80) C.1 C.2.1 dX3_laysFacts_111 (by decide) ?_
      exact hK80 _ _ _ _ _ hf hw (lv_sub hl [1, 0] rfl)
  have P80 : ∀ (n : Nat) (σ : St) (x1 : Int32) (ls : Array Slot) (H : Heap) (locs : List Loc), LL2 (m_laysFacts_p80 Q) n σ x1 → gH D ct shM ad s σ H locs → lv_has ls 2 [(0, .ref (ad 0)), (1, .int x1)] → W p l e rm_m_laysFacts s m args below meth c H locs 0 0 QQ (F0 m 80 ls []) := by
    intro  n
    induction n with
    | zero => intro σ x1 ls H locs hf; exact False.elim hf
    | succ n ih => intro σ x1 ls H locs hf hw hl; exact B80  (LL2 _ n) (fun σ H locs x1 ls hf hw hl => ih σ x1 ls H locs hf hw hl) σ H locs x1 ls hf hw hl
  have B30 : ∀ (K30 : St → Int32 → Prop) (_ : ∀ (σ : St) (H : Heap) (locs : List Loc) (x1 : Int32) (ls : Array Slot), K30 σ x1 → gH D ct shM ad s σ H locs → lv_has ls 2 [(0, .ref (ad 0)), (1, .int x1)] → W p l e rm_m_laysFacts s m args below meth c H locs 0 0 QQ (F0 m 30 ls [])) (σ : St) (H : Heap) (locs : List Loc) (x1 : Int32) (ls : Array Slot), m_laysFacts_p30 Q K30 σ x1 → gH D ct shM ad s σ H locs → lv_has ls 2 [(0, .ref (ad 0)), (1, .int x1)] → W p l e rm_m_laysFacts s m args below meth c H locs 0 0 QQ (F0 m 30 ls []) := by
    intro K30 hK30 σ H locs x1 ls hf hw hl
    unfold m_laysFacts_p30 at hf
    refine lv_iload_n C.1 C.2.1 dX3_laysFacts_30 rfl (lv_at hl 1 rfl) ?_
    refine lv_bipush (v := 12) C.1 C.2.1 dX3_laysFacts_31 rfl ?_
    refine lv_icmp_ge (tgt := 78) C.1 C.2.1 dX3_laysFacts_33 (by decide) (fun h33 => ?_) (fun h33 => ?_)
    · replace hf := hf.1 h33
      refine lv_iconst (v := 0) C.1 C.2.1 dX3_laysFacts_78 rfl ?_
      refine lv_istore_n (lv' := [(1, .int 0), (0, .ref (ad 0))]) C.1 C.2.1 dX3_laysFacts_79 rfl hl (Nat.le_of_ble_eq_true rfl) rfl (fun ls hl => ?_)
      obtain ⟨n, hf⟩ := hf
      exact P80  n _ _ _ _ _ hf hw (lv_sub hl [1, 0] rfl)
    · replace hf := hf.2 h33
      refine lv_aload_n C.1 C.2.1 dX3_laysFacts_36 rfl (lv_at hl 0 rfl) ?_
      refine lv_aload_n C.1 C.2.1 dX3_laysFacts_37 rfl (lv_at hl 0 rfl) ?_
      refine lv_aload_n C.1 C.2.1 dX3_laysFacts_38 rfl (lv_at hl 0 rfl) ?_
      refine mg_empties C hw dX3_laysFacts_39 ?_
      refine km_growsEmpty C hw hl.1 (Nat.le_of_ble_eq_true rfl) ⟨Nat.le_of_ble_eq_true rfl, Nat.le_of_ble_eq_true rfl⟩ dX3_laysFacts_42 hf (fun r42 hf => ?_)
      refine mp_empties C hw dX3_laysFacts_45 (fun s45 H locs e45 hw => ?_)
      replace hf := hf s45 e45
      refine lv_aload_n C.1 C.2.1 dX3_laysFacts_48 rfl (lv_at hl 0 rfl) ?_
      refine lv_aload_n C.1 C.2.1 dX3_laysFacts_49 rfl (lv_at hl 0 rfl) ?_
      refine lv_aload_n C.1 C.2.1 dX3_laysFacts_50 rfl (lv_at hl 0 rfl) ?_
      refine mg_ending C hw dX3_laysFacts_51 ?_
      refine km_growsEnding C hw hl.1 (Nat.le_of_ble_eq_true rfl) ⟨Nat.le_of_ble_eq_true rfl, Nat.le_of_ble_eq_true rfl⟩ dX3_laysFacts_54 hf (fun r54 hf => ?_)
      refine mp_ending C hw dX3_laysFacts_57 (fun s57 H locs e57 hw => ?_)
      replace hf := hf s57 e57
      refine lv_aload_n C.1 C.2.1 dX3_laysFacts_60 rfl (lv_at hl 0 rfl) ?_
      refine lv_aload_n C.1 C.2.1 dX3_laysFacts_61 rfl (lv_at hl 0 rfl) ?_
      refine lv_aload_n C.1 C.2.1 dX3_laysFacts_62 rfl (lv_at hl 0 rfl) ?_
      refine mg_reached C hw dX3_laysFacts_63 ?_
      refine km_growsReached C hw hl.1 (Nat.le_of_ble_eq_true rfl) ⟨Nat.le_of_ble_eq_true rfl, Nat.le_of_ble_eq_true rfl⟩ dX3_laysFacts_66 hf (fun r66 hf => ?_)
      refine mp_reached C hw dX3_laysFacts_69 (fun s69 H locs e69 hw => ?_)
      replace hf := hf s69 e69
      refine lv_iinc (v := (x1 + 1)) (lv' := [(1, .int (x1 + 1)), (0, .ref (ad 0))]) C.1 C.2.1 dX3_laysFacts_72 hl (k := 1) rfl rfl (Nat.le_of_ble_eq_true rfl) rfl (fun ls hl => ?_)
      refine lv_goto (tgt := 30) C.1 C.2.1 dX3_laysFacts_75 (by decide) ?_
      exact hK30 _ _ _ _ _ hf hw (lv_sub hl [1, 0] rfl)
  have P30 : ∀ (n : Nat) (σ : St) (x1 : Int32) (ls : Array Slot) (H : Heap) (locs : List Loc), LL2 (m_laysFacts_p30 Q) n σ x1 → gH D ct shM ad s σ H locs → lv_has ls 2 [(0, .ref (ad 0)), (1, .int x1)] → W p l e rm_m_laysFacts s m args below meth c H locs 0 0 QQ (F0 m 30 ls []) := by
    intro  n
    induction n with
    | zero => intro σ x1 ls H locs hf; exact False.elim hf
    | succ n ih => intro σ x1 ls H locs hf hw hl; exact B30  (LL2 _ n) (fun σ H locs x1 ls hf hw hl => ih σ x1 ls H locs hf hw hl) σ H locs x1 ls hf hw hl
  unfold m_laysFacts at hf
  obtain ⟨H, hH⟩ : ∃ q, q = s.heap := ⟨_, rfl⟩
  obtain ⟨locs, hL⟩ : ∃ q : List Loc, q = [] := ⟨_, rfl⟩
  rw [← hH, ← hL] at hw ⊢
  refine lv_aload_n C.1 C.2.1 dX3_laysFacts_0 rfl (lv_at hl 0 rfl) ?_
  refine lv_iconst (v := 0) C.1 C.2.1 dX3_laysFacts_1 rfl ?_
  refine mp_empties C hw dX3_laysFacts_2 (fun s2 H locs e2 hw => ?_)
  replace hf := hf s2 e2
  refine lv_aload_n C.1 C.2.1 dX3_laysFacts_5 rfl (lv_at hl 0 rfl) ?_
  refine lv_iconst (v := 0) C.1 C.2.1 dX3_laysFacts_6 rfl ?_
  refine mp_ending C hw dX3_laysFacts_7 (fun s7 H locs e7 hw => ?_)
  replace hf := hf s7 e7
  refine lv_aload_n C.1 C.2.1 dX3_laysFacts_10 rfl (lv_at hl 0 rfl) ?_
  refine lv_aload_n C.1 C.2.1 dX3_laysFacts_11 rfl (lv_at hl 0 rfl) ?_
  refine mg_scalar C hw dX3_laysFacts_12 ?_
  refine lv_iconst (v := 1) C.1 C.2.1 dX3_laysFacts_15 rfl ?_
  refine g_iald C hw 2 rfl (vpD rfl) dX3_laysFacts_16 ?_
  refine km_bitOf C hl.1 (Nat.le_of_ble_eq_true rfl) ⟨Nat.le_of_ble_eq_true rfl, Nat.le_of_ble_eq_true rfl⟩ dX3_laysFacts_17 ?_
  refine mp_reached C hw dX3_laysFacts_20 (fun s20 H locs e20 hw => ?_)
  replace hf := hf s20 e20
  refine lv_aload_n C.1 C.2.1 dX3_laysFacts_23 rfl (lv_at hl 0 rfl) ?_
  refine lv_iconst (v := 0) C.1 C.2.1 dX3_laysFacts_24 rfl ?_
  refine mp_all C hw dX3_laysFacts_25 (fun s25 H locs e25 hw => ?_)
  replace hf := hf s25 e25
  refine lv_iconst (v := 0) C.1 C.2.1 dX3_laysFacts_28 rfl ?_
  refine lv_istore_n (lv' := [(1, .int 0), (0, .ref (ad 0))]) C.1 C.2.1 dX3_laysFacts_29 rfl hl (Nat.le_of_ble_eq_true rfl) rfl (fun ls hl => ?_)
  obtain ⟨n, hf⟩ := hf
  exact P30  n _ _ _ _ _ hf hw (lv_sub hl [1, 0] rfl)
theorem km_laysFacts {p : Program} {l : Launch} {e : Env} {R : Room} {s : State} {m : MethodId} {args : Array Value} {below : List Frame} {meth : Method} {c : Code} {H : Heap} {locs : List Loc} {Z : State → Prop} {cc : ByteArray} {nL pc : Nat} {ls : Array Slot} {rest : List Value} {D : va_G} {ct : Ct} {ad : Nat → Nat} {σ : St} {Qp : Unit → St → Prop} (C : CallFix p m c cc nL s args lw_all RX3) (hw : gH D ct shM ad s σ H locs) (hsz : ls.size = nL) (hrm : (rest.map fun v => v.category).sum ≤ 8) (hR : rm_m_laysFacts.frames + 1 ≤ R.frames ∧ 8 + (2 + 11) + rm_m_laysFacts.locals ≤ R.locals) (hdg : decode cc pc = .ok (.invokevirtual 301, 3)) (hf : m_laysFacts σ Qp) (kk : ∀ (r : Unit) (σ1 : St) (H1 : Heap) (locs1 : List Loc), Qp r σ1 → gH D ct shM ad s σ1 H1 locs1 → W p l e R s m args below meth c H1 locs1 0 0 Z (F0 m (pc + 3) ls (rest))) : W p l e R s m args below meth c H locs 0 0 Z (F0 m pc ls (.ref (ad 0) :: rest)) :=
  g_callV (As := []) (rest := rest) C hw rfl rfl (met_m_laysFacts l D ct ad hw.2.1 σ Qp hf) (cwV 0 C.2.2.2.2 (lw_V q1688 q1690 qs121 q207 q1691) rfl rfl rfl (by decide +kernel) hR) rfl hsz rfl hrm ⟨Nat.zero_le _, Nat.zero_le _⟩ hdg kk
def m_againBy_p23 (σ : St) (x1 : Int32) (x2 : Int32) (x3 : Int32) (Q : Int32 → Prop) (K4 : Int32 → Int32 → Prop) (K23 : Int32 → Int32 → Prop) (x4 : Int32) (x5 : Int32) : Prop :=
  ((5 ≤ x5 → (((fm_has x4 x3) = 0 → K4 (x2 ||| 0) (x3 + 1)) ∧ (¬ (fm_has x4 x3) = 0 → K4 (x2 ||| (1 <<< (x3 &&& 31))) (x3 + 1)))) ∧ (¬ 5 ≤ x5 → (m_stepsOf σ x4 x1 (fun r35 => K23 (x4 ||| r35) (x5 + 1)))))
def m_againBy_p4 (σ : St) (x1 : Int32) (Q : Int32 → Prop) (K4 : Int32 → Int32 → Prop) (x2 : Int32) (x3 : Int32) : Prop :=
  ((26 ≤ x3 → Q x2) ∧ (¬ 26 ≤ x3 → (m_stepsOf σ (1 <<< (x3 &&& 31)) x1 (fun r15 => (Lp2 (m_againBy_p23 σ x1 x2 x3 Q K4) r15 0)))))
def m_againBy (σ : St) (x1 : Int32) (Q : Int32 → Prop) : Prop :=
  (Lp2 (m_againBy_p4 σ x1 Q) 0 0)
abbrev rm_m_againBy : Room := { frames := 4, cells := 0, slots := 0, locals := 93 }
set_option maxHeartbeats 4000000 in
theorem met_m_againBy (l : Launch) (D : va_G) (ct : Ct) (ad : Nat → Nat) (hJ : gJ shM ad ct) (σ : St) (x1 : Int32) (Q : Int32 → Prop) (hf : m_againBy σ x1 Q) : Met l yX3_againBy (ws_ yX3_againBy cX3_againBy 6 (some .int)) rm_m_againBy (va_Pc [.ref (ad 0), .int x1] (gP D ct shM ad σ)) (gR rvI Q) 0 0 (fun _ => False) := by
  refine g_metRI hJ (by decide) (Nat.le_of_ble_eq_true rfl) ?_
  intro p e s m args below meth c QQ ls H C hw hl hret
  replace hl : lv_has ls 6 [(0, .ref (ad 0)), (1, .int x1)] := hl
  have B23 : ∀ (x1 : Int32) (x2 : Int32) (x3 : Int32) (K4 : Int32 → Int32 → Prop) (_ : ∀ (x2 : Int32) (x3 : Int32) (ls : Array Slot), K4 x2 x3 → lv_has ls 6 [(0, .ref (ad 0)), (1, .int x1), (2, .int x2), (3, .int x3)] → W p l e rm_m_againBy s m args below meth c H [] 0 0 QQ (F0 m 4 ls [])) (K23 : Int32 → Int32 → Prop) (_ : ∀ (x4 : Int32) (x5 : Int32) (ls : Array Slot), K23 x4 x5 → lv_has ls 6 [(0, .ref (ad 0)), (1, .int x1), (2, .int x2), (3, .int x3), (4, .int x4), (5, .int x5)] → W p l e rm_m_againBy s m args below meth c H [] 0 0 QQ (F0 m 23 ls [])) (x4 : Int32) (x5 : Int32) (ls : Array Slot), m_againBy_p23 σ x1 x2 x3 Q K4 K23 x4 x5 → lv_has ls 6 [(0, .ref (ad 0)), (1, .int x1), (2, .int x2), (3, .int x3), (4, .int x4), (5, .int x5)] → W p l e rm_m_againBy s m args below meth c H [] 0 0 QQ (F0 m 23 ls []) := by
    intro x1 x2 x3 K4 hK4 K23 hK23 x4 x5 ls hf hl
    unfold m_againBy_p23 at hf
    refine lv_iload C.1 C.2.1 dX3_againBy_23 (lv_at hl 5 rfl) ?_
    refine lv_iconst (v := 5) C.1 C.2.1 dX3_againBy_25 rfl ?_
    refine lv_icmp_ge (tgt := 47) C.1 C.2.1 dX3_againBy_26 (by decide) (fun h26 => ?_) (fun h26 => ?_)
    · replace hf := hf.1 h26
      refine lv_iload_n C.1 C.2.1 dX3_againBy_47 rfl (lv_at hl 2 rfl) ?_
      refine lv_iload C.1 C.2.1 dX3_againBy_48 (lv_at hl 4 rfl) ?_
      refine lv_iload_n C.1 C.2.1 dX3_againBy_50 rfl (lv_at hl 3 rfl) ?_
      refine km_has C hl.1 (Nat.le_of_ble_eq_true rfl) ⟨Nat.le_of_ble_eq_true rfl, Nat.le_of_ble_eq_true rfl⟩ dX3_againBy_51 ?_
      refine lv_if_eq (tgt := 63) C.1 C.2.1 dX3_againBy_54 (by decide) (fun h54 => ?_) (fun h54 => ?_)
      · replace hf := hf.1 h54
        refine lv_iconst (v := 0) C.1 C.2.1 dX3_againBy_63 rfl ?_
        refine lv_ior C.1 C.2.1 dX3_againBy_64 ?_
        refine lv_istore_n (lv' := [(2, .int (x2 ||| 0)), (0, .ref (ad 0)), (1, .int x1), (3, .int x3), (4, .int x4), (5, .int x5)]) C.1 C.2.1 dX3_againBy_65 rfl hl (Nat.le_of_ble_eq_true rfl) rfl (fun ls hl => ?_)
        refine lv_iinc (v := (x3 + 1)) (lv' := [(3, .int (x3 + 1)), (2, .int (x2 ||| 0)), (0, .ref (ad 0)), (1, .int x1), (4, .int x4), (5, .int x5)]) C.1 C.2.1 dX3_againBy_66 hl (k := 3) rfl rfl (Nat.le_of_ble_eq_true rfl) rfl (fun ls hl => ?_)
        refine lv_goto (tgt := 4) C.1 C.2.1 dX3_againBy_69 (by decide) ?_
        exact hK4 _ _ _ hf (lv_sub hl [2, 3, 1, 0] rfl)
      · replace hf := hf.2 h54
        refine lv_iconst (v := 1) C.1 C.2.1 dX3_againBy_57 rfl ?_
        refine lv_iload_n C.1 C.2.1 dX3_againBy_58 rfl (lv_at hl 3 rfl) ?_
        refine lv_ishl C.1 C.2.1 dX3_againBy_59 ?_
        refine lv_goto (tgt := 64) C.1 C.2.1 dX3_againBy_60 (by decide) ?_
        refine lv_ior C.1 C.2.1 dX3_againBy_64 ?_
        refine lv_istore_n (lv' := [(2, .int (x2 ||| (1 <<< (x3 &&& 31)))), (0, .ref (ad 0)), (1, .int x1), (3, .int x3), (4, .int x4), (5, .int x5)]) C.1 C.2.1 dX3_againBy_65 rfl hl (Nat.le_of_ble_eq_true rfl) rfl (fun ls hl => ?_)
        refine lv_iinc (v := (x3 + 1)) (lv' := [(3, .int (x3 + 1)), (2, .int (x2 ||| (1 <<< (x3 &&& 31)))), (0, .ref (ad 0)), (1, .int x1), (4, .int x4), (5, .int x5)]) C.1 C.2.1 dX3_againBy_66 hl (k := 3) rfl rfl (Nat.le_of_ble_eq_true rfl) rfl (fun ls hl => ?_)
        refine lv_goto (tgt := 4) C.1 C.2.1 dX3_againBy_69 (by decide) ?_
        exact hK4 _ _ _ hf (lv_sub hl [2, 3, 1, 0] rfl)
    · replace hf := hf.2 h26
      refine lv_iload C.1 C.2.1 dX3_againBy_29 (lv_at hl 4 rfl) ?_
      refine lv_aload_n C.1 C.2.1 dX3_againBy_31 rfl (lv_at hl 0 rfl) ?_
      refine lv_iload C.1 C.2.1 dX3_againBy_32 (lv_at hl 4 rfl) ?_
      refine lv_iload_n C.1 C.2.1 dX3_againBy_34 rfl (lv_at hl 1 rfl) ?_
      refine km_stepsOf C hw hl.1 (Nat.le_of_ble_eq_true rfl) ⟨Nat.le_of_ble_eq_true rfl, Nat.le_of_ble_eq_true rfl⟩ dX3_againBy_35 hf (fun r35 hf => ?_)
      refine lv_ior C.1 C.2.1 dX3_againBy_38 ?_
      refine lv_istore (lv' := [(4, .int (x4 ||| r35)), (0, .ref (ad 0)), (1, .int x1), (2, .int x2), (3, .int x3), (5, .int x5)]) C.1 C.2.1 dX3_againBy_39 hl (Nat.le_of_ble_eq_true rfl) rfl (fun ls hl => ?_)
      refine lv_iinc (v := (x5 + 1)) (lv' := [(5, .int (x5 + 1)), (4, .int (x4 ||| r35)), (0, .ref (ad 0)), (1, .int x1), (2, .int x2), (3, .int x3)]) C.1 C.2.1 dX3_againBy_41 hl (k := 5) rfl rfl (Nat.le_of_ble_eq_true rfl) rfl (fun ls hl => ?_)
      refine lv_goto (tgt := 23) C.1 C.2.1 dX3_againBy_44 (by decide) ?_
      exact hK23 _ _ _ hf (lv_sub hl [2, 3, 4, 5, 1, 0] rfl)
  have P23 : ∀ (x1 : Int32) (x2 : Int32) (x3 : Int32) (K4 : Int32 → Int32 → Prop) (_ : ∀ (x2 : Int32) (x3 : Int32) (ls : Array Slot), K4 x2 x3 → lv_has ls 6 [(0, .ref (ad 0)), (1, .int x1), (2, .int x2), (3, .int x3)] → W p l e rm_m_againBy s m args below meth c H [] 0 0 QQ (F0 m 4 ls [])) (n : Nat) (x4 : Int32) (x5 : Int32) (ls : Array Slot), LL2 (m_againBy_p23 σ x1 x2 x3 Q K4) n x4 x5 → lv_has ls 6 [(0, .ref (ad 0)), (1, .int x1), (2, .int x2), (3, .int x3), (4, .int x4), (5, .int x5)] → W p l e rm_m_againBy s m args below meth c H [] 0 0 QQ (F0 m 23 ls []) := by
    intro x1 x2 x3 K4 hK4 n
    induction n with
    | zero => intro x4 x5 ls hf; exact False.elim hf
    | succ n ih => intro x4 x5 ls hf hl; exact B23 x1 x2 x3 K4 hK4 (LL2 _ n) ih x4 x5 ls hf hl
  have B4 : ∀ (x1 : Int32) (K4 : Int32 → Int32 → Prop) (_ : ∀ (x2 : Int32) (x3 : Int32) (ls : Array Slot), K4 x2 x3 → lv_has ls 6 [(0, .ref (ad 0)), (1, .int x1), (2, .int x2), (3, .int x3)] → W p l e rm_m_againBy s m args below meth c H [] 0 0 QQ (F0 m 4 ls [])) (x2 : Int32) (x3 : Int32) (ls : Array Slot), m_againBy_p4 σ x1 Q K4 x2 x3 → lv_has ls 6 [(0, .ref (ad 0)), (1, .int x1), (2, .int x2), (3, .int x3)] → W p l e rm_m_againBy s m args below meth c H [] 0 0 QQ (F0 m 4 ls []) := by
    intro x1 K4 hK4 x2 x3 ls hf hl
    unfold m_againBy_p4 at hf
    refine lv_iload_n C.1 C.2.1 dX3_againBy_4 rfl (lv_at hl 3 rfl) ?_
    refine lv_bipush (v := 26) C.1 C.2.1 dX3_againBy_5 rfl ?_
    refine lv_icmp_ge (tgt := 72) C.1 C.2.1 dX3_againBy_7 (by decide) (fun h7 => ?_) (fun h7 => ?_)
    · replace hf := hf.1 h7
      refine lv_iload_n C.1 C.2.1 dX3_againBy_72 rfl (lv_at hl 2 rfl) ?_
      exact hret _ _ _ hf dX3_againBy_73
    · replace hf := hf.2 h7
      refine lv_aload_n C.1 C.2.1 dX3_againBy_10 rfl (lv_at hl 0 rfl) ?_
      refine lv_iconst (v := 1) C.1 C.2.1 dX3_againBy_11 rfl ?_
      refine lv_iload_n C.1 C.2.1 dX3_againBy_12 rfl (lv_at hl 3 rfl) ?_
      refine lv_ishl C.1 C.2.1 dX3_againBy_13 ?_
      refine lv_iload_n C.1 C.2.1 dX3_againBy_14 rfl (lv_at hl 1 rfl) ?_
      refine km_stepsOf C hw hl.1 (Nat.le_of_ble_eq_true rfl) ⟨Nat.le_of_ble_eq_true rfl, Nat.le_of_ble_eq_true rfl⟩ dX3_againBy_15 hf (fun r15 hf => ?_)
      refine lv_istore (lv' := [(4, .int r15), (0, .ref (ad 0)), (1, .int x1), (2, .int x2), (3, .int x3)]) C.1 C.2.1 dX3_againBy_18 hl (Nat.le_of_ble_eq_true rfl) rfl (fun ls hl => ?_)
      refine lv_iconst (v := 0) C.1 C.2.1 dX3_againBy_20 rfl ?_
      refine lv_istore (lv' := [(5, .int 0), (4, .int r15), (0, .ref (ad 0)), (1, .int x1), (2, .int x2), (3, .int x3)]) C.1 C.2.1 dX3_againBy_21 hl (Nat.le_of_ble_eq_true rfl) rfl (fun ls hl => ?_)
      obtain ⟨n, hf⟩ := hf
      exact P23 _ _ _ _ hK4 n _ _ _ hf (lv_sub hl [2, 3, 4, 5, 1, 0] rfl)
  have P4 : ∀ (x1 : Int32) (n : Nat) (x2 : Int32) (x3 : Int32) (ls : Array Slot), LL2 (m_againBy_p4 σ x1 Q) n x2 x3 → lv_has ls 6 [(0, .ref (ad 0)), (1, .int x1), (2, .int x2), (3, .int x3)] → W p l e rm_m_againBy s m args below meth c H [] 0 0 QQ (F0 m 4 ls []) := by
    intro x1 n
    induction n with
    | zero => intro x2 x3 ls hf; exact False.elim hf
    | succ n ih => intro x2 x3 ls hf hl; exact B4 x1 (LL2 _ n) ih x2 x3 ls hf hl
  unfold m_againBy at hf
  refine lv_iconst (v := 0) C.1 C.2.1 dX3_againBy_0 rfl ?_
  refine lv_istore_n (lv' := [(2, .int 0), (0, .ref (ad 0)), (1, .int x1)]) C.1 C.2.1 dX3_againBy_1 rfl hl (Nat.le_of_ble_eq_true rfl) rfl (fun ls hl => ?_)
  refine lv_iconst (v := 0) C.1 C.2.1 dX3_againBy_2 rfl ?_
  refine lv_istore_n (lv' := [(3, .int 0), (2, .int 0), (0, .ref (ad 0)), (1, .int x1)]) C.1 C.2.1 dX3_againBy_3 rfl hl (Nat.le_of_ble_eq_true rfl) rfl (fun ls hl => ?_)
  obtain ⟨n, hf⟩ := hf
  exact P4 _ n _ _ _ hf (lv_sub hl [2, 3, 1, 0] rfl)
theorem km_againBy {p : Program} {l : Launch} {e : Env} {R : Room} {s : State} {m : MethodId} {args : Array Value} {below : List Frame} {meth : Method} {c : Code} {H : Heap} {locs : List Loc} {Z : State → Prop} {cc : ByteArray} {nL pc : Nat} {ls : Array Slot} {rest : List Value} {D : va_G} {ct : Ct} {ad : Nat → Nat} {σ : St} {x1 : Int32} {Qp : Int32 → Prop} (C : CallFix p m c cc nL s args lw_all RX3) (hw : gH D ct shM ad s σ H locs) (hsz : ls.size = nL) (hrm : (rest.map fun v => v.category).sum ≤ 8) (hR : rm_m_againBy.frames + 1 ≤ R.frames ∧ 8 + (6 + 11) + rm_m_againBy.locals ≤ R.locals) (hdg : decode cc pc = .ok (.invokevirtual 304, 3)) (hf : m_againBy σ x1 Qp) (kk : ∀ (r : Int32), Qp r → W p l e R s m args below meth c H locs 0 0 Z (F0 m (pc + 3) ls (.int r :: rest))) : W p l e R s m args below meth c H locs 0 0 Z (F0 m pc ls (.int x1 :: .ref (ad 0) :: rest)) :=
  g_callVR (As := [.int x1]) (rest := rest) C hw rfl rfl (met_m_againBy l D ct ad hw.2.1 σ x1 Qp hf) (cwV 1 C.2.2.2.2 (lw_V q1715 q1717 qs127 q207 q1718) rfl rfl rfl (by decide +kernel) hR) rfl hsz rfl hrm ⟨Nat.zero_le _, Nat.zero_le _⟩ hdg kk
def m_moved_p20 (σ : St) (x1 : Int64) (x3 : Int32) (x6 : Int32) (Q : Int64 → Prop) (K6 : Int64 → Int32 → Prop) (K20 : Int64 → Int32 → Prop) (x4 : Int64) (x7 : Int32) : Prop :=
  (vp_in x6 12 ∧ (((gI σ 4 x6) ≤ x7 → K6 x4 (x6 + 1)) ∧ (¬ (gI σ 4 x6) ≤ x7 → (((fm_isPoint x1 x6 x7) = 0 → K20 (x4 ||| 0) (x7 + 1)) ∧ (¬ (fm_isPoint x1 x6 x7) = 0 → (vp_in ((4 * x6) + x7) 48 ∧ (((gI σ 5 ((4 * x6) + x7)) = x3 → K20 (x4 ||| (fm_point x6 (x7 + 1))) (x7 + 1)) ∧ (¬ (gI σ 5 ((4 * x6) + x7)) = x3 → K20 (x4 ||| 0) (x7 + 1)))))))))
def m_moved_p6 (σ : St) (x1 : Int64) (x3 : Int32) (Q : Int64 → Prop) (K6 : Int64 → Int32 → Prop) (x4 : Int64) (x6 : Int32) : Prop :=
  (((gI σ 2 0) ≤ x6 → (m_closed σ x4 (fun r92 => Q r92))) ∧ (¬ (gI σ 2 0) ≤ x6 → (Lp2 (m_moved_p20 σ x1 x3 x6 Q K6) x4 0)))
def m_moved (σ : St) (x1 : Int64) (x3 : Int32) (Q : Int64 → Prop) : Prop :=
  (Lp2 (m_moved_p6 σ x1 x3 Q) 0 0)
abbrev rm_m_moved : Room := { frames := 4, cells := 0, slots := 0, locals := 95 }
set_option maxHeartbeats 4000000 in
theorem met_m_moved (l : Launch) (D : va_G) (ct : Ct) (ad : Nat → Nat) (hJ : gJ shM ad ct) (σ : St) (x1 : Int64) (x3 : Int32) (Q : Int64 → Prop) (hf : m_moved σ x1 x3 Q) : Met l yX3_moved (ws_ yX3_moved cX3_moved 8 (some .long)) rm_m_moved (va_Pc [.ref (ad 0), .long x1, .int x3] (gP D ct shM ad σ)) (gR rvL Q) 0 0 (fun _ => False) := by
  refine g_metRL hJ (by decide) (Nat.le_of_ble_eq_true rfl) ?_
  intro p e s m args below meth c QQ ls H C hw hl hret
  replace hl : lv_has ls 8 [(0, .ref (ad 0)), (1, .long x1), (3, .int x3)] := hl
  have B20 : ∀ (x1 : Int64) (x3 : Int32) (x6 : Int32) (K6 : Int64 → Int32 → Prop) (_ : ∀ (x4 : Int64) (x6 : Int32) (ls : Array Slot), K6 x4 x6 → lv_has ls 8 [(0, .ref (ad 0)), (1, .long x1), (3, .int x3), (4, .long x4), (6, .int x6)] → W p l e rm_m_moved s m args below meth c H [] 0 0 QQ (F0 m 6 ls [])) (K20 : Int64 → Int32 → Prop) (_ : ∀ (x4 : Int64) (x7 : Int32) (ls : Array Slot), K20 x4 x7 → lv_has ls 8 [(0, .ref (ad 0)), (1, .long x1), (3, .int x3), (4, .long x4), (6, .int x6), (7, .int x7)] → W p l e rm_m_moved s m args below meth c H [] 0 0 QQ (F0 m 20 ls [])) (x4 : Int64) (x7 : Int32) (ls : Array Slot), m_moved_p20 σ x1 x3 x6 Q K6 K20 x4 x7 → lv_has ls 8 [(0, .ref (ad 0)), (1, .long x1), (3, .int x3), (4, .long x4), (6, .int x6), (7, .int x7)] → W p l e rm_m_moved s m args below meth c H [] 0 0 QQ (F0 m 20 ls []) := by
    intro x1 x3 x6 K6 hK6 K20 hK20 x4 x7 ls hf hl
    unfold m_moved_p20 at hf
    refine lv_iload C.1 C.2.1 dX3_moved_20 (lv_at hl 5 rfl) ?_
    refine lv_aload_n C.1 C.2.1 dX3_moved_22 rfl (lv_at hl 0 rfl) ?_
    refine mg_size C hw dX3_moved_23 ?_
    refine lv_iload C.1 C.2.1 dX3_moved_26 (lv_at hl 4 rfl) ?_
    obtain ⟨b28, hf⟩ := hf
    refine g_iald C hw 4 rfl b28 dX3_moved_28 ?_
    refine lv_icmp_ge (tgt := 83) C.1 C.2.1 dX3_moved_29 (by decide) (fun h29 => ?_) (fun h29 => ?_)
    · replace hf := hf.1 h29
      refine lv_iinc (v := (x6 + 1)) (lv' := [(6, .int (x6 + 1)), (0, .ref (ad 0)), (1, .long x1), (3, .int x3), (4, .long x4), (7, .int x7)]) C.1 C.2.1 dX3_moved_83 hl (k := 4) rfl rfl (Nat.le_of_ble_eq_true rfl) rfl (fun ls hl => ?_)
      refine lv_goto (tgt := 6) C.1 C.2.1 dX3_moved_86 (by decide) ?_
      exact hK6 _ _ _ hf (lv_sub hl [1, 2, 3, 4, 0] rfl)
    · replace hf := hf.2 h29
      refine lv_lload C.1 C.2.1 dX3_moved_32 (lv_at hl 3 rfl) ?_
      refine lv_lload_n C.1 C.2.1 dX3_moved_34 rfl (lv_at hl 1 rfl) ?_
      refine lv_iload C.1 C.2.1 dX3_moved_35 (lv_at hl 4 rfl) ?_
      refine lv_iload C.1 C.2.1 dX3_moved_37 (lv_at hl 5 rfl) ?_
      refine km_isPoint C hl.1 (Nat.le_of_ble_eq_true rfl) ⟨Nat.le_of_ble_eq_true rfl, Nat.le_of_ble_eq_true rfl⟩ dX3_moved_39 ?_
      refine lv_if_eq (tgt := 73) C.1 C.2.1 dX3_moved_42 (by decide) (fun h42 => ?_) (fun h42 => ?_)
      · replace hf := hf.1 h42
        refine lv_lconst (v := 0) C.1 C.2.1 dX3_moved_73 rfl ?_
        refine lv_lor C.1 C.2.1 dX3_moved_74 ?_
        refine lv_lstore (lv' := [(4, .long (x4 ||| 0)), (0, .ref (ad 0)), (1, .long x1), (3, .int x3), (6, .int x6), (7, .int x7)]) C.1 C.2.1 dX3_moved_75 hl (Nat.le_of_ble_eq_true rfl) rfl (fun ls hl => ?_)
        refine lv_iinc (v := (x7 + 1)) (lv' := [(7, .int (x7 + 1)), (4, .long (x4 ||| 0)), (0, .ref (ad 0)), (1, .long x1), (3, .int x3), (6, .int x6)]) C.1 C.2.1 dX3_moved_77 hl (k := 5) rfl rfl (Nat.le_of_ble_eq_true rfl) rfl (fun ls hl => ?_)
        refine lv_goto (tgt := 20) C.1 C.2.1 dX3_moved_80 (by decide) ?_
        exact hK20 _ _ _ hf (lv_sub hl [2, 3, 4, 1, 5, 0] rfl)
      · replace hf := hf.2 h42
        refine lv_aload_n C.1 C.2.1 dX3_moved_45 rfl (lv_at hl 0 rfl) ?_
        refine mg_sym C hw dX3_moved_46 ?_
        refine lv_iconst (v := 4) C.1 C.2.1 dX3_moved_49 rfl ?_
        refine lv_iload C.1 C.2.1 dX3_moved_50 (lv_at hl 4 rfl) ?_
        refine lv_imul C.1 C.2.1 dX3_moved_52 ?_
        refine lv_iload C.1 C.2.1 dX3_moved_53 (lv_at hl 5 rfl) ?_
        refine lv_iadd C.1 C.2.1 dX3_moved_55 ?_
        obtain ⟨b56, hf⟩ := hf
        refine g_iald C hw 5 rfl b56 dX3_moved_56 ?_
        refine lv_iload_n C.1 C.2.1 dX3_moved_57 rfl (lv_at hl 2 rfl) ?_
        refine lv_icmp_ne (tgt := 73) C.1 C.2.1 dX3_moved_58 (by decide) (fun h58 => ?_) (fun h58 => ?_)
        · replace hf := hf.2 h58
          refine lv_lconst (v := 0) C.1 C.2.1 dX3_moved_73 rfl ?_
          refine lv_lor C.1 C.2.1 dX3_moved_74 ?_
          refine lv_lstore (lv' := [(4, .long (x4 ||| 0)), (0, .ref (ad 0)), (1, .long x1), (3, .int x3), (6, .int x6), (7, .int x7)]) C.1 C.2.1 dX3_moved_75 hl (Nat.le_of_ble_eq_true rfl) rfl (fun ls hl => ?_)
          refine lv_iinc (v := (x7 + 1)) (lv' := [(7, .int (x7 + 1)), (4, .long (x4 ||| 0)), (0, .ref (ad 0)), (1, .long x1), (3, .int x3), (6, .int x6)]) C.1 C.2.1 dX3_moved_77 hl (k := 5) rfl rfl (Nat.le_of_ble_eq_true rfl) rfl (fun ls hl => ?_)
          refine lv_goto (tgt := 20) C.1 C.2.1 dX3_moved_80 (by decide) ?_
          exact hK20 _ _ _ hf (lv_sub hl [2, 3, 4, 1, 5, 0] rfl)
        · replace hf := hf.1 h58
          refine lv_iload C.1 C.2.1 dX3_moved_61 (lv_at hl 4 rfl) ?_
          refine lv_iload C.1 C.2.1 dX3_moved_63 (lv_at hl 5 rfl) ?_
          refine lv_iconst (v := 1) C.1 C.2.1 dX3_moved_65 rfl ?_
          refine lv_iadd C.1 C.2.1 dX3_moved_66 ?_
          refine km_point C hl.1 (Nat.le_of_ble_eq_true rfl) ⟨Nat.le_of_ble_eq_true rfl, Nat.le_of_ble_eq_true rfl⟩ dX3_moved_67 ?_
          refine lv_goto (tgt := 74) C.1 C.2.1 dX3_moved_70 (by decide) ?_
          refine lv_lor C.1 C.2.1 dX3_moved_74 ?_
          refine lv_lstore (lv' := [(4, .long (x4 ||| (fm_point x6 (x7 + 1)))), (0, .ref (ad 0)), (1, .long x1), (3, .int x3), (6, .int x6), (7, .int x7)]) C.1 C.2.1 dX3_moved_75 hl (Nat.le_of_ble_eq_true rfl) rfl (fun ls hl => ?_)
          refine lv_iinc (v := (x7 + 1)) (lv' := [(7, .int (x7 + 1)), (4, .long (x4 ||| (fm_point x6 (x7 + 1)))), (0, .ref (ad 0)), (1, .long x1), (3, .int x3), (6, .int x6)]) C.1 C.2.1 dX3_moved_77 hl (k := 5) rfl rfl (Nat.le_of_ble_eq_true rfl) rfl (fun ls hl => ?_)
          refine lv_goto (tgt := 20) C.1 C.2.1 dX3_moved_80 (by decide) ?_
          exact hK20 _ _ _ hf (lv_sub hl [2, 3, 4, 1, 5, 0] rfl)
  have P20 : ∀ (x1 : Int64) (x3 : Int32) (x6 : Int32) (K6 : Int64 → Int32 → Prop) (_ : ∀ (x4 : Int64) (x6 : Int32) (ls : Array Slot), K6 x4 x6 → lv_has ls 8 [(0, .ref (ad 0)), (1, .long x1), (3, .int x3), (4, .long x4), (6, .int x6)] → W p l e rm_m_moved s m args below meth c H [] 0 0 QQ (F0 m 6 ls [])) (n : Nat) (x4 : Int64) (x7 : Int32) (ls : Array Slot), LL2 (m_moved_p20 σ x1 x3 x6 Q K6) n x4 x7 → lv_has ls 8 [(0, .ref (ad 0)), (1, .long x1), (3, .int x3), (4, .long x4), (6, .int x6), (7, .int x7)] → W p l e rm_m_moved s m args below meth c H [] 0 0 QQ (F0 m 20 ls []) := by
    intro x1 x3 x6 K6 hK6 n
    induction n with
    | zero => intro x4 x7 ls hf; exact False.elim hf
    | succ n ih => intro x4 x7 ls hf hl; exact B20 x1 x3 x6 K6 hK6 (LL2 _ n) ih x4 x7 ls hf hl
  have B6 : ∀ (x1 : Int64) (x3 : Int32) (K6 : Int64 → Int32 → Prop) (_ : ∀ (x4 : Int64) (x6 : Int32) (ls : Array Slot), K6 x4 x6 → lv_has ls 8 [(0, .ref (ad 0)), (1, .long x1), (3, .int x3), (4, .long x4), (6, .int x6)] → W p l e rm_m_moved s m args below meth c H [] 0 0 QQ (F0 m 6 ls [])) (x4 : Int64) (x6 : Int32) (ls : Array Slot), m_moved_p6 σ x1 x3 Q K6 x4 x6 → lv_has ls 8 [(0, .ref (ad 0)), (1, .long x1), (3, .int x3), (4, .long x4), (6, .int x6)] → W p l e rm_m_moved s m args below meth c H [] 0 0 QQ (F0 m 6 ls []) := by
    intro x1 x3 K6 hK6 x4 x6 ls hf hl
    unfold m_moved_p6 at hf
    refine lv_iload C.1 C.2.1 dX3_moved_6 (lv_at hl 4 rfl) ?_
    refine lv_aload_n C.1 C.2.1 dX3_moved_8 rfl (lv_at hl 0 rfl) ?_
    refine mg_scalar C hw dX3_moved_9 ?_
    refine lv_iconst (v := 0) C.1 C.2.1 dX3_moved_12 rfl ?_
    refine g_iald C hw 2 rfl (vpD rfl) dX3_moved_13 ?_
    refine lv_icmp_ge (tgt := 89) C.1 C.2.1 dX3_moved_14 (by decide) (fun h14 => ?_) (fun h14 => ?_)
    · replace hf := hf.1 h14
      refine lv_aload_n C.1 C.2.1 dX3_moved_89 rfl (lv_at hl 0 rfl) ?_
      refine lv_lload C.1 C.2.1 dX3_moved_90 (lv_at hl 3 rfl) ?_
      refine km_closed C hw hl.1 (Nat.le_of_ble_eq_true rfl) ⟨Nat.le_of_ble_eq_true rfl, Nat.le_of_ble_eq_true rfl⟩ dX3_moved_92 hf (fun r92 hf => ?_)
      exact hret _ _ _ hf dX3_moved_95
    · replace hf := hf.2 h14
      refine lv_iconst (v := 0) C.1 C.2.1 dX3_moved_17 rfl ?_
      refine lv_istore (lv' := [(7, .int 0), (0, .ref (ad 0)), (1, .long x1), (3, .int x3), (4, .long x4), (6, .int x6)]) C.1 C.2.1 dX3_moved_18 hl (Nat.le_of_ble_eq_true rfl) rfl (fun ls hl => ?_)
      obtain ⟨n, hf⟩ := hf
      exact P20 _ _ _ _ hK6 n _ _ _ hf (lv_sub hl [1, 2, 3, 4, 5, 0] rfl)
  have P6 : ∀ (x1 : Int64) (x3 : Int32) (n : Nat) (x4 : Int64) (x6 : Int32) (ls : Array Slot), LL2 (m_moved_p6 σ x1 x3 Q) n x4 x6 → lv_has ls 8 [(0, .ref (ad 0)), (1, .long x1), (3, .int x3), (4, .long x4), (6, .int x6)] → W p l e rm_m_moved s m args below meth c H [] 0 0 QQ (F0 m 6 ls []) := by
    intro x1 x3 n
    induction n with
    | zero => intro x4 x6 ls hf; exact False.elim hf
    | succ n ih => intro x4 x6 ls hf hl; exact B6 x1 x3 (LL2 _ n) ih x4 x6 ls hf hl
  unfold m_moved at hf
  refine lv_lconst (v := 0) C.1 C.2.1 dX3_moved_0 rfl ?_
  refine lv_lstore (lv' := [(4, .long 0), (0, .ref (ad 0)), (1, .long x1), (3, .int x3)]) C.1 C.2.1 dX3_moved_1 hl (Nat.le_of_ble_eq_true rfl) rfl (fun ls hl => ?_)
  refine lv_iconst (v := 0) C.1 C.2.1 dX3_moved_3 rfl ?_
  refine lv_istore (lv' := [(6, .int 0), (4, .long 0), (0, .ref (ad 0)), (1, .long x1), (3, .int x3)]) C.1 C.2.1 dX3_moved_4 hl (Nat.le_of_ble_eq_true rfl) rfl (fun ls hl => ?_)
  obtain ⟨n, hf⟩ := hf
  exact P6 _ _ n _ _ _ hf (lv_sub hl [2, 3, 4, 1, 0] rfl)
theorem km_moved {p : Program} {l : Launch} {e : Env} {R : Room} {s : State} {m : MethodId} {args : Array Value} {below : List Frame} {meth : Method} {c : Code} {H : Heap} {locs : List Loc} {Z : State → Prop} {cc : ByteArray} {nL pc : Nat} {ls : Array Slot} {rest : List Value} {D : va_G} {ct : Ct} {ad : Nat → Nat} {σ : St} {x1 : Int64} {x3 : Int32} {Qp : Int64 → Prop} (C : CallFix p m c cc nL s args lw_all RX3) (hw : gH D ct shM ad s σ H locs) (hsz : ls.size = nL) (hrm : (rest.map fun v => v.category).sum ≤ 8) (hR : rm_m_moved.frames + 1 ≤ R.frames ∧ 8 + (8 + 11) + rm_m_moved.locals ≤ R.locals) (hdg : decode cc pc = .ok (.invokevirtual 354, 3)) (hf : m_moved σ x1 x3 Qp) (kk : ∀ (r : Int64), Qp r → W p l e R s m args below meth c H locs 0 0 Z (F0 m (pc + 3) ls (.long r :: rest))) : W p l e R s m args below meth c H locs 0 0 Z (F0 m pc ls (.int x3 :: .long x1 :: .ref (ad 0) :: rest)) :=
  g_callVR (As := [.long x1, .int x3]) (rest := rest) C hw rfl rfl (met_m_moved l D ct ad hw.2.1 σ x1 x3 Qp hf) (cwV 2 C.2.2.2.2 (lw_V q1656 q1658 qs116 q207 q1659) rfl rfl rfl (by decide +kernel) hR) rfl hsz rfl hrm ⟨Nat.zero_le _, Nat.zero_le _⟩ hdg kk
def m_read (σ : St) (x1 : Int32) (Q : Int32 → St → Prop) : Prop :=
  (((fm_isGrammar σ) = 0 → Q (-1) σ) ∧ (¬ (fm_isGrammar σ) = 0 → (((fm_in (Int32.toInt64 x1) 0 25) = 0 → Q (-1) σ) ∧ (¬ (fm_in (Int32.toInt64 x1) 0 25) = 0 → (((gI σ 2 2) = 12 → Q (-1) σ) ∧ (¬ (gI σ 2 2) = 12 → (m_keepsAct σ (fun _ s33 => (vp_in (gI s33 2 2) 12 ∧ (∀ s47 : St, s47 = s_A s33 8 (Int32.toNatClampNeg (gI s33 2 2)) x1 → (∀ s57 : St, s57 = s_A s47 2 (Int32.toNatClampNeg 2) ((gI s47 2 2) + 1) → Q (gI s57 2 2) s57)))))))))))
abbrev rm_m_read : Room := { frames := 4, cells := 0, slots := 0, locals := 88 }
set_option maxHeartbeats 4000000 in
theorem met_m_read (l : Launch) (D : va_G) (ct : Ct) (ad : Nat → Nat) (hJ : gJ shM ad ct) (σ : St) (x1 : Int32) (Q : Int32 → St → Prop) (hf : m_read σ x1 Q) : Met l yX3_read (ws_ yX3_read cX3_read 2 (some .int)) rm_m_read (va_Pc [.ref (ad 0), .int x1] (gP D ct shM ad σ)) (gQ rvI D ct shM ad Q) 0 0 (gA shM ad) := by
  refine g_metI hJ (by decide) (Nat.le_of_ble_eq_true rfl) ?_
  intro p e s m args below meth c QQ ls C hw hl hret
  replace hl : lv_has ls 2 [(0, .ref (ad 0)), (1, .int x1)] := hl
  unfold m_read at hf
  obtain ⟨H, hH⟩ : ∃ q, q = s.heap := ⟨_, rfl⟩
  obtain ⟨locs, hL⟩ : ∃ q : List Loc, q = [] := ⟨_, rfl⟩
  rw [← hH, ← hL] at hw ⊢
  refine lv_aload_n C.1 C.2.1 dX3_read_0 rfl (lv_at hl 0 rfl) ?_
  refine km_isGrammar C hw hl.1 (Nat.le_of_ble_eq_true rfl) ⟨Nat.le_of_ble_eq_true rfl, Nat.le_of_ble_eq_true rfl⟩ dX3_read_1 ?_
  refine lv_if_eq (tgt := 30) C.1 C.2.1 dX3_read_4 (by decide) (fun h4 => ?_) (fun h4 => ?_)
  · replace hf := hf.1 h4
    refine lv_iconst (v := (-1)) C.1 C.2.1 dX3_read_30 rfl ?_
    exact hret _ _ _ _ _ _ hf hw dX3_read_31
  · replace hf := hf.2 h4
    refine lv_iload_n C.1 C.2.1 dX3_read_7 rfl (lv_at hl 1 rfl) ?_
    refine lv_i2l C.1 C.2.1 dX3_read_8 rfl ?_
    refine lv_lconst (v := 0) C.1 C.2.1 dX3_read_9 rfl ?_
    refine lv_ldc2 C.1 C.2.1 C.2.2.2.1 (C.2.2.2.2 _ q1818) dX3_read_10 ?_
    refine km_in C hl.1 (Nat.le_of_ble_eq_true rfl) ⟨Nat.le_of_ble_eq_true rfl, Nat.le_of_ble_eq_true rfl⟩ dX3_read_13 ?_
    refine lv_if_eq (tgt := 30) C.1 C.2.1 dX3_read_16 (by decide) (fun h16 => ?_) (fun h16 => ?_)
    · replace hf := hf.1 h16
      refine lv_iconst (v := (-1)) C.1 C.2.1 dX3_read_30 rfl ?_
      exact hret _ _ _ _ _ _ hf hw dX3_read_31
    · replace hf := hf.2 h16
      refine lv_aload_n C.1 C.2.1 dX3_read_19 rfl (lv_at hl 0 rfl) ?_
      refine mg_scalar C hw dX3_read_20 ?_
      refine lv_iconst (v := 2) C.1 C.2.1 dX3_read_23 rfl ?_
      refine g_iald C hw 2 rfl (vpD rfl) dX3_read_24 ?_
      refine lv_bipush (v := 12) C.1 C.2.1 dX3_read_25 rfl ?_
      refine lv_icmp_ne (tgt := 32) C.1 C.2.1 dX3_read_27 (by decide) (fun h27 => ?_) (fun h27 => ?_)
      · replace hf := hf.2 h27
        refine lv_aload_n C.1 C.2.1 dX3_read_32 rfl (lv_at hl 0 rfl) ?_
        refine km_keepsAct C hw hl.1 (Nat.le_of_ble_eq_true rfl) ⟨Nat.le_of_ble_eq_true rfl, Nat.le_of_ble_eq_true rfl⟩ dX3_read_33 hf (fun _ s33 H locs hf hw => ?_)
        refine lv_aload_n C.1 C.2.1 dX3_read_36 rfl (lv_at hl 0 rfl) ?_
        refine mg_text C hw dX3_read_37 ?_
        refine lv_aload_n C.1 C.2.1 dX3_read_40 rfl (lv_at hl 0 rfl) ?_
        refine mg_scalar C hw dX3_read_41 ?_
        refine lv_iconst (v := 2) C.1 C.2.1 dX3_read_44 rfl ?_
        refine g_iald C hw 2 rfl (vpD rfl) dX3_read_45 ?_
        refine lv_iload_n C.1 C.2.1 dX3_read_46 rfl (lv_at hl 1 rfl) ?_
        obtain ⟨b47, hf⟩ := hf
        refine g_iast C shM_sep hw 8 rfl b47 dX3_read_47 (fun s47 H locs e47 hw => ?_)
        replace hf := hf s47 e47
        refine lv_aload_n C.1 C.2.1 dX3_read_48 rfl (lv_at hl 0 rfl) ?_
        refine mg_scalar C hw dX3_read_49 ?_
        refine lv_iconst (v := 2) C.1 C.2.1 dX3_read_52 rfl ?_
        refine lv_dup2_11 C.1 C.2.1 dX3_read_53 rfl rfl ?_
        refine g_iald C hw 2 rfl (vpD rfl) dX3_read_54 ?_
        refine lv_iconst (v := 1) C.1 C.2.1 dX3_read_55 rfl ?_
        refine lv_iadd C.1 C.2.1 dX3_read_56 ?_
        refine g_iast C shM_sep hw 2 rfl (vpD rfl) dX3_read_57 (fun s57 H locs e57 hw => ?_)
        replace hf := hf s57 e57
        refine lv_aload_n C.1 C.2.1 dX3_read_58 rfl (lv_at hl 0 rfl) ?_
        refine mg_scalar C hw dX3_read_59 ?_
        refine lv_iconst (v := 2) C.1 C.2.1 dX3_read_62 rfl ?_
        refine g_iald C hw 2 rfl (vpD rfl) dX3_read_63 ?_
        exact hret _ _ _ _ _ _ hf hw dX3_read_64
      · replace hf := hf.1 h27
        refine lv_iconst (v := (-1)) C.1 C.2.1 dX3_read_30 rfl ?_
        exact hret _ _ _ _ _ _ hf hw dX3_read_31
def m_drop (σ : St) (Q : Int32 → St → Prop) : Prop :=
  (((gI σ 2 2) = 0 → Q (-1) σ) ∧ (¬ (gI σ 2 2) = 0 → (m_keepsAct σ (fun _ s12 => (∀ s24 : St, s24 = s_A s12 2 (Int32.toNatClampNeg 2) ((gI s12 2 2) - 1) → (vp_in (gI s24 2 2) 12 ∧ Q (gI s24 8 (gI s24 2 2)) s24))))))
abbrev rm_m_drop : Room := { frames := 4, cells := 0, slots := 0, locals := 88 }
set_option maxHeartbeats 4000000 in
theorem met_m_drop (l : Launch) (D : va_G) (ct : Ct) (ad : Nat → Nat) (hJ : gJ shM ad ct) (σ : St) (Q : Int32 → St → Prop) (hf : m_drop σ Q) : Met l yX3_drop (ws_ yX3_drop cX3_drop 1 (some .int)) rm_m_drop (va_Pc [.ref (ad 0)] (gP D ct shM ad σ)) (gQ rvI D ct shM ad Q) 0 0 (gA shM ad) := by
  refine g_metI hJ (by decide) (Nat.le_of_ble_eq_true rfl) ?_
  intro p e s m args below meth c QQ ls C hw hl hret
  replace hl : lv_has ls 1 [(0, .ref (ad 0))] := hl
  unfold m_drop at hf
  obtain ⟨H, hH⟩ : ∃ q, q = s.heap := ⟨_, rfl⟩
  obtain ⟨locs, hL⟩ : ∃ q : List Loc, q = [] := ⟨_, rfl⟩
  rw [← hH, ← hL] at hw ⊢
  refine lv_aload_n C.1 C.2.1 dX3_drop_0 rfl (lv_at hl 0 rfl) ?_
  refine mg_scalar C hw dX3_drop_1 ?_
  refine lv_iconst (v := 2) C.1 C.2.1 dX3_drop_4 rfl ?_
  refine g_iald C hw 2 rfl (vpD rfl) dX3_drop_5 ?_
  refine lv_if_ne (tgt := 11) C.1 C.2.1 dX3_drop_6 (by decide) (fun h6 => ?_) (fun h6 => ?_)
  · replace hf := hf.2 h6
    refine lv_aload_n C.1 C.2.1 dX3_drop_11 rfl (lv_at hl 0 rfl) ?_
    refine km_keepsAct C hw hl.1 (Nat.le_of_ble_eq_true rfl) ⟨Nat.le_of_ble_eq_true rfl, Nat.le_of_ble_eq_true rfl⟩ dX3_drop_12 hf (fun _ s12 H locs hf hw => ?_)
    refine lv_aload_n C.1 C.2.1 dX3_drop_15 rfl (lv_at hl 0 rfl) ?_
    refine mg_scalar C hw dX3_drop_16 ?_
    refine lv_iconst (v := 2) C.1 C.2.1 dX3_drop_19 rfl ?_
    refine lv_dup2_11 C.1 C.2.1 dX3_drop_20 rfl rfl ?_
    refine g_iald C hw 2 rfl (vpD rfl) dX3_drop_21 ?_
    refine lv_iconst (v := 1) C.1 C.2.1 dX3_drop_22 rfl ?_
    refine lv_isub C.1 C.2.1 dX3_drop_23 ?_
    refine g_iast C shM_sep hw 2 rfl (vpD rfl) dX3_drop_24 (fun s24 H locs e24 hw => ?_)
    replace hf := hf s24 e24
    refine lv_aload_n C.1 C.2.1 dX3_drop_25 rfl (lv_at hl 0 rfl) ?_
    refine mg_text C hw dX3_drop_26 ?_
    refine lv_aload_n C.1 C.2.1 dX3_drop_29 rfl (lv_at hl 0 rfl) ?_
    refine mg_scalar C hw dX3_drop_30 ?_
    refine lv_iconst (v := 2) C.1 C.2.1 dX3_drop_33 rfl ?_
    refine g_iald C hw 2 rfl (vpD rfl) dX3_drop_34 ?_
    obtain ⟨b35, hf⟩ := hf
    refine g_iald C hw 8 rfl b35 dX3_drop_35 ?_
    exact hret _ _ _ _ _ _ hf hw dX3_drop_36
  · replace hf := hf.1 h6
    refine lv_iconst (v := (-1)) C.1 C.2.1 dX3_drop_9 rfl ?_
    exact hret _ _ _ _ _ _ hf hw dX3_drop_10
def m_change (σ : St) (x1 : Int32) (x2 : Int32) (Q : Int32 → St → Prop) : Prop :=
  (((fm_in (Int32.toInt64 x1) 0 (Int32.toInt64 ((gI σ 2 2) - 1))) = 0 → Q (-1) σ) ∧ (¬ (fm_in (Int32.toInt64 x1) 0 (Int32.toInt64 ((gI σ 2 2) - 1))) = 0 → (((fm_in (Int32.toInt64 x2) 0 25) = 0 → Q (-1) σ) ∧ (¬ (fm_in (Int32.toInt64 x2) 0 25) = 0 → (vp_in x1 12 ∧ (((gI σ 8 x1) = x2 → Q (-1) σ) ∧ (¬ (gI σ 8 x1) = x2 → (m_keepsAct σ (fun _ s43 => (∀ s59 : St, s59 = s_A s43 8 (Int32.toNatClampNeg x1) x2 → Q (gI s43 8 x1) s59))))))))))
abbrev rm_m_change : Room := { frames := 4, cells := 0, slots := 0, locals := 88 }
set_option maxHeartbeats 4000000 in
theorem met_m_change (l : Launch) (D : va_G) (ct : Ct) (ad : Nat → Nat) (hJ : gJ shM ad ct) (σ : St) (x1 : Int32) (x2 : Int32) (Q : Int32 → St → Prop) (hf : m_change σ x1 x2 Q) : Met l yX3_change (ws_ yX3_change cX3_change 4 (some .int)) rm_m_change (va_Pc [.ref (ad 0), .int x1, .int x2] (gP D ct shM ad σ)) (gQ rvI D ct shM ad Q) 0 0 (gA shM ad) := by
  refine g_metI hJ (by decide) (Nat.le_of_ble_eq_true rfl) ?_
  intro p e s m args below meth c QQ ls C hw hl hret
  replace hl : lv_has ls 4 [(0, .ref (ad 0)), (1, .int x1), (2, .int x2)] := hl
  unfold m_change at hf
  obtain ⟨H, hH⟩ : ∃ q, q = s.heap := ⟨_, rfl⟩
  obtain ⟨locs, hL⟩ : ∃ q : List Loc, q = [] := ⟨_, rfl⟩
  rw [← hH, ← hL] at hw ⊢
  refine lv_iload_n C.1 C.2.1 dX3_change_0 rfl (lv_at hl 1 rfl) ?_
  refine lv_i2l C.1 C.2.1 dX3_change_1 rfl ?_
  refine lv_lconst (v := 0) C.1 C.2.1 dX3_change_2 rfl ?_
  refine lv_aload_n C.1 C.2.1 dX3_change_3 rfl (lv_at hl 0 rfl) ?_
  refine mg_scalar C hw dX3_change_4 ?_
  refine lv_iconst (v := 2) C.1 C.2.1 dX3_change_7 rfl ?_
  refine g_iald C hw 2 rfl (vpD rfl) dX3_change_8 ?_
  refine lv_iconst (v := 1) C.1 C.2.1 dX3_change_9 rfl ?_
  refine lv_isub C.1 C.2.1 dX3_change_10 ?_
  refine lv_i2l C.1 C.2.1 dX3_change_11 rfl ?_
  refine km_in C hl.1 (Nat.le_of_ble_eq_true rfl) ⟨Nat.le_of_ble_eq_true rfl, Nat.le_of_ble_eq_true rfl⟩ dX3_change_12 ?_
  refine lv_if_eq (tgt := 40) C.1 C.2.1 dX3_change_15 (by decide) (fun h15 => ?_) (fun h15 => ?_)
  · replace hf := hf.1 h15
    refine lv_iconst (v := (-1)) C.1 C.2.1 dX3_change_40 rfl ?_
    exact hret _ _ _ _ _ _ hf hw dX3_change_41
  · replace hf := hf.2 h15
    refine lv_iload_n C.1 C.2.1 dX3_change_18 rfl (lv_at hl 2 rfl) ?_
    refine lv_i2l C.1 C.2.1 dX3_change_19 rfl ?_
    refine lv_lconst (v := 0) C.1 C.2.1 dX3_change_20 rfl ?_
    refine lv_ldc2 C.1 C.2.1 C.2.2.2.1 (C.2.2.2.2 _ q1818) dX3_change_21 ?_
    refine km_in C hl.1 (Nat.le_of_ble_eq_true rfl) ⟨Nat.le_of_ble_eq_true rfl, Nat.le_of_ble_eq_true rfl⟩ dX3_change_24 ?_
    refine lv_if_eq (tgt := 40) C.1 C.2.1 dX3_change_27 (by decide) (fun h27 => ?_) (fun h27 => ?_)
    · replace hf := hf.1 h27
      refine lv_iconst (v := (-1)) C.1 C.2.1 dX3_change_40 rfl ?_
      exact hret _ _ _ _ _ _ hf hw dX3_change_41
    · replace hf := hf.2 h27
      refine lv_aload_n C.1 C.2.1 dX3_change_30 rfl (lv_at hl 0 rfl) ?_
      refine mg_text C hw dX3_change_31 ?_
      refine lv_iload_n C.1 C.2.1 dX3_change_34 rfl (lv_at hl 1 rfl) ?_
      obtain ⟨b35, hf⟩ := hf
      refine g_iald C hw 8 rfl b35 dX3_change_35 ?_
      refine lv_iload_n C.1 C.2.1 dX3_change_36 rfl (lv_at hl 2 rfl) ?_
      refine lv_icmp_ne (tgt := 42) C.1 C.2.1 dX3_change_37 (by decide) (fun h37 => ?_) (fun h37 => ?_)
      · replace hf := hf.2 h37
        refine lv_aload_n C.1 C.2.1 dX3_change_42 rfl (lv_at hl 0 rfl) ?_
        refine km_keepsAct C hw hl.1 (Nat.le_of_ble_eq_true rfl) ⟨Nat.le_of_ble_eq_true rfl, Nat.le_of_ble_eq_true rfl⟩ dX3_change_43 hf (fun _ s43 H locs hf hw => ?_)
        refine lv_aload_n C.1 C.2.1 dX3_change_46 rfl (lv_at hl 0 rfl) ?_
        refine mg_text C hw dX3_change_47 ?_
        refine lv_iload_n C.1 C.2.1 dX3_change_50 rfl (lv_at hl 1 rfl) ?_
        refine g_iald C hw 8 rfl b35 dX3_change_51 ?_
        refine lv_istore_n (lv' := [(3, .int (gI s43 8 x1)), (0, .ref (ad 0)), (1, .int x1), (2, .int x2)]) C.1 C.2.1 dX3_change_52 rfl hl (Nat.le_of_ble_eq_true rfl) rfl (fun ls hl => ?_)
        refine lv_aload_n C.1 C.2.1 dX3_change_53 rfl (lv_at hl 1 rfl) ?_
        refine mg_text C hw dX3_change_54 ?_
        refine lv_iload_n C.1 C.2.1 dX3_change_57 rfl (lv_at hl 2 rfl) ?_
        refine lv_iload_n C.1 C.2.1 dX3_change_58 rfl (lv_at hl 3 rfl) ?_
        refine g_iast C shM_sep hw 8 rfl b35 dX3_change_59 (fun s59 H locs e59 hw => ?_)
        replace hf := hf s59 e59
        refine lv_iload_n C.1 C.2.1 dX3_change_60 rfl (lv_at hl 0 rfl) ?_
        exact hret _ _ _ _ _ _ hf hw dX3_change_61
      · replace hf := hf.1 h37
        refine lv_iconst (v := (-1)) C.1 C.2.1 dX3_change_40 rfl ?_
        exact hret _ _ _ _ _ _ hf hw dX3_change_41
def m_ban_p177 (σ : St) (Q : Int32 → St → Prop) : Prop :=
  Q (gI σ 2 4) σ
def m_ban_p144 (Q : Int32 → St → Prop) (K144 : St → Int32 → Prop) (σ : St) (x6 : Int32) : Prop :=
  (((gI σ 2 4) ≤ x6 → (m_ban_p177 σ Q)) ∧ (¬ (gI σ 2 4) ≤ x6 → (vp_in (x6 + 1) 8 ∧ (vp_in x6 8 ∧ (∀ s170 : St, s170 = s_A σ 9 (Int32.toNatClampNeg x6) (gI σ 9 (x6 + 1)) → K144 s170 (x6 + 1))))))
def m_ban_p94 (σ : St) (x4 : Int32) (x5 : Int32) (Q : Int32 → St → Prop) : Prop :=
  (m_keepsAct σ (fun _ s95 => ((x5 = (-1) → (vp_in (gI s95 2 4) 8 ∧ (∀ s116 : St, s116 = s_A s95 9 (Int32.toNatClampNeg (gI s95 2 4)) x4 → (∀ s126 : St, s126 = s_A s116 2 (Int32.toNatClampNeg 4) ((gI s116 2 4) + 1) → (m_ban_p177 s126 Q))))) ∧ (¬ x5 = (-1) → (∀ s139 : St, s139 = s_A s95 2 (Int32.toNatClampNeg 4) ((gI s95 2 4) - 1) → (Lp2 (m_ban_p144 Q) s139 x5))))))
def m_ban (σ : St) (x1 : Int32) (x2 : Int32) (x3 : Int32) (Q : Int32 → St → Prop) : Prop :=
  (((fm_isRule σ x1) = 0 → Q (-1) σ) ∧ (¬ (fm_isRule σ x1) = 0 → (vp_in x1 12 ∧ (((fm_in (Int32.toInt64 x2) 0 (Int32.toInt64 ((gI σ 4 x1) - 1))) = 0 → Q (-1) σ) ∧ (¬ (fm_in (Int32.toInt64 x2) 0 (Int32.toInt64 ((gI σ 4 x1) - 1))) = 0 → (((fm_isRule σ x3) = 0 → Q (-1) σ) ∧ (¬ (fm_isRule σ x3) = 0 → (vp_in ((4 * x1) + x2) 48 ∧ (vp_in x3 12 ∧ (((gI σ 5 ((4 * x1) + x2)) = (gI σ 3 x3) → (m_banOf σ ((12 * ((4 * x1) + x2)) + x3) (fun r70 => ((r70 = (-1) → (((gI σ 2 4) = 8 → Q (-1) σ) ∧ (¬ (gI σ 2 4) = 8 → (m_ban_p94 σ ((12 * ((4 * x1) + x2)) + x3) r70 Q)))) ∧ (¬ r70 = (-1) → (m_ban_p94 σ ((12 * ((4 * x1) + x2)) + x3) r70 Q)))))) ∧ (¬ (gI σ 5 ((4 * x1) + x2)) = (gI σ 3 x3) → Q (-1) σ)))))))))))
abbrev rm_m_ban : Room := { frames := 4, cells := 0, slots := 0, locals := 88 }
set_option maxHeartbeats 4000000 in
theorem met_m_ban (l : Launch) (D : va_G) (ct : Ct) (ad : Nat → Nat) (hJ : gJ shM ad ct) (σ : St) (x1 : Int32) (x2 : Int32) (x3 : Int32) (Q : Int32 → St → Prop) (hf : m_ban σ x1 x2 x3 Q) : Met l yX3_ban (ws_ yX3_ban cX3_ban 7 (some .int)) rm_m_ban (va_Pc [.ref (ad 0), .int x1, .int x2, .int x3] (gP D ct shM ad σ)) (gQ rvI D ct shM ad Q) 0 0 (gA shM ad) := by
  refine g_metI hJ (by decide) (Nat.le_of_ble_eq_true rfl) ?_
  intro p e s m args below meth c QQ ls C hw hl hret
  replace hl : lv_has ls 7 [(0, .ref (ad 0)), (1, .int x1), (2, .int x2), (3, .int x3)] := hl
  have J177 : ∀ (σ : St) (H : Heap) (locs : List Loc) (ls : Array Slot), m_ban_p177 σ Q → gH D ct shM ad s σ H locs → lv_has ls 7 [(0, .ref (ad 0))] → W p l e rm_m_ban s m args below meth c H locs 0 0 QQ (F0 m 177 ls []) := by
    intro σ H locs ls hf hw hl
    unfold m_ban_p177 at hf
    refine lv_aload_n C.1 C.2.1 dX3_ban_177 rfl (lv_at hl 0 rfl) ?_
    refine mg_scalar C hw dX3_ban_178 ?_
    refine lv_iconst (v := 4) C.1 C.2.1 dX3_ban_181 rfl ?_
    refine g_iald C hw 2 rfl (vpD rfl) dX3_ban_182 ?_
    exact hret _ _ _ _ _ _ hf hw dX3_ban_183
  have B144 : ∀ (K144 : St → Int32 → Prop) (_ : ∀ (σ : St) (H : Heap) (locs : List Loc) (x6 : Int32) (ls : Array Slot), K144 σ x6 → gH D ct shM ad s σ H locs → lv_has ls 7 [(0, .ref (ad 0)), (6, .int x6)] → W p l e rm_m_ban s m args below meth c H locs 0 0 QQ (F0 m 144 ls [])) (σ : St) (H : Heap) (locs : List Loc) (x6 : Int32) (ls : Array Slot), m_ban_p144 Q K144 σ x6 → gH D ct shM ad s σ H locs → lv_has ls 7 [(0, .ref (ad 0)), (6, .int x6)] → W p l e rm_m_ban s m args below meth c H locs 0 0 QQ (F0 m 144 ls []) := by
    intro K144 hK144 σ H locs x6 ls hf hw hl
    unfold m_ban_p144 at hf
    refine lv_iload C.1 C.2.1 dX3_ban_144 (lv_at hl 1 rfl) ?_
    refine lv_aload_n C.1 C.2.1 dX3_ban_146 rfl (lv_at hl 0 rfl) ?_
    refine mg_scalar C hw dX3_ban_147 ?_
    refine lv_iconst (v := 4) C.1 C.2.1 dX3_ban_150 rfl ?_
    refine g_iald C hw 2 rfl (vpD rfl) dX3_ban_151 ?_
    refine lv_icmp_ge (tgt := 177) C.1 C.2.1 dX3_ban_152 (by decide) (fun h152 => ?_) (fun h152 => ?_)
    · replace hf := hf.1 h152
      exact J177 _ _ _ _ hf hw (lv_sub hl [0] rfl)
    · replace hf := hf.2 h152
      refine lv_aload_n C.1 C.2.1 dX3_ban_155 rfl (lv_at hl 0 rfl) ?_
      refine mg_bans C hw dX3_ban_156 ?_
      refine lv_iload C.1 C.2.1 dX3_ban_159 (lv_at hl 1 rfl) ?_
      refine lv_aload_n C.1 C.2.1 dX3_ban_161 rfl (lv_at hl 0 rfl) ?_
      refine mg_bans C hw dX3_ban_162 ?_
      refine lv_iload C.1 C.2.1 dX3_ban_165 (lv_at hl 1 rfl) ?_
      refine lv_iconst (v := 1) C.1 C.2.1 dX3_ban_167 rfl ?_
      refine lv_iadd C.1 C.2.1 dX3_ban_168 ?_
      obtain ⟨b169, hf⟩ := hf
      refine g_iald C hw 9 rfl b169 dX3_ban_169 ?_
      obtain ⟨b170, hf⟩ := hf
      refine g_iast C shM_sep hw 9 rfl b170 dX3_ban_170 (fun s170 H locs e170 hw => ?_)
      replace hf := hf s170 e170
      refine lv_iinc (v := (x6 + 1)) (lv' := [(6, .int (x6 + 1)), (0, .ref (ad 0))]) C.1 C.2.1 dX3_ban_171 hl (k := 1) rfl rfl (Nat.le_of_ble_eq_true rfl) rfl (fun ls hl => ?_)
      refine lv_goto (tgt := 144) C.1 C.2.1 dX3_ban_174 (by decide) ?_
      exact hK144 _ _ _ _ _ hf hw (lv_sub hl [1, 0] rfl)
  have P144 : ∀ (n : Nat) (σ : St) (x6 : Int32) (ls : Array Slot) (H : Heap) (locs : List Loc), LL2 (m_ban_p144 Q) n σ x6 → gH D ct shM ad s σ H locs → lv_has ls 7 [(0, .ref (ad 0)), (6, .int x6)] → W p l e rm_m_ban s m args below meth c H locs 0 0 QQ (F0 m 144 ls []) := by
    intro  n
    induction n with
    | zero => intro σ x6 ls H locs hf; exact False.elim hf
    | succ n ih => intro σ x6 ls H locs hf hw hl; exact B144  (LL2 _ n) (fun σ H locs x6 ls hf hw hl => ih σ x6 ls H locs hf hw hl) σ H locs x6 ls hf hw hl
  have J94 : ∀ (σ : St) (H : Heap) (locs : List Loc) (x4 : Int32) (x5 : Int32) (ls : Array Slot), m_ban_p94 σ x4 x5 Q → gH D ct shM ad s σ H locs → lv_has ls 7 [(0, .ref (ad 0)), (4, .int x4), (5, .int x5)] → W p l e rm_m_ban s m args below meth c H locs 0 0 QQ (F0 m 94 ls []) := by
    intro σ H locs x4 x5 ls hf hw hl
    unfold m_ban_p94 at hf
    refine lv_aload_n C.1 C.2.1 dX3_ban_94 rfl (lv_at hl 0 rfl) ?_
    refine km_keepsAct C hw hl.1 (Nat.le_of_ble_eq_true rfl) ⟨Nat.le_of_ble_eq_true rfl, Nat.le_of_ble_eq_true rfl⟩ dX3_ban_95 hf (fun _ s95 H locs hf hw => ?_)
    refine lv_iload C.1 C.2.1 dX3_ban_98 (lv_at hl 2 rfl) ?_
    refine lv_iconst (v := (-1)) C.1 C.2.1 dX3_ban_100 rfl ?_
    refine lv_icmp_ne (tgt := 130) C.1 C.2.1 dX3_ban_101 (by decide) (fun h101 => ?_) (fun h101 => ?_)
    · replace hf := hf.2 h101
      refine lv_aload_n C.1 C.2.1 dX3_ban_130 rfl (lv_at hl 0 rfl) ?_
      refine mg_scalar C hw dX3_ban_131 ?_
      refine lv_iconst (v := 4) C.1 C.2.1 dX3_ban_134 rfl ?_
      refine lv_dup2_11 C.1 C.2.1 dX3_ban_135 rfl rfl ?_
      refine g_iald C hw 2 rfl (vpD rfl) dX3_ban_136 ?_
      refine lv_iconst (v := 1) C.1 C.2.1 dX3_ban_137 rfl ?_
      refine lv_isub C.1 C.2.1 dX3_ban_138 ?_
      refine g_iast C shM_sep hw 2 rfl (vpD rfl) dX3_ban_139 (fun s139 H locs e139 hw => ?_)
      replace hf := hf s139 e139
      refine lv_iload C.1 C.2.1 dX3_ban_140 (lv_at hl 2 rfl) ?_
      refine lv_istore (lv' := [(6, .int x5), (0, .ref (ad 0)), (4, .int x4), (5, .int x5)]) C.1 C.2.1 dX3_ban_142 hl (Nat.le_of_ble_eq_true rfl) rfl (fun ls hl => ?_)
      obtain ⟨n, hf⟩ := hf
      exact P144  n _ _ _ _ _ hf hw (lv_sub hl [1, 0] rfl)
    · replace hf := hf.1 h101
      refine lv_aload_n C.1 C.2.1 dX3_ban_104 rfl (lv_at hl 0 rfl) ?_
      refine mg_bans C hw dX3_ban_105 ?_
      refine lv_aload_n C.1 C.2.1 dX3_ban_108 rfl (lv_at hl 0 rfl) ?_
      refine mg_scalar C hw dX3_ban_109 ?_
      refine lv_iconst (v := 4) C.1 C.2.1 dX3_ban_112 rfl ?_
      refine g_iald C hw 2 rfl (vpD rfl) dX3_ban_113 ?_
      refine lv_iload C.1 C.2.1 dX3_ban_114 (lv_at hl 1 rfl) ?_
      obtain ⟨b116, hf⟩ := hf
      refine g_iast C shM_sep hw 9 rfl b116 dX3_ban_116 (fun s116 H locs e116 hw => ?_)
      replace hf := hf s116 e116
      refine lv_aload_n C.1 C.2.1 dX3_ban_117 rfl (lv_at hl 0 rfl) ?_
      refine mg_scalar C hw dX3_ban_118 ?_
      refine lv_iconst (v := 4) C.1 C.2.1 dX3_ban_121 rfl ?_
      refine lv_dup2_11 C.1 C.2.1 dX3_ban_122 rfl rfl ?_
      refine g_iald C hw 2 rfl (vpD rfl) dX3_ban_123 ?_
      refine lv_iconst (v := 1) C.1 C.2.1 dX3_ban_124 rfl ?_
      refine lv_iadd C.1 C.2.1 dX3_ban_125 ?_
      refine g_iast C shM_sep hw 2 rfl (vpD rfl) dX3_ban_126 (fun s126 H locs e126 hw => ?_)
      replace hf := hf s126 e126
      refine lv_goto (tgt := 177) C.1 C.2.1 dX3_ban_127 (by decide) ?_
      exact J177 _ _ _ _ hf hw (lv_sub hl [0] rfl)
  unfold m_ban at hf
  obtain ⟨H, hH⟩ : ∃ q, q = s.heap := ⟨_, rfl⟩
  obtain ⟨locs, hL⟩ : ∃ q : List Loc, q = [] := ⟨_, rfl⟩
  rw [← hH, ← hL] at hw ⊢
  refine lv_aload_n C.1 C.2.1 dX3_ban_0 rfl (lv_at hl 0 rfl) ?_
  refine lv_iload_n C.1 C.2.1 dX3_ban_1 rfl (lv_at hl 1 rfl) ?_
  refine km_isRule C hw hl.1 (Nat.le_of_ble_eq_true rfl) ⟨Nat.le_of_ble_eq_true rfl, Nat.le_of_ble_eq_true rfl⟩ dX3_ban_2 ?_
  refine lv_if_eq (tgt := 53) C.1 C.2.1 dX3_ban_5 (by decide) (fun h5 => ?_) (fun h5 => ?_)
  · replace hf := hf.1 h5
    refine lv_iconst (v := (-1)) C.1 C.2.1 dX3_ban_53 rfl ?_
    exact hret _ _ _ _ _ _ hf hw dX3_ban_54
  · replace hf := hf.2 h5
    refine lv_iload_n C.1 C.2.1 dX3_ban_8 rfl (lv_at hl 2 rfl) ?_
    refine lv_i2l C.1 C.2.1 dX3_ban_9 rfl ?_
    refine lv_lconst (v := 0) C.1 C.2.1 dX3_ban_10 rfl ?_
    refine lv_aload_n C.1 C.2.1 dX3_ban_11 rfl (lv_at hl 0 rfl) ?_
    refine mg_size C hw dX3_ban_12 ?_
    refine lv_iload_n C.1 C.2.1 dX3_ban_15 rfl (lv_at hl 1 rfl) ?_
    obtain ⟨b16, hf⟩ := hf
    refine g_iald C hw 4 rfl b16 dX3_ban_16 ?_
    refine lv_iconst (v := 1) C.1 C.2.1 dX3_ban_17 rfl ?_
    refine lv_isub C.1 C.2.1 dX3_ban_18 ?_
    refine lv_i2l C.1 C.2.1 dX3_ban_19 rfl ?_
    refine km_in C hl.1 (Nat.le_of_ble_eq_true rfl) ⟨Nat.le_of_ble_eq_true rfl, Nat.le_of_ble_eq_true rfl⟩ dX3_ban_20 ?_
    refine lv_if_eq (tgt := 53) C.1 C.2.1 dX3_ban_23 (by decide) (fun h23 => ?_) (fun h23 => ?_)
    · replace hf := hf.1 h23
      refine lv_iconst (v := (-1)) C.1 C.2.1 dX3_ban_53 rfl ?_
      exact hret _ _ _ _ _ _ hf hw dX3_ban_54
    · replace hf := hf.2 h23
      refine lv_aload_n C.1 C.2.1 dX3_ban_26 rfl (lv_at hl 0 rfl) ?_
      refine lv_iload_n C.1 C.2.1 dX3_ban_27 rfl (lv_at hl 3 rfl) ?_
      refine km_isRule C hw hl.1 (Nat.le_of_ble_eq_true rfl) ⟨Nat.le_of_ble_eq_true rfl, Nat.le_of_ble_eq_true rfl⟩ dX3_ban_28 ?_
      refine lv_if_eq (tgt := 53) C.1 C.2.1 dX3_ban_31 (by decide) (fun h31 => ?_) (fun h31 => ?_)
      · replace hf := hf.1 h31
        refine lv_iconst (v := (-1)) C.1 C.2.1 dX3_ban_53 rfl ?_
        exact hret _ _ _ _ _ _ hf hw dX3_ban_54
      · replace hf := hf.2 h31
        refine lv_aload_n C.1 C.2.1 dX3_ban_34 rfl (lv_at hl 0 rfl) ?_
        refine mg_sym C hw dX3_ban_35 ?_
        refine lv_iconst (v := 4) C.1 C.2.1 dX3_ban_38 rfl ?_
        refine lv_iload_n C.1 C.2.1 dX3_ban_39 rfl (lv_at hl 1 rfl) ?_
        refine lv_imul C.1 C.2.1 dX3_ban_40 ?_
        refine lv_iload_n C.1 C.2.1 dX3_ban_41 rfl (lv_at hl 2 rfl) ?_
        refine lv_iadd C.1 C.2.1 dX3_ban_42 ?_
        obtain ⟨b43, hf⟩ := hf
        refine g_iald C hw 5 rfl b43 dX3_ban_43 ?_
        refine lv_aload_n C.1 C.2.1 dX3_ban_44 rfl (lv_at hl 0 rfl) ?_
        refine mg_left C hw dX3_ban_45 ?_
        refine lv_iload_n C.1 C.2.1 dX3_ban_48 rfl (lv_at hl 3 rfl) ?_
        obtain ⟨b49, hf⟩ := hf
        refine g_iald C hw 3 rfl b49 dX3_ban_49 ?_
        refine lv_icmp_eq (tgt := 55) C.1 C.2.1 dX3_ban_50 (by decide) (fun h50 => ?_) (fun h50 => ?_)
        · replace hf := hf.1 h50
          refine lv_bipush (v := 12) C.1 C.2.1 dX3_ban_55 rfl ?_
          refine lv_iconst (v := 4) C.1 C.2.1 dX3_ban_57 rfl ?_
          refine lv_iload_n C.1 C.2.1 dX3_ban_58 rfl (lv_at hl 1 rfl) ?_
          refine lv_imul C.1 C.2.1 dX3_ban_59 ?_
          refine lv_iload_n C.1 C.2.1 dX3_ban_60 rfl (lv_at hl 2 rfl) ?_
          refine lv_iadd C.1 C.2.1 dX3_ban_61 ?_
          refine lv_imul C.1 C.2.1 dX3_ban_62 ?_
          refine lv_iload_n C.1 C.2.1 dX3_ban_63 rfl (lv_at hl 3 rfl) ?_
          refine lv_iadd C.1 C.2.1 dX3_ban_64 ?_
          refine lv_istore (lv' := [(4, .int ((12 * ((4 * x1) + x2)) + x3)), (0, .ref (ad 0)), (1, .int x1), (2, .int x2), (3, .int x3)]) C.1 C.2.1 dX3_ban_65 hl (Nat.le_of_ble_eq_true rfl) rfl (fun ls hl => ?_)
          refine lv_aload_n C.1 C.2.1 dX3_ban_67 rfl (lv_at hl 1 rfl) ?_
          refine lv_iload C.1 C.2.1 dX3_ban_68 (lv_at hl 0 rfl) ?_
          refine km_banOf C hw hl.1 (Nat.le_of_ble_eq_true rfl) ⟨Nat.le_of_ble_eq_true rfl, Nat.le_of_ble_eq_true rfl⟩ dX3_ban_70 hf (fun r70 hf => ?_)
          refine lv_istore (lv' := [(5, .int r70), (4, .int ((12 * ((4 * x1) + x2)) + x3)), (0, .ref (ad 0)), (1, .int x1), (2, .int x2), (3, .int x3)]) C.1 C.2.1 dX3_ban_73 hl (Nat.le_of_ble_eq_true rfl) rfl (fun ls hl => ?_)
          refine lv_iload C.1 C.2.1 dX3_ban_75 (lv_at hl 0 rfl) ?_
          refine lv_iconst (v := (-1)) C.1 C.2.1 dX3_ban_77 rfl ?_
          refine lv_icmp_ne (tgt := 94) C.1 C.2.1 dX3_ban_78 (by decide) (fun h78 => ?_) (fun h78 => ?_)
          · replace hf := hf.2 h78
            exact J94 _ _ _ _ _ _ hf hw (lv_sub hl [2, 1, 0] rfl)
          · replace hf := hf.1 h78
            refine lv_aload_n C.1 C.2.1 dX3_ban_81 rfl (lv_at hl 2 rfl) ?_
            refine mg_scalar C hw dX3_ban_82 ?_
            refine lv_iconst (v := 4) C.1 C.2.1 dX3_ban_85 rfl ?_
            refine g_iald C hw 2 rfl (vpD rfl) dX3_ban_86 ?_
            refine lv_bipush (v := 8) C.1 C.2.1 dX3_ban_87 rfl ?_
            refine lv_icmp_ne (tgt := 94) C.1 C.2.1 dX3_ban_89 (by decide) (fun h89 => ?_) (fun h89 => ?_)
            · replace hf := hf.2 h89
              exact J94 _ _ _ _ _ _ hf hw (lv_sub hl [2, 1, 0] rfl)
            · replace hf := hf.1 h89
              refine lv_iconst (v := (-1)) C.1 C.2.1 dX3_ban_92 rfl ?_
              exact hret _ _ _ _ _ _ hf hw dX3_ban_93
        · replace hf := hf.2 h50
          refine lv_iconst (v := (-1)) C.1 C.2.1 dX3_ban_53 rfl ?_
          exact hret _ _ _ _ _ _ hf hw dX3_ban_54
def m_filter (σ : St) (x1 : Int32) (Q : Int32 → St → Prop) : Prop :=
  (((fm_isGrammar σ) = 0 → Q (-1) σ) ∧ (¬ (fm_isGrammar σ) = 0 → (((fm_in (Int32.toInt64 x1) 0 2) = 0 → Q (-1) σ) ∧ (¬ (fm_in (Int32.toInt64 x1) 0 2) = 0 → (m_keepsAct σ (fun _ s22 => (∀ s36 : St, s36 = s_A s22 2 (Int32.toNatClampNeg 5) ((gI s22 2 5) ^^^ (1 <<< (x1 &&& 31))) → Q (gI s36 2 5) s36)))))))
abbrev rm_m_filter : Room := { frames := 4, cells := 0, slots := 0, locals := 88 }
set_option maxHeartbeats 4000000 in
theorem met_m_filter (l : Launch) (D : va_G) (ct : Ct) (ad : Nat → Nat) (hJ : gJ shM ad ct) (σ : St) (x1 : Int32) (Q : Int32 → St → Prop) (hf : m_filter σ x1 Q) : Met l yX3_filter (ws_ yX3_filter cX3_filter 2 (some .int)) rm_m_filter (va_Pc [.ref (ad 0), .int x1] (gP D ct shM ad σ)) (gQ rvI D ct shM ad Q) 0 0 (gA shM ad) := by
  refine g_metI hJ (by decide) (Nat.le_of_ble_eq_true rfl) ?_
  intro p e s m args below meth c QQ ls C hw hl hret
  replace hl : lv_has ls 2 [(0, .ref (ad 0)), (1, .int x1)] := hl
  unfold m_filter at hf
  obtain ⟨H, hH⟩ : ∃ q, q = s.heap := ⟨_, rfl⟩
  obtain ⟨locs, hL⟩ : ∃ q : List Loc, q = [] := ⟨_, rfl⟩
  rw [← hH, ← hL] at hw ⊢
  refine lv_aload_n C.1 C.2.1 dX3_filter_0 rfl (lv_at hl 0 rfl) ?_
  refine km_isGrammar C hw hl.1 (Nat.le_of_ble_eq_true rfl) ⟨Nat.le_of_ble_eq_true rfl, Nat.le_of_ble_eq_true rfl⟩ dX3_filter_1 ?_
  refine lv_if_eq (tgt := 19) C.1 C.2.1 dX3_filter_4 (by decide) (fun h4 => ?_) (fun h4 => ?_)
  · replace hf := hf.1 h4
    refine lv_iconst (v := (-1)) C.1 C.2.1 dX3_filter_19 rfl ?_
    exact hret _ _ _ _ _ _ hf hw dX3_filter_20
  · replace hf := hf.2 h4
    refine lv_iload_n C.1 C.2.1 dX3_filter_7 rfl (lv_at hl 1 rfl) ?_
    refine lv_i2l C.1 C.2.1 dX3_filter_8 rfl ?_
    refine lv_lconst (v := 0) C.1 C.2.1 dX3_filter_9 rfl ?_
    refine lv_ldc2 C.1 C.2.1 C.2.2.2.1 (C.2.2.2.2 _ q1851) dX3_filter_10 ?_
    refine km_in C hl.1 (Nat.le_of_ble_eq_true rfl) ⟨Nat.le_of_ble_eq_true rfl, Nat.le_of_ble_eq_true rfl⟩ dX3_filter_13 ?_
    refine lv_if_ne (tgt := 21) C.1 C.2.1 dX3_filter_16 (by decide) (fun h16 => ?_) (fun h16 => ?_)
    · replace hf := hf.2 h16
      refine lv_aload_n C.1 C.2.1 dX3_filter_21 rfl (lv_at hl 0 rfl) ?_
      refine km_keepsAct C hw hl.1 (Nat.le_of_ble_eq_true rfl) ⟨Nat.le_of_ble_eq_true rfl, Nat.le_of_ble_eq_true rfl⟩ dX3_filter_22 hf (fun _ s22 H locs hf hw => ?_)
      refine lv_aload_n C.1 C.2.1 dX3_filter_25 rfl (lv_at hl 0 rfl) ?_
      refine mg_scalar C hw dX3_filter_26 ?_
      refine lv_iconst (v := 5) C.1 C.2.1 dX3_filter_29 rfl ?_
      refine lv_dup2_11 C.1 C.2.1 dX3_filter_30 rfl rfl ?_
      refine g_iald C hw 2 rfl (vpD rfl) dX3_filter_31 ?_
      refine lv_iconst (v := 1) C.1 C.2.1 dX3_filter_32 rfl ?_
      refine lv_iload_n C.1 C.2.1 dX3_filter_33 rfl (lv_at hl 1 rfl) ?_
      refine lv_ishl C.1 C.2.1 dX3_filter_34 ?_
      refine lv_ixor C.1 C.2.1 dX3_filter_35 ?_
      refine g_iast C shM_sep hw 2 rfl (vpD rfl) dX3_filter_36 (fun s36 H locs e36 hw => ?_)
      replace hf := hf s36 e36
      refine lv_aload_n C.1 C.2.1 dX3_filter_37 rfl (lv_at hl 0 rfl) ?_
      refine mg_scalar C hw dX3_filter_38 ?_
      refine lv_iconst (v := 5) C.1 C.2.1 dX3_filter_41 rfl ?_
      refine g_iald C hw 2 rfl (vpD rfl) dX3_filter_42 ?_
      exact hret _ _ _ _ _ _ hf hw dX3_filter_43
    · replace hf := hf.1 h16
      refine lv_iconst (v := (-1)) C.1 C.2.1 dX3_filter_19 rfl ?_
      exact hret _ _ _ _ _ _ hf hw dX3_filter_20
def m_laysAhead_p110 (σ : St) (x1 : Int32) (x2 : Int32) (x3 : Int32) (x4 : Int32) (x5 : Int32) (x6 : Int32) (x7 : Int32) (Q : Unit → St → Prop) (K3 : St → Int32 → Prop) (K17 : St → Int32 → Prop) : Prop :=
  (vp_in ((13 * x5) + x6) 65 ∧ (zB x7 ∧ (∀ s124 : St, s124 = s_A σ 44 (Int32.toNatClampNeg ((13 * x5) + x6)) x7 → K17 s124 (x6 + 1))))
def m_laysAhead_p45 (σ : St) (x1 : Int32) (x2 : Int32) (x3 : Int32) (x4 : Int32) (x5 : Int32) (x6 : Int32) (Q : Unit → St → Prop) (K3 : St → Int32 → Prop) (K17 : St → Int32 → Prop) (K45 : Int32 → Int32 → Prop) (x7 : Int32) (x8 : Int32) : Prop :=
  ((x6 < x8 → (m_laysAhead_p110 σ x1 x2 x3 x4 x5 x6 x7 Q K3 K17)) ∧ (¬ x6 < x8 → ((x5 ≤ 0 → (m_laysAhead_p110 σ x1 x2 x3 x4 x5 x6 x7 Q K3 K17)) ∧ (¬ x5 ≤ 0 → ((x7 = 0 → (vp_in ((13 * (x5 - 1)) + x8) 65 ∧ (((gI σ 44 ((13 * (x5 - 1)) + x8)) = 0 → K45 0 (x8 + 1)) ∧ (¬ (gI σ 44 ((13 * (x5 - 1)) + x8)) = 0 → (m_canBe σ x1 x2 (x5 - 1) x8 x6 (fun r91 => ((r91 = 0 → K45 0 (x8 + 1)) ∧ (¬ r91 = 0 → K45 1 (x8 + 1))))))))) ∧ (¬ x7 = 0 → (m_laysAhead_p110 σ x1 x2 x3 x4 x5 x6 x7 Q K3 K17)))))))
def m_laysAhead_p17 (x1 : Int32) (x2 : Int32) (x3 : Int32) (x4 : Int32) (x5 : Int32) (Q : Unit → St → Prop) (K3 : St → Int32 → Prop) (K17 : St → Int32 → Prop) (σ : St) (x6 : Int32) : Prop :=
  ((x4 < x6 → K3 σ (x5 + 1)) ∧ (¬ x4 < x6 → ((x5 = 0 → ((x6 = x3 → (Lp2 (m_laysAhead_p45 σ x1 x2 x3 x4 x5 x6 Q K3 K17) 1 x3)) ∧ (¬ x6 = x3 → (Lp2 (m_laysAhead_p45 σ x1 x2 x3 x4 x5 x6 Q K3 K17) 0 x3)))) ∧ (¬ x5 = 0 → (Lp2 (m_laysAhead_p45 σ x1 x2 x3 x4 x5 x6 Q K3 K17) 0 x3)))))
def m_laysAhead_p3 (x1 : Int32) (x2 : Int32) (x3 : Int32) (x4 : Int32) (Q : Unit → St → Prop) (K3 : St → Int32 → Prop) (σ : St) (x5 : Int32) : Prop :=
  (vp_in x2 12 ∧ (((gI σ 4 x2) < x5 → Q () σ) ∧ (¬ (gI σ 4 x2) < x5 → (Lp2 (m_laysAhead_p17 x1 x2 x3 x4 x5 Q K3) σ x3))))
def m_laysAhead (σ : St) (x1 : Int32) (x2 : Int32) (x3 : Int32) (x4 : Int32) (Q : Unit → St → Prop) : Prop :=
  (Lp2 (m_laysAhead_p3 x1 x2 x3 x4 Q) σ 0)
abbrev rm_m_laysAhead : Room := { frames := 4, cells := 0, slots := 0, locals := 96 }
set_option maxHeartbeats 4000000 in
theorem met_m_laysAhead (l : Launch) (D : va_G) (ct : Ct) (ad : Nat → Nat) (hJ : gJ shM ad ct) (σ : St) (x1 : Int32) (x2 : Int32) (x3 : Int32) (x4 : Int32) (Q : Unit → St → Prop) (hf : m_laysAhead σ x1 x2 x3 x4 Q) : Met l yX3_laysAhead (ws_ yX3_laysAhead cX3_laysAhead 9 (none)) rm_m_laysAhead (va_Pc [.ref (ad 0), .int x1, .int x2, .int x3, .int x4] (gP D ct shM ad σ)) (gQ rvV D ct shM ad Q) 0 0 (gA shM ad) := by
  refine g_metV hJ (by decide) (Nat.le_of_ble_eq_true rfl) ?_
  intro p e s m args below meth c QQ ls C hw hl hret
  replace hl : lv_has ls 9 [(0, .ref (ad 0)), (1, .int x1), (2, .int x2), (3, .int x3), (4, .int x4)] := hl
  have J110 : ∀ (σ : St) (H : Heap) (locs : List Loc) (x1 : Int32) (x2 : Int32) (x3 : Int32) (x4 : Int32) (x5 : Int32) (x6 : Int32) (x7 : Int32) (K3 : St → Int32 → Prop) (_ : ∀ (σ : St) (H : Heap) (locs : List Loc) (x5 : Int32) (ls : Array Slot), K3 σ x5 → gH D ct shM ad s σ H locs → lv_has ls 9 [(0, .ref (ad 0)), (1, .int x1), (2, .int x2), (3, .int x3), (4, .int x4), (5, .int x5)] → W p l e rm_m_laysAhead s m args below meth c H locs 0 0 QQ (F0 m 3 ls [])) (K17 : St → Int32 → Prop) (_ : ∀ (σ : St) (H : Heap) (locs : List Loc) (x6 : Int32) (ls : Array Slot), K17 σ x6 → gH D ct shM ad s σ H locs → lv_has ls 9 [(0, .ref (ad 0)), (1, .int x1), (2, .int x2), (3, .int x3), (4, .int x4), (5, .int x5), (6, .int x6)] → W p l e rm_m_laysAhead s m args below meth c H locs 0 0 QQ (F0 m 17 ls [])) (ls : Array Slot), m_laysAhead_p110 σ x1 x2 x3 x4 x5 x6 x7 Q K3 K17 → gH D ct shM ad s σ H locs → lv_has ls 9 [(0, .ref (ad 0)), (1, .int x1), (2, .int x2), (3, .int x3), (4, .int x4), (5, .int x5), (6, .int x6), (7, .int x7)] → W p l e rm_m_laysAhead s m args below meth c H locs 0 0 QQ (F0 m 110 ls []) := by
    intro σ H locs x1 x2 x3 x4 x5 x6 x7 K3 hK3 K17 hK17 ls hf hw hl
    unfold m_laysAhead_p110 at hf
    refine lv_aload_n C.1 C.2.1 dX3_laysAhead_110 rfl (lv_at hl 0 rfl) ?_
    refine mg_ahead C hw dX3_laysAhead_111 ?_
    refine lv_bipush (v := 13) C.1 C.2.1 dX3_laysAhead_114 rfl ?_
    refine lv_iload C.1 C.2.1 dX3_laysAhead_116 (lv_at hl 5 rfl) ?_
    refine lv_imul C.1 C.2.1 dX3_laysAhead_118 ?_
    refine lv_iload C.1 C.2.1 dX3_laysAhead_119 (lv_at hl 6 rfl) ?_
    refine lv_iadd C.1 C.2.1 dX3_laysAhead_121 ?_
    refine lv_iload C.1 C.2.1 dX3_laysAhead_122 (lv_at hl 7 rfl) ?_
    obtain ⟨b124, hf⟩ := hf
    obtain ⟨hz124, hf⟩ := hf
    refine g_zast C shM_sep hw 44 rfl hz124 b124 dX3_laysAhead_124 (fun s124 H locs e124 hw => ?_)
    replace hf := hf s124 e124
    refine lv_iinc (v := (x6 + 1)) (lv' := [(6, .int (x6 + 1)), (0, .ref (ad 0)), (1, .int x1), (2, .int x2), (3, .int x3), (4, .int x4), (5, .int x5), (7, .int x7)]) C.1 C.2.1 dX3_laysAhead_125 hl (k := 6) rfl rfl (Nat.le_of_ble_eq_true rfl) rfl (fun ls hl => ?_)
    refine lv_goto (tgt := 17) C.1 C.2.1 dX3_laysAhead_128 (by decide) ?_
    exact hK17 _ _ _ _ _ hf hw (lv_sub hl [1, 2, 3, 4, 5, 6, 0] rfl)
  have B45 : ∀ (σ : St) (H : Heap) (locs : List Loc) (x1 : Int32) (x2 : Int32) (x3 : Int32) (x4 : Int32) (x5 : Int32) (x6 : Int32) (K3 : St → Int32 → Prop) (_ : ∀ (σ : St) (H : Heap) (locs : List Loc) (x5 : Int32) (ls : Array Slot), K3 σ x5 → gH D ct shM ad s σ H locs → lv_has ls 9 [(0, .ref (ad 0)), (1, .int x1), (2, .int x2), (3, .int x3), (4, .int x4), (5, .int x5)] → W p l e rm_m_laysAhead s m args below meth c H locs 0 0 QQ (F0 m 3 ls [])) (K17 : St → Int32 → Prop) (_ : ∀ (σ : St) (H : Heap) (locs : List Loc) (x6 : Int32) (ls : Array Slot), K17 σ x6 → gH D ct shM ad s σ H locs → lv_has ls 9 [(0, .ref (ad 0)), (1, .int x1), (2, .int x2), (3, .int x3), (4, .int x4), (5, .int x5), (6, .int x6)] → W p l e rm_m_laysAhead s m args below meth c H locs 0 0 QQ (F0 m 17 ls [])) (K45 : Int32 → Int32 → Prop) (_ : ∀ (x7 : Int32) (x8 : Int32) (ls : Array Slot), K45 x7 x8 → lv_has ls 9 [(0, .ref (ad 0)), (1, .int x1), (2, .int x2), (3, .int x3), (4, .int x4), (5, .int x5), (6, .int x6), (7, .int x7), (8, .int x8)] → W p l e rm_m_laysAhead s m args below meth c H locs 0 0 QQ (F0 m 45 ls [])) (x7 : Int32) (x8 : Int32) (ls : Array Slot), m_laysAhead_p45 σ x1 x2 x3 x4 x5 x6 Q K3 K17 K45 x7 x8 → gH D ct shM ad s σ H locs → lv_has ls 9 [(0, .ref (ad 0)), (1, .int x1), (2, .int x2), (3, .int x3), (4, .int x4), (5, .int x5), (6, .int x6), (7, .int x7), (8, .int x8)] → W p l e rm_m_laysAhead s m args below meth c H locs 0 0 QQ (F0 m 45 ls []) := by
    intro σ H locs x1 x2 x3 x4 x5 x6 K3 hK3 K17 hK17 K45 hK45 x7 x8 ls hf hw hl
    unfold m_laysAhead_p45 at hf
    refine lv_iload C.1 C.2.1 dX3_laysAhead_45 (lv_at hl 8 rfl) ?_
    refine lv_iload C.1 C.2.1 dX3_laysAhead_47 (lv_at hl 6 rfl) ?_
    refine lv_icmp_gt (tgt := 110) C.1 C.2.1 dX3_laysAhead_49 (by decide) (fun h49 => ?_) (fun h49 => ?_)
    · replace hf := hf.1 h49
      exact J110 _ _ _ _ _ _ _ _ _ _ _ hK3 _ hK17 _ hf hw (lv_sub hl [0, 1, 2, 3, 4, 5, 6, 7] rfl)
    · replace hf := hf.2 h49
      refine lv_iload C.1 C.2.1 dX3_laysAhead_52 (lv_at hl 5 rfl) ?_
      refine lv_if_le (tgt := 110) C.1 C.2.1 dX3_laysAhead_54 (by decide) (fun h54 => ?_) (fun h54 => ?_)
      · replace hf := hf.1 h54
        exact J110 _ _ _ _ _ _ _ _ _ _ _ hK3 _ hK17 _ hf hw (lv_sub hl [0, 1, 2, 3, 4, 5, 6, 7] rfl)
      · replace hf := hf.2 h54
        refine lv_iload C.1 C.2.1 dX3_laysAhead_57 (lv_at hl 7 rfl) ?_
        refine lv_if_ne (tgt := 110) C.1 C.2.1 dX3_laysAhead_59 (by decide) (fun h59 => ?_) (fun h59 => ?_)
        · replace hf := hf.2 h59
          exact J110 _ _ _ _ _ _ _ _ _ _ _ hK3 _ hK17 _ hf hw (lv_sub hl [0, 1, 2, 3, 4, 5, 6, 7] rfl)
        · replace hf := hf.1 h59
          refine lv_aload_n C.1 C.2.1 dX3_laysAhead_62 rfl (lv_at hl 0 rfl) ?_
          refine mg_ahead C hw dX3_laysAhead_63 ?_
          refine lv_bipush (v := 13) C.1 C.2.1 dX3_laysAhead_66 rfl ?_
          refine lv_iload C.1 C.2.1 dX3_laysAhead_68 (lv_at hl 5 rfl) ?_
          refine lv_iconst (v := 1) C.1 C.2.1 dX3_laysAhead_70 rfl ?_
          refine lv_isub C.1 C.2.1 dX3_laysAhead_71 ?_
          refine lv_imul C.1 C.2.1 dX3_laysAhead_72 ?_
          refine lv_iload C.1 C.2.1 dX3_laysAhead_73 (lv_at hl 8 rfl) ?_
          refine lv_iadd C.1 C.2.1 dX3_laysAhead_75 ?_
          obtain ⟨b76, hf⟩ := hf
          refine g_zald C hw 44 rfl b76 dX3_laysAhead_76 ?_
          refine lv_if_eq (tgt := 101) C.1 C.2.1 dX3_laysAhead_77 (by decide) (fun h77 => ?_) (fun h77 => ?_)
          · replace hf := hf.1 h77
            refine lv_iconst (v := 0) C.1 C.2.1 dX3_laysAhead_101 rfl ?_
            refine lv_istore (lv' := [(7, .int 0), (0, .ref (ad 0)), (1, .int x1), (2, .int x2), (3, .int x3), (4, .int x4), (5, .int x5), (6, .int x6), (8, .int x8)]) C.1 C.2.1 dX3_laysAhead_102 hl (Nat.le_of_ble_eq_true rfl) rfl (fun ls hl => ?_)
            refine lv_iinc (v := (x8 + 1)) (lv' := [(8, .int (x8 + 1)), (7, .int 0), (0, .ref (ad 0)), (1, .int x1), (2, .int x2), (3, .int x3), (4, .int x4), (5, .int x5), (6, .int x6)]) C.1 C.2.1 dX3_laysAhead_104 hl (k := 8) rfl rfl (Nat.le_of_ble_eq_true rfl) rfl (fun ls hl => ?_)
            refine lv_goto (tgt := 45) C.1 C.2.1 dX3_laysAhead_107 (by decide) ?_
            exact hK45 _ _ _ hf (lv_sub hl [2, 3, 4, 5, 6, 7, 8, 1, 0] rfl)
          · replace hf := hf.2 h77
            refine lv_aload_n C.1 C.2.1 dX3_laysAhead_80 rfl (lv_at hl 0 rfl) ?_
            refine lv_iload_n C.1 C.2.1 dX3_laysAhead_81 rfl (lv_at hl 1 rfl) ?_
            refine lv_iload_n C.1 C.2.1 dX3_laysAhead_82 rfl (lv_at hl 2 rfl) ?_
            refine lv_iload C.1 C.2.1 dX3_laysAhead_83 (lv_at hl 5 rfl) ?_
            refine lv_iconst (v := 1) C.1 C.2.1 dX3_laysAhead_85 rfl ?_
            refine lv_isub C.1 C.2.1 dX3_laysAhead_86 ?_
            refine lv_iload C.1 C.2.1 dX3_laysAhead_87 (lv_at hl 8 rfl) ?_
            refine lv_iload C.1 C.2.1 dX3_laysAhead_89 (lv_at hl 6 rfl) ?_
            refine km_canBe C hw hl.1 (Nat.le_of_ble_eq_true rfl) ⟨Nat.le_of_ble_eq_true rfl, Nat.le_of_ble_eq_true rfl⟩ dX3_laysAhead_91 hf (fun r91 hf => ?_)
            refine lv_if_eq (tgt := 101) C.1 C.2.1 dX3_laysAhead_94 (by decide) (fun h94 => ?_) (fun h94 => ?_)
            · replace hf := hf.1 h94
              refine lv_iconst (v := 0) C.1 C.2.1 dX3_laysAhead_101 rfl ?_
              refine lv_istore (lv' := [(7, .int 0), (0, .ref (ad 0)), (1, .int x1), (2, .int x2), (3, .int x3), (4, .int x4), (5, .int x5), (6, .int x6), (8, .int x8)]) C.1 C.2.1 dX3_laysAhead_102 hl (Nat.le_of_ble_eq_true rfl) rfl (fun ls hl => ?_)
              refine lv_iinc (v := (x8 + 1)) (lv' := [(8, .int (x8 + 1)), (7, .int 0), (0, .ref (ad 0)), (1, .int x1), (2, .int x2), (3, .int x3), (4, .int x4), (5, .int x5), (6, .int x6)]) C.1 C.2.1 dX3_laysAhead_104 hl (k := 8) rfl rfl (Nat.le_of_ble_eq_true rfl) rfl (fun ls hl => ?_)
              refine lv_goto (tgt := 45) C.1 C.2.1 dX3_laysAhead_107 (by decide) ?_
              exact hK45 _ _ _ hf (lv_sub hl [2, 3, 4, 5, 6, 7, 8, 1, 0] rfl)
            · replace hf := hf.2 h94
              refine lv_iconst (v := 1) C.1 C.2.1 dX3_laysAhead_97 rfl ?_
              refine lv_goto (tgt := 102) C.1 C.2.1 dX3_laysAhead_98 (by decide) ?_
              refine lv_istore (lv' := [(7, .int 1), (0, .ref (ad 0)), (1, .int x1), (2, .int x2), (3, .int x3), (4, .int x4), (5, .int x5), (6, .int x6), (8, .int x8)]) C.1 C.2.1 dX3_laysAhead_102 hl (Nat.le_of_ble_eq_true rfl) rfl (fun ls hl => ?_)
              refine lv_iinc (v := (x8 + 1)) (lv' := [(8, .int (x8 + 1)), (7, .int 1), (0, .ref (ad 0)), (1, .int x1), (2, .int x2), (3, .int x3), (4, .int x4), (5, .int x5), (6, .int x6)]) C.1 C.2.1 dX3_laysAhead_104 hl (k := 8) rfl rfl (Nat.le_of_ble_eq_true rfl) rfl (fun ls hl => ?_)
              refine lv_goto (tgt := 45) C.1 C.2.1 dX3_laysAhead_107 (by decide) ?_
              exact hK45 _ _ _ hf (lv_sub hl [2, 3, 4, 5, 6, 7, 8, 1, 0] rfl)
  have P45 : ∀ (σ : St) (H : Heap) (locs : List Loc) (x1 : Int32) (x2 : Int32) (x3 : Int32) (x4 : Int32) (x5 : Int32) (x6 : Int32) (K3 : St → Int32 → Prop) (_ : ∀ (σ : St) (H : Heap) (locs : List Loc) (x5 : Int32) (ls : Array Slot), K3 σ x5 → gH D ct shM ad s σ H locs → lv_has ls 9 [(0, .ref (ad 0)), (1, .int x1), (2, .int x2), (3, .int x3), (4, .int x4), (5, .int x5)] → W p l e rm_m_laysAhead s m args below meth c H locs 0 0 QQ (F0 m 3 ls [])) (K17 : St → Int32 → Prop) (_ : ∀ (σ : St) (H : Heap) (locs : List Loc) (x6 : Int32) (ls : Array Slot), K17 σ x6 → gH D ct shM ad s σ H locs → lv_has ls 9 [(0, .ref (ad 0)), (1, .int x1), (2, .int x2), (3, .int x3), (4, .int x4), (5, .int x5), (6, .int x6)] → W p l e rm_m_laysAhead s m args below meth c H locs 0 0 QQ (F0 m 17 ls [])) (n : Nat) (x7 : Int32) (x8 : Int32) (ls : Array Slot), LL2 (m_laysAhead_p45 σ x1 x2 x3 x4 x5 x6 Q K3 K17) n x7 x8 → gH D ct shM ad s σ H locs → lv_has ls 9 [(0, .ref (ad 0)), (1, .int x1), (2, .int x2), (3, .int x3), (4, .int x4), (5, .int x5), (6, .int x6), (7, .int x7), (8, .int x8)] → W p l e rm_m_laysAhead s m args below meth c H locs 0 0 QQ (F0 m 45 ls []) := by
    intro σ H locs x1 x2 x3 x4 x5 x6 K3 hK3 K17 hK17 n
    induction n with
    | zero => intro x7 x8 ls hf; exact False.elim hf
    | succ n ih => intro x7 x8 ls hf hw hl; exact B45 σ H locs x1 x2 x3 x4 x5 x6 K3 hK3 K17 hK17 (LL2 _ n) (fun x7 x8 ls hf hl => ih x7 x8 ls hf hw hl) x7 x8 ls hf hw hl
  have B17 : ∀ (x1 : Int32) (x2 : Int32) (x3 : Int32) (x4 : Int32) (x5 : Int32) (K3 : St → Int32 → Prop) (_ : ∀ (σ : St) (H : Heap) (locs : List Loc) (x5 : Int32) (ls : Array Slot), K3 σ x5 → gH D ct shM ad s σ H locs → lv_has ls 9 [(0, .ref (ad 0)), (1, .int x1), (2, .int x2), (3, .int x3), (4, .int x4), (5, .int x5)] → W p l e rm_m_laysAhead s m args below meth c H locs 0 0 QQ (F0 m 3 ls [])) (K17 : St → Int32 → Prop) (_ : ∀ (σ : St) (H : Heap) (locs : List Loc) (x6 : Int32) (ls : Array Slot), K17 σ x6 → gH D ct shM ad s σ H locs → lv_has ls 9 [(0, .ref (ad 0)), (1, .int x1), (2, .int x2), (3, .int x3), (4, .int x4), (5, .int x5), (6, .int x6)] → W p l e rm_m_laysAhead s m args below meth c H locs 0 0 QQ (F0 m 17 ls [])) (σ : St) (H : Heap) (locs : List Loc) (x6 : Int32) (ls : Array Slot), m_laysAhead_p17 x1 x2 x3 x4 x5 Q K3 K17 σ x6 → gH D ct shM ad s σ H locs → lv_has ls 9 [(0, .ref (ad 0)), (1, .int x1), (2, .int x2), (3, .int x3), (4, .int x4), (5, .int x5), (6, .int x6)] → W p l e rm_m_laysAhead s m args below meth c H locs 0 0 QQ (F0 m 17 ls []) := by
    intro x1 x2 x3 x4 x5 K3 hK3 K17 hK17 σ H locs x6 ls hf hw hl
    unfold m_laysAhead_p17 at hf
    refine lv_iload C.1 C.2.1 dX3_laysAhead_17 (lv_at hl 6 rfl) ?_
    refine lv_iload C.1 C.2.1 dX3_laysAhead_19 (lv_at hl 4 rfl) ?_
    refine lv_icmp_gt (tgt := 131) C.1 C.2.1 dX3_laysAhead_21 (by decide) (fun h21 => ?_) (fun h21 => ?_)
    · replace hf := hf.1 h21
      refine lv_iinc (v := (x5 + 1)) (lv' := [(5, .int (x5 + 1)), (0, .ref (ad 0)), (1, .int x1), (2, .int x2), (3, .int x3), (4, .int x4), (6, .int x6)]) C.1 C.2.1 dX3_laysAhead_131 hl (k := 5) rfl rfl (Nat.le_of_ble_eq_true rfl) rfl (fun ls hl => ?_)
      refine lv_goto (tgt := 3) C.1 C.2.1 dX3_laysAhead_134 (by decide) ?_
      exact hK3 _ _ _ _ _ hf hw (lv_sub hl [1, 2, 3, 4, 5, 0] rfl)
    · replace hf := hf.2 h21
      refine lv_iload C.1 C.2.1 dX3_laysAhead_24 (lv_at hl 5 rfl) ?_
      refine lv_if_ne (tgt := 39) C.1 C.2.1 dX3_laysAhead_26 (by decide) (fun h26 => ?_) (fun h26 => ?_)
      · replace hf := hf.2 h26
        refine lv_iconst (v := 0) C.1 C.2.1 dX3_laysAhead_39 rfl ?_
        refine lv_istore (lv' := [(7, .int 0), (0, .ref (ad 0)), (1, .int x1), (2, .int x2), (3, .int x3), (4, .int x4), (5, .int x5), (6, .int x6)]) C.1 C.2.1 dX3_laysAhead_40 hl (Nat.le_of_ble_eq_true rfl) rfl (fun ls hl => ?_)
        refine lv_iload_n C.1 C.2.1 dX3_laysAhead_42 rfl (lv_at hl 4 rfl) ?_
        refine lv_istore (lv' := [(8, .int x3), (7, .int 0), (0, .ref (ad 0)), (1, .int x1), (2, .int x2), (3, .int x3), (4, .int x4), (5, .int x5), (6, .int x6)]) C.1 C.2.1 dX3_laysAhead_43 hl (Nat.le_of_ble_eq_true rfl) rfl (fun ls hl => ?_)
        obtain ⟨n, hf⟩ := hf
        exact P45 _ _ _ _ _ _ _ _ _ _ hK3 _ hK17 n _ _ _ hf hw (lv_sub hl [2, 3, 4, 5, 6, 7, 8, 1, 0] rfl)
      · replace hf := hf.1 h26
        refine lv_iload C.1 C.2.1 dX3_laysAhead_29 (lv_at hl 6 rfl) ?_
        refine lv_iload_n C.1 C.2.1 dX3_laysAhead_31 rfl (lv_at hl 3 rfl) ?_
        refine lv_icmp_ne (tgt := 39) C.1 C.2.1 dX3_laysAhead_32 (by decide) (fun h32 => ?_) (fun h32 => ?_)
        · replace hf := hf.2 h32
          refine lv_iconst (v := 0) C.1 C.2.1 dX3_laysAhead_39 rfl ?_
          refine lv_istore (lv' := [(7, .int 0), (0, .ref (ad 0)), (1, .int x1), (2, .int x2), (3, .int x3), (4, .int x4), (5, .int x5), (6, .int x6)]) C.1 C.2.1 dX3_laysAhead_40 hl (Nat.le_of_ble_eq_true rfl) rfl (fun ls hl => ?_)
          refine lv_iload_n C.1 C.2.1 dX3_laysAhead_42 rfl (lv_at hl 4 rfl) ?_
          refine lv_istore (lv' := [(8, .int x3), (7, .int 0), (0, .ref (ad 0)), (1, .int x1), (2, .int x2), (3, .int x3), (4, .int x4), (5, .int x5), (6, .int x6)]) C.1 C.2.1 dX3_laysAhead_43 hl (Nat.le_of_ble_eq_true rfl) rfl (fun ls hl => ?_)
          obtain ⟨n, hf⟩ := hf
          exact P45 _ _ _ _ _ _ _ _ _ _ hK3 _ hK17 n _ _ _ hf hw (lv_sub hl [2, 3, 4, 5, 6, 7, 8, 1, 0] rfl)
        · replace hf := hf.1 h32
          refine lv_iconst (v := 1) C.1 C.2.1 dX3_laysAhead_35 rfl ?_
          refine lv_goto (tgt := 40) C.1 C.2.1 dX3_laysAhead_36 (by decide) ?_
          refine lv_istore (lv' := [(7, .int 1), (0, .ref (ad 0)), (1, .int x1), (2, .int x2), (3, .int x3), (4, .int x4), (5, .int x5), (6, .int x6)]) C.1 C.2.1 dX3_laysAhead_40 hl (Nat.le_of_ble_eq_true rfl) rfl (fun ls hl => ?_)
          refine lv_iload_n C.1 C.2.1 dX3_laysAhead_42 rfl (lv_at hl 4 rfl) ?_
          refine lv_istore (lv' := [(8, .int x3), (7, .int 1), (0, .ref (ad 0)), (1, .int x1), (2, .int x2), (3, .int x3), (4, .int x4), (5, .int x5), (6, .int x6)]) C.1 C.2.1 dX3_laysAhead_43 hl (Nat.le_of_ble_eq_true rfl) rfl (fun ls hl => ?_)
          obtain ⟨n, hf⟩ := hf
          exact P45 _ _ _ _ _ _ _ _ _ _ hK3 _ hK17 n _ _ _ hf hw (lv_sub hl [2, 3, 4, 5, 6, 7, 8, 1, 0] rfl)
  have P17 : ∀ (x1 : Int32) (x2 : Int32) (x3 : Int32) (x4 : Int32) (x5 : Int32) (K3 : St → Int32 → Prop) (_ : ∀ (σ : St) (H : Heap) (locs : List Loc) (x5 : Int32) (ls : Array Slot), K3 σ x5 → gH D ct shM ad s σ H locs → lv_has ls 9 [(0, .ref (ad 0)), (1, .int x1), (2, .int x2), (3, .int x3), (4, .int x4), (5, .int x5)] → W p l e rm_m_laysAhead s m args below meth c H locs 0 0 QQ (F0 m 3 ls [])) (n : Nat) (σ : St) (x6 : Int32) (ls : Array Slot) (H : Heap) (locs : List Loc), LL2 (m_laysAhead_p17 x1 x2 x3 x4 x5 Q K3) n σ x6 → gH D ct shM ad s σ H locs → lv_has ls 9 [(0, .ref (ad 0)), (1, .int x1), (2, .int x2), (3, .int x3), (4, .int x4), (5, .int x5), (6, .int x6)] → W p l e rm_m_laysAhead s m args below meth c H locs 0 0 QQ (F0 m 17 ls []) := by
    intro x1 x2 x3 x4 x5 K3 hK3 n
    induction n with
    | zero => intro σ x6 ls H locs hf; exact False.elim hf
    | succ n ih => intro σ x6 ls H locs hf hw hl; exact B17 x1 x2 x3 x4 x5 K3 hK3 (LL2 _ n) (fun σ H locs x6 ls hf hw hl => ih σ x6 ls H locs hf hw hl) σ H locs x6 ls hf hw hl
  have B3 : ∀ (x1 : Int32) (x2 : Int32) (x3 : Int32) (x4 : Int32) (K3 : St → Int32 → Prop) (_ : ∀ (σ : St) (H : Heap) (locs : List Loc) (x5 : Int32) (ls : Array Slot), K3 σ x5 → gH D ct shM ad s σ H locs → lv_has ls 9 [(0, .ref (ad 0)), (1, .int x1), (2, .int x2), (3, .int x3), (4, .int x4), (5, .int x5)] → W p l e rm_m_laysAhead s m args below meth c H locs 0 0 QQ (F0 m 3 ls [])) (σ : St) (H : Heap) (locs : List Loc) (x5 : Int32) (ls : Array Slot), m_laysAhead_p3 x1 x2 x3 x4 Q K3 σ x5 → gH D ct shM ad s σ H locs → lv_has ls 9 [(0, .ref (ad 0)), (1, .int x1), (2, .int x2), (3, .int x3), (4, .int x4), (5, .int x5)] → W p l e rm_m_laysAhead s m args below meth c H locs 0 0 QQ (F0 m 3 ls []) := by
    intro x1 x2 x3 x4 K3 hK3 σ H locs x5 ls hf hw hl
    unfold m_laysAhead_p3 at hf
    refine lv_iload C.1 C.2.1 dX3_laysAhead_3 (lv_at hl 5 rfl) ?_
    refine lv_aload_n C.1 C.2.1 dX3_laysAhead_5 rfl (lv_at hl 0 rfl) ?_
    refine mg_size C hw dX3_laysAhead_6 ?_
    refine lv_iload_n C.1 C.2.1 dX3_laysAhead_9 rfl (lv_at hl 2 rfl) ?_
    obtain ⟨b10, hf⟩ := hf
    refine g_iald C hw 4 rfl b10 dX3_laysAhead_10 ?_
    refine lv_icmp_gt (tgt := 137) C.1 C.2.1 dX3_laysAhead_11 (by decide) (fun h11 => ?_) (fun h11 => ?_)
    · replace hf := hf.1 h11
      exact hret _ _ _ _ _ _ hf hw dX3_laysAhead_137
    · replace hf := hf.2 h11
      refine lv_iload_n C.1 C.2.1 dX3_laysAhead_14 rfl (lv_at hl 3 rfl) ?_
      refine lv_istore (lv' := [(6, .int x3), (0, .ref (ad 0)), (1, .int x1), (2, .int x2), (3, .int x3), (4, .int x4), (5, .int x5)]) C.1 C.2.1 dX3_laysAhead_15 hl (Nat.le_of_ble_eq_true rfl) rfl (fun ls hl => ?_)
      obtain ⟨n, hf⟩ := hf
      exact P17 _ _ _ _ _ _ hK3 n _ _ _ _ _ hf hw (lv_sub hl [1, 2, 3, 4, 5, 6, 0] rfl)
  have P3 : ∀ (x1 : Int32) (x2 : Int32) (x3 : Int32) (x4 : Int32) (n : Nat) (σ : St) (x5 : Int32) (ls : Array Slot) (H : Heap) (locs : List Loc), LL2 (m_laysAhead_p3 x1 x2 x3 x4 Q) n σ x5 → gH D ct shM ad s σ H locs → lv_has ls 9 [(0, .ref (ad 0)), (1, .int x1), (2, .int x2), (3, .int x3), (4, .int x4), (5, .int x5)] → W p l e rm_m_laysAhead s m args below meth c H locs 0 0 QQ (F0 m 3 ls []) := by
    intro x1 x2 x3 x4 n
    induction n with
    | zero => intro σ x5 ls H locs hf; exact False.elim hf
    | succ n ih => intro σ x5 ls H locs hf hw hl; exact B3 x1 x2 x3 x4 (LL2 _ n) (fun σ H locs x5 ls hf hw hl => ih σ x5 ls H locs hf hw hl) σ H locs x5 ls hf hw hl
  unfold m_laysAhead at hf
  obtain ⟨H, hH⟩ : ∃ q, q = s.heap := ⟨_, rfl⟩
  obtain ⟨locs, hL⟩ : ∃ q : List Loc, q = [] := ⟨_, rfl⟩
  rw [← hH, ← hL] at hw ⊢
  refine lv_iconst (v := 0) C.1 C.2.1 dX3_laysAhead_0 rfl ?_
  refine lv_istore (lv' := [(5, .int 0), (0, .ref (ad 0)), (1, .int x1), (2, .int x2), (3, .int x3), (4, .int x4)]) C.1 C.2.1 dX3_laysAhead_1 hl (Nat.le_of_ble_eq_true rfl) rfl (fun ls hl => ?_)
  obtain ⟨n, hf⟩ := hf
  exact P3 _ _ _ _ n _ _ _ _ _ hf hw (lv_sub hl [1, 2, 3, 4, 5, 0] rfl)
theorem km_laysAhead {p : Program} {l : Launch} {e : Env} {R : Room} {s : State} {m : MethodId} {args : Array Value} {below : List Frame} {meth : Method} {c : Code} {H : Heap} {locs : List Loc} {Z : State → Prop} {cc : ByteArray} {nL pc : Nat} {ls : Array Slot} {rest : List Value} {D : va_G} {ct : Ct} {ad : Nat → Nat} {σ : St} {x1 : Int32} {x2 : Int32} {x3 : Int32} {x4 : Int32} {Qp : Unit → St → Prop} (C : CallFix p m c cc nL s args lw_all RX3) (hw : gH D ct shM ad s σ H locs) (hsz : ls.size = nL) (hrm : (rest.map fun v => v.category).sum ≤ 8) (hR : rm_m_laysAhead.frames + 1 ≤ R.frames ∧ 8 + (9 + 11) + rm_m_laysAhead.locals ≤ R.locals) (hdg : decode cc pc = .ok (.invokevirtual 430, 3)) (hf : m_laysAhead σ x1 x2 x3 x4 Qp) (kk : ∀ (r : Unit) (σ1 : St) (H1 : Heap) (locs1 : List Loc), Qp r σ1 → gH D ct shM ad s σ1 H1 locs1 → W p l e R s m args below meth c H1 locs1 0 0 Z (F0 m (pc + 3) ls (rest))) : W p l e R s m args below meth c H locs 0 0 Z (F0 m pc ls (.int x4 :: .int x3 :: .int x2 :: .int x1 :: .ref (ad 0) :: rest)) :=
  g_callV (As := [.int x1, .int x2, .int x3, .int x4]) (rest := rest) C hw rfl rfl (met_m_laysAhead l D ct ad hw.2.1 σ x1 x2 x3 x4 Qp hf) (cwV 4 C.2.2.2.2 (lw_V q1879 q1881 qs148 q207 q1882) rfl rfl rfl (by decide +kernel) hR) rfl hsz rfl hrm ⟨Nat.zero_le _, Nat.zero_le _⟩ hdg kk
def m_laysBehind_p118 (σ : St) (x1 : Int32) (x2 : Int32) (x3 : Int32) (x4 : Int32) (x5 : Int32) (x6 : Int32) (Q : Unit → St → Prop) (K8 : St → Int32 → Prop) (K16 : St → Int32 → Prop) : Prop :=
  (vp_in ((13 * x4) + x5) 65 ∧ (zB x6 ∧ (∀ s132 : St, s132 = s_A σ 45 (Int32.toNatClampNeg ((13 * x4) + x5)) x6 → K16 s132 (x5 + 1))))
def m_laysBehind_p50 (σ : St) (x1 : Int32) (x2 : Int32) (x3 : Int32) (x4 : Int32) (x5 : Int32) (Q : Unit → St → Prop) (K8 : St → Int32 → Prop) (K16 : St → Int32 → Prop) (K50 : Int32 → Int32 → Prop) (x6 : Int32) (x7 : Int32) : Prop :=
  ((x3 < x7 → (m_laysBehind_p118 σ x1 x2 x3 x4 x5 x6 Q K8 K16)) ∧ (¬ x3 < x7 → (vp_in x1 12 ∧ (((gI σ 4 x1) ≤ x4 → (m_laysBehind_p118 σ x1 x2 x3 x4 x5 x6 Q K8 K16)) ∧ (¬ (gI σ 4 x1) ≤ x4 → ((x6 = 0 → (m_canBe σ 1 x1 x4 x5 x7 (fun r81 => ((r81 = 0 → K50 0 (x7 + 1)) ∧ (¬ r81 = 0 → (vp_in ((13 * (x4 + 1)) + x7) 65 ∧ (((gI σ 45 ((13 * (x4 + 1)) + x7)) = 0 → K50 0 (x7 + 1)) ∧ (¬ (gI σ 45 ((13 * (x4 + 1)) + x7)) = 0 → K50 1 (x7 + 1))))))))) ∧ (¬ x6 = 0 → (m_laysBehind_p118 σ x1 x2 x3 x4 x5 x6 Q K8 K16))))))))
def m_laysBehind_p16 (x1 : Int32) (x2 : Int32) (x3 : Int32) (x4 : Int32) (Q : Unit → St → Prop) (K8 : St → Int32 → Prop) (K16 : St → Int32 → Prop) (σ : St) (x5 : Int32) : Prop :=
  ((x3 < x5 → K8 σ (x4 + (-1))) ∧ (¬ x3 < x5 → (vp_in x1 12 ∧ ((x4 = (gI σ 4 x1) → ((x5 = x3 → (Lp2 (m_laysBehind_p50 σ x1 x2 x3 x4 x5 Q K8 K16) 1 x5)) ∧ (¬ x5 = x3 → (Lp2 (m_laysBehind_p50 σ x1 x2 x3 x4 x5 Q K8 K16) 0 x5)))) ∧ (¬ x4 = (gI σ 4 x1) → (Lp2 (m_laysBehind_p50 σ x1 x2 x3 x4 x5 Q K8 K16) 0 x5))))))
def m_laysBehind_p8 (x1 : Int32) (x2 : Int32) (x3 : Int32) (Q : Unit → St → Prop) (K8 : St → Int32 → Prop) (σ : St) (x4 : Int32) : Prop :=
  ((x4 < 0 → Q () σ) ∧ (¬ x4 < 0 → (Lp2 (m_laysBehind_p16 x1 x2 x3 x4 Q K8) σ x2)))
def m_laysBehind (σ : St) (x1 : Int32) (x2 : Int32) (x3 : Int32) (Q : Unit → St → Prop) : Prop :=
  (vp_in x1 12 ∧ (Lp2 (m_laysBehind_p8 x1 x2 x3 Q) σ (gI σ 4 x1)))
abbrev rm_m_laysBehind : Room := { frames := 4, cells := 0, slots := 0, locals := 96 }
set_option maxHeartbeats 4000000 in
theorem met_m_laysBehind (l : Launch) (D : va_G) (ct : Ct) (ad : Nat → Nat) (hJ : gJ shM ad ct) (σ : St) (x1 : Int32) (x2 : Int32) (x3 : Int32) (Q : Unit → St → Prop) (hf : m_laysBehind σ x1 x2 x3 Q) : Met l yX3_laysBehind (ws_ yX3_laysBehind cX3_laysBehind 8 (none)) rm_m_laysBehind (va_Pc [.ref (ad 0), .int x1, .int x2, .int x3] (gP D ct shM ad σ)) (gQ rvV D ct shM ad Q) 0 0 (gA shM ad) := by
  refine g_metV hJ (by decide) (Nat.le_of_ble_eq_true rfl) ?_
  intro p e s m args below meth c QQ ls C hw hl hret
  replace hl : lv_has ls 8 [(0, .ref (ad 0)), (1, .int x1), (2, .int x2), (3, .int x3)] := hl
  have J118 : ∀ (σ : St) (H : Heap) (locs : List Loc) (x1 : Int32) (x2 : Int32) (x3 : Int32) (x4 : Int32) (x5 : Int32) (x6 : Int32) (K8 : St → Int32 → Prop) (_ : ∀ (σ : St) (H : Heap) (locs : List Loc) (x4 : Int32) (ls : Array Slot), K8 σ x4 → gH D ct shM ad s σ H locs → lv_has ls 8 [(0, .ref (ad 0)), (1, .int x1), (2, .int x2), (3, .int x3), (4, .int x4)] → W p l e rm_m_laysBehind s m args below meth c H locs 0 0 QQ (F0 m 8 ls [])) (K16 : St → Int32 → Prop) (_ : ∀ (σ : St) (H : Heap) (locs : List Loc) (x5 : Int32) (ls : Array Slot), K16 σ x5 → gH D ct shM ad s σ H locs → lv_has ls 8 [(0, .ref (ad 0)), (1, .int x1), (2, .int x2), (3, .int x3), (4, .int x4), (5, .int x5)] → W p l e rm_m_laysBehind s m args below meth c H locs 0 0 QQ (F0 m 16 ls [])) (ls : Array Slot), m_laysBehind_p118 σ x1 x2 x3 x4 x5 x6 Q K8 K16 → gH D ct shM ad s σ H locs → lv_has ls 8 [(0, .ref (ad 0)), (1, .int x1), (2, .int x2), (3, .int x3), (4, .int x4), (5, .int x5), (6, .int x6)] → W p l e rm_m_laysBehind s m args below meth c H locs 0 0 QQ (F0 m 118 ls []) := by
    intro σ H locs x1 x2 x3 x4 x5 x6 K8 hK8 K16 hK16 ls hf hw hl
    unfold m_laysBehind_p118 at hf
    refine lv_aload_n C.1 C.2.1 dX3_laysBehind_118 rfl (lv_at hl 0 rfl) ?_
    refine mg_behind C hw dX3_laysBehind_119 ?_
    refine lv_bipush (v := 13) C.1 C.2.1 dX3_laysBehind_122 rfl ?_
    refine lv_iload C.1 C.2.1 dX3_laysBehind_124 (lv_at hl 4 rfl) ?_
    refine lv_imul C.1 C.2.1 dX3_laysBehind_126 ?_
    refine lv_iload C.1 C.2.1 dX3_laysBehind_127 (lv_at hl 5 rfl) ?_
    refine lv_iadd C.1 C.2.1 dX3_laysBehind_129 ?_
    refine lv_iload C.1 C.2.1 dX3_laysBehind_130 (lv_at hl 6 rfl) ?_
    obtain ⟨b132, hf⟩ := hf
    obtain ⟨hz132, hf⟩ := hf
    refine g_zast C shM_sep hw 45 rfl hz132 b132 dX3_laysBehind_132 (fun s132 H locs e132 hw => ?_)
    replace hf := hf s132 e132
    refine lv_iinc (v := (x5 + 1)) (lv' := [(5, .int (x5 + 1)), (0, .ref (ad 0)), (1, .int x1), (2, .int x2), (3, .int x3), (4, .int x4), (6, .int x6)]) C.1 C.2.1 dX3_laysBehind_133 hl (k := 5) rfl rfl (Nat.le_of_ble_eq_true rfl) rfl (fun ls hl => ?_)
    refine lv_goto (tgt := 16) C.1 C.2.1 dX3_laysBehind_136 (by decide) ?_
    exact hK16 _ _ _ _ _ hf hw (lv_sub hl [1, 2, 3, 4, 5, 0] rfl)
  have B50 : ∀ (σ : St) (H : Heap) (locs : List Loc) (x1 : Int32) (x2 : Int32) (x3 : Int32) (x4 : Int32) (x5 : Int32) (K8 : St → Int32 → Prop) (_ : ∀ (σ : St) (H : Heap) (locs : List Loc) (x4 : Int32) (ls : Array Slot), K8 σ x4 → gH D ct shM ad s σ H locs → lv_has ls 8 [(0, .ref (ad 0)), (1, .int x1), (2, .int x2), (3, .int x3), (4, .int x4)] → W p l e rm_m_laysBehind s m args below meth c H locs 0 0 QQ (F0 m 8 ls [])) (K16 : St → Int32 → Prop) (_ : ∀ (σ : St) (H : Heap) (locs : List Loc) (x5 : Int32) (ls : Array Slot), K16 σ x5 → gH D ct shM ad s σ H locs → lv_has ls 8 [(0, .ref (ad 0)), (1, .int x1), (2, .int x2), (3, .int x3), (4, .int x4), (5, .int x5)] → W p l e rm_m_laysBehind s m args below meth c H locs 0 0 QQ (F0 m 16 ls [])) (K50 : Int32 → Int32 → Prop) (_ : ∀ (x6 : Int32) (x7 : Int32) (ls : Array Slot), K50 x6 x7 → lv_has ls 8 [(0, .ref (ad 0)), (1, .int x1), (2, .int x2), (3, .int x3), (4, .int x4), (5, .int x5), (6, .int x6), (7, .int x7)] → W p l e rm_m_laysBehind s m args below meth c H locs 0 0 QQ (F0 m 50 ls [])) (x6 : Int32) (x7 : Int32) (ls : Array Slot), m_laysBehind_p50 σ x1 x2 x3 x4 x5 Q K8 K16 K50 x6 x7 → gH D ct shM ad s σ H locs → lv_has ls 8 [(0, .ref (ad 0)), (1, .int x1), (2, .int x2), (3, .int x3), (4, .int x4), (5, .int x5), (6, .int x6), (7, .int x7)] → W p l e rm_m_laysBehind s m args below meth c H locs 0 0 QQ (F0 m 50 ls []) := by
    intro σ H locs x1 x2 x3 x4 x5 K8 hK8 K16 hK16 K50 hK50 x6 x7 ls hf hw hl
    unfold m_laysBehind_p50 at hf
    refine lv_iload C.1 C.2.1 dX3_laysBehind_50 (lv_at hl 7 rfl) ?_
    refine lv_iload_n C.1 C.2.1 dX3_laysBehind_52 rfl (lv_at hl 3 rfl) ?_
    refine lv_icmp_gt (tgt := 118) C.1 C.2.1 dX3_laysBehind_53 (by decide) (fun h53 => ?_) (fun h53 => ?_)
    · replace hf := hf.1 h53
      exact J118 _ _ _ _ _ _ _ _ _ _ hK8 _ hK16 _ hf hw (lv_sub hl [0, 1, 2, 3, 4, 5, 6] rfl)
    · replace hf := hf.2 h53
      refine lv_iload C.1 C.2.1 dX3_laysBehind_56 (lv_at hl 4 rfl) ?_
      refine lv_aload_n C.1 C.2.1 dX3_laysBehind_58 rfl (lv_at hl 0 rfl) ?_
      refine mg_size C hw dX3_laysBehind_59 ?_
      refine lv_iload_n C.1 C.2.1 dX3_laysBehind_62 rfl (lv_at hl 1 rfl) ?_
      obtain ⟨b63, hf⟩ := hf
      refine g_iald C hw 4 rfl b63 dX3_laysBehind_63 ?_
      refine lv_icmp_ge (tgt := 118) C.1 C.2.1 dX3_laysBehind_64 (by decide) (fun h64 => ?_) (fun h64 => ?_)
      · replace hf := hf.1 h64
        exact J118 _ _ _ _ _ _ _ _ _ _ hK8 _ hK16 _ hf hw (lv_sub hl [0, 1, 2, 3, 4, 5, 6] rfl)
      · replace hf := hf.2 h64
        refine lv_iload C.1 C.2.1 dX3_laysBehind_67 (lv_at hl 6 rfl) ?_
        refine lv_if_ne (tgt := 118) C.1 C.2.1 dX3_laysBehind_69 (by decide) (fun h69 => ?_) (fun h69 => ?_)
        · replace hf := hf.2 h69
          exact J118 _ _ _ _ _ _ _ _ _ _ hK8 _ hK16 _ hf hw (lv_sub hl [0, 1, 2, 3, 4, 5, 6] rfl)
        · replace hf := hf.1 h69
          refine lv_aload_n C.1 C.2.1 dX3_laysBehind_72 rfl (lv_at hl 0 rfl) ?_
          refine lv_iconst (v := 1) C.1 C.2.1 dX3_laysBehind_73 rfl ?_
          refine lv_iload_n C.1 C.2.1 dX3_laysBehind_74 rfl (lv_at hl 1 rfl) ?_
          refine lv_iload C.1 C.2.1 dX3_laysBehind_75 (lv_at hl 4 rfl) ?_
          refine lv_iload C.1 C.2.1 dX3_laysBehind_77 (lv_at hl 5 rfl) ?_
          refine lv_iload C.1 C.2.1 dX3_laysBehind_79 (lv_at hl 7 rfl) ?_
          refine km_canBe C hw hl.1 (Nat.le_of_ble_eq_true rfl) ⟨Nat.le_of_ble_eq_true rfl, Nat.le_of_ble_eq_true rfl⟩ dX3_laysBehind_81 hf (fun r81 hf => ?_)
          refine lv_if_eq (tgt := 109) C.1 C.2.1 dX3_laysBehind_84 (by decide) (fun h84 => ?_) (fun h84 => ?_)
          · replace hf := hf.1 h84
            refine lv_iconst (v := 0) C.1 C.2.1 dX3_laysBehind_109 rfl ?_
            refine lv_istore (lv' := [(6, .int 0), (0, .ref (ad 0)), (1, .int x1), (2, .int x2), (3, .int x3), (4, .int x4), (5, .int x5), (7, .int x7)]) C.1 C.2.1 dX3_laysBehind_110 hl (Nat.le_of_ble_eq_true rfl) rfl (fun ls hl => ?_)
            refine lv_iinc (v := (x7 + 1)) (lv' := [(7, .int (x7 + 1)), (6, .int 0), (0, .ref (ad 0)), (1, .int x1), (2, .int x2), (3, .int x3), (4, .int x4), (5, .int x5)]) C.1 C.2.1 dX3_laysBehind_112 hl (k := 7) rfl rfl (Nat.le_of_ble_eq_true rfl) rfl (fun ls hl => ?_)
            refine lv_goto (tgt := 50) C.1 C.2.1 dX3_laysBehind_115 (by decide) ?_
            exact hK50 _ _ _ hf (lv_sub hl [2, 3, 4, 5, 6, 7, 1, 0] rfl)
          · replace hf := hf.2 h84
            refine lv_aload_n C.1 C.2.1 dX3_laysBehind_87 rfl (lv_at hl 0 rfl) ?_
            refine mg_behind C hw dX3_laysBehind_88 ?_
            refine lv_bipush (v := 13) C.1 C.2.1 dX3_laysBehind_91 rfl ?_
            refine lv_iload C.1 C.2.1 dX3_laysBehind_93 (lv_at hl 4 rfl) ?_
            refine lv_iconst (v := 1) C.1 C.2.1 dX3_laysBehind_95 rfl ?_
            refine lv_iadd C.1 C.2.1 dX3_laysBehind_96 ?_
            refine lv_imul C.1 C.2.1 dX3_laysBehind_97 ?_
            refine lv_iload C.1 C.2.1 dX3_laysBehind_98 (lv_at hl 7 rfl) ?_
            refine lv_iadd C.1 C.2.1 dX3_laysBehind_100 ?_
            obtain ⟨b101, hf⟩ := hf
            refine g_zald C hw 45 rfl b101 dX3_laysBehind_101 ?_
            refine lv_if_eq (tgt := 109) C.1 C.2.1 dX3_laysBehind_102 (by decide) (fun h102 => ?_) (fun h102 => ?_)
            · replace hf := hf.1 h102
              refine lv_iconst (v := 0) C.1 C.2.1 dX3_laysBehind_109 rfl ?_
              refine lv_istore (lv' := [(6, .int 0), (0, .ref (ad 0)), (1, .int x1), (2, .int x2), (3, .int x3), (4, .int x4), (5, .int x5), (7, .int x7)]) C.1 C.2.1 dX3_laysBehind_110 hl (Nat.le_of_ble_eq_true rfl) rfl (fun ls hl => ?_)
              refine lv_iinc (v := (x7 + 1)) (lv' := [(7, .int (x7 + 1)), (6, .int 0), (0, .ref (ad 0)), (1, .int x1), (2, .int x2), (3, .int x3), (4, .int x4), (5, .int x5)]) C.1 C.2.1 dX3_laysBehind_112 hl (k := 7) rfl rfl (Nat.le_of_ble_eq_true rfl) rfl (fun ls hl => ?_)
              refine lv_goto (tgt := 50) C.1 C.2.1 dX3_laysBehind_115 (by decide) ?_
              exact hK50 _ _ _ hf (lv_sub hl [2, 3, 4, 5, 6, 7, 1, 0] rfl)
            · replace hf := hf.2 h102
              refine lv_iconst (v := 1) C.1 C.2.1 dX3_laysBehind_105 rfl ?_
              refine lv_goto (tgt := 110) C.1 C.2.1 dX3_laysBehind_106 (by decide) ?_
              refine lv_istore (lv' := [(6, .int 1), (0, .ref (ad 0)), (1, .int x1), (2, .int x2), (3, .int x3), (4, .int x4), (5, .int x5), (7, .int x7)]) C.1 C.2.1 dX3_laysBehind_110 hl (Nat.le_of_ble_eq_true rfl) rfl (fun ls hl => ?_)
              refine lv_iinc (v := (x7 + 1)) (lv' := [(7, .int (x7 + 1)), (6, .int 1), (0, .ref (ad 0)), (1, .int x1), (2, .int x2), (3, .int x3), (4, .int x4), (5, .int x5)]) C.1 C.2.1 dX3_laysBehind_112 hl (k := 7) rfl rfl (Nat.le_of_ble_eq_true rfl) rfl (fun ls hl => ?_)
              refine lv_goto (tgt := 50) C.1 C.2.1 dX3_laysBehind_115 (by decide) ?_
              exact hK50 _ _ _ hf (lv_sub hl [2, 3, 4, 5, 6, 7, 1, 0] rfl)
  have P50 : ∀ (σ : St) (H : Heap) (locs : List Loc) (x1 : Int32) (x2 : Int32) (x3 : Int32) (x4 : Int32) (x5 : Int32) (K8 : St → Int32 → Prop) (_ : ∀ (σ : St) (H : Heap) (locs : List Loc) (x4 : Int32) (ls : Array Slot), K8 σ x4 → gH D ct shM ad s σ H locs → lv_has ls 8 [(0, .ref (ad 0)), (1, .int x1), (2, .int x2), (3, .int x3), (4, .int x4)] → W p l e rm_m_laysBehind s m args below meth c H locs 0 0 QQ (F0 m 8 ls [])) (K16 : St → Int32 → Prop) (_ : ∀ (σ : St) (H : Heap) (locs : List Loc) (x5 : Int32) (ls : Array Slot), K16 σ x5 → gH D ct shM ad s σ H locs → lv_has ls 8 [(0, .ref (ad 0)), (1, .int x1), (2, .int x2), (3, .int x3), (4, .int x4), (5, .int x5)] → W p l e rm_m_laysBehind s m args below meth c H locs 0 0 QQ (F0 m 16 ls [])) (n : Nat) (x6 : Int32) (x7 : Int32) (ls : Array Slot), LL2 (m_laysBehind_p50 σ x1 x2 x3 x4 x5 Q K8 K16) n x6 x7 → gH D ct shM ad s σ H locs → lv_has ls 8 [(0, .ref (ad 0)), (1, .int x1), (2, .int x2), (3, .int x3), (4, .int x4), (5, .int x5), (6, .int x6), (7, .int x7)] → W p l e rm_m_laysBehind s m args below meth c H locs 0 0 QQ (F0 m 50 ls []) := by
    intro σ H locs x1 x2 x3 x4 x5 K8 hK8 K16 hK16 n
    induction n with
    | zero => intro x6 x7 ls hf; exact False.elim hf
    | succ n ih => intro x6 x7 ls hf hw hl; exact B50 σ H locs x1 x2 x3 x4 x5 K8 hK8 K16 hK16 (LL2 _ n) (fun x6 x7 ls hf hl => ih x6 x7 ls hf hw hl) x6 x7 ls hf hw hl
  have B16 : ∀ (x1 : Int32) (x2 : Int32) (x3 : Int32) (x4 : Int32) (K8 : St → Int32 → Prop) (_ : ∀ (σ : St) (H : Heap) (locs : List Loc) (x4 : Int32) (ls : Array Slot), K8 σ x4 → gH D ct shM ad s σ H locs → lv_has ls 8 [(0, .ref (ad 0)), (1, .int x1), (2, .int x2), (3, .int x3), (4, .int x4)] → W p l e rm_m_laysBehind s m args below meth c H locs 0 0 QQ (F0 m 8 ls [])) (K16 : St → Int32 → Prop) (_ : ∀ (σ : St) (H : Heap) (locs : List Loc) (x5 : Int32) (ls : Array Slot), K16 σ x5 → gH D ct shM ad s σ H locs → lv_has ls 8 [(0, .ref (ad 0)), (1, .int x1), (2, .int x2), (3, .int x3), (4, .int x4), (5, .int x5)] → W p l e rm_m_laysBehind s m args below meth c H locs 0 0 QQ (F0 m 16 ls [])) (σ : St) (H : Heap) (locs : List Loc) (x5 : Int32) (ls : Array Slot), m_laysBehind_p16 x1 x2 x3 x4 Q K8 K16 σ x5 → gH D ct shM ad s σ H locs → lv_has ls 8 [(0, .ref (ad 0)), (1, .int x1), (2, .int x2), (3, .int x3), (4, .int x4), (5, .int x5)] → W p l e rm_m_laysBehind s m args below meth c H locs 0 0 QQ (F0 m 16 ls []) := by
    intro x1 x2 x3 x4 K8 hK8 K16 hK16 σ H locs x5 ls hf hw hl
    unfold m_laysBehind_p16 at hf
    refine lv_iload C.1 C.2.1 dX3_laysBehind_16 (lv_at hl 5 rfl) ?_
    refine lv_iload_n C.1 C.2.1 dX3_laysBehind_18 rfl (lv_at hl 3 rfl) ?_
    refine lv_icmp_gt (tgt := 139) C.1 C.2.1 dX3_laysBehind_19 (by decide) (fun h19 => ?_) (fun h19 => ?_)
    · replace hf := hf.1 h19
      refine lv_iinc (v := (x4 + (-1))) (lv' := [(4, .int (x4 + (-1))), (0, .ref (ad 0)), (1, .int x1), (2, .int x2), (3, .int x3), (5, .int x5)]) C.1 C.2.1 dX3_laysBehind_139 hl (k := 4) rfl rfl (Nat.le_of_ble_eq_true rfl) rfl (fun ls hl => ?_)
      refine lv_goto (tgt := 8) C.1 C.2.1 dX3_laysBehind_142 (by decide) ?_
      exact hK8 _ _ _ _ _ hf hw (lv_sub hl [1, 2, 3, 4, 0] rfl)
    · replace hf := hf.2 h19
      refine lv_iload C.1 C.2.1 dX3_laysBehind_22 (lv_at hl 4 rfl) ?_
      refine lv_aload_n C.1 C.2.1 dX3_laysBehind_24 rfl (lv_at hl 0 rfl) ?_
      refine mg_size C hw dX3_laysBehind_25 ?_
      refine lv_iload_n C.1 C.2.1 dX3_laysBehind_28 rfl (lv_at hl 1 rfl) ?_
      obtain ⟨b29, hf⟩ := hf
      refine g_iald C hw 4 rfl b29 dX3_laysBehind_29 ?_
      refine lv_icmp_ne (tgt := 43) C.1 C.2.1 dX3_laysBehind_30 (by decide) (fun h30 => ?_) (fun h30 => ?_)
      · replace hf := hf.2 h30
        refine lv_iconst (v := 0) C.1 C.2.1 dX3_laysBehind_43 rfl ?_
        refine lv_istore (lv' := [(6, .int 0), (0, .ref (ad 0)), (1, .int x1), (2, .int x2), (3, .int x3), (4, .int x4), (5, .int x5)]) C.1 C.2.1 dX3_laysBehind_44 hl (Nat.le_of_ble_eq_true rfl) rfl (fun ls hl => ?_)
        refine lv_iload C.1 C.2.1 dX3_laysBehind_46 (lv_at hl 6 rfl) ?_
        refine lv_istore (lv' := [(7, .int x5), (6, .int 0), (0, .ref (ad 0)), (1, .int x1), (2, .int x2), (3, .int x3), (4, .int x4), (5, .int x5)]) C.1 C.2.1 dX3_laysBehind_48 hl (Nat.le_of_ble_eq_true rfl) rfl (fun ls hl => ?_)
        obtain ⟨n, hf⟩ := hf
        exact P50 _ _ _ _ _ _ _ _ _ hK8 _ hK16 n _ _ _ hf hw (lv_sub hl [2, 3, 4, 5, 6, 7, 1, 0] rfl)
      · replace hf := hf.1 h30
        refine lv_iload C.1 C.2.1 dX3_laysBehind_33 (lv_at hl 5 rfl) ?_
        refine lv_iload_n C.1 C.2.1 dX3_laysBehind_35 rfl (lv_at hl 3 rfl) ?_
        refine lv_icmp_ne (tgt := 43) C.1 C.2.1 dX3_laysBehind_36 (by decide) (fun h36 => ?_) (fun h36 => ?_)
        · replace hf := hf.2 h36
          refine lv_iconst (v := 0) C.1 C.2.1 dX3_laysBehind_43 rfl ?_
          refine lv_istore (lv' := [(6, .int 0), (0, .ref (ad 0)), (1, .int x1), (2, .int x2), (3, .int x3), (4, .int x4), (5, .int x5)]) C.1 C.2.1 dX3_laysBehind_44 hl (Nat.le_of_ble_eq_true rfl) rfl (fun ls hl => ?_)
          refine lv_iload C.1 C.2.1 dX3_laysBehind_46 (lv_at hl 6 rfl) ?_
          refine lv_istore (lv' := [(7, .int x5), (6, .int 0), (0, .ref (ad 0)), (1, .int x1), (2, .int x2), (3, .int x3), (4, .int x4), (5, .int x5)]) C.1 C.2.1 dX3_laysBehind_48 hl (Nat.le_of_ble_eq_true rfl) rfl (fun ls hl => ?_)
          obtain ⟨n, hf⟩ := hf
          exact P50 _ _ _ _ _ _ _ _ _ hK8 _ hK16 n _ _ _ hf hw (lv_sub hl [2, 3, 4, 5, 6, 7, 1, 0] rfl)
        · replace hf := hf.1 h36
          refine lv_iconst (v := 1) C.1 C.2.1 dX3_laysBehind_39 rfl ?_
          refine lv_goto (tgt := 44) C.1 C.2.1 dX3_laysBehind_40 (by decide) ?_
          refine lv_istore (lv' := [(6, .int 1), (0, .ref (ad 0)), (1, .int x1), (2, .int x2), (3, .int x3), (4, .int x4), (5, .int x5)]) C.1 C.2.1 dX3_laysBehind_44 hl (Nat.le_of_ble_eq_true rfl) rfl (fun ls hl => ?_)
          refine lv_iload C.1 C.2.1 dX3_laysBehind_46 (lv_at hl 6 rfl) ?_
          refine lv_istore (lv' := [(7, .int x5), (6, .int 1), (0, .ref (ad 0)), (1, .int x1), (2, .int x2), (3, .int x3), (4, .int x4), (5, .int x5)]) C.1 C.2.1 dX3_laysBehind_48 hl (Nat.le_of_ble_eq_true rfl) rfl (fun ls hl => ?_)
          obtain ⟨n, hf⟩ := hf
          exact P50 _ _ _ _ _ _ _ _ _ hK8 _ hK16 n _ _ _ hf hw (lv_sub hl [2, 3, 4, 5, 6, 7, 1, 0] rfl)
  have P16 : ∀ (x1 : Int32) (x2 : Int32) (x3 : Int32) (x4 : Int32) (K8 : St → Int32 → Prop) (_ : ∀ (σ : St) (H : Heap) (locs : List Loc) (x4 : Int32) (ls : Array Slot), K8 σ x4 → gH D ct shM ad s σ H locs → lv_has ls 8 [(0, .ref (ad 0)), (1, .int x1), (2, .int x2), (3, .int x3), (4, .int x4)] → W p l e rm_m_laysBehind s m args below meth c H locs 0 0 QQ (F0 m 8 ls [])) (n : Nat) (σ : St) (x5 : Int32) (ls : Array Slot) (H : Heap) (locs : List Loc), LL2 (m_laysBehind_p16 x1 x2 x3 x4 Q K8) n σ x5 → gH D ct shM ad s σ H locs → lv_has ls 8 [(0, .ref (ad 0)), (1, .int x1), (2, .int x2), (3, .int x3), (4, .int x4), (5, .int x5)] → W p l e rm_m_laysBehind s m args below meth c H locs 0 0 QQ (F0 m 16 ls []) := by
    intro x1 x2 x3 x4 K8 hK8 n
    induction n with
    | zero => intro σ x5 ls H locs hf; exact False.elim hf
    | succ n ih => intro σ x5 ls H locs hf hw hl; exact B16 x1 x2 x3 x4 K8 hK8 (LL2 _ n) (fun σ H locs x5 ls hf hw hl => ih σ x5 ls H locs hf hw hl) σ H locs x5 ls hf hw hl
  have B8 : ∀ (x1 : Int32) (x2 : Int32) (x3 : Int32) (K8 : St → Int32 → Prop) (_ : ∀ (σ : St) (H : Heap) (locs : List Loc) (x4 : Int32) (ls : Array Slot), K8 σ x4 → gH D ct shM ad s σ H locs → lv_has ls 8 [(0, .ref (ad 0)), (1, .int x1), (2, .int x2), (3, .int x3), (4, .int x4)] → W p l e rm_m_laysBehind s m args below meth c H locs 0 0 QQ (F0 m 8 ls [])) (σ : St) (H : Heap) (locs : List Loc) (x4 : Int32) (ls : Array Slot), m_laysBehind_p8 x1 x2 x3 Q K8 σ x4 → gH D ct shM ad s σ H locs → lv_has ls 8 [(0, .ref (ad 0)), (1, .int x1), (2, .int x2), (3, .int x3), (4, .int x4)] → W p l e rm_m_laysBehind s m args below meth c H locs 0 0 QQ (F0 m 8 ls []) := by
    intro x1 x2 x3 K8 hK8 σ H locs x4 ls hf hw hl
    unfold m_laysBehind_p8 at hf
    refine lv_iload C.1 C.2.1 dX3_laysBehind_8 (lv_at hl 4 rfl) ?_
    refine lv_if_lt (tgt := 145) C.1 C.2.1 dX3_laysBehind_10 (by decide) (fun h10 => ?_) (fun h10 => ?_)
    · replace hf := hf.1 h10
      exact hret _ _ _ _ _ _ hf hw dX3_laysBehind_145
    · replace hf := hf.2 h10
      refine lv_iload_n C.1 C.2.1 dX3_laysBehind_13 rfl (lv_at hl 2 rfl) ?_
      refine lv_istore (lv' := [(5, .int x2), (0, .ref (ad 0)), (1, .int x1), (2, .int x2), (3, .int x3), (4, .int x4)]) C.1 C.2.1 dX3_laysBehind_14 hl (Nat.le_of_ble_eq_true rfl) rfl (fun ls hl => ?_)
      obtain ⟨n, hf⟩ := hf
      exact P16 _ _ _ _ _ hK8 n _ _ _ _ _ hf hw (lv_sub hl [1, 2, 3, 4, 5, 0] rfl)
  have P8 : ∀ (x1 : Int32) (x2 : Int32) (x3 : Int32) (n : Nat) (σ : St) (x4 : Int32) (ls : Array Slot) (H : Heap) (locs : List Loc), LL2 (m_laysBehind_p8 x1 x2 x3 Q) n σ x4 → gH D ct shM ad s σ H locs → lv_has ls 8 [(0, .ref (ad 0)), (1, .int x1), (2, .int x2), (3, .int x3), (4, .int x4)] → W p l e rm_m_laysBehind s m args below meth c H locs 0 0 QQ (F0 m 8 ls []) := by
    intro x1 x2 x3 n
    induction n with
    | zero => intro σ x4 ls H locs hf; exact False.elim hf
    | succ n ih => intro σ x4 ls H locs hf hw hl; exact B8 x1 x2 x3 (LL2 _ n) (fun σ H locs x4 ls hf hw hl => ih σ x4 ls H locs hf hw hl) σ H locs x4 ls hf hw hl
  unfold m_laysBehind at hf
  obtain ⟨H, hH⟩ : ∃ q, q = s.heap := ⟨_, rfl⟩
  obtain ⟨locs, hL⟩ : ∃ q : List Loc, q = [] := ⟨_, rfl⟩
  rw [← hH, ← hL] at hw ⊢
  refine lv_aload_n C.1 C.2.1 dX3_laysBehind_0 rfl (lv_at hl 0 rfl) ?_
  refine mg_size C hw dX3_laysBehind_1 ?_
  refine lv_iload_n C.1 C.2.1 dX3_laysBehind_4 rfl (lv_at hl 1 rfl) ?_
  obtain ⟨b5, hf⟩ := hf
  refine g_iald C hw 4 rfl b5 dX3_laysBehind_5 ?_
  refine lv_istore (lv' := [(4, .int (gI σ 4 x1)), (0, .ref (ad 0)), (1, .int x1), (2, .int x2), (3, .int x3)]) C.1 C.2.1 dX3_laysBehind_6 hl (Nat.le_of_ble_eq_true rfl) rfl (fun ls hl => ?_)
  obtain ⟨n, hf⟩ := hf
  exact P8 _ _ _ n _ _ _ _ _ hf hw (lv_sub hl [1, 2, 3, 4, 0] rfl)
theorem km_laysBehind {p : Program} {l : Launch} {e : Env} {R : Room} {s : State} {m : MethodId} {args : Array Value} {below : List Frame} {meth : Method} {c : Code} {H : Heap} {locs : List Loc} {Z : State → Prop} {cc : ByteArray} {nL pc : Nat} {ls : Array Slot} {rest : List Value} {D : va_G} {ct : Ct} {ad : Nat → Nat} {σ : St} {x1 : Int32} {x2 : Int32} {x3 : Int32} {Qp : Unit → St → Prop} (C : CallFix p m c cc nL s args lw_all RX3) (hw : gH D ct shM ad s σ H locs) (hsz : ls.size = nL) (hrm : (rest.map fun v => v.category).sum ≤ 8) (hR : rm_m_laysBehind.frames + 1 ≤ R.frames ∧ 8 + (8 + 11) + rm_m_laysBehind.locals ≤ R.locals) (hdg : decode cc pc = .ok (.invokevirtual 499, 3)) (hf : m_laysBehind σ x1 x2 x3 Qp) (kk : ∀ (r : Unit) (σ1 : St) (H1 : Heap) (locs1 : List Loc), Qp r σ1 → gH D ct shM ad s σ1 H1 locs1 → W p l e R s m args below meth c H1 locs1 0 0 Z (F0 m (pc + 3) ls (rest))) : W p l e R s m args below meth c H locs 0 0 Z (F0 m pc ls (.int x3 :: .int x2 :: .int x1 :: .ref (ad 0) :: rest)) :=
  g_callV (As := [.int x1, .int x2, .int x3]) (rest := rest) C hw rfl rfl (met_m_laysBehind l D ct ad hw.2.1 σ x1 x2 x3 Qp hf) (cwV 3 C.2.2.2.2 (lw_V q2008 q2010 qs174 q207 q2011) rfl rfl rfl (by decide +kernel) hR) rfl hsz rfl hrm ⟨Nat.zero_le _, Nat.zero_le _⟩ hdg kk
def m_sameBelow_p97 (σ : St) (x1 : Int32) (x2 : Int32) (x3 : Int32) (x5 : Int32) (x6 : Int32) (Q : Int32 → Prop) (K6 : Int32 → Int32 → Prop) (K97 : Int32 → Int32 → Prop) (x4 : Int32) (x7 : Int32) : Prop :=
  (((gI σ 2 0) ≤ x7 → K6 x4 (x5 + 1)) ∧ (¬ (gI σ 2 0) ≤ x7 → ((x6 = 0 → K6 x4 (x5 + 1)) ∧ (¬ x6 = 0 → (vp_in (2028 + (fm_spot x7 x2 x3)) 4056 ∧ (((gI σ 43 (2028 + (fm_spot x7 x2 x3))) = 0 → K97 (x4 ||| 0) (x7 + 1)) ∧ (¬ (gI σ 43 (2028 + (fm_spot x7 x2 x3))) = 0 → (m_isBelow σ 1 x1 x5 x7 (fun r141 => ((r141 = 0 → K97 (x4 ||| 0) (x7 + 1)) ∧ (¬ r141 = 0 → K97 (x4 ||| (1 <<< (x7 &&& 31))) (x7 + 1))))))))))))
def m_sameBelow_p57 (σ : St) (x1 : Int32) (x2 : Int32) (x3 : Int32) (x4 : Int32) (x5 : Int32) (x7 : Int32) (Q : Int32 → Prop) (K6 : Int32 → Int32 → Prop) (K29 : Int32 → Int32 → Prop) (v0 : Int32) : Prop :=
  ((x7 = x5 → K29 1 (x7 + 1)) ∧ (¬ x7 = x5 → (m_canBe σ 1 x1 x7 v0 v0 (fun r75 => ((r75 = 0 → K29 0 (x7 + 1)) ∧ (¬ r75 = 0 → K29 1 (x7 + 1)))))))
def m_sameBelow_p29 (σ : St) (x1 : Int32) (x2 : Int32) (x3 : Int32) (x4 : Int32) (x5 : Int32) (Q : Int32 → Prop) (K6 : Int32 → Int32 → Prop) (K29 : Int32 → Int32 → Prop) (x6 : Int32) (x7 : Int32) : Prop :=
  (vp_in x1 12 ∧ (((gI σ 4 x1) ≤ x7 → (Lp2 (m_sameBelow_p97 σ x1 x2 x3 x5 x6 Q K6) x4 0)) ∧ (¬ (gI σ 4 x1) ≤ x7 → ((x6 = 0 → (Lp2 (m_sameBelow_p97 σ x1 x2 x3 x5 x6 Q K6) x4 0)) ∧ (¬ x6 = 0 → ((x5 ≤ x7 → (m_sameBelow_p57 σ x1 x2 x3 x4 x5 x7 Q K6 K29 x3)) ∧ (¬ x5 ≤ x7 → (m_sameBelow_p57 σ x1 x2 x3 x4 x5 x7 Q K6 K29 x2))))))))
def m_sameBelow_p6 (σ : St) (x1 : Int32) (x2 : Int32) (x3 : Int32) (Q : Int32 → Prop) (K6 : Int32 → Int32 → Prop) (x4 : Int32) (x5 : Int32) : Prop :=
  (vp_in x1 12 ∧ (((gI σ 4 x1) ≤ x5 → Q x4) ∧ (¬ (gI σ 4 x1) ≤ x5 → (m_isCapitalAt σ x1 x5 (fun r21 => (Lp2 (m_sameBelow_p29 σ x1 x2 x3 x4 x5 Q K6) r21 0))))))
def m_sameBelow (σ : St) (x1 : Int32) (x2 : Int32) (x3 : Int32) (Q : Int32 → Prop) : Prop :=
  (Lp2 (m_sameBelow_p6 σ x1 x2 x3 Q) 0 0)
abbrev rm_m_sameBelow : Room := { frames := 4, cells := 0, slots := 0, locals := 96 }
set_option maxHeartbeats 4000000 in
theorem met_m_sameBelow (l : Launch) (D : va_G) (ct : Ct) (ad : Nat → Nat) (hJ : gJ shM ad ct) (σ : St) (x1 : Int32) (x2 : Int32) (x3 : Int32) (Q : Int32 → Prop) (hf : m_sameBelow σ x1 x2 x3 Q) : Met l yX3_sameBelow (ws_ yX3_sameBelow cX3_sameBelow 9 (some .int)) rm_m_sameBelow (va_Pc [.ref (ad 0), .int x1, .int x2, .int x3] (gP D ct shM ad σ)) (gR rvI Q) 0 0 (fun _ => False) := by
  refine g_metRI hJ (by decide) (Nat.le_of_ble_eq_true rfl) ?_
  intro p e s m args below meth c QQ ls H C hw hl hret
  replace hl : lv_has ls 9 [(0, .ref (ad 0)), (1, .int x1), (2, .int x2), (3, .int x3)] := hl
  have B97 : ∀ (x1 : Int32) (x2 : Int32) (x3 : Int32) (x5 : Int32) (x6 : Int32) (K6 : Int32 → Int32 → Prop) (_ : ∀ (x4 : Int32) (x5 : Int32) (ls : Array Slot), K6 x4 x5 → lv_has ls 9 [(0, .ref (ad 0)), (1, .int x1), (2, .int x2), (3, .int x3), (4, .int x4), (5, .int x5)] → W p l e rm_m_sameBelow s m args below meth c H [] 0 0 QQ (F0 m 6 ls [])) (K97 : Int32 → Int32 → Prop) (_ : ∀ (x4 : Int32) (x7 : Int32) (ls : Array Slot), K97 x4 x7 → lv_has ls 9 [(0, .ref (ad 0)), (1, .int x1), (2, .int x2), (3, .int x3), (4, .int x4), (5, .int x5), (6, .int x6), (7, .int x7)] → W p l e rm_m_sameBelow s m args below meth c H [] 0 0 QQ (F0 m 97 ls [])) (x4 : Int32) (x7 : Int32) (ls : Array Slot), m_sameBelow_p97 σ x1 x2 x3 x5 x6 Q K6 K97 x4 x7 → lv_has ls 9 [(0, .ref (ad 0)), (1, .int x1), (2, .int x2), (3, .int x3), (4, .int x4), (5, .int x5), (6, .int x6), (7, .int x7)] → W p l e rm_m_sameBelow s m args below meth c H [] 0 0 QQ (F0 m 97 ls []) := by
    intro x1 x2 x3 x5 x6 K6 hK6 K97 hK97 x4 x7 ls hf hl
    unfold m_sameBelow_p97 at hf
    refine lv_iload C.1 C.2.1 dX3_sameBelow_97 (lv_at hl 7 rfl) ?_
    refine lv_aload_n C.1 C.2.1 dX3_sameBelow_99 rfl (lv_at hl 0 rfl) ?_
    refine mg_scalar C hw dX3_sameBelow_100 ?_
    refine lv_iconst (v := 0) C.1 C.2.1 dX3_sameBelow_103 rfl ?_
    refine g_iald C hw 2 rfl (vpD rfl) dX3_sameBelow_104 ?_
    refine lv_icmp_ge (tgt := 164) C.1 C.2.1 dX3_sameBelow_105 (by decide) (fun h105 => ?_) (fun h105 => ?_)
    · replace hf := hf.1 h105
      refine lv_iinc (v := (x5 + 1)) (lv' := [(5, .int (x5 + 1)), (0, .ref (ad 0)), (1, .int x1), (2, .int x2), (3, .int x3), (4, .int x4), (6, .int x6), (7, .int x7)]) C.1 C.2.1 dX3_sameBelow_164 hl (k := 5) rfl rfl (Nat.le_of_ble_eq_true rfl) rfl (fun ls hl => ?_)
      refine lv_goto (tgt := 6) C.1 C.2.1 dX3_sameBelow_167 (by decide) ?_
      exact hK6 _ _ _ hf (lv_sub hl [1, 2, 3, 4, 5, 0] rfl)
    · replace hf := hf.2 h105
      refine lv_iload C.1 C.2.1 dX3_sameBelow_108 (lv_at hl 6 rfl) ?_
      refine lv_if_eq (tgt := 164) C.1 C.2.1 dX3_sameBelow_110 (by decide) (fun h110 => ?_) (fun h110 => ?_)
      · replace hf := hf.1 h110
        refine lv_iinc (v := (x5 + 1)) (lv' := [(5, .int (x5 + 1)), (0, .ref (ad 0)), (1, .int x1), (2, .int x2), (3, .int x3), (4, .int x4), (6, .int x6), (7, .int x7)]) C.1 C.2.1 dX3_sameBelow_164 hl (k := 5) rfl rfl (Nat.le_of_ble_eq_true rfl) rfl (fun ls hl => ?_)
        refine lv_goto (tgt := 6) C.1 C.2.1 dX3_sameBelow_167 (by decide) ?_
        exact hK6 _ _ _ hf (lv_sub hl [1, 2, 3, 4, 5, 0] rfl)
      · replace hf := hf.2 h110
        refine lv_iload C.1 C.2.1 dX3_sameBelow_113 (lv_at hl 4 rfl) ?_
        refine lv_aload_n C.1 C.2.1 dX3_sameBelow_115 rfl (lv_at hl 0 rfl) ?_
        refine mg_made C hw dX3_sameBelow_116 ?_
        refine lv_sipush (v := 2028) C.1 C.2.1 dX3_sameBelow_119 rfl ?_
        refine lv_iload C.1 C.2.1 dX3_sameBelow_122 (lv_at hl 7 rfl) ?_
        refine lv_iload_n C.1 C.2.1 dX3_sameBelow_124 rfl (lv_at hl 2 rfl) ?_
        refine lv_iload_n C.1 C.2.1 dX3_sameBelow_125 rfl (lv_at hl 3 rfl) ?_
        refine km_spot C hl.1 (Nat.le_of_ble_eq_true rfl) ⟨Nat.le_of_ble_eq_true rfl, Nat.le_of_ble_eq_true rfl⟩ dX3_sameBelow_126 ?_
        refine lv_iadd C.1 C.2.1 dX3_sameBelow_129 ?_
        obtain ⟨b130, hf⟩ := hf
        refine g_zald C hw 43 rfl b130 dX3_sameBelow_130 ?_
        refine lv_if_eq (tgt := 154) C.1 C.2.1 dX3_sameBelow_131 (by decide) (fun h131 => ?_) (fun h131 => ?_)
        · replace hf := hf.1 h131
          refine lv_iconst (v := 0) C.1 C.2.1 dX3_sameBelow_154 rfl ?_
          refine lv_ior C.1 C.2.1 dX3_sameBelow_155 ?_
          refine lv_istore (lv' := [(4, .int (x4 ||| 0)), (0, .ref (ad 0)), (1, .int x1), (2, .int x2), (3, .int x3), (5, .int x5), (6, .int x6), (7, .int x7)]) C.1 C.2.1 dX3_sameBelow_156 hl (Nat.le_of_ble_eq_true rfl) rfl (fun ls hl => ?_)
          refine lv_iinc (v := (x7 + 1)) (lv' := [(7, .int (x7 + 1)), (4, .int (x4 ||| 0)), (0, .ref (ad 0)), (1, .int x1), (2, .int x2), (3, .int x3), (5, .int x5), (6, .int x6)]) C.1 C.2.1 dX3_sameBelow_158 hl (k := 7) rfl rfl (Nat.le_of_ble_eq_true rfl) rfl (fun ls hl => ?_)
          refine lv_goto (tgt := 97) C.1 C.2.1 dX3_sameBelow_161 (by decide) ?_
          exact hK97 _ _ _ hf (lv_sub hl [2, 3, 4, 5, 1, 6, 7, 0] rfl)
        · replace hf := hf.2 h131
          refine lv_aload_n C.1 C.2.1 dX3_sameBelow_134 rfl (lv_at hl 0 rfl) ?_
          refine lv_iconst (v := 1) C.1 C.2.1 dX3_sameBelow_135 rfl ?_
          refine lv_iload_n C.1 C.2.1 dX3_sameBelow_136 rfl (lv_at hl 1 rfl) ?_
          refine lv_iload C.1 C.2.1 dX3_sameBelow_137 (lv_at hl 5 rfl) ?_
          refine lv_iload C.1 C.2.1 dX3_sameBelow_139 (lv_at hl 7 rfl) ?_
          refine km_isBelow C hw hl.1 (Nat.le_of_ble_eq_true rfl) ⟨Nat.le_of_ble_eq_true rfl, Nat.le_of_ble_eq_true rfl⟩ dX3_sameBelow_141 hf (fun r141 hf => ?_)
          refine lv_if_eq (tgt := 154) C.1 C.2.1 dX3_sameBelow_144 (by decide) (fun h144 => ?_) (fun h144 => ?_)
          · replace hf := hf.1 h144
            refine lv_iconst (v := 0) C.1 C.2.1 dX3_sameBelow_154 rfl ?_
            refine lv_ior C.1 C.2.1 dX3_sameBelow_155 ?_
            refine lv_istore (lv' := [(4, .int (x4 ||| 0)), (0, .ref (ad 0)), (1, .int x1), (2, .int x2), (3, .int x3), (5, .int x5), (6, .int x6), (7, .int x7)]) C.1 C.2.1 dX3_sameBelow_156 hl (Nat.le_of_ble_eq_true rfl) rfl (fun ls hl => ?_)
            refine lv_iinc (v := (x7 + 1)) (lv' := [(7, .int (x7 + 1)), (4, .int (x4 ||| 0)), (0, .ref (ad 0)), (1, .int x1), (2, .int x2), (3, .int x3), (5, .int x5), (6, .int x6)]) C.1 C.2.1 dX3_sameBelow_158 hl (k := 7) rfl rfl (Nat.le_of_ble_eq_true rfl) rfl (fun ls hl => ?_)
            refine lv_goto (tgt := 97) C.1 C.2.1 dX3_sameBelow_161 (by decide) ?_
            exact hK97 _ _ _ hf (lv_sub hl [2, 3, 4, 5, 1, 6, 7, 0] rfl)
          · replace hf := hf.2 h144
            refine lv_iconst (v := 1) C.1 C.2.1 dX3_sameBelow_147 rfl ?_
            refine lv_iload C.1 C.2.1 dX3_sameBelow_148 (lv_at hl 7 rfl) ?_
            refine lv_ishl C.1 C.2.1 dX3_sameBelow_150 ?_
            refine lv_goto (tgt := 155) C.1 C.2.1 dX3_sameBelow_151 (by decide) ?_
            refine lv_ior C.1 C.2.1 dX3_sameBelow_155 ?_
            refine lv_istore (lv' := [(4, .int (x4 ||| (1 <<< (x7 &&& 31)))), (0, .ref (ad 0)), (1, .int x1), (2, .int x2), (3, .int x3), (5, .int x5), (6, .int x6), (7, .int x7)]) C.1 C.2.1 dX3_sameBelow_156 hl (Nat.le_of_ble_eq_true rfl) rfl (fun ls hl => ?_)
            refine lv_iinc (v := (x7 + 1)) (lv' := [(7, .int (x7 + 1)), (4, .int (x4 ||| (1 <<< (x7 &&& 31)))), (0, .ref (ad 0)), (1, .int x1), (2, .int x2), (3, .int x3), (5, .int x5), (6, .int x6)]) C.1 C.2.1 dX3_sameBelow_158 hl (k := 7) rfl rfl (Nat.le_of_ble_eq_true rfl) rfl (fun ls hl => ?_)
            refine lv_goto (tgt := 97) C.1 C.2.1 dX3_sameBelow_161 (by decide) ?_
            exact hK97 _ _ _ hf (lv_sub hl [2, 3, 4, 5, 1, 6, 7, 0] rfl)
  have P97 : ∀ (x1 : Int32) (x2 : Int32) (x3 : Int32) (x5 : Int32) (x6 : Int32) (K6 : Int32 → Int32 → Prop) (_ : ∀ (x4 : Int32) (x5 : Int32) (ls : Array Slot), K6 x4 x5 → lv_has ls 9 [(0, .ref (ad 0)), (1, .int x1), (2, .int x2), (3, .int x3), (4, .int x4), (5, .int x5)] → W p l e rm_m_sameBelow s m args below meth c H [] 0 0 QQ (F0 m 6 ls [])) (n : Nat) (x4 : Int32) (x7 : Int32) (ls : Array Slot), LL2 (m_sameBelow_p97 σ x1 x2 x3 x5 x6 Q K6) n x4 x7 → lv_has ls 9 [(0, .ref (ad 0)), (1, .int x1), (2, .int x2), (3, .int x3), (4, .int x4), (5, .int x5), (6, .int x6), (7, .int x7)] → W p l e rm_m_sameBelow s m args below meth c H [] 0 0 QQ (F0 m 97 ls []) := by
    intro x1 x2 x3 x5 x6 K6 hK6 n
    induction n with
    | zero => intro x4 x7 ls hf; exact False.elim hf
    | succ n ih => intro x4 x7 ls hf hl; exact B97 x1 x2 x3 x5 x6 K6 hK6 (LL2 _ n) ih x4 x7 ls hf hl
  have J57 : ∀ (x1 : Int32) (x2 : Int32) (x3 : Int32) (x4 : Int32) (x5 : Int32) (x7 : Int32) (v0 : Int32) (K6 : Int32 → Int32 → Prop) (_ : ∀ (x4 : Int32) (x5 : Int32) (ls : Array Slot), K6 x4 x5 → lv_has ls 9 [(0, .ref (ad 0)), (1, .int x1), (2, .int x2), (3, .int x3), (4, .int x4), (5, .int x5)] → W p l e rm_m_sameBelow s m args below meth c H [] 0 0 QQ (F0 m 6 ls [])) (K29 : Int32 → Int32 → Prop) (_ : ∀ (x6 : Int32) (x7 : Int32) (ls : Array Slot), K29 x6 x7 → lv_has ls 9 [(0, .ref (ad 0)), (1, .int x1), (2, .int x2), (3, .int x3), (4, .int x4), (5, .int x5), (6, .int x6), (7, .int x7)] → W p l e rm_m_sameBelow s m args below meth c H [] 0 0 QQ (F0 m 29 ls [])) (ls : Array Slot), m_sameBelow_p57 σ x1 x2 x3 x4 x5 x7 Q K6 K29 v0 → lv_has ls 9 [(0, .ref (ad 0)), (1, .int x1), (2, .int x2), (3, .int x3), (4, .int x4), (5, .int x5), (7, .int x7)] → W p l e rm_m_sameBelow s m args below meth c H [] 0 0 QQ (F0 m 57 ls [.int v0]) := by
    intro x1 x2 x3 x4 x5 x7 v0 K6 hK6 K29 hK29 ls hf hl
    unfold m_sameBelow_p57 at hf
    refine lv_istore (lv' := [(8, .int v0), (0, .ref (ad 0)), (1, .int x1), (2, .int x2), (3, .int x3), (4, .int x4), (5, .int x5), (7, .int x7)]) C.1 C.2.1 dX3_sameBelow_57 hl (Nat.le_of_ble_eq_true rfl) rfl (fun ls hl => ?_)
    refine lv_iload C.1 C.2.1 dX3_sameBelow_59 (lv_at hl 7 rfl) ?_
    refine lv_iload C.1 C.2.1 dX3_sameBelow_61 (lv_at hl 6 rfl) ?_
    refine lv_icmp_eq (tgt := 81) C.1 C.2.1 dX3_sameBelow_63 (by decide) (fun h63 => ?_) (fun h63 => ?_)
    · replace hf := hf.1 h63
      refine lv_iconst (v := 1) C.1 C.2.1 dX3_sameBelow_81 rfl ?_
      refine lv_goto (tgt := 86) C.1 C.2.1 dX3_sameBelow_82 (by decide) ?_
      refine lv_istore (lv' := [(6, .int 1), (8, .int v0), (0, .ref (ad 0)), (1, .int x1), (2, .int x2), (3, .int x3), (4, .int x4), (5, .int x5), (7, .int x7)]) C.1 C.2.1 dX3_sameBelow_86 hl (Nat.le_of_ble_eq_true rfl) rfl (fun ls hl => ?_)
      refine lv_iinc (v := (x7 + 1)) (lv' := [(7, .int (x7 + 1)), (6, .int 1), (8, .int v0), (0, .ref (ad 0)), (1, .int x1), (2, .int x2), (3, .int x3), (4, .int x4), (5, .int x5)]) C.1 C.2.1 dX3_sameBelow_88 hl (k := 8) rfl rfl (Nat.le_of_ble_eq_true rfl) rfl (fun ls hl => ?_)
      refine lv_goto (tgt := 29) C.1 C.2.1 dX3_sameBelow_91 (by decide) ?_
      exact hK29 _ _ _ hf (lv_sub hl [3, 4, 5, 6, 7, 8, 1, 0] rfl)
    · replace hf := hf.2 h63
      refine lv_aload_n C.1 C.2.1 dX3_sameBelow_66 rfl (lv_at hl 1 rfl) ?_
      refine lv_iconst (v := 1) C.1 C.2.1 dX3_sameBelow_67 rfl ?_
      refine lv_iload_n C.1 C.2.1 dX3_sameBelow_68 rfl (lv_at hl 2 rfl) ?_
      refine lv_iload C.1 C.2.1 dX3_sameBelow_69 (lv_at hl 7 rfl) ?_
      refine lv_iload C.1 C.2.1 dX3_sameBelow_71 (lv_at hl 0 rfl) ?_
      refine lv_iload C.1 C.2.1 dX3_sameBelow_73 (lv_at hl 0 rfl) ?_
      refine km_canBe C hw hl.1 (Nat.le_of_ble_eq_true rfl) ⟨Nat.le_of_ble_eq_true rfl, Nat.le_of_ble_eq_true rfl⟩ dX3_sameBelow_75 hf (fun r75 hf => ?_)
      refine lv_if_eq (tgt := 85) C.1 C.2.1 dX3_sameBelow_78 (by decide) (fun h78 => ?_) (fun h78 => ?_)
      · replace hf := hf.1 h78
        refine lv_iconst (v := 0) C.1 C.2.1 dX3_sameBelow_85 rfl ?_
        refine lv_istore (lv' := [(6, .int 0), (8, .int v0), (0, .ref (ad 0)), (1, .int x1), (2, .int x2), (3, .int x3), (4, .int x4), (5, .int x5), (7, .int x7)]) C.1 C.2.1 dX3_sameBelow_86 hl (Nat.le_of_ble_eq_true rfl) rfl (fun ls hl => ?_)
        refine lv_iinc (v := (x7 + 1)) (lv' := [(7, .int (x7 + 1)), (6, .int 0), (8, .int v0), (0, .ref (ad 0)), (1, .int x1), (2, .int x2), (3, .int x3), (4, .int x4), (5, .int x5)]) C.1 C.2.1 dX3_sameBelow_88 hl (k := 8) rfl rfl (Nat.le_of_ble_eq_true rfl) rfl (fun ls hl => ?_)
        refine lv_goto (tgt := 29) C.1 C.2.1 dX3_sameBelow_91 (by decide) ?_
        exact hK29 _ _ _ hf (lv_sub hl [3, 4, 5, 6, 7, 8, 1, 0] rfl)
      · replace hf := hf.2 h78
        refine lv_iconst (v := 1) C.1 C.2.1 dX3_sameBelow_81 rfl ?_
        refine lv_goto (tgt := 86) C.1 C.2.1 dX3_sameBelow_82 (by decide) ?_
        refine lv_istore (lv' := [(6, .int 1), (8, .int v0), (0, .ref (ad 0)), (1, .int x1), (2, .int x2), (3, .int x3), (4, .int x4), (5, .int x5), (7, .int x7)]) C.1 C.2.1 dX3_sameBelow_86 hl (Nat.le_of_ble_eq_true rfl) rfl (fun ls hl => ?_)
        refine lv_iinc (v := (x7 + 1)) (lv' := [(7, .int (x7 + 1)), (6, .int 1), (8, .int v0), (0, .ref (ad 0)), (1, .int x1), (2, .int x2), (3, .int x3), (4, .int x4), (5, .int x5)]) C.1 C.2.1 dX3_sameBelow_88 hl (k := 8) rfl rfl (Nat.le_of_ble_eq_true rfl) rfl (fun ls hl => ?_)
        refine lv_goto (tgt := 29) C.1 C.2.1 dX3_sameBelow_91 (by decide) ?_
        exact hK29 _ _ _ hf (lv_sub hl [3, 4, 5, 6, 7, 8, 1, 0] rfl)
  have B29 : ∀ (x1 : Int32) (x2 : Int32) (x3 : Int32) (x4 : Int32) (x5 : Int32) (K6 : Int32 → Int32 → Prop) (_ : ∀ (x4 : Int32) (x5 : Int32) (ls : Array Slot), K6 x4 x5 → lv_has ls 9 [(0, .ref (ad 0)), (1, .int x1), (2, .int x2), (3, .int x3), (4, .int x4), (5, .int x5)] → W p l e rm_m_sameBelow s m args below meth c H [] 0 0 QQ (F0 m 6 ls [])) (K29 : Int32 → Int32 → Prop) (_ : ∀ (x6 : Int32) (x7 : Int32) (ls : Array Slot), K29 x6 x7 → lv_has ls 9 [(0, .ref (ad 0)), (1, .int x1), (2, .int x2), (3, .int x3), (4, .int x4), (5, .int x5), (6, .int x6), (7, .int x7)] → W p l e rm_m_sameBelow s m args below meth c H [] 0 0 QQ (F0 m 29 ls [])) (x6 : Int32) (x7 : Int32) (ls : Array Slot), m_sameBelow_p29 σ x1 x2 x3 x4 x5 Q K6 K29 x6 x7 → lv_has ls 9 [(0, .ref (ad 0)), (1, .int x1), (2, .int x2), (3, .int x3), (4, .int x4), (5, .int x5), (6, .int x6), (7, .int x7)] → W p l e rm_m_sameBelow s m args below meth c H [] 0 0 QQ (F0 m 29 ls []) := by
    intro x1 x2 x3 x4 x5 K6 hK6 K29 hK29 x6 x7 ls hf hl
    unfold m_sameBelow_p29 at hf
    refine lv_iload C.1 C.2.1 dX3_sameBelow_29 (lv_at hl 7 rfl) ?_
    refine lv_aload_n C.1 C.2.1 dX3_sameBelow_31 rfl (lv_at hl 0 rfl) ?_
    refine mg_size C hw dX3_sameBelow_32 ?_
    refine lv_iload_n C.1 C.2.1 dX3_sameBelow_35 rfl (lv_at hl 1 rfl) ?_
    obtain ⟨b36, hf⟩ := hf
    refine g_iald C hw 4 rfl b36 dX3_sameBelow_36 ?_
    refine lv_icmp_ge (tgt := 94) C.1 C.2.1 dX3_sameBelow_37 (by decide) (fun h37 => ?_) (fun h37 => ?_)
    · replace hf := hf.1 h37
      refine lv_iconst (v := 0) C.1 C.2.1 dX3_sameBelow_94 rfl ?_
      refine lv_istore (lv' := [(7, .int 0), (0, .ref (ad 0)), (1, .int x1), (2, .int x2), (3, .int x3), (4, .int x4), (5, .int x5), (6, .int x6)]) C.1 C.2.1 dX3_sameBelow_95 hl (Nat.le_of_ble_eq_true rfl) rfl (fun ls hl => ?_)
      obtain ⟨n, hf⟩ := hf
      exact P97 _ _ _ _ _ _ hK6 n _ _ _ hf (lv_sub hl [1, 2, 3, 4, 5, 6, 7, 0] rfl)
    · replace hf := hf.2 h37
      refine lv_iload C.1 C.2.1 dX3_sameBelow_40 (lv_at hl 6 rfl) ?_
      refine lv_if_eq (tgt := 94) C.1 C.2.1 dX3_sameBelow_42 (by decide) (fun h42 => ?_) (fun h42 => ?_)
      · replace hf := hf.1 h42
        refine lv_iconst (v := 0) C.1 C.2.1 dX3_sameBelow_94 rfl ?_
        refine lv_istore (lv' := [(7, .int 0), (0, .ref (ad 0)), (1, .int x1), (2, .int x2), (3, .int x3), (4, .int x4), (5, .int x5), (6, .int x6)]) C.1 C.2.1 dX3_sameBelow_95 hl (Nat.le_of_ble_eq_true rfl) rfl (fun ls hl => ?_)
        obtain ⟨n, hf⟩ := hf
        exact P97 _ _ _ _ _ _ hK6 n _ _ _ hf (lv_sub hl [1, 2, 3, 4, 5, 6, 7, 0] rfl)
      · replace hf := hf.2 h42
        refine lv_iload C.1 C.2.1 dX3_sameBelow_45 (lv_at hl 7 rfl) ?_
        refine lv_iload C.1 C.2.1 dX3_sameBelow_47 (lv_at hl 5 rfl) ?_
        refine lv_icmp_ge (tgt := 56) C.1 C.2.1 dX3_sameBelow_49 (by decide) (fun h49 => ?_) (fun h49 => ?_)
        · replace hf := hf.1 h49
          refine lv_iload_n C.1 C.2.1 dX3_sameBelow_56 rfl (lv_at hl 3 rfl) ?_
          exact J57 _ _ _ _ _ _ _ _ hK6 _ hK29 _ hf (lv_sub hl [0, 1, 2, 3, 4, 5, 7] rfl)
        · replace hf := hf.2 h49
          refine lv_iload_n C.1 C.2.1 dX3_sameBelow_52 rfl (lv_at hl 2 rfl) ?_
          refine lv_goto (tgt := 57) C.1 C.2.1 dX3_sameBelow_53 (by decide) ?_
          exact J57 _ _ _ _ _ _ _ _ hK6 _ hK29 _ hf (lv_sub hl [0, 1, 2, 3, 4, 5, 7] rfl)
  have P29 : ∀ (x1 : Int32) (x2 : Int32) (x3 : Int32) (x4 : Int32) (x5 : Int32) (K6 : Int32 → Int32 → Prop) (_ : ∀ (x4 : Int32) (x5 : Int32) (ls : Array Slot), K6 x4 x5 → lv_has ls 9 [(0, .ref (ad 0)), (1, .int x1), (2, .int x2), (3, .int x3), (4, .int x4), (5, .int x5)] → W p l e rm_m_sameBelow s m args below meth c H [] 0 0 QQ (F0 m 6 ls [])) (n : Nat) (x6 : Int32) (x7 : Int32) (ls : Array Slot), LL2 (m_sameBelow_p29 σ x1 x2 x3 x4 x5 Q K6) n x6 x7 → lv_has ls 9 [(0, .ref (ad 0)), (1, .int x1), (2, .int x2), (3, .int x3), (4, .int x4), (5, .int x5), (6, .int x6), (7, .int x7)] → W p l e rm_m_sameBelow s m args below meth c H [] 0 0 QQ (F0 m 29 ls []) := by
    intro x1 x2 x3 x4 x5 K6 hK6 n
    induction n with
    | zero => intro x6 x7 ls hf; exact False.elim hf
    | succ n ih => intro x6 x7 ls hf hl; exact B29 x1 x2 x3 x4 x5 K6 hK6 (LL2 _ n) ih x6 x7 ls hf hl
  have B6 : ∀ (x1 : Int32) (x2 : Int32) (x3 : Int32) (K6 : Int32 → Int32 → Prop) (_ : ∀ (x4 : Int32) (x5 : Int32) (ls : Array Slot), K6 x4 x5 → lv_has ls 9 [(0, .ref (ad 0)), (1, .int x1), (2, .int x2), (3, .int x3), (4, .int x4), (5, .int x5)] → W p l e rm_m_sameBelow s m args below meth c H [] 0 0 QQ (F0 m 6 ls [])) (x4 : Int32) (x5 : Int32) (ls : Array Slot), m_sameBelow_p6 σ x1 x2 x3 Q K6 x4 x5 → lv_has ls 9 [(0, .ref (ad 0)), (1, .int x1), (2, .int x2), (3, .int x3), (4, .int x4), (5, .int x5)] → W p l e rm_m_sameBelow s m args below meth c H [] 0 0 QQ (F0 m 6 ls []) := by
    intro x1 x2 x3 K6 hK6 x4 x5 ls hf hl
    unfold m_sameBelow_p6 at hf
    refine lv_iload C.1 C.2.1 dX3_sameBelow_6 (lv_at hl 5 rfl) ?_
    refine lv_aload_n C.1 C.2.1 dX3_sameBelow_8 rfl (lv_at hl 0 rfl) ?_
    refine mg_size C hw dX3_sameBelow_9 ?_
    refine lv_iload_n C.1 C.2.1 dX3_sameBelow_12 rfl (lv_at hl 1 rfl) ?_
    obtain ⟨b13, hf⟩ := hf
    refine g_iald C hw 4 rfl b13 dX3_sameBelow_13 ?_
    refine lv_icmp_ge (tgt := 170) C.1 C.2.1 dX3_sameBelow_14 (by decide) (fun h14 => ?_) (fun h14 => ?_)
    · replace hf := hf.1 h14
      refine lv_iload C.1 C.2.1 dX3_sameBelow_170 (lv_at hl 4 rfl) ?_
      exact hret _ _ _ hf dX3_sameBelow_172
    · replace hf := hf.2 h14
      refine lv_aload_n C.1 C.2.1 dX3_sameBelow_17 rfl (lv_at hl 0 rfl) ?_
      refine lv_iload_n C.1 C.2.1 dX3_sameBelow_18 rfl (lv_at hl 1 rfl) ?_
      refine lv_iload C.1 C.2.1 dX3_sameBelow_19 (lv_at hl 5 rfl) ?_
      refine km_isCapitalAt C hw hl.1 (Nat.le_of_ble_eq_true rfl) ⟨Nat.le_of_ble_eq_true rfl, Nat.le_of_ble_eq_true rfl⟩ dX3_sameBelow_21 hf (fun r21 hf => ?_)
      refine lv_istore (lv' := [(6, .int r21), (0, .ref (ad 0)), (1, .int x1), (2, .int x2), (3, .int x3), (4, .int x4), (5, .int x5)]) C.1 C.2.1 dX3_sameBelow_24 hl (Nat.le_of_ble_eq_true rfl) rfl (fun ls hl => ?_)
      refine lv_iconst (v := 0) C.1 C.2.1 dX3_sameBelow_26 rfl ?_
      refine lv_istore (lv' := [(7, .int 0), (6, .int r21), (0, .ref (ad 0)), (1, .int x1), (2, .int x2), (3, .int x3), (4, .int x4), (5, .int x5)]) C.1 C.2.1 dX3_sameBelow_27 hl (Nat.le_of_ble_eq_true rfl) rfl (fun ls hl => ?_)
      obtain ⟨n, hf⟩ := hf
      exact P29 _ _ _ _ _ _ hK6 n _ _ _ hf (lv_sub hl [2, 3, 4, 5, 6, 7, 1, 0] rfl)
  have P6 : ∀ (x1 : Int32) (x2 : Int32) (x3 : Int32) (n : Nat) (x4 : Int32) (x5 : Int32) (ls : Array Slot), LL2 (m_sameBelow_p6 σ x1 x2 x3 Q) n x4 x5 → lv_has ls 9 [(0, .ref (ad 0)), (1, .int x1), (2, .int x2), (3, .int x3), (4, .int x4), (5, .int x5)] → W p l e rm_m_sameBelow s m args below meth c H [] 0 0 QQ (F0 m 6 ls []) := by
    intro x1 x2 x3 n
    induction n with
    | zero => intro x4 x5 ls hf; exact False.elim hf
    | succ n ih => intro x4 x5 ls hf hl; exact B6 x1 x2 x3 (LL2 _ n) ih x4 x5 ls hf hl
  unfold m_sameBelow at hf
  refine lv_iconst (v := 0) C.1 C.2.1 dX3_sameBelow_0 rfl ?_
  refine lv_istore (lv' := [(4, .int 0), (0, .ref (ad 0)), (1, .int x1), (2, .int x2), (3, .int x3)]) C.1 C.2.1 dX3_sameBelow_1 hl (Nat.le_of_ble_eq_true rfl) rfl (fun ls hl => ?_)
  refine lv_iconst (v := 0) C.1 C.2.1 dX3_sameBelow_3 rfl ?_
  refine lv_istore (lv' := [(5, .int 0), (4, .int 0), (0, .ref (ad 0)), (1, .int x1), (2, .int x2), (3, .int x3)]) C.1 C.2.1 dX3_sameBelow_4 hl (Nat.le_of_ble_eq_true rfl) rfl (fun ls hl => ?_)
  obtain ⟨n, hf⟩ := hf
  exact P6 _ _ _ n _ _ _ hf (lv_sub hl [2, 3, 4, 5, 1, 0] rfl)
theorem km_sameBelow {p : Program} {l : Launch} {e : Env} {R : Room} {s : State} {m : MethodId} {args : Array Value} {below : List Frame} {meth : Method} {c : Code} {H : Heap} {locs : List Loc} {Z : State → Prop} {cc : ByteArray} {nL pc : Nat} {ls : Array Slot} {rest : List Value} {D : va_G} {ct : Ct} {ad : Nat → Nat} {σ : St} {x1 : Int32} {x2 : Int32} {x3 : Int32} {Qp : Int32 → Prop} (C : CallFix p m c cc nL s args lw_all RX3) (hw : gH D ct shM ad s σ H locs) (hsz : ls.size = nL) (hrm : (rest.map fun v => v.category).sum ≤ 8) (hR : rm_m_sameBelow.frames + 1 ≤ R.frames ∧ 8 + (9 + 11) + rm_m_sameBelow.locals ≤ R.locals) (hdg : decode cc pc = .ok (.invokevirtual 465, 3)) (hf : m_sameBelow σ x1 x2 x3 Qp) (kk : ∀ (r : Int32), Qp r → W p l e R s m args below meth c H locs 0 0 Z (F0 m (pc + 3) ls (.int r :: rest))) : W p l e R s m args below meth c H locs 0 0 Z (F0 m pc ls (.int x3 :: .int x2 :: .int x1 :: .ref (ad 0) :: rest)) :=
  g_callVR (As := [.int x1, .int x2, .int x3]) (rest := rest) C hw rfl rfl (met_m_sameBelow l D ct ad hw.2.1 σ x1 x2 x3 Qp hf) (cwV 3 C.2.2.2.2 (lw_V q1963 q1965 qs164 q207 q1966) rfl rfl rfl (by decide +kernel) hR) rfl hsz rfl hrm ⟨Nat.zero_le _, Nat.zero_le _⟩ hdg kk
def m_countsOf_p181 (σ : St) (x1 : Int32) (x2 : Int32) (x3 : Int32) (x4 : Int32) (x5 : Int32) (Q : Int64 → St → Prop) (K36 : St → Int32 → Prop) (K50 : St → Int32 → Prop) (v0 : Int64) (v1 : Int32) : Prop :=
  (vp_in v1 65 ∧ (∀ s181 : St, s181 = s_L σ 49 (Int32.toNatClampNeg v1) v0 → K50 s181 (x5 + 1)))
def m_countsOf_p122 (σ : St) (x1 : Int32) (x2 : Int32) (x3 : Int32) (x4 : Int32) (x5 : Int32) (x6 : Int64) (x8 : Int32) (Q : Int64 → St → Prop) (K36 : St → Int32 → Prop) (K50 : St → Int32 → Prop) (K62 : Int64 → Int32 → Prop) (v0 : Int64) : Prop :=
  ((v0 ≤ 2147483648 → K62 (x6 + v0) (x8 + 1)) ∧ (¬ v0 ≤ 2147483648 → K62 (x6 + 2147483648) (x8 + 1)))
def m_countsOf_p62 (σ : St) (x1 : Int32) (x2 : Int32) (x3 : Int32) (x4 : Int32) (x5 : Int32) (Q : Int64 → St → Prop) (K36 : St → Int32 → Prop) (K50 : St → Int32 → Prop) (K62 : Int64 → Int32 → Prop) (x6 : Int64) (x8 : Int32) : Prop :=
  ((x5 < x8 → ((x6 ≤ 2147483648 → (m_countsOf_p181 σ x1 x2 x3 x4 x5 Q K36 K50 x6 ((13 * x4) + x5))) ∧ (¬ x6 ≤ 2147483648 → (m_countsOf_p181 σ x1 x2 x3 x4 x5 Q K36 K50 2147483648 ((13 * x4) + x5))))) ∧ (¬ x5 < x8 → (vp_in ((13 * (x4 - 1)) + x8) 65 ∧ (((gL σ 49 ((13 * (x4 - 1)) + x8)) = 0 → (m_countsOf_p122 σ x1 x2 x3 x4 x5 x6 x8 Q K36 K50 K62 0)) ∧ (¬ (gL σ 49 ((13 * (x4 - 1)) + x8)) = 0 → (m_treesBelow σ x1 (x4 - 1) x8 x5 (fun r118 => (m_countsOf_p122 σ x1 x2 x3 x4 x5 x6 x8 Q K36 K50 K62 ((gL σ 49 ((13 * (x4 - 1)) + x8)) * r118)))))))))
def m_countsOf_p50 (x1 : Int32) (x2 : Int32) (x3 : Int32) (x4 : Int32) (Q : Int64 → St → Prop) (K36 : St → Int32 → Prop) (K50 : St → Int32 → Prop) (σ : St) (x5 : Int32) : Prop :=
  ((x3 < x5 → K36 σ (x4 + 1)) ∧ (¬ x3 < x5 → (Lp2 (m_countsOf_p62 σ x1 x2 x3 x4 x5 Q K36 K50) 0 x2)))
def m_countsOf_p36 (x1 : Int32) (x2 : Int32) (x3 : Int32) (Q : Int64 → St → Prop) (K36 : St → Int32 → Prop) (σ : St) (x4 : Int32) : Prop :=
  (vp_in x1 12 ∧ (((gI σ 4 x1) < x4 → (vp_in ((13 * (gI σ 4 x1)) + x3) 65 ∧ Q (gL σ 49 ((13 * (gI σ 4 x1)) + x3)) σ)) ∧ (¬ (gI σ 4 x1) < x4 → (Lp2 (m_countsOf_p50 x1 x2 x3 x4 Q K36) σ x2))))
def m_countsOf_p26 (σ : St) (x1 : Int32) (x2 : Int32) (x3 : Int32) (x4 : Int32) (Q : Int64 → St → Prop) (K3 : St → Int32 → Prop) (v0 : Int64) (v1 : Int32) : Prop :=
  (vp_in v1 65 ∧ (∀ s26 : St, s26 = s_L σ 49 (Int32.toNatClampNeg v1) v0 → K3 s26 (x4 + 1)))
def m_countsOf_p3 (x1 : Int32) (x2 : Int32) (x3 : Int32) (Q : Int64 → St → Prop) (K3 : St → Int32 → Prop) (σ : St) (x4 : Int32) : Prop :=
  ((x3 < x4 → (Lp2 (m_countsOf_p36 x1 x2 x3 Q) σ 1)) ∧ (¬ x3 < x4 → ((x4 = x2 → (m_countsOf_p26 σ x1 x2 x3 x4 Q K3 1 x4)) ∧ (¬ x4 = x2 → (m_countsOf_p26 σ x1 x2 x3 x4 Q K3 0 x4)))))
def m_countsOf (σ : St) (x1 : Int32) (x2 : Int32) (x3 : Int32) (Q : Int64 → St → Prop) : Prop :=
  (Lp2 (m_countsOf_p3 x1 x2 x3 Q) σ x2)
abbrev rm_m_countsOf : Room := { frames := 4, cells := 0, slots := 0, locals := 97 }
set_option maxHeartbeats 4000000 in
theorem met_m_countsOf (l : Launch) (D : va_G) (ct : Ct) (ad : Nat → Nat) (hJ : gJ shM ad ct) (σ : St) (x1 : Int32) (x2 : Int32) (x3 : Int32) (Q : Int64 → St → Prop) (hf : m_countsOf σ x1 x2 x3 Q) : Met l yX3_countsOf (ws_ yX3_countsOf cX3_countsOf 11 (some .long)) rm_m_countsOf (va_Pc [.ref (ad 0), .int x1, .int x2, .int x3] (gP D ct shM ad σ)) (gQ rvL D ct shM ad Q) 0 0 (gA shM ad) := by
  refine g_metL hJ (by decide) (Nat.le_of_ble_eq_true rfl) ?_
  intro p e s m args below meth c QQ ls C hw hl hret
  replace hl : lv_has ls 11 [(0, .ref (ad 0)), (1, .int x1), (2, .int x2), (3, .int x3)] := hl
  have J181 : ∀ (σ : St) (H : Heap) (locs : List Loc) (x1 : Int32) (x2 : Int32) (x3 : Int32) (x4 : Int32) (x5 : Int32) (v0 : Int64) (v1 : Int32) (K36 : St → Int32 → Prop) (_ : ∀ (σ : St) (H : Heap) (locs : List Loc) (x4 : Int32) (ls : Array Slot), K36 σ x4 → gH D ct shM ad s σ H locs → lv_has ls 11 [(0, .ref (ad 0)), (1, .int x1), (2, .int x2), (3, .int x3), (4, .int x4)] → W p l e rm_m_countsOf s m args below meth c H locs 0 0 QQ (F0 m 36 ls [])) (K50 : St → Int32 → Prop) (_ : ∀ (σ : St) (H : Heap) (locs : List Loc) (x5 : Int32) (ls : Array Slot), K50 σ x5 → gH D ct shM ad s σ H locs → lv_has ls 11 [(0, .ref (ad 0)), (1, .int x1), (2, .int x2), (3, .int x3), (4, .int x4), (5, .int x5)] → W p l e rm_m_countsOf s m args below meth c H locs 0 0 QQ (F0 m 50 ls [])) (ls : Array Slot), m_countsOf_p181 σ x1 x2 x3 x4 x5 Q K36 K50 v0 v1 → gH D ct shM ad s σ H locs → lv_has ls 11 [(0, .ref (ad 0)), (1, .int x1), (2, .int x2), (3, .int x3), (4, .int x4), (5, .int x5)] → W p l e rm_m_countsOf s m args below meth c H locs 0 0 QQ (F0 m 181 ls [.long v0, .int v1, .ref (ad 49)]) := by
    intro σ H locs x1 x2 x3 x4 x5 v0 v1 K36 hK36 K50 hK50 ls hf hw hl
    unfold m_countsOf_p181 at hf
    obtain ⟨b181, hf⟩ := hf
    refine g_last C shM_sep hw 49 rfl b181 dX3_countsOf_181 (fun s181 H locs e181 hw => ?_)
    replace hf := hf s181 e181
    refine lv_iinc (v := (x5 + 1)) (lv' := [(5, .int (x5 + 1)), (0, .ref (ad 0)), (1, .int x1), (2, .int x2), (3, .int x3), (4, .int x4)]) C.1 C.2.1 dX3_countsOf_182 hl (k := 5) rfl rfl (Nat.le_of_ble_eq_true rfl) rfl (fun ls hl => ?_)
    refine lv_goto (tgt := 50) C.1 C.2.1 dX3_countsOf_185 (by decide) ?_
    exact hK50 _ _ _ _ _ hf hw (lv_sub hl [1, 2, 3, 4, 5, 0] rfl)
  have J122 : ∀ (σ : St) (H : Heap) (locs : List Loc) (x1 : Int32) (x2 : Int32) (x3 : Int32) (x4 : Int32) (x5 : Int32) (x6 : Int64) (x8 : Int32) (v0 : Int64) (K36 : St → Int32 → Prop) (_ : ∀ (σ : St) (H : Heap) (locs : List Loc) (x4 : Int32) (ls : Array Slot), K36 σ x4 → gH D ct shM ad s σ H locs → lv_has ls 11 [(0, .ref (ad 0)), (1, .int x1), (2, .int x2), (3, .int x3), (4, .int x4)] → W p l e rm_m_countsOf s m args below meth c H locs 0 0 QQ (F0 m 36 ls [])) (K50 : St → Int32 → Prop) (_ : ∀ (σ : St) (H : Heap) (locs : List Loc) (x5 : Int32) (ls : Array Slot), K50 σ x5 → gH D ct shM ad s σ H locs → lv_has ls 11 [(0, .ref (ad 0)), (1, .int x1), (2, .int x2), (3, .int x3), (4, .int x4), (5, .int x5)] → W p l e rm_m_countsOf s m args below meth c H locs 0 0 QQ (F0 m 50 ls [])) (K62 : Int64 → Int32 → Prop) (_ : ∀ (x6 : Int64) (x8 : Int32) (ls : Array Slot), K62 x6 x8 → lv_has ls 11 [(0, .ref (ad 0)), (1, .int x1), (2, .int x2), (3, .int x3), (4, .int x4), (5, .int x5), (6, .long x6), (8, .int x8)] → W p l e rm_m_countsOf s m args below meth c H locs 0 0 QQ (F0 m 62 ls [])) (ls : Array Slot), m_countsOf_p122 σ x1 x2 x3 x4 x5 x6 x8 Q K36 K50 K62 v0 → gH D ct shM ad s σ H locs → lv_has ls 11 [(0, .ref (ad 0)), (1, .int x1), (2, .int x2), (3, .int x3), (4, .int x4), (5, .int x5), (6, .long x6), (8, .int x8)] → W p l e rm_m_countsOf s m args below meth c H locs 0 0 QQ (F0 m 122 ls [.long v0]) := by
    intro σ H locs x1 x2 x3 x4 x5 x6 x8 v0 K36 hK36 K50 hK50 K62 hK62 ls hf hw hl
    unfold m_countsOf_p122 at hf
    refine lv_lstore (lv' := [(9, .long v0), (0, .ref (ad 0)), (1, .int x1), (2, .int x2), (3, .int x3), (4, .int x4), (5, .int x5), (6, .long x6), (8, .int x8)]) C.1 C.2.1 dX3_countsOf_122 hl (Nat.le_of_ble_eq_true rfl) rfl (fun ls hl => ?_)
    refine lv_lload C.1 C.2.1 dX3_countsOf_124 (lv_at hl 7 rfl) ?_
    refine lv_lload C.1 C.2.1 dX3_countsOf_126 (lv_at hl 0 rfl) ?_
    refine lv_ldc2 C.1 C.2.1 C.2.2.2.1 (C.2.2.2.2 _ q1991) dX3_countsOf_128 ?_
    refine W.lcmp C.1 C.2.1 dX3_countsOf_131 ?_
    refine lv_if_le (tgt := 141) C.1 C.2.1 dX3_countsOf_132 (by decide) (fun h132 => ?_) (fun h132 => ?_)
    · replace hf := hf.1 ((lg_cmp_le _ _).mp h132)
      refine lv_lload C.1 C.2.1 dX3_countsOf_141 (lv_at hl 0 rfl) ?_
      refine lv_ladd C.1 C.2.1 dX3_countsOf_143 ?_
      refine lv_lstore (lv' := [(6, .long (x6 + v0)), (9, .long v0), (0, .ref (ad 0)), (1, .int x1), (2, .int x2), (3, .int x3), (4, .int x4), (5, .int x5), (8, .int x8)]) C.1 C.2.1 dX3_countsOf_144 hl (Nat.le_of_ble_eq_true rfl) rfl (fun ls hl => ?_)
      refine lv_iinc (v := (x8 + 1)) (lv' := [(8, .int (x8 + 1)), (6, .long (x6 + v0)), (9, .long v0), (0, .ref (ad 0)), (1, .int x1), (2, .int x2), (3, .int x3), (4, .int x4), (5, .int x5)]) C.1 C.2.1 dX3_countsOf_146 hl (k := 8) rfl rfl (Nat.le_of_ble_eq_true rfl) rfl (fun ls hl => ?_)
      refine lv_goto (tgt := 62) C.1 C.2.1 dX3_countsOf_149 (by decide) ?_
      exact hK62 _ _ _ hf (lv_sub hl [3, 4, 5, 6, 7, 8, 1, 0] rfl)
    · replace hf := hf.2 (fun q => h132 ((lg_cmp_le _ _).mpr q))
      refine lv_ldc2 C.1 C.2.1 C.2.2.2.1 (C.2.2.2.2 _ q1991) dX3_countsOf_135 ?_
      refine lv_goto (tgt := 143) C.1 C.2.1 dX3_countsOf_138 (by decide) ?_
      refine lv_ladd C.1 C.2.1 dX3_countsOf_143 ?_
      refine lv_lstore (lv' := [(6, .long (x6 + 2147483648)), (9, .long v0), (0, .ref (ad 0)), (1, .int x1), (2, .int x2), (3, .int x3), (4, .int x4), (5, .int x5), (8, .int x8)]) C.1 C.2.1 dX3_countsOf_144 hl (Nat.le_of_ble_eq_true rfl) rfl (fun ls hl => ?_)
      refine lv_iinc (v := (x8 + 1)) (lv' := [(8, .int (x8 + 1)), (6, .long (x6 + 2147483648)), (9, .long v0), (0, .ref (ad 0)), (1, .int x1), (2, .int x2), (3, .int x3), (4, .int x4), (5, .int x5)]) C.1 C.2.1 dX3_countsOf_146 hl (k := 8) rfl rfl (Nat.le_of_ble_eq_true rfl) rfl (fun ls hl => ?_)
      refine lv_goto (tgt := 62) C.1 C.2.1 dX3_countsOf_149 (by decide) ?_
      exact hK62 _ _ _ hf (lv_sub hl [3, 4, 5, 6, 7, 8, 1, 0] rfl)
  have B62 : ∀ (σ : St) (H : Heap) (locs : List Loc) (x1 : Int32) (x2 : Int32) (x3 : Int32) (x4 : Int32) (x5 : Int32) (K36 : St → Int32 → Prop) (_ : ∀ (σ : St) (H : Heap) (locs : List Loc) (x4 : Int32) (ls : Array Slot), K36 σ x4 → gH D ct shM ad s σ H locs → lv_has ls 11 [(0, .ref (ad 0)), (1, .int x1), (2, .int x2), (3, .int x3), (4, .int x4)] → W p l e rm_m_countsOf s m args below meth c H locs 0 0 QQ (F0 m 36 ls [])) (K50 : St → Int32 → Prop) (_ : ∀ (σ : St) (H : Heap) (locs : List Loc) (x5 : Int32) (ls : Array Slot), K50 σ x5 → gH D ct shM ad s σ H locs → lv_has ls 11 [(0, .ref (ad 0)), (1, .int x1), (2, .int x2), (3, .int x3), (4, .int x4), (5, .int x5)] → W p l e rm_m_countsOf s m args below meth c H locs 0 0 QQ (F0 m 50 ls [])) (K62 : Int64 → Int32 → Prop) (_ : ∀ (x6 : Int64) (x8 : Int32) (ls : Array Slot), K62 x6 x8 → lv_has ls 11 [(0, .ref (ad 0)), (1, .int x1), (2, .int x2), (3, .int x3), (4, .int x4), (5, .int x5), (6, .long x6), (8, .int x8)] → W p l e rm_m_countsOf s m args below meth c H locs 0 0 QQ (F0 m 62 ls [])) (x6 : Int64) (x8 : Int32) (ls : Array Slot), m_countsOf_p62 σ x1 x2 x3 x4 x5 Q K36 K50 K62 x6 x8 → gH D ct shM ad s σ H locs → lv_has ls 11 [(0, .ref (ad 0)), (1, .int x1), (2, .int x2), (3, .int x3), (4, .int x4), (5, .int x5), (6, .long x6), (8, .int x8)] → W p l e rm_m_countsOf s m args below meth c H locs 0 0 QQ (F0 m 62 ls []) := by
    intro σ H locs x1 x2 x3 x4 x5 K36 hK36 K50 hK50 K62 hK62 x6 x8 ls hf hw hl
    unfold m_countsOf_p62 at hf
    refine lv_iload C.1 C.2.1 dX3_countsOf_62 (lv_at hl 7 rfl) ?_
    refine lv_iload C.1 C.2.1 dX3_countsOf_64 (lv_at hl 5 rfl) ?_
    refine lv_icmp_gt (tgt := 152) C.1 C.2.1 dX3_countsOf_66 (by decide) (fun h66 => ?_) (fun h66 => ?_)
    · replace hf := hf.1 h66
      refine lv_aload_n C.1 C.2.1 dX3_countsOf_152 rfl (lv_at hl 0 rfl) ?_
      refine mg_counts C hw dX3_countsOf_153 ?_
      refine lv_bipush (v := 13) C.1 C.2.1 dX3_countsOf_156 rfl ?_
      refine lv_iload C.1 C.2.1 dX3_countsOf_158 (lv_at hl 4 rfl) ?_
      refine lv_imul C.1 C.2.1 dX3_countsOf_160 ?_
      refine lv_iload C.1 C.2.1 dX3_countsOf_161 (lv_at hl 5 rfl) ?_
      refine lv_iadd C.1 C.2.1 dX3_countsOf_163 ?_
      refine lv_lload C.1 C.2.1 dX3_countsOf_164 (lv_at hl 6 rfl) ?_
      refine lv_ldc2 C.1 C.2.1 C.2.2.2.1 (C.2.2.2.2 _ q1991) dX3_countsOf_166 ?_
      refine W.lcmp C.1 C.2.1 dX3_countsOf_169 ?_
      refine lv_if_le (tgt := 179) C.1 C.2.1 dX3_countsOf_170 (by decide) (fun h170 => ?_) (fun h170 => ?_)
      · replace hf := hf.1 ((lg_cmp_le _ _).mp h170)
        refine lv_lload C.1 C.2.1 dX3_countsOf_179 (lv_at hl 6 rfl) ?_
        exact J181 _ _ _ _ _ _ _ _ _ _ _ hK36 _ hK50 _ hf hw (lv_sub hl [0, 1, 2, 3, 4, 5] rfl)
      · replace hf := hf.2 (fun q => h170 ((lg_cmp_le _ _).mpr q))
        refine lv_ldc2 C.1 C.2.1 C.2.2.2.1 (C.2.2.2.2 _ q1991) dX3_countsOf_173 ?_
        refine lv_goto (tgt := 181) C.1 C.2.1 dX3_countsOf_176 (by decide) ?_
        exact J181 _ _ _ _ _ _ _ _ _ _ _ hK36 _ hK50 _ hf hw (lv_sub hl [0, 1, 2, 3, 4, 5] rfl)
    · replace hf := hf.2 h66
      refine lv_aload_n C.1 C.2.1 dX3_countsOf_69 rfl (lv_at hl 0 rfl) ?_
      refine mg_counts C hw dX3_countsOf_70 ?_
      refine lv_bipush (v := 13) C.1 C.2.1 dX3_countsOf_73 rfl ?_
      refine lv_iload C.1 C.2.1 dX3_countsOf_75 (lv_at hl 4 rfl) ?_
      refine lv_iconst (v := 1) C.1 C.2.1 dX3_countsOf_77 rfl ?_
      refine lv_isub C.1 C.2.1 dX3_countsOf_78 ?_
      refine lv_imul C.1 C.2.1 dX3_countsOf_79 ?_
      refine lv_iload C.1 C.2.1 dX3_countsOf_80 (lv_at hl 7 rfl) ?_
      refine lv_iadd C.1 C.2.1 dX3_countsOf_82 ?_
      obtain ⟨b83, hf⟩ := hf
      refine g_lald C hw 49 rfl b83 dX3_countsOf_83 ?_
      refine lv_lconst (v := 0) C.1 C.2.1 dX3_countsOf_84 rfl ?_
      refine W.lcmp C.1 C.2.1 dX3_countsOf_85 ?_
      refine lv_if_ne (tgt := 93) C.1 C.2.1 dX3_countsOf_86 (by decide) (fun h86 => ?_) (fun h86 => ?_)
      · replace hf := hf.2 (fun q => h86 ((lg_cmp_eq _ _).mpr q))
        refine lv_aload_n C.1 C.2.1 dX3_countsOf_93 rfl (lv_at hl 0 rfl) ?_
        refine mg_counts C hw dX3_countsOf_94 ?_
        refine lv_bipush (v := 13) C.1 C.2.1 dX3_countsOf_97 rfl ?_
        refine lv_iload C.1 C.2.1 dX3_countsOf_99 (lv_at hl 4 rfl) ?_
        refine lv_iconst (v := 1) C.1 C.2.1 dX3_countsOf_101 rfl ?_
        refine lv_isub C.1 C.2.1 dX3_countsOf_102 ?_
        refine lv_imul C.1 C.2.1 dX3_countsOf_103 ?_
        refine lv_iload C.1 C.2.1 dX3_countsOf_104 (lv_at hl 7 rfl) ?_
        refine lv_iadd C.1 C.2.1 dX3_countsOf_106 ?_
        refine g_lald C hw 49 rfl b83 dX3_countsOf_107 ?_
        refine lv_aload_n C.1 C.2.1 dX3_countsOf_108 rfl (lv_at hl 0 rfl) ?_
        refine lv_iload_n C.1 C.2.1 dX3_countsOf_109 rfl (lv_at hl 1 rfl) ?_
        refine lv_iload C.1 C.2.1 dX3_countsOf_110 (lv_at hl 4 rfl) ?_
        refine lv_iconst (v := 1) C.1 C.2.1 dX3_countsOf_112 rfl ?_
        refine lv_isub C.1 C.2.1 dX3_countsOf_113 ?_
        refine lv_iload C.1 C.2.1 dX3_countsOf_114 (lv_at hl 7 rfl) ?_
        refine lv_iload C.1 C.2.1 dX3_countsOf_116 (lv_at hl 5 rfl) ?_
        refine km_treesBelow C hw hl.1 (Nat.le_of_ble_eq_true rfl) ⟨Nat.le_of_ble_eq_true rfl, Nat.le_of_ble_eq_true rfl⟩ dX3_countsOf_118 hf (fun r118 hf => ?_)
        refine lv_lmul C.1 C.2.1 dX3_countsOf_121 ?_
        exact J122 _ _ _ _ _ _ _ _ _ _ _ _ hK36 _ hK50 _ hK62 _ hf hw (lv_sub hl [0, 1, 2, 3, 4, 5, 6, 7] rfl)
      · replace hf := hf.1 ((lg_cmp_eq _ _).mp h86)
        refine lv_lconst (v := 0) C.1 C.2.1 dX3_countsOf_89 rfl ?_
        refine lv_goto (tgt := 122) C.1 C.2.1 dX3_countsOf_90 (by decide) ?_
        exact J122 _ _ _ _ _ _ _ _ _ _ _ _ hK36 _ hK50 _ hK62 _ hf hw (lv_sub hl [0, 1, 2, 3, 4, 5, 6, 7] rfl)
  have P62 : ∀ (σ : St) (H : Heap) (locs : List Loc) (x1 : Int32) (x2 : Int32) (x3 : Int32) (x4 : Int32) (x5 : Int32) (K36 : St → Int32 → Prop) (_ : ∀ (σ : St) (H : Heap) (locs : List Loc) (x4 : Int32) (ls : Array Slot), K36 σ x4 → gH D ct shM ad s σ H locs → lv_has ls 11 [(0, .ref (ad 0)), (1, .int x1), (2, .int x2), (3, .int x3), (4, .int x4)] → W p l e rm_m_countsOf s m args below meth c H locs 0 0 QQ (F0 m 36 ls [])) (K50 : St → Int32 → Prop) (_ : ∀ (σ : St) (H : Heap) (locs : List Loc) (x5 : Int32) (ls : Array Slot), K50 σ x5 → gH D ct shM ad s σ H locs → lv_has ls 11 [(0, .ref (ad 0)), (1, .int x1), (2, .int x2), (3, .int x3), (4, .int x4), (5, .int x5)] → W p l e rm_m_countsOf s m args below meth c H locs 0 0 QQ (F0 m 50 ls [])) (n : Nat) (x6 : Int64) (x8 : Int32) (ls : Array Slot), LL2 (m_countsOf_p62 σ x1 x2 x3 x4 x5 Q K36 K50) n x6 x8 → gH D ct shM ad s σ H locs → lv_has ls 11 [(0, .ref (ad 0)), (1, .int x1), (2, .int x2), (3, .int x3), (4, .int x4), (5, .int x5), (6, .long x6), (8, .int x8)] → W p l e rm_m_countsOf s m args below meth c H locs 0 0 QQ (F0 m 62 ls []) := by
    intro σ H locs x1 x2 x3 x4 x5 K36 hK36 K50 hK50 n
    induction n with
    | zero => intro x6 x8 ls hf; exact False.elim hf
    | succ n ih => intro x6 x8 ls hf hw hl; exact B62 σ H locs x1 x2 x3 x4 x5 K36 hK36 K50 hK50 (LL2 _ n) (fun x6 x8 ls hf hl => ih x6 x8 ls hf hw hl) x6 x8 ls hf hw hl
  have B50 : ∀ (x1 : Int32) (x2 : Int32) (x3 : Int32) (x4 : Int32) (K36 : St → Int32 → Prop) (_ : ∀ (σ : St) (H : Heap) (locs : List Loc) (x4 : Int32) (ls : Array Slot), K36 σ x4 → gH D ct shM ad s σ H locs → lv_has ls 11 [(0, .ref (ad 0)), (1, .int x1), (2, .int x2), (3, .int x3), (4, .int x4)] → W p l e rm_m_countsOf s m args below meth c H locs 0 0 QQ (F0 m 36 ls [])) (K50 : St → Int32 → Prop) (_ : ∀ (σ : St) (H : Heap) (locs : List Loc) (x5 : Int32) (ls : Array Slot), K50 σ x5 → gH D ct shM ad s σ H locs → lv_has ls 11 [(0, .ref (ad 0)), (1, .int x1), (2, .int x2), (3, .int x3), (4, .int x4), (5, .int x5)] → W p l e rm_m_countsOf s m args below meth c H locs 0 0 QQ (F0 m 50 ls [])) (σ : St) (H : Heap) (locs : List Loc) (x5 : Int32) (ls : Array Slot), m_countsOf_p50 x1 x2 x3 x4 Q K36 K50 σ x5 → gH D ct shM ad s σ H locs → lv_has ls 11 [(0, .ref (ad 0)), (1, .int x1), (2, .int x2), (3, .int x3), (4, .int x4), (5, .int x5)] → W p l e rm_m_countsOf s m args below meth c H locs 0 0 QQ (F0 m 50 ls []) := by
    intro x1 x2 x3 x4 K36 hK36 K50 hK50 σ H locs x5 ls hf hw hl
    unfold m_countsOf_p50 at hf
    refine lv_iload C.1 C.2.1 dX3_countsOf_50 (lv_at hl 5 rfl) ?_
    refine lv_iload_n C.1 C.2.1 dX3_countsOf_52 rfl (lv_at hl 3 rfl) ?_
    refine lv_icmp_gt (tgt := 188) C.1 C.2.1 dX3_countsOf_53 (by decide) (fun h53 => ?_) (fun h53 => ?_)
    · replace hf := hf.1 h53
      refine lv_iinc (v := (x4 + 1)) (lv' := [(4, .int (x4 + 1)), (0, .ref (ad 0)), (1, .int x1), (2, .int x2), (3, .int x3), (5, .int x5)]) C.1 C.2.1 dX3_countsOf_188 hl (k := 4) rfl rfl (Nat.le_of_ble_eq_true rfl) rfl (fun ls hl => ?_)
      refine lv_goto (tgt := 36) C.1 C.2.1 dX3_countsOf_191 (by decide) ?_
      exact hK36 _ _ _ _ _ hf hw (lv_sub hl [1, 2, 3, 4, 0] rfl)
    · replace hf := hf.2 h53
      refine lv_lconst (v := 0) C.1 C.2.1 dX3_countsOf_56 rfl ?_
      refine lv_lstore (lv' := [(6, .long 0), (0, .ref (ad 0)), (1, .int x1), (2, .int x2), (3, .int x3), (4, .int x4), (5, .int x5)]) C.1 C.2.1 dX3_countsOf_57 hl (Nat.le_of_ble_eq_true rfl) rfl (fun ls hl => ?_)
      refine lv_iload_n C.1 C.2.1 dX3_countsOf_59 rfl (lv_at hl 3 rfl) ?_
      refine lv_istore (lv' := [(8, .int x2), (6, .long 0), (0, .ref (ad 0)), (1, .int x1), (2, .int x2), (3, .int x3), (4, .int x4), (5, .int x5)]) C.1 C.2.1 dX3_countsOf_60 hl (Nat.le_of_ble_eq_true rfl) rfl (fun ls hl => ?_)
      obtain ⟨n, hf⟩ := hf
      exact P62 _ _ _ _ _ _ _ _ _ hK36 _ hK50 n _ _ _ hf hw (lv_sub hl [2, 3, 4, 5, 6, 7, 1, 0] rfl)
  have P50 : ∀ (x1 : Int32) (x2 : Int32) (x3 : Int32) (x4 : Int32) (K36 : St → Int32 → Prop) (_ : ∀ (σ : St) (H : Heap) (locs : List Loc) (x4 : Int32) (ls : Array Slot), K36 σ x4 → gH D ct shM ad s σ H locs → lv_has ls 11 [(0, .ref (ad 0)), (1, .int x1), (2, .int x2), (3, .int x3), (4, .int x4)] → W p l e rm_m_countsOf s m args below meth c H locs 0 0 QQ (F0 m 36 ls [])) (n : Nat) (σ : St) (x5 : Int32) (ls : Array Slot) (H : Heap) (locs : List Loc), LL2 (m_countsOf_p50 x1 x2 x3 x4 Q K36) n σ x5 → gH D ct shM ad s σ H locs → lv_has ls 11 [(0, .ref (ad 0)), (1, .int x1), (2, .int x2), (3, .int x3), (4, .int x4), (5, .int x5)] → W p l e rm_m_countsOf s m args below meth c H locs 0 0 QQ (F0 m 50 ls []) := by
    intro x1 x2 x3 x4 K36 hK36 n
    induction n with
    | zero => intro σ x5 ls H locs hf; exact False.elim hf
    | succ n ih => intro σ x5 ls H locs hf hw hl; exact B50 x1 x2 x3 x4 K36 hK36 (LL2 _ n) (fun σ H locs x5 ls hf hw hl => ih σ x5 ls H locs hf hw hl) σ H locs x5 ls hf hw hl
  have B36 : ∀ (x1 : Int32) (x2 : Int32) (x3 : Int32) (K36 : St → Int32 → Prop) (_ : ∀ (σ : St) (H : Heap) (locs : List Loc) (x4 : Int32) (ls : Array Slot), K36 σ x4 → gH D ct shM ad s σ H locs → lv_has ls 11 [(0, .ref (ad 0)), (1, .int x1), (2, .int x2), (3, .int x3), (4, .int x4)] → W p l e rm_m_countsOf s m args below meth c H locs 0 0 QQ (F0 m 36 ls [])) (σ : St) (H : Heap) (locs : List Loc) (x4 : Int32) (ls : Array Slot), m_countsOf_p36 x1 x2 x3 Q K36 σ x4 → gH D ct shM ad s σ H locs → lv_has ls 11 [(0, .ref (ad 0)), (1, .int x1), (2, .int x2), (3, .int x3), (4, .int x4)] → W p l e rm_m_countsOf s m args below meth c H locs 0 0 QQ (F0 m 36 ls []) := by
    intro x1 x2 x3 K36 hK36 σ H locs x4 ls hf hw hl
    unfold m_countsOf_p36 at hf
    refine lv_iload C.1 C.2.1 dX3_countsOf_36 (lv_at hl 4 rfl) ?_
    refine lv_aload_n C.1 C.2.1 dX3_countsOf_38 rfl (lv_at hl 0 rfl) ?_
    refine mg_size C hw dX3_countsOf_39 ?_
    refine lv_iload_n C.1 C.2.1 dX3_countsOf_42 rfl (lv_at hl 1 rfl) ?_
    obtain ⟨b43, hf⟩ := hf
    refine g_iald C hw 4 rfl b43 dX3_countsOf_43 ?_
    refine lv_icmp_gt (tgt := 194) C.1 C.2.1 dX3_countsOf_44 (by decide) (fun h44 => ?_) (fun h44 => ?_)
    · replace hf := hf.1 h44
      refine lv_aload_n C.1 C.2.1 dX3_countsOf_194 rfl (lv_at hl 0 rfl) ?_
      refine mg_counts C hw dX3_countsOf_195 ?_
      refine lv_bipush (v := 13) C.1 C.2.1 dX3_countsOf_198 rfl ?_
      refine lv_aload_n C.1 C.2.1 dX3_countsOf_200 rfl (lv_at hl 0 rfl) ?_
      refine mg_size C hw dX3_countsOf_201 ?_
      refine lv_iload_n C.1 C.2.1 dX3_countsOf_204 rfl (lv_at hl 1 rfl) ?_
      refine g_iald C hw 4 rfl b43 dX3_countsOf_205 ?_
      refine lv_imul C.1 C.2.1 dX3_countsOf_206 ?_
      refine lv_iload_n C.1 C.2.1 dX3_countsOf_207 rfl (lv_at hl 3 rfl) ?_
      refine lv_iadd C.1 C.2.1 dX3_countsOf_208 ?_
      obtain ⟨b209, hf⟩ := hf
      refine g_lald C hw 49 rfl b209 dX3_countsOf_209 ?_
      exact hret _ _ _ _ _ _ hf hw dX3_countsOf_210
    · replace hf := hf.2 h44
      refine lv_iload_n C.1 C.2.1 dX3_countsOf_47 rfl (lv_at hl 2 rfl) ?_
      refine lv_istore (lv' := [(5, .int x2), (0, .ref (ad 0)), (1, .int x1), (2, .int x2), (3, .int x3), (4, .int x4)]) C.1 C.2.1 dX3_countsOf_48 hl (Nat.le_of_ble_eq_true rfl) rfl (fun ls hl => ?_)
      obtain ⟨n, hf⟩ := hf
      exact P50 _ _ _ _ _ hK36 n _ _ _ _ _ hf hw (lv_sub hl [1, 2, 3, 4, 5, 0] rfl)
  have P36 : ∀ (x1 : Int32) (x2 : Int32) (x3 : Int32) (n : Nat) (σ : St) (x4 : Int32) (ls : Array Slot) (H : Heap) (locs : List Loc), LL2 (m_countsOf_p36 x1 x2 x3 Q) n σ x4 → gH D ct shM ad s σ H locs → lv_has ls 11 [(0, .ref (ad 0)), (1, .int x1), (2, .int x2), (3, .int x3), (4, .int x4)] → W p l e rm_m_countsOf s m args below meth c H locs 0 0 QQ (F0 m 36 ls []) := by
    intro x1 x2 x3 n
    induction n with
    | zero => intro σ x4 ls H locs hf; exact False.elim hf
    | succ n ih => intro σ x4 ls H locs hf hw hl; exact B36 x1 x2 x3 (LL2 _ n) (fun σ H locs x4 ls hf hw hl => ih σ x4 ls H locs hf hw hl) σ H locs x4 ls hf hw hl
  have J26 : ∀ (σ : St) (H : Heap) (locs : List Loc) (x1 : Int32) (x2 : Int32) (x3 : Int32) (x4 : Int32) (v0 : Int64) (v1 : Int32) (K3 : St → Int32 → Prop) (_ : ∀ (σ : St) (H : Heap) (locs : List Loc) (x4 : Int32) (ls : Array Slot), K3 σ x4 → gH D ct shM ad s σ H locs → lv_has ls 11 [(0, .ref (ad 0)), (1, .int x1), (2, .int x2), (3, .int x3), (4, .int x4)] → W p l e rm_m_countsOf s m args below meth c H locs 0 0 QQ (F0 m 3 ls [])) (ls : Array Slot), m_countsOf_p26 σ x1 x2 x3 x4 Q K3 v0 v1 → gH D ct shM ad s σ H locs → lv_has ls 11 [(0, .ref (ad 0)), (1, .int x1), (2, .int x2), (3, .int x3), (4, .int x4)] → W p l e rm_m_countsOf s m args below meth c H locs 0 0 QQ (F0 m 26 ls [.long v0, .int v1, .ref (ad 49)]) := by
    intro σ H locs x1 x2 x3 x4 v0 v1 K3 hK3 ls hf hw hl
    unfold m_countsOf_p26 at hf
    obtain ⟨b26, hf⟩ := hf
    refine g_last C shM_sep hw 49 rfl b26 dX3_countsOf_26 (fun s26 H locs e26 hw => ?_)
    replace hf := hf s26 e26
    refine lv_iinc (v := (x4 + 1)) (lv' := [(4, .int (x4 + 1)), (0, .ref (ad 0)), (1, .int x1), (2, .int x2), (3, .int x3)]) C.1 C.2.1 dX3_countsOf_27 hl (k := 4) rfl rfl (Nat.le_of_ble_eq_true rfl) rfl (fun ls hl => ?_)
    refine lv_goto (tgt := 3) C.1 C.2.1 dX3_countsOf_30 (by decide) ?_
    exact hK3 _ _ _ _ _ hf hw (lv_sub hl [1, 2, 3, 4, 0] rfl)
  have B3 : ∀ (x1 : Int32) (x2 : Int32) (x3 : Int32) (K3 : St → Int32 → Prop) (_ : ∀ (σ : St) (H : Heap) (locs : List Loc) (x4 : Int32) (ls : Array Slot), K3 σ x4 → gH D ct shM ad s σ H locs → lv_has ls 11 [(0, .ref (ad 0)), (1, .int x1), (2, .int x2), (3, .int x3), (4, .int x4)] → W p l e rm_m_countsOf s m args below meth c H locs 0 0 QQ (F0 m 3 ls [])) (σ : St) (H : Heap) (locs : List Loc) (x4 : Int32) (ls : Array Slot), m_countsOf_p3 x1 x2 x3 Q K3 σ x4 → gH D ct shM ad s σ H locs → lv_has ls 11 [(0, .ref (ad 0)), (1, .int x1), (2, .int x2), (3, .int x3), (4, .int x4)] → W p l e rm_m_countsOf s m args below meth c H locs 0 0 QQ (F0 m 3 ls []) := by
    intro x1 x2 x3 K3 hK3 σ H locs x4 ls hf hw hl
    unfold m_countsOf_p3 at hf
    refine lv_iload C.1 C.2.1 dX3_countsOf_3 (lv_at hl 4 rfl) ?_
    refine lv_iload_n C.1 C.2.1 dX3_countsOf_5 rfl (lv_at hl 3 rfl) ?_
    refine lv_icmp_gt (tgt := 33) C.1 C.2.1 dX3_countsOf_6 (by decide) (fun h6 => ?_) (fun h6 => ?_)
    · replace hf := hf.1 h6
      refine lv_iconst (v := 1) C.1 C.2.1 dX3_countsOf_33 rfl ?_
      refine lv_istore (lv' := [(4, .int 1), (0, .ref (ad 0)), (1, .int x1), (2, .int x2), (3, .int x3)]) C.1 C.2.1 dX3_countsOf_34 hl (Nat.le_of_ble_eq_true rfl) rfl (fun ls hl => ?_)
      obtain ⟨n, hf⟩ := hf
      exact P36 _ _ _ n _ _ _ _ _ hf hw (lv_sub hl [1, 2, 3, 4, 0] rfl)
    · replace hf := hf.2 h6
      refine lv_aload_n C.1 C.2.1 dX3_countsOf_9 rfl (lv_at hl 0 rfl) ?_
      refine mg_counts C hw dX3_countsOf_10 ?_
      refine lv_iload C.1 C.2.1 dX3_countsOf_13 (lv_at hl 4 rfl) ?_
      refine lv_iload C.1 C.2.1 dX3_countsOf_15 (lv_at hl 4 rfl) ?_
      refine lv_iload_n C.1 C.2.1 dX3_countsOf_17 rfl (lv_at hl 2 rfl) ?_
      refine lv_icmp_ne (tgt := 25) C.1 C.2.1 dX3_countsOf_18 (by decide) (fun h18 => ?_) (fun h18 => ?_)
      · replace hf := hf.2 h18
        refine lv_lconst (v := 0) C.1 C.2.1 dX3_countsOf_25 rfl ?_
        exact J26 _ _ _ _ _ _ _ _ _ _ hK3 _ hf hw (lv_sub hl [0, 1, 2, 3, 4] rfl)
      · replace hf := hf.1 h18
        refine lv_lconst (v := 1) C.1 C.2.1 dX3_countsOf_21 rfl ?_
        refine lv_goto (tgt := 26) C.1 C.2.1 dX3_countsOf_22 (by decide) ?_
        exact J26 _ _ _ _ _ _ _ _ _ _ hK3 _ hf hw (lv_sub hl [0, 1, 2, 3, 4] rfl)
  have P3 : ∀ (x1 : Int32) (x2 : Int32) (x3 : Int32) (n : Nat) (σ : St) (x4 : Int32) (ls : Array Slot) (H : Heap) (locs : List Loc), LL2 (m_countsOf_p3 x1 x2 x3 Q) n σ x4 → gH D ct shM ad s σ H locs → lv_has ls 11 [(0, .ref (ad 0)), (1, .int x1), (2, .int x2), (3, .int x3), (4, .int x4)] → W p l e rm_m_countsOf s m args below meth c H locs 0 0 QQ (F0 m 3 ls []) := by
    intro x1 x2 x3 n
    induction n with
    | zero => intro σ x4 ls H locs hf; exact False.elim hf
    | succ n ih => intro σ x4 ls H locs hf hw hl; exact B3 x1 x2 x3 (LL2 _ n) (fun σ H locs x4 ls hf hw hl => ih σ x4 ls H locs hf hw hl) σ H locs x4 ls hf hw hl
  unfold m_countsOf at hf
  obtain ⟨H, hH⟩ : ∃ q, q = s.heap := ⟨_, rfl⟩
  obtain ⟨locs, hL⟩ : ∃ q : List Loc, q = [] := ⟨_, rfl⟩
  rw [← hH, ← hL] at hw ⊢
  refine lv_iload_n C.1 C.2.1 dX3_countsOf_0 rfl (lv_at hl 2 rfl) ?_
  refine lv_istore (lv' := [(4, .int x2), (0, .ref (ad 0)), (1, .int x1), (2, .int x2), (3, .int x3)]) C.1 C.2.1 dX3_countsOf_1 hl (Nat.le_of_ble_eq_true rfl) rfl (fun ls hl => ?_)
  obtain ⟨n, hf⟩ := hf
  exact P3 _ _ _ n _ _ _ _ _ hf hw (lv_sub hl [1, 2, 3, 4, 0] rfl)
theorem km_countsOf {p : Program} {l : Launch} {e : Env} {R : Room} {s : State} {m : MethodId} {args : Array Value} {below : List Frame} {meth : Method} {c : Code} {H : Heap} {locs : List Loc} {Z : State → Prop} {cc : ByteArray} {nL pc : Nat} {ls : Array Slot} {rest : List Value} {D : va_G} {ct : Ct} {ad : Nat → Nat} {σ : St} {x1 : Int32} {x2 : Int32} {x3 : Int32} {Qp : Int64 → St → Prop} (C : CallFix p m c cc nL s args lw_all RX3) (hw : gH D ct shM ad s σ H locs) (hsz : ls.size = nL) (hrm : (rest.map fun v => v.category).sum ≤ 8) (hR : rm_m_countsOf.frames + 1 ≤ R.frames ∧ 8 + (11 + 11) + rm_m_countsOf.locals ≤ R.locals) (hdg : decode cc pc = .ok (.invokevirtual 480, 3)) (hf : m_countsOf σ x1 x2 x3 Qp) (kk : ∀ (r : Int64) (σ1 : St) (H1 : Heap) (locs1 : List Loc), Qp r σ1 → gH D ct shM ad s σ1 H1 locs1 → W p l e R s m args below meth c H1 locs1 0 0 Z (F0 m (pc + 3) ls (.long r :: rest))) : W p l e R s m args below meth c H locs 0 0 Z (F0 m pc ls (.int x3 :: .int x2 :: .int x1 :: .ref (ad 0) :: rest)) :=
  g_callV (As := [.int x1, .int x2, .int x3]) (rest := rest) C hw rfl rfl (met_m_countsOf l D ct ad hw.2.1 σ x1 x2 x3 Qp hf) (cwV 3 C.2.2.2.2 (lw_V q1983 q1985 qs169 q207 q1986) rfl rfl rfl (by decide +kernel) hR) rfl hsz rfl hrm ⟨Nat.zero_le _, Nat.zero_le _⟩ hdg kk
def m_waysOf_p131 (σ : St) (x1 : Int32) (x2 : Int32) (x3 : Int32) (x4 : Int32) (x5 : Int32) (x6 : Int32) (Q : Int32 → St → Prop) (K13 : St → Int32 → Prop) (K27 : St → Int32 → Prop) : Prop :=
  (vp_in ((13 * x4) + x5) 65 ∧ (∀ s145 : St, s145 = s_A σ 54 (Int32.toNatClampNeg ((13 * x4) + x5)) x6 → K27 s145 (x5 + 1)))
def m_waysOf_p54 (σ : St) (x1 : Int32) (x2 : Int32) (x3 : Int32) (x4 : Int32) (x5 : Int32) (Q : Int32 → St → Prop) (K13 : St → Int32 → Prop) (K27 : St → Int32 → Prop) (K54 : Int32 → Int32 → Prop) (x6 : Int32) (x7 : Int32) : Prop :=
  ((x5 < x7 → (m_waysOf_p131 σ x1 x2 x3 x4 x5 x6 Q K13 K27)) ∧ (¬ x5 < x7 → ((x4 ≤ 0 → (m_waysOf_p131 σ x1 x2 x3 x4 x5 x6 Q K13 K27)) ∧ (¬ x4 ≤ 0 → (vp_in ((13 * (x4 - 1)) + x7) 65 ∧ (((gI σ 54 ((13 * (x4 - 1)) + x7)) ≤ 0 → K54 (x6 + 0) (x7 + 1)) ∧ (¬ (gI σ 54 ((13 * (x4 - 1)) + x7)) ≤ 0 → (m_canBe σ 1 x1 (x4 - 1) x7 x5 (fun r97 => ((r97 = 0 → K54 (x6 + 0) (x7 + 1)) ∧ (¬ r97 = 0 → K54 (x6 + (gI σ 54 ((13 * (x4 - 1)) + x7))) (x7 + 1))))))))))))
def m_waysOf_p27 (x1 : Int32) (x2 : Int32) (x3 : Int32) (x4 : Int32) (Q : Int32 → St → Prop) (K13 : St → Int32 → Prop) (K27 : St → Int32 → Prop) (σ : St) (x5 : Int32) : Prop :=
  ((x3 < x5 → K13 σ (x4 + 1)) ∧ (¬ x3 < x5 → ((x4 = 0 → ((x5 = x2 → (Lp2 (m_waysOf_p54 σ x1 x2 x3 x4 x5 Q K13 K27) 1 x2)) ∧ (¬ x5 = x2 → (Lp2 (m_waysOf_p54 σ x1 x2 x3 x4 x5 Q K13 K27) 0 x2)))) ∧ (¬ x4 = 0 → (Lp2 (m_waysOf_p54 σ x1 x2 x3 x4 x5 Q K13 K27) 0 x2)))))
def m_waysOf_p13 (x1 : Int32) (x2 : Int32) (x3 : Int32) (Q : Int32 → St → Prop) (K13 : St → Int32 → Prop) (σ : St) (x4 : Int32) : Prop :=
  (vp_in x1 12 ∧ (((gI σ 4 x1) < x4 → (vp_in ((13 * (gI σ 4 x1)) + x3) 65 ∧ Q (gI σ 54 ((13 * (gI σ 4 x1)) + x3)) σ)) ∧ (¬ (gI σ 4 x1) < x4 → (Lp2 (m_waysOf_p27 x1 x2 x3 x4 Q K13) σ x2))))
def m_waysOf (σ : St) (x1 : Int32) (x2 : Int32) (x3 : Int32) (Q : Int32 → St → Prop) : Prop :=
  (((fm_isOn σ x1) = 0 → Q 0 σ) ∧ (¬ (fm_isOn σ x1) = 0 → (Lp2 (m_waysOf_p13 x1 x2 x3 Q) σ 0)))
abbrev rm_m_waysOf : Room := { frames := 4, cells := 0, slots := 0, locals := 96 }
set_option maxHeartbeats 4000000 in
theorem met_m_waysOf (l : Launch) (D : va_G) (ct : Ct) (ad : Nat → Nat) (hJ : gJ shM ad ct) (σ : St) (x1 : Int32) (x2 : Int32) (x3 : Int32) (Q : Int32 → St → Prop) (hf : m_waysOf σ x1 x2 x3 Q) : Met l yX3_waysOf (ws_ yX3_waysOf cX3_waysOf 8 (some .int)) rm_m_waysOf (va_Pc [.ref (ad 0), .int x1, .int x2, .int x3] (gP D ct shM ad σ)) (gQ rvI D ct shM ad Q) 0 0 (gA shM ad) := by
  refine g_metI hJ (by decide) (Nat.le_of_ble_eq_true rfl) ?_
  intro p e s m args below meth c QQ ls C hw hl hret
  replace hl : lv_has ls 8 [(0, .ref (ad 0)), (1, .int x1), (2, .int x2), (3, .int x3)] := hl
  have J131 : ∀ (σ : St) (H : Heap) (locs : List Loc) (x1 : Int32) (x2 : Int32) (x3 : Int32) (x4 : Int32) (x5 : Int32) (x6 : Int32) (K13 : St → Int32 → Prop) (_ : ∀ (σ : St) (H : Heap) (locs : List Loc) (x4 : Int32) (ls : Array Slot), K13 σ x4 → gH D ct shM ad s σ H locs → lv_has ls 8 [(0, .ref (ad 0)), (1, .int x1), (2, .int x2), (3, .int x3), (4, .int x4)] → W p l e rm_m_waysOf s m args below meth c H locs 0 0 QQ (F0 m 13 ls [])) (K27 : St → Int32 → Prop) (_ : ∀ (σ : St) (H : Heap) (locs : List Loc) (x5 : Int32) (ls : Array Slot), K27 σ x5 → gH D ct shM ad s σ H locs → lv_has ls 8 [(0, .ref (ad 0)), (1, .int x1), (2, .int x2), (3, .int x3), (4, .int x4), (5, .int x5)] → W p l e rm_m_waysOf s m args below meth c H locs 0 0 QQ (F0 m 27 ls [])) (ls : Array Slot), m_waysOf_p131 σ x1 x2 x3 x4 x5 x6 Q K13 K27 → gH D ct shM ad s σ H locs → lv_has ls 8 [(0, .ref (ad 0)), (1, .int x1), (2, .int x2), (3, .int x3), (4, .int x4), (5, .int x5), (6, .int x6)] → W p l e rm_m_waysOf s m args below meth c H locs 0 0 QQ (F0 m 131 ls []) := by
    intro σ H locs x1 x2 x3 x4 x5 x6 K13 hK13 K27 hK27 ls hf hw hl
    unfold m_waysOf_p131 at hf
    refine lv_aload_n C.1 C.2.1 dX3_waysOf_131 rfl (lv_at hl 0 rfl) ?_
    refine mg_waysAhead C hw dX3_waysOf_132 ?_
    refine lv_bipush (v := 13) C.1 C.2.1 dX3_waysOf_135 rfl ?_
    refine lv_iload C.1 C.2.1 dX3_waysOf_137 (lv_at hl 4 rfl) ?_
    refine lv_imul C.1 C.2.1 dX3_waysOf_139 ?_
    refine lv_iload C.1 C.2.1 dX3_waysOf_140 (lv_at hl 5 rfl) ?_
    refine lv_iadd C.1 C.2.1 dX3_waysOf_142 ?_
    refine lv_iload C.1 C.2.1 dX3_waysOf_143 (lv_at hl 6 rfl) ?_
    obtain ⟨b145, hf⟩ := hf
    refine g_iast C shM_sep hw 54 rfl b145 dX3_waysOf_145 (fun s145 H locs e145 hw => ?_)
    replace hf := hf s145 e145
    refine lv_iinc (v := (x5 + 1)) (lv' := [(5, .int (x5 + 1)), (0, .ref (ad 0)), (1, .int x1), (2, .int x2), (3, .int x3), (4, .int x4), (6, .int x6)]) C.1 C.2.1 dX3_waysOf_146 hl (k := 5) rfl rfl (Nat.le_of_ble_eq_true rfl) rfl (fun ls hl => ?_)
    refine lv_goto (tgt := 27) C.1 C.2.1 dX3_waysOf_149 (by decide) ?_
    exact hK27 _ _ _ _ _ hf hw (lv_sub hl [1, 2, 3, 4, 5, 0] rfl)
  have B54 : ∀ (σ : St) (H : Heap) (locs : List Loc) (x1 : Int32) (x2 : Int32) (x3 : Int32) (x4 : Int32) (x5 : Int32) (K13 : St → Int32 → Prop) (_ : ∀ (σ : St) (H : Heap) (locs : List Loc) (x4 : Int32) (ls : Array Slot), K13 σ x4 → gH D ct shM ad s σ H locs → lv_has ls 8 [(0, .ref (ad 0)), (1, .int x1), (2, .int x2), (3, .int x3), (4, .int x4)] → W p l e rm_m_waysOf s m args below meth c H locs 0 0 QQ (F0 m 13 ls [])) (K27 : St → Int32 → Prop) (_ : ∀ (σ : St) (H : Heap) (locs : List Loc) (x5 : Int32) (ls : Array Slot), K27 σ x5 → gH D ct shM ad s σ H locs → lv_has ls 8 [(0, .ref (ad 0)), (1, .int x1), (2, .int x2), (3, .int x3), (4, .int x4), (5, .int x5)] → W p l e rm_m_waysOf s m args below meth c H locs 0 0 QQ (F0 m 27 ls [])) (K54 : Int32 → Int32 → Prop) (_ : ∀ (x6 : Int32) (x7 : Int32) (ls : Array Slot), K54 x6 x7 → lv_has ls 8 [(0, .ref (ad 0)), (1, .int x1), (2, .int x2), (3, .int x3), (4, .int x4), (5, .int x5), (6, .int x6), (7, .int x7)] → W p l e rm_m_waysOf s m args below meth c H locs 0 0 QQ (F0 m 54 ls [])) (x6 : Int32) (x7 : Int32) (ls : Array Slot), m_waysOf_p54 σ x1 x2 x3 x4 x5 Q K13 K27 K54 x6 x7 → gH D ct shM ad s σ H locs → lv_has ls 8 [(0, .ref (ad 0)), (1, .int x1), (2, .int x2), (3, .int x3), (4, .int x4), (5, .int x5), (6, .int x6), (7, .int x7)] → W p l e rm_m_waysOf s m args below meth c H locs 0 0 QQ (F0 m 54 ls []) := by
    intro σ H locs x1 x2 x3 x4 x5 K13 hK13 K27 hK27 K54 hK54 x6 x7 ls hf hw hl
    unfold m_waysOf_p54 at hf
    refine lv_iload C.1 C.2.1 dX3_waysOf_54 (lv_at hl 7 rfl) ?_
    refine lv_iload C.1 C.2.1 dX3_waysOf_56 (lv_at hl 5 rfl) ?_
    refine lv_icmp_gt (tgt := 131) C.1 C.2.1 dX3_waysOf_58 (by decide) (fun h58 => ?_) (fun h58 => ?_)
    · replace hf := hf.1 h58
      exact J131 _ _ _ _ _ _ _ _ _ _ hK13 _ hK27 _ hf hw (lv_sub hl [0, 1, 2, 3, 4, 5, 6] rfl)
    · replace hf := hf.2 h58
      refine lv_iload C.1 C.2.1 dX3_waysOf_61 (lv_at hl 4 rfl) ?_
      refine lv_if_le (tgt := 131) C.1 C.2.1 dX3_waysOf_63 (by decide) (fun h63 => ?_) (fun h63 => ?_)
      · replace hf := hf.1 h63
        exact J131 _ _ _ _ _ _ _ _ _ _ hK13 _ hK27 _ hf hw (lv_sub hl [0, 1, 2, 3, 4, 5, 6] rfl)
      · replace hf := hf.2 h63
        refine lv_iload C.1 C.2.1 dX3_waysOf_66 (lv_at hl 6 rfl) ?_
        refine lv_aload_n C.1 C.2.1 dX3_waysOf_68 rfl (lv_at hl 0 rfl) ?_
        refine mg_waysAhead C hw dX3_waysOf_69 ?_
        refine lv_bipush (v := 13) C.1 C.2.1 dX3_waysOf_72 rfl ?_
        refine lv_iload C.1 C.2.1 dX3_waysOf_74 (lv_at hl 4 rfl) ?_
        refine lv_iconst (v := 1) C.1 C.2.1 dX3_waysOf_76 rfl ?_
        refine lv_isub C.1 C.2.1 dX3_waysOf_77 ?_
        refine lv_imul C.1 C.2.1 dX3_waysOf_78 ?_
        refine lv_iload C.1 C.2.1 dX3_waysOf_79 (lv_at hl 7 rfl) ?_
        refine lv_iadd C.1 C.2.1 dX3_waysOf_81 ?_
        obtain ⟨b82, hf⟩ := hf
        refine g_iald C hw 54 rfl b82 dX3_waysOf_82 ?_
        refine lv_if_le (tgt := 121) C.1 C.2.1 dX3_waysOf_83 (by decide) (fun h83 => ?_) (fun h83 => ?_)
        · replace hf := hf.1 h83
          refine lv_iconst (v := 0) C.1 C.2.1 dX3_waysOf_121 rfl ?_
          refine lv_iadd C.1 C.2.1 dX3_waysOf_122 ?_
          refine lv_istore (lv' := [(6, .int (x6 + 0)), (0, .ref (ad 0)), (1, .int x1), (2, .int x2), (3, .int x3), (4, .int x4), (5, .int x5), (7, .int x7)]) C.1 C.2.1 dX3_waysOf_123 hl (Nat.le_of_ble_eq_true rfl) rfl (fun ls hl => ?_)
          refine lv_iinc (v := (x7 + 1)) (lv' := [(7, .int (x7 + 1)), (6, .int (x6 + 0)), (0, .ref (ad 0)), (1, .int x1), (2, .int x2), (3, .int x3), (4, .int x4), (5, .int x5)]) C.1 C.2.1 dX3_waysOf_125 hl (k := 7) rfl rfl (Nat.le_of_ble_eq_true rfl) rfl (fun ls hl => ?_)
          refine lv_goto (tgt := 54) C.1 C.2.1 dX3_waysOf_128 (by decide) ?_
          exact hK54 _ _ _ hf (lv_sub hl [2, 3, 4, 5, 6, 7, 1, 0] rfl)
        · replace hf := hf.2 h83
          refine lv_aload_n C.1 C.2.1 dX3_waysOf_86 rfl (lv_at hl 0 rfl) ?_
          refine lv_iconst (v := 1) C.1 C.2.1 dX3_waysOf_87 rfl ?_
          refine lv_iload_n C.1 C.2.1 dX3_waysOf_88 rfl (lv_at hl 1 rfl) ?_
          refine lv_iload C.1 C.2.1 dX3_waysOf_89 (lv_at hl 4 rfl) ?_
          refine lv_iconst (v := 1) C.1 C.2.1 dX3_waysOf_91 rfl ?_
          refine lv_isub C.1 C.2.1 dX3_waysOf_92 ?_
          refine lv_iload C.1 C.2.1 dX3_waysOf_93 (lv_at hl 7 rfl) ?_
          refine lv_iload C.1 C.2.1 dX3_waysOf_95 (lv_at hl 5 rfl) ?_
          refine km_canBe C hw hl.1 (Nat.le_of_ble_eq_true rfl) ⟨Nat.le_of_ble_eq_true rfl, Nat.le_of_ble_eq_true rfl⟩ dX3_waysOf_97 hf (fun r97 hf => ?_)
          refine lv_if_eq (tgt := 121) C.1 C.2.1 dX3_waysOf_100 (by decide) (fun h100 => ?_) (fun h100 => ?_)
          · replace hf := hf.1 h100
            refine lv_iconst (v := 0) C.1 C.2.1 dX3_waysOf_121 rfl ?_
            refine lv_iadd C.1 C.2.1 dX3_waysOf_122 ?_
            refine lv_istore (lv' := [(6, .int (x6 + 0)), (0, .ref (ad 0)), (1, .int x1), (2, .int x2), (3, .int x3), (4, .int x4), (5, .int x5), (7, .int x7)]) C.1 C.2.1 dX3_waysOf_123 hl (Nat.le_of_ble_eq_true rfl) rfl (fun ls hl => ?_)
            refine lv_iinc (v := (x7 + 1)) (lv' := [(7, .int (x7 + 1)), (6, .int (x6 + 0)), (0, .ref (ad 0)), (1, .int x1), (2, .int x2), (3, .int x3), (4, .int x4), (5, .int x5)]) C.1 C.2.1 dX3_waysOf_125 hl (k := 7) rfl rfl (Nat.le_of_ble_eq_true rfl) rfl (fun ls hl => ?_)
            refine lv_goto (tgt := 54) C.1 C.2.1 dX3_waysOf_128 (by decide) ?_
            exact hK54 _ _ _ hf (lv_sub hl [2, 3, 4, 5, 6, 7, 1, 0] rfl)
          · replace hf := hf.2 h100
            refine lv_aload_n C.1 C.2.1 dX3_waysOf_103 rfl (lv_at hl 0 rfl) ?_
            refine mg_waysAhead C hw dX3_waysOf_104 ?_
            refine lv_bipush (v := 13) C.1 C.2.1 dX3_waysOf_107 rfl ?_
            refine lv_iload C.1 C.2.1 dX3_waysOf_109 (lv_at hl 4 rfl) ?_
            refine lv_iconst (v := 1) C.1 C.2.1 dX3_waysOf_111 rfl ?_
            refine lv_isub C.1 C.2.1 dX3_waysOf_112 ?_
            refine lv_imul C.1 C.2.1 dX3_waysOf_113 ?_
            refine lv_iload C.1 C.2.1 dX3_waysOf_114 (lv_at hl 7 rfl) ?_
            refine lv_iadd C.1 C.2.1 dX3_waysOf_116 ?_
            refine g_iald C hw 54 rfl b82 dX3_waysOf_117 ?_
            refine lv_goto (tgt := 122) C.1 C.2.1 dX3_waysOf_118 (by decide) ?_
            refine lv_iadd C.1 C.2.1 dX3_waysOf_122 ?_
            refine lv_istore (lv' := [(6, .int (x6 + (gI σ 54 ((13 * (x4 - 1)) + x7)))), (0, .ref (ad 0)), (1, .int x1), (2, .int x2), (3, .int x3), (4, .int x4), (5, .int x5), (7, .int x7)]) C.1 C.2.1 dX3_waysOf_123 hl (Nat.le_of_ble_eq_true rfl) rfl (fun ls hl => ?_)
            refine lv_iinc (v := (x7 + 1)) (lv' := [(7, .int (x7 + 1)), (6, .int (x6 + (gI σ 54 ((13 * (x4 - 1)) + x7)))), (0, .ref (ad 0)), (1, .int x1), (2, .int x2), (3, .int x3), (4, .int x4), (5, .int x5)]) C.1 C.2.1 dX3_waysOf_125 hl (k := 7) rfl rfl (Nat.le_of_ble_eq_true rfl) rfl (fun ls hl => ?_)
            refine lv_goto (tgt := 54) C.1 C.2.1 dX3_waysOf_128 (by decide) ?_
            exact hK54 _ _ _ hf (lv_sub hl [2, 3, 4, 5, 6, 7, 1, 0] rfl)
  have P54 : ∀ (σ : St) (H : Heap) (locs : List Loc) (x1 : Int32) (x2 : Int32) (x3 : Int32) (x4 : Int32) (x5 : Int32) (K13 : St → Int32 → Prop) (_ : ∀ (σ : St) (H : Heap) (locs : List Loc) (x4 : Int32) (ls : Array Slot), K13 σ x4 → gH D ct shM ad s σ H locs → lv_has ls 8 [(0, .ref (ad 0)), (1, .int x1), (2, .int x2), (3, .int x3), (4, .int x4)] → W p l e rm_m_waysOf s m args below meth c H locs 0 0 QQ (F0 m 13 ls [])) (K27 : St → Int32 → Prop) (_ : ∀ (σ : St) (H : Heap) (locs : List Loc) (x5 : Int32) (ls : Array Slot), K27 σ x5 → gH D ct shM ad s σ H locs → lv_has ls 8 [(0, .ref (ad 0)), (1, .int x1), (2, .int x2), (3, .int x3), (4, .int x4), (5, .int x5)] → W p l e rm_m_waysOf s m args below meth c H locs 0 0 QQ (F0 m 27 ls [])) (n : Nat) (x6 : Int32) (x7 : Int32) (ls : Array Slot), LL2 (m_waysOf_p54 σ x1 x2 x3 x4 x5 Q K13 K27) n x6 x7 → gH D ct shM ad s σ H locs → lv_has ls 8 [(0, .ref (ad 0)), (1, .int x1), (2, .int x2), (3, .int x3), (4, .int x4), (5, .int x5), (6, .int x6), (7, .int x7)] → W p l e rm_m_waysOf s m args below meth c H locs 0 0 QQ (F0 m 54 ls []) := by
    intro σ H locs x1 x2 x3 x4 x5 K13 hK13 K27 hK27 n
    induction n with
    | zero => intro x6 x7 ls hf; exact False.elim hf
    | succ n ih => intro x6 x7 ls hf hw hl; exact B54 σ H locs x1 x2 x3 x4 x5 K13 hK13 K27 hK27 (LL2 _ n) (fun x6 x7 ls hf hl => ih x6 x7 ls hf hw hl) x6 x7 ls hf hw hl
  have B27 : ∀ (x1 : Int32) (x2 : Int32) (x3 : Int32) (x4 : Int32) (K13 : St → Int32 → Prop) (_ : ∀ (σ : St) (H : Heap) (locs : List Loc) (x4 : Int32) (ls : Array Slot), K13 σ x4 → gH D ct shM ad s σ H locs → lv_has ls 8 [(0, .ref (ad 0)), (1, .int x1), (2, .int x2), (3, .int x3), (4, .int x4)] → W p l e rm_m_waysOf s m args below meth c H locs 0 0 QQ (F0 m 13 ls [])) (K27 : St → Int32 → Prop) (_ : ∀ (σ : St) (H : Heap) (locs : List Loc) (x5 : Int32) (ls : Array Slot), K27 σ x5 → gH D ct shM ad s σ H locs → lv_has ls 8 [(0, .ref (ad 0)), (1, .int x1), (2, .int x2), (3, .int x3), (4, .int x4), (5, .int x5)] → W p l e rm_m_waysOf s m args below meth c H locs 0 0 QQ (F0 m 27 ls [])) (σ : St) (H : Heap) (locs : List Loc) (x5 : Int32) (ls : Array Slot), m_waysOf_p27 x1 x2 x3 x4 Q K13 K27 σ x5 → gH D ct shM ad s σ H locs → lv_has ls 8 [(0, .ref (ad 0)), (1, .int x1), (2, .int x2), (3, .int x3), (4, .int x4), (5, .int x5)] → W p l e rm_m_waysOf s m args below meth c H locs 0 0 QQ (F0 m 27 ls []) := by
    intro x1 x2 x3 x4 K13 hK13 K27 hK27 σ H locs x5 ls hf hw hl
    unfold m_waysOf_p27 at hf
    refine lv_iload C.1 C.2.1 dX3_waysOf_27 (lv_at hl 5 rfl) ?_
    refine lv_iload_n C.1 C.2.1 dX3_waysOf_29 rfl (lv_at hl 3 rfl) ?_
    refine lv_icmp_gt (tgt := 152) C.1 C.2.1 dX3_waysOf_30 (by decide) (fun h30 => ?_) (fun h30 => ?_)
    · replace hf := hf.1 h30
      refine lv_iinc (v := (x4 + 1)) (lv' := [(4, .int (x4 + 1)), (0, .ref (ad 0)), (1, .int x1), (2, .int x2), (3, .int x3), (5, .int x5)]) C.1 C.2.1 dX3_waysOf_152 hl (k := 4) rfl rfl (Nat.le_of_ble_eq_true rfl) rfl (fun ls hl => ?_)
      refine lv_goto (tgt := 13) C.1 C.2.1 dX3_waysOf_155 (by decide) ?_
      exact hK13 _ _ _ _ _ hf hw (lv_sub hl [1, 2, 3, 4, 0] rfl)
    · replace hf := hf.2 h30
      refine lv_iload C.1 C.2.1 dX3_waysOf_33 (lv_at hl 4 rfl) ?_
      refine lv_if_ne (tgt := 48) C.1 C.2.1 dX3_waysOf_35 (by decide) (fun h35 => ?_) (fun h35 => ?_)
      · replace hf := hf.2 h35
        refine lv_iconst (v := 0) C.1 C.2.1 dX3_waysOf_48 rfl ?_
        refine lv_istore (lv' := [(6, .int 0), (0, .ref (ad 0)), (1, .int x1), (2, .int x2), (3, .int x3), (4, .int x4), (5, .int x5)]) C.1 C.2.1 dX3_waysOf_49 hl (Nat.le_of_ble_eq_true rfl) rfl (fun ls hl => ?_)
        refine lv_iload_n C.1 C.2.1 dX3_waysOf_51 rfl (lv_at hl 3 rfl) ?_
        refine lv_istore (lv' := [(7, .int x2), (6, .int 0), (0, .ref (ad 0)), (1, .int x1), (2, .int x2), (3, .int x3), (4, .int x4), (5, .int x5)]) C.1 C.2.1 dX3_waysOf_52 hl (Nat.le_of_ble_eq_true rfl) rfl (fun ls hl => ?_)
        obtain ⟨n, hf⟩ := hf
        exact P54 _ _ _ _ _ _ _ _ _ hK13 _ hK27 n _ _ _ hf hw (lv_sub hl [2, 3, 4, 5, 6, 7, 1, 0] rfl)
      · replace hf := hf.1 h35
        refine lv_iload C.1 C.2.1 dX3_waysOf_38 (lv_at hl 5 rfl) ?_
        refine lv_iload_n C.1 C.2.1 dX3_waysOf_40 rfl (lv_at hl 2 rfl) ?_
        refine lv_icmp_ne (tgt := 48) C.1 C.2.1 dX3_waysOf_41 (by decide) (fun h41 => ?_) (fun h41 => ?_)
        · replace hf := hf.2 h41
          refine lv_iconst (v := 0) C.1 C.2.1 dX3_waysOf_48 rfl ?_
          refine lv_istore (lv' := [(6, .int 0), (0, .ref (ad 0)), (1, .int x1), (2, .int x2), (3, .int x3), (4, .int x4), (5, .int x5)]) C.1 C.2.1 dX3_waysOf_49 hl (Nat.le_of_ble_eq_true rfl) rfl (fun ls hl => ?_)
          refine lv_iload_n C.1 C.2.1 dX3_waysOf_51 rfl (lv_at hl 3 rfl) ?_
          refine lv_istore (lv' := [(7, .int x2), (6, .int 0), (0, .ref (ad 0)), (1, .int x1), (2, .int x2), (3, .int x3), (4, .int x4), (5, .int x5)]) C.1 C.2.1 dX3_waysOf_52 hl (Nat.le_of_ble_eq_true rfl) rfl (fun ls hl => ?_)
          obtain ⟨n, hf⟩ := hf
          exact P54 _ _ _ _ _ _ _ _ _ hK13 _ hK27 n _ _ _ hf hw (lv_sub hl [2, 3, 4, 5, 6, 7, 1, 0] rfl)
        · replace hf := hf.1 h41
          refine lv_iconst (v := 1) C.1 C.2.1 dX3_waysOf_44 rfl ?_
          refine lv_goto (tgt := 49) C.1 C.2.1 dX3_waysOf_45 (by decide) ?_
          refine lv_istore (lv' := [(6, .int 1), (0, .ref (ad 0)), (1, .int x1), (2, .int x2), (3, .int x3), (4, .int x4), (5, .int x5)]) C.1 C.2.1 dX3_waysOf_49 hl (Nat.le_of_ble_eq_true rfl) rfl (fun ls hl => ?_)
          refine lv_iload_n C.1 C.2.1 dX3_waysOf_51 rfl (lv_at hl 3 rfl) ?_
          refine lv_istore (lv' := [(7, .int x2), (6, .int 1), (0, .ref (ad 0)), (1, .int x1), (2, .int x2), (3, .int x3), (4, .int x4), (5, .int x5)]) C.1 C.2.1 dX3_waysOf_52 hl (Nat.le_of_ble_eq_true rfl) rfl (fun ls hl => ?_)
          obtain ⟨n, hf⟩ := hf
          exact P54 _ _ _ _ _ _ _ _ _ hK13 _ hK27 n _ _ _ hf hw (lv_sub hl [2, 3, 4, 5, 6, 7, 1, 0] rfl)
  have P27 : ∀ (x1 : Int32) (x2 : Int32) (x3 : Int32) (x4 : Int32) (K13 : St → Int32 → Prop) (_ : ∀ (σ : St) (H : Heap) (locs : List Loc) (x4 : Int32) (ls : Array Slot), K13 σ x4 → gH D ct shM ad s σ H locs → lv_has ls 8 [(0, .ref (ad 0)), (1, .int x1), (2, .int x2), (3, .int x3), (4, .int x4)] → W p l e rm_m_waysOf s m args below meth c H locs 0 0 QQ (F0 m 13 ls [])) (n : Nat) (σ : St) (x5 : Int32) (ls : Array Slot) (H : Heap) (locs : List Loc), LL2 (m_waysOf_p27 x1 x2 x3 x4 Q K13) n σ x5 → gH D ct shM ad s σ H locs → lv_has ls 8 [(0, .ref (ad 0)), (1, .int x1), (2, .int x2), (3, .int x3), (4, .int x4), (5, .int x5)] → W p l e rm_m_waysOf s m args below meth c H locs 0 0 QQ (F0 m 27 ls []) := by
    intro x1 x2 x3 x4 K13 hK13 n
    induction n with
    | zero => intro σ x5 ls H locs hf; exact False.elim hf
    | succ n ih => intro σ x5 ls H locs hf hw hl; exact B27 x1 x2 x3 x4 K13 hK13 (LL2 _ n) (fun σ H locs x5 ls hf hw hl => ih σ x5 ls H locs hf hw hl) σ H locs x5 ls hf hw hl
  have B13 : ∀ (x1 : Int32) (x2 : Int32) (x3 : Int32) (K13 : St → Int32 → Prop) (_ : ∀ (σ : St) (H : Heap) (locs : List Loc) (x4 : Int32) (ls : Array Slot), K13 σ x4 → gH D ct shM ad s σ H locs → lv_has ls 8 [(0, .ref (ad 0)), (1, .int x1), (2, .int x2), (3, .int x3), (4, .int x4)] → W p l e rm_m_waysOf s m args below meth c H locs 0 0 QQ (F0 m 13 ls [])) (σ : St) (H : Heap) (locs : List Loc) (x4 : Int32) (ls : Array Slot), m_waysOf_p13 x1 x2 x3 Q K13 σ x4 → gH D ct shM ad s σ H locs → lv_has ls 8 [(0, .ref (ad 0)), (1, .int x1), (2, .int x2), (3, .int x3), (4, .int x4)] → W p l e rm_m_waysOf s m args below meth c H locs 0 0 QQ (F0 m 13 ls []) := by
    intro x1 x2 x3 K13 hK13 σ H locs x4 ls hf hw hl
    unfold m_waysOf_p13 at hf
    refine lv_iload C.1 C.2.1 dX3_waysOf_13 (lv_at hl 4 rfl) ?_
    refine lv_aload_n C.1 C.2.1 dX3_waysOf_15 rfl (lv_at hl 0 rfl) ?_
    refine mg_size C hw dX3_waysOf_16 ?_
    refine lv_iload_n C.1 C.2.1 dX3_waysOf_19 rfl (lv_at hl 1 rfl) ?_
    obtain ⟨b20, hf⟩ := hf
    refine g_iald C hw 4 rfl b20 dX3_waysOf_20 ?_
    refine lv_icmp_gt (tgt := 158) C.1 C.2.1 dX3_waysOf_21 (by decide) (fun h21 => ?_) (fun h21 => ?_)
    · replace hf := hf.1 h21
      refine lv_aload_n C.1 C.2.1 dX3_waysOf_158 rfl (lv_at hl 0 rfl) ?_
      refine mg_waysAhead C hw dX3_waysOf_159 ?_
      refine lv_bipush (v := 13) C.1 C.2.1 dX3_waysOf_162 rfl ?_
      refine lv_aload_n C.1 C.2.1 dX3_waysOf_164 rfl (lv_at hl 0 rfl) ?_
      refine mg_size C hw dX3_waysOf_165 ?_
      refine lv_iload_n C.1 C.2.1 dX3_waysOf_168 rfl (lv_at hl 1 rfl) ?_
      refine g_iald C hw 4 rfl b20 dX3_waysOf_169 ?_
      refine lv_imul C.1 C.2.1 dX3_waysOf_170 ?_
      refine lv_iload_n C.1 C.2.1 dX3_waysOf_171 rfl (lv_at hl 3 rfl) ?_
      refine lv_iadd C.1 C.2.1 dX3_waysOf_172 ?_
      obtain ⟨b173, hf⟩ := hf
      refine g_iald C hw 54 rfl b173 dX3_waysOf_173 ?_
      exact hret _ _ _ _ _ _ hf hw dX3_waysOf_174
    · replace hf := hf.2 h21
      refine lv_iload_n C.1 C.2.1 dX3_waysOf_24 rfl (lv_at hl 2 rfl) ?_
      refine lv_istore (lv' := [(5, .int x2), (0, .ref (ad 0)), (1, .int x1), (2, .int x2), (3, .int x3), (4, .int x4)]) C.1 C.2.1 dX3_waysOf_25 hl (Nat.le_of_ble_eq_true rfl) rfl (fun ls hl => ?_)
      obtain ⟨n, hf⟩ := hf
      exact P27 _ _ _ _ _ hK13 n _ _ _ _ _ hf hw (lv_sub hl [1, 2, 3, 4, 5, 0] rfl)
  have P13 : ∀ (x1 : Int32) (x2 : Int32) (x3 : Int32) (n : Nat) (σ : St) (x4 : Int32) (ls : Array Slot) (H : Heap) (locs : List Loc), LL2 (m_waysOf_p13 x1 x2 x3 Q) n σ x4 → gH D ct shM ad s σ H locs → lv_has ls 8 [(0, .ref (ad 0)), (1, .int x1), (2, .int x2), (3, .int x3), (4, .int x4)] → W p l e rm_m_waysOf s m args below meth c H locs 0 0 QQ (F0 m 13 ls []) := by
    intro x1 x2 x3 n
    induction n with
    | zero => intro σ x4 ls H locs hf; exact False.elim hf
    | succ n ih => intro σ x4 ls H locs hf hw hl; exact B13 x1 x2 x3 (LL2 _ n) (fun σ H locs x4 ls hf hw hl => ih σ x4 ls H locs hf hw hl) σ H locs x4 ls hf hw hl
  unfold m_waysOf at hf
  obtain ⟨H, hH⟩ : ∃ q, q = s.heap := ⟨_, rfl⟩
  obtain ⟨locs, hL⟩ : ∃ q : List Loc, q = [] := ⟨_, rfl⟩
  rw [← hH, ← hL] at hw ⊢
  refine lv_aload_n C.1 C.2.1 dX3_waysOf_0 rfl (lv_at hl 0 rfl) ?_
  refine lv_iload_n C.1 C.2.1 dX3_waysOf_1 rfl (lv_at hl 1 rfl) ?_
  refine km_isOn C hw hl.1 (Nat.le_of_ble_eq_true rfl) ⟨Nat.le_of_ble_eq_true rfl, Nat.le_of_ble_eq_true rfl⟩ dX3_waysOf_2 ?_
  refine lv_if_ne (tgt := 10) C.1 C.2.1 dX3_waysOf_5 (by decide) (fun h5 => ?_) (fun h5 => ?_)
  · replace hf := hf.2 h5
    refine lv_iconst (v := 0) C.1 C.2.1 dX3_waysOf_10 rfl ?_
    refine lv_istore (lv' := [(4, .int 0), (0, .ref (ad 0)), (1, .int x1), (2, .int x2), (3, .int x3)]) C.1 C.2.1 dX3_waysOf_11 hl (Nat.le_of_ble_eq_true rfl) rfl (fun ls hl => ?_)
    obtain ⟨n, hf⟩ := hf
    exact P13 _ _ _ n _ _ _ _ _ hf hw (lv_sub hl [1, 2, 3, 4, 0] rfl)
  · replace hf := hf.1 h5
    refine lv_iconst (v := 0) C.1 C.2.1 dX3_waysOf_8 rfl ?_
    exact hret _ _ _ _ _ _ hf hw dX3_waysOf_9
theorem km_waysOf {p : Program} {l : Launch} {e : Env} {R : Room} {s : State} {m : MethodId} {args : Array Value} {below : List Frame} {meth : Method} {c : Code} {H : Heap} {locs : List Loc} {Z : State → Prop} {cc : ByteArray} {nL pc : Nat} {ls : Array Slot} {rest : List Value} {D : va_G} {ct : Ct} {ad : Nat → Nat} {σ : St} {x1 : Int32} {x2 : Int32} {x3 : Int32} {Qp : Int32 → St → Prop} (C : CallFix p m c cc nL s args lw_all RX3) (hw : gH D ct shM ad s σ H locs) (hsz : ls.size = nL) (hrm : (rest.map fun v => v.category).sum ≤ 8) (hR : rm_m_waysOf.frames + 1 ≤ R.frames ∧ 8 + (8 + 11) + rm_m_waysOf.locals ≤ R.locals) (hdg : decode cc pc = .ok (.invokevirtual 515, 3)) (hf : m_waysOf σ x1 x2 x3 Qp) (kk : ∀ (r : Int32) (σ1 : St) (H1 : Heap) (locs1 : List Loc), Qp r σ1 → gH D ct shM ad s σ1 H1 locs1 → W p l e R s m args below meth c H1 locs1 0 0 Z (F0 m (pc + 3) ls (.int r :: rest))) : W p l e R s m args below meth c H locs 0 0 Z (F0 m pc ls (.int x3 :: .int x2 :: .int x1 :: .ref (ad 0) :: rest)) :=
  g_callV (As := [.int x1, .int x2, .int x3]) (rest := rest) C hw rfl rfl (met_m_waysOf l D ct ad hw.2.1 σ x1 x2 x3 Qp hf) (cwV 3 C.2.2.2.2 (lw_V q2020 q2022 qs176 q207 q2023) rfl rfl rfl (by decide +kernel) hR) rfl hsz rfl hrm ⟨Nat.zero_le _, Nat.zero_le _⟩ hdg kk
def m_sizeBelow (σ : St) (x1 : Int32) (x2 : Int32) (x3 : Int32) (x4 : Int32) (Q : Int32 → Prop) : Prop :=
  (m_isCapitalAt σ x1 x2 (fun r3 => ((r3 = 0 → (m_isSmallAt σ x1 x2 x3 x4 (fun r15 => ((r15 = 0 → Q 2000000000) ∧ (¬ r15 = 0 → Q 0))))) ∧ (¬ r3 = 0 → (m_leastBelow σ x1 x2 x3 x4 (fun r35 => ((r35 = (-1) → Q 2000000000) ∧ (¬ r35 = (-1) → (vp_in (fm_spot r35 x3 x4) 2028 ∧ Q (gI σ 59 (fm_spot r35 x3 x4)))))))))))
abbrev rm_m_sizeBelow : Room := { frames := 4, cells := 0, slots := 0, locals := 96 }
set_option maxHeartbeats 4000000 in
theorem met_m_sizeBelow (l : Launch) (D : va_G) (ct : Ct) (ad : Nat → Nat) (hJ : gJ shM ad ct) (σ : St) (x1 : Int32) (x2 : Int32) (x3 : Int32) (x4 : Int32) (Q : Int32 → Prop) (hf : m_sizeBelow σ x1 x2 x3 x4 Q) : Met l yX3_sizeBelow (ws_ yX3_sizeBelow cX3_sizeBelow 6 (some .int)) rm_m_sizeBelow (va_Pc [.ref (ad 0), .int x1, .int x2, .int x3, .int x4] (gP D ct shM ad σ)) (gR rvI Q) 0 0 (fun _ => False) := by
  refine g_metRI hJ (by decide) (Nat.le_of_ble_eq_true rfl) ?_
  intro p e s m args below meth c QQ ls H C hw hl hret
  replace hl : lv_has ls 6 [(0, .ref (ad 0)), (1, .int x1), (2, .int x2), (3, .int x3), (4, .int x4)] := hl
  unfold m_sizeBelow at hf
  refine lv_aload_n C.1 C.2.1 dX3_sizeBelow_0 rfl (lv_at hl 0 rfl) ?_
  refine lv_iload_n C.1 C.2.1 dX3_sizeBelow_1 rfl (lv_at hl 1 rfl) ?_
  refine lv_iload_n C.1 C.2.1 dX3_sizeBelow_2 rfl (lv_at hl 2 rfl) ?_
  refine km_isCapitalAt C hw hl.1 (Nat.le_of_ble_eq_true rfl) ⟨Nat.le_of_ble_eq_true rfl, Nat.le_of_ble_eq_true rfl⟩ dX3_sizeBelow_3 hf (fun r3 hf => ?_)
  refine lv_if_ne (tgt := 29) C.1 C.2.1 dX3_sizeBelow_6 (by decide) (fun h6 => ?_) (fun h6 => ?_)
  · replace hf := hf.2 h6
    refine lv_aload_n C.1 C.2.1 dX3_sizeBelow_29 rfl (lv_at hl 0 rfl) ?_
    refine lv_iload_n C.1 C.2.1 dX3_sizeBelow_30 rfl (lv_at hl 1 rfl) ?_
    refine lv_iload_n C.1 C.2.1 dX3_sizeBelow_31 rfl (lv_at hl 2 rfl) ?_
    refine lv_iload_n C.1 C.2.1 dX3_sizeBelow_32 rfl (lv_at hl 3 rfl) ?_
    refine lv_iload C.1 C.2.1 dX3_sizeBelow_33 (lv_at hl 4 rfl) ?_
    refine km_leastBelow C hw hl.1 (Nat.le_of_ble_eq_true rfl) ⟨Nat.le_of_ble_eq_true rfl, Nat.le_of_ble_eq_true rfl⟩ dX3_sizeBelow_35 hf (fun r35 hf => ?_)
    refine lv_istore (lv' := [(5, .int r35), (0, .ref (ad 0)), (1, .int x1), (2, .int x2), (3, .int x3), (4, .int x4)]) C.1 C.2.1 dX3_sizeBelow_38 hl (Nat.le_of_ble_eq_true rfl) rfl (fun ls hl => ?_)
    refine lv_iload C.1 C.2.1 dX3_sizeBelow_40 (lv_at hl 0 rfl) ?_
    refine lv_iconst (v := (-1)) C.1 C.2.1 dX3_sizeBelow_42 rfl ?_
    refine lv_icmp_ne (tgt := 52) C.1 C.2.1 dX3_sizeBelow_43 (by decide) (fun h43 => ?_) (fun h43 => ?_)
    · replace hf := hf.2 h43
      refine lv_aload_n C.1 C.2.1 dX3_sizeBelow_52 rfl (lv_at hl 1 rfl) ?_
      refine mg_sizeOf C hw dX3_sizeBelow_53 ?_
      refine lv_iload C.1 C.2.1 dX3_sizeBelow_56 (lv_at hl 0 rfl) ?_
      refine lv_iload_n C.1 C.2.1 dX3_sizeBelow_58 rfl (lv_at hl 4 rfl) ?_
      refine lv_iload C.1 C.2.1 dX3_sizeBelow_59 (lv_at hl 5 rfl) ?_
      refine km_spot C hl.1 (Nat.le_of_ble_eq_true rfl) ⟨Nat.le_of_ble_eq_true rfl, Nat.le_of_ble_eq_true rfl⟩ dX3_sizeBelow_61 ?_
      obtain ⟨b64, hf⟩ := hf
      refine g_iald C hw 59 rfl b64 dX3_sizeBelow_64 ?_
      exact hret _ _ _ hf dX3_sizeBelow_65
    · replace hf := hf.1 h43
      refine lv_ldcw C.1 C.2.1 C.2.2.2.1 (C.2.2.2.2 _ q1760) dX3_sizeBelow_46 ?_
      refine lv_goto (tgt := 65) C.1 C.2.1 dX3_sizeBelow_49 (by decide) ?_
      exact hret _ _ _ hf dX3_sizeBelow_65
  · replace hf := hf.1 h6
    refine lv_aload_n C.1 C.2.1 dX3_sizeBelow_9 rfl (lv_at hl 0 rfl) ?_
    refine lv_iload_n C.1 C.2.1 dX3_sizeBelow_10 rfl (lv_at hl 1 rfl) ?_
    refine lv_iload_n C.1 C.2.1 dX3_sizeBelow_11 rfl (lv_at hl 2 rfl) ?_
    refine lv_iload_n C.1 C.2.1 dX3_sizeBelow_12 rfl (lv_at hl 3 rfl) ?_
    refine lv_iload C.1 C.2.1 dX3_sizeBelow_13 (lv_at hl 4 rfl) ?_
    refine km_isSmallAt C hw hl.1 (Nat.le_of_ble_eq_true rfl) ⟨Nat.le_of_ble_eq_true rfl, Nat.le_of_ble_eq_true rfl⟩ dX3_sizeBelow_15 hf (fun r15 hf => ?_)
    refine lv_if_eq (tgt := 25) C.1 C.2.1 dX3_sizeBelow_18 (by decide) (fun h18 => ?_) (fun h18 => ?_)
    · replace hf := hf.1 h18
      refine lv_ldcw C.1 C.2.1 C.2.2.2.1 (C.2.2.2.2 _ q1760) dX3_sizeBelow_25 ?_
      exact hret _ _ _ hf dX3_sizeBelow_28
    · replace hf := hf.2 h18
      refine lv_iconst (v := 0) C.1 C.2.1 dX3_sizeBelow_21 rfl ?_
      refine lv_goto (tgt := 28) C.1 C.2.1 dX3_sizeBelow_22 (by decide) ?_
      exact hret _ _ _ hf dX3_sizeBelow_28
theorem km_sizeBelow {p : Program} {l : Launch} {e : Env} {R : Room} {s : State} {m : MethodId} {args : Array Value} {below : List Frame} {meth : Method} {c : Code} {H : Heap} {locs : List Loc} {Z : State → Prop} {cc : ByteArray} {nL pc : Nat} {ls : Array Slot} {rest : List Value} {D : va_G} {ct : Ct} {ad : Nat → Nat} {σ : St} {x1 : Int32} {x2 : Int32} {x3 : Int32} {x4 : Int32} {Qp : Int32 → Prop} (C : CallFix p m c cc nL s args lw_all RX3) (hw : gH D ct shM ad s σ H locs) (hsz : ls.size = nL) (hrm : (rest.map fun v => v.category).sum ≤ 8) (hR : rm_m_sizeBelow.frames + 1 ≤ R.frames ∧ 8 + (6 + 11) + rm_m_sizeBelow.locals ≤ R.locals) (hdg : decode cc pc = .ok (.invokevirtual 544, 3)) (hf : m_sizeBelow σ x1 x2 x3 x4 Qp) (kk : ∀ (r : Int32), Qp r → W p l e R s m args below meth c H locs 0 0 Z (F0 m (pc + 3) ls (.int r :: rest))) : W p l e R s m args below meth c H locs 0 0 Z (F0 m pc ls (.int x4 :: .int x3 :: .int x2 :: .int x1 :: .ref (ad 0) :: rest)) :=
  g_callVR (As := [.int x1, .int x2, .int x3, .int x4]) (rest := rest) C hw rfl rfl (met_m_sizeBelow l D ct ad hw.2.1 σ x1 x2 x3 x4 Qp hf) (cwV 4 C.2.2.2.2 (lw_V q2057 q2059 qs183 q207 q2060) rfl rfl rfl (by decide +kernel) hR) rfl hsz rfl hrm ⟨Nat.zero_le _, Nat.zero_le _⟩ hdg kk
