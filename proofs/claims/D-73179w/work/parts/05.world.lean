/-! THE WORLD OF FLAT STATES: objects' int fields, int and long arrays as plain functions; ids: field k of an object with base b has the id b + k, an array in a field has the field's id; ad: the cell of an id -/
set_option maxRecDepth 100000
abbrev St : Type := (Nat → Int32) × (Nat → Nat → Int32) × (Nat → Nat → Int64)
-- array classes; what else holds all through a run
abbrev Ct : Type := (Nat → ClassId) × (State → Prop)
/-- objects (id ↦ class number, base, how many fields), kinds of ids (1 int, 2 ints, 3 bytes, 4 booleans, 5 longs, 6 other reference, 7 reference by the id that stands in the state, 0 null) and lengths -/
abbrev Sh : Type := (Nat → Option (Nat × Nat × Nat)) × (Nat → Nat × Nat)
def s_I (σ : St) (k : Nat) (x : Int32) : St := (upd σ.1 k x, σ.2.1, σ.2.2)
def s_A (σ : St) (k i : Nat) (x : Int32) : St := (σ.1, (fun j => if j = k then upd (σ.2.1 k) i x else σ.2.1 j), σ.2.2)
def s_L (σ : St) (k i : Nat) (x : Int64) : St := (σ.1, σ.2.1, fun j => if j = k then vp_updL (σ.2.2 k) i x else σ.2.2 j)
abbrev gI (σ : St) (k : Nat) (i : Int32) : Int32 := σ.2.1 k i.toNatClampNeg
abbrev gL (σ : St) (k : Nat) (i : Int32) : Int64 := σ.2.2 k i.toNatClampNeg
def fv (sh : Sh) (ad : Nat → Nat) (σ : St) (i : Nat) : Value := if (sh.2 i).1 = 1 then .int (σ.1 i) else if (sh.2 i).1 = 7 then .ref (ad (σ.1 i).toNatClampNeg) else if (sh.2 i).1 = 0 then .null else .ref (ad i)
def ownS (sh : Sh) (i : Nat) : Prop := (sh.1 i).isSome = true ∨ (2 ≤ (sh.2 i).1 ∧ (sh.2 i).1 ≤ 5)
def gA (sh : Sh) (ad : Nat → Nat) : Nat → Prop := fun q => ∃ i, ownS sh i ∧ ad i = q
def gJ (sh : Sh) (ad : Nat → Nat) (ct : Ct) : Prop := (∀ i j, ownS sh i → ownS sh j → ad i = ad j → i = j) ∧ (∀ (U : State) (g : JFrame) (mk : MethodId) (a : Array Value), ct.2 U → ct.2 (U.calling g mk a)) ∧ ∀ s U : State, s.WarmedH U.vm → ct.2 s → s.heap.size ≤ U.heap.size → (∀ q : Nat, q < s.heap.size → ¬ gA sh ad q → U.heap[q]? = s.heap[q]?) → ct.2 U
def gSep (sh : Sh) : Prop := (∀ o o' ci b N ci' b' N', sh.1 o = some (ci, b, N) → sh.1 o' = some (ci', b', N') → o ≠ o' → ∀ k k', k < N → k' < N' → b + k ≠ b' + k') ∧ ∀ o, (sh.1 o).isSome = true → ¬ (2 ≤ (sh.2 o).1 ∧ (sh.2 o).1 ≤ 5)
abbrev clx : List vw_C := [(RX0, TX0, 66), (RX1, TX1, 8), (RX2, TX2, 1), (RX3, TX3, 72), (RX4, TX4, 3), (RX5, TX5, 9), (RX6, TX6, 1), (RX7, TX7, 4), (RX8, TX8, 10)]
abbrev tyx (ct : Ct) : List (ClassId × FieldType) := [(ct.1 2, .int), (ct.1 3, .byte), (ct.1 4, .boolean), (ct.1 5, .long)]
/-- words that don't ride in the lists: nest mates' links, interfaces' methods, castable -/
def nestOK : Cond → Bool
  | .fieldLinkNest .. => true
  | .methodLinkNest .. => true
  | .declares _ => true
  | .castable .. => true
  | _ => false
theorem nw_warm {w : Cond} (h : nestOK w = true) {s U : State} (hW : s.WarmedH U.vm) (hZ : va_Nw w s) : va_Nw w U := by
  cases w <;> simp only [nestOK, Bool.false_eq_true] at h
  all_goals first | exact va_Nw.warmF hW hZ | exact va_Nw.warmM hW hZ | exact va_Nw.warmD hW hZ | exact va_Nw.warmC hW hZ
theorem nw_on {w : Cond} (h : nestOK w = true) : w.onTables = true := by
  cases w <;> simp only [nestOK, Bool.false_eq_true] at h <;> rfl
def gN (U : State) : Prop := ∀ w ∈ lw_tbl, nestOK w = true → va_Nw w U
def gK (D : va_G) (ct : Ct) (U : State) : Prop := va_K D clx (tyx ct) U ∧ gN U ∧ ct.2 U
theorem gK.moved {D : va_G} {ct : Ct} {sh : Sh} {ad : Nat → Nat} {s U : State} {locs : List Loc} (hJ : gJ sh ad ct) (hW : s.WarmedH U.vm) (hS : va_S (gA sh ad) s.heap U.heap locs) (h : gK D ct s) : gK D ct U := ⟨va_K.moved hW.alike h.1, fun w hw ho => nw_warm ho hW (h.2.1 w hw ho), hJ.2.2 s U hW h.2.2 hS.1 hS.2.1⟩
theorem gK.calling {D : va_G} {ct : Ct} {sh : Sh} {ad : Nat → Nat} (hJ : gJ sh ad ct) {U : State} {g : JFrame} {mk : MethodId} {a : Array Value} (h : gK D ct U) : gK D ct (U.calling g mk a) := ⟨va_K.moved (u := U) (U := U.calling g mk a) (Vm.Alike.refl U.vm) h.1, fun w hw ho => va_Nw.same (u := U) (U := U.calling g mk a) (nw_on ho) rfl (h.2.1 w hw ho), hJ.2.1 _ _ _ _ h.2.2⟩
theorem gN.word {s : State} (h : gN s) {w : Cond} (hw : w ∈ lw_tbl) (ho : nestOK w = true) {A : Array Value} : w.before A s = true := va_Nw.use (nw_on ho) (h w hw ho)
def gW (D : va_G) (ct : Ct) (sh : Sh) (ad : Nat → Nat) (σ : St) (H : Heap) : Prop :=
  (∀ o ci b N, sh.1 o = some (ci, b, N) → ∃ r : vw_C, clx[ci]? = some r ∧ r.2.2 = N ∧ t_OB (ad o) (D.1 ci) N (D.2 ci) H (fun k => fv sh ad σ (b + k))) ∧
  (∀ i t n, sh.2 i = (t, n) → 2 ≤ t → t ≤ 4 → H[ad i]? = some (arrV (ct.1 t) n (fun j => .int (σ.2.1 i j)))) ∧
  (∀ i n, sh.2 i = (5, n) → H[ad i]? = some (arrV (ct.1 5) n (fun j => .long (σ.2.2 i j))))
def gH (D : va_G) (ct : Ct) (sh : Sh) (ad : Nat → Nat) (s : State) (σ : St) (H : Heap) (locs : List Loc) : Prop :=
  gK D ct s ∧ gJ sh ad ct ∧ gW D ct sh ad σ H ∧ va_S (gA sh ad) s.heap H locs
theorem s_I_f {σ : St} {k : Nat} {x : Int32} {j : Nat} (h : j ≠ k) : (s_I σ k x).1 j = σ.1 j := by simp [s_I, upd, h]
theorem fv_sI_ne {sh : Sh} {ad : Nat → Nat} {σ : St} {k j : Nat} {x : Int32} (h : j ≠ k) : fv sh ad (s_I σ k x) j = fv sh ad σ j := by
  simp only [fv, s_I_f h]
theorem fv_sI_eq {sh : Sh} {ad : Nat → Nat} {σ : St} {k : Nat} {x : Int32} (h : (sh.2 k).1 = 1) : fv sh ad (s_I σ k x) k = .int x := by
  simp [fv, h, s_I, upd]
theorem fv_sI_eq7 {sh : Sh} {ad : Nat → Nat} {σ : St} {k : Nat} {x : Int32} (h : (sh.2 k).1 = 7) : fv sh ad (s_I σ k x) k = .ref (ad x.toNatClampNeg) := by
  simp [fv, h, s_I, upd]
theorem vpD {i : Int32} {n : Nat} (h : (decide (i < 0) || decide (n ≤ i.toNatClampNeg)) = false) : vp_in i n := by
  rw [Bool.or_eq_false_iff] at h
  rintro (q | q)
  · exact of_decide_eq_false h.1 q
  · exact of_decide_eq_false h.2 q
section GW
variable {p : Program} {l : Launch} {e : Env} {R : Room} {s : State} {m : MethodId} {args : Array Value} {below : List Frame} {meth : Method} {c : Code} {H : Heap} {locs : List Loc} {cells slots : Nat} {Q : State → Prop}
variable {cc : ByteArray} {nL pc : Nat} {ls : Array Slot} {rest : List Value} {D : va_G} {ct : Ct} {sh : Sh} {ad : Nat → Nat} {σ : St} {own : String}
/-- getfield -/
theorem g_getf (C : CallFix p m c cc nL s args lw_all own) (hw : gH D ct sh ad s σ H locs) {ref Cn : String} {T : u_T} {index o ci b N : Nat} (ho : sh.1 o = some (ci, b, N)) (hc : clx[ci]? = some (Cn, T, N)) (hin : ∀ w ∈ u_ws Cn T N, w ∈ lw_all) (k : Nat) (hk : k < N)
    (hlink : Cond.fieldLink own index ref (T k).2.1 (T k).2.2.1 ∈ lw_all) (href : ref = (T k).1) {v : Value} (hv : fv sh ad σ (b + k) = v) (hdg : decode cc pc = .ok (.getfield index, 3))
    (kk : W p l e R s m args below meth c H locs cells slots Q (F0 m (pc + 3) ls (v :: rest))) : W p l e R s m args below meth c H locs cells slots Q (F0 m pc ls (.ref (ad o) :: rest)) := by
  obtain ⟨hx, hb, -, hown, hts⟩ := C
  obtain ⟨hK, -, ⟨hO, -⟩, -⟩ := hw
  obtain ⟨r, h1, h2, cell, q1, q2, q3, q4⟩ := hO o ci b N ho
  have hr : r = (Cn, T, N) := Option.some.inj (h1.symm.trans hc)
  subst hr
  obtain ⟨hS, hfc, kC, hkC, hkind⟩ := hK.1.1 ci _ hc
  obtain ⟨cf, kf, fi, f, hi, hsl⟩ := hS k hk
  subst href
  refine W.getf hx hb hown (hts _ hlink) hi (u_facts hfc hkC (u_lays hts hin hk) hi).1 q1 (by rw [q3]; exact fun h => by cases h) (v := v) ?_ rfl rfl hdg kk
  rw [hsl, q4 k hk]
  exact congrArg some hv
theorem gW_put {a k o ci b N : Nat} {H1 : Heap} {x : Int32} {v : Value} {cell : Cell} (hsep : gSep sh) (hJ : gJ sh ad ct) (hw : gW D ct sh ad σ H) (ho : sh.1 o = some (ci, b, N)) (hk : k < N) (hap : ∀ x y, x < N → y < N → x ≠ y → (D.2 ci) x ≠ (D.2 ci) y)
    (ha : ad o = a) (hv : fv sh ad (s_I σ (b + k) x) (b + k) = v) (hcell : H[a]? = some cell) (e1 : H1[a]? = some (cell.setSlot (D.2 ci k) v)) (oq : ∀ q : Nat, q ≠ a → H1[q]? = H[q]?) : gW D ct sh ad (s_I σ (b + k) x) H1 := by
  obtain ⟨h1, h2, h3⟩ := hw
  have oo : ownS sh o := Or.inl (by rw [ho]; rfl)
  refine ⟨fun o' ci' b' N' ho' => ?_, fun i t n hi ht1 ht2 => ?_, fun i n hi => ?_⟩
  · obtain ⟨r, r1, r2, r3⟩ := h1 o' ci' b' N' ho'
    refine ⟨r, r1, r2, ?_⟩
    by_cases hoo : o' = o
    · subst hoo
      cases ho.symm.trans ho'
      obtain ⟨cell', q1, q2, q3, q4⟩ := r3
      rw [ha] at q1
      cases hcell.symm.trans q1
      have := t_set q4 hap hk v
      refine ⟨cell.setSlot (D.2 ci k) v, by rw [ha]; exact e1, q2, q3, fun j hj => ?_⟩
      rw [this j hj]
      show some (updV _ _ _ _) = some (fv sh ad (s_I σ (b + k) x) (b + j))
      by_cases hjk : j = k
      · subst hjk; rw [hv]; simp [updV]
      · rw [fv_sI_ne (by omega)]; simp [updV, hjk]
    · have hne : ad o' ≠ a := fun h => hoo (hJ.1 o' o (Or.inl (by rw [ho']; rfl)) oo (h.trans ha.symm))
      refine t_OB.to (r3.kept (oq _ hne)) (fun j hj => ?_)
      rw [fv_sI_ne (hsep.1 o' o ci' b' N' ci b N ho' ho hoo j k hj hk)]
  · have hoi : ownS sh i := Or.inr (by rw [hi]; exact ⟨ht1, by show t ≤ 5; omega⟩)
    have hio : ad i ≠ a := fun h => by
      have := hJ.1 i o hoi oo (h.trans ha.symm)
      subst this
      exact hsep.2 i (by rw [ho]; rfl) (by rw [hi]; exact ⟨ht1, by show t ≤ 5; omega⟩)
    rw [oq _ hio]; exact h2 i t n hi ht1 ht2
  · have hoi : ownS sh i := Or.inr (by rw [hi]; exact ⟨by show 2 ≤ 5; omega, Nat.le_refl 5⟩)
    have hio : ad i ≠ a := fun h => by
      have := hJ.1 i o hoi oo (h.trans ha.symm)
      subst this
      exact hsep.2 i (by rw [ho]; rfl) (by rw [hi]; exact ⟨by show 2 ≤ 5; omega, Nat.le_refl 5⟩)
    rw [oq _ hio]; exact h3 i n hi
/-- putfield of an int -/
theorem g_putf (C : CallFix p m c cc nL s args lw_all own) (hsep : gSep sh) (hw : gH D ct sh ad s σ H locs) {ref Cn : String} {T : u_T} {index o ci b N : Nat} (ty0 : Nat → FieldType) (hty : ∀ k, k < N → parseFieldDescriptor (T k).2.2.1 = some (ty0 k)) (hnm : ∀ a, a < N → ∀ b, b < N → a ≠ b → (T a).2.1 ≠ (T b).2.1)
    (ho : sh.1 o = some (ci, b, N)) (hc : clx[ci]? = some (Cn, T, N)) (hin : ∀ w ∈ u_ws Cn T N, w ∈ lw_all) (k : Nat) (hk : k < N)
    (hlink : Cond.fieldLink own index ref (T k).2.1 (T k).2.2.1 ∈ lw_all) (href : ref = (T k).1) (hfin : (T k).2.2.2 = false) {ty : FieldType} {x : Int32} (hd : parseFieldDescriptor (T k).2.2.1 = some ty) (hn : narrow ty (.int x) = .int x) (hfit : fits ty (.int x) = true) (hv : (sh.2 (b + k)).1 = 1) (hdg : decode cc pc = .ok (.putfield index, 3))
    (kk : ∀ (σ1 : St) (H1 : Heap) (locs1 : List Loc), σ1 = s_I σ (b + k) x → gH D ct sh ad s σ1 H1 locs1 → W p l e R s m args below meth c H1 locs1 cells slots Q (F0 m (pc + 3) ls rest)) : W p l e R s m args below meth c H locs cells slots Q (F0 m pc ls (.int x :: .ref (ad o) :: rest)) := by
  obtain ⟨hx, hb, -, hown, hts⟩ := C
  obtain ⟨hK, hJ, hG, hS0⟩ := hw
  have hap := va_apart (own := own) (cl := clx) hts hin ty0 hty hnm hK.1 hc
  obtain ⟨r, h1, h2, cell, q1, q2, q3, q4⟩ := hG.1 o ci b N ho
  have hr : r = (Cn, T, N) := Option.some.inj (h1.symm.trans hc)
  subst hr
  obtain ⟨hS, hfc, kC, hkC, hkind⟩ := hK.1.1 ci _ hc
  obtain ⟨cf, kf, fi, f, hi, hsl⟩ := hS k hk
  have hlay := hts _ (hin _ (u_in_lay hk))
  unfold u_lay at hlay
  rw [if_neg (by rw [hfin]; decide)] at hlay
  have hst := (u_facts hfc hkC (u_lays hts hin hk) hi).1
  have h6 := u_store hfc hkC hkind hlay hi hd hn hfit
  subst href
  refine W.putK hx hb (f := f) ⟨hown, hts _ hlink, ⟨_, _, _, hi⟩, hst⟩ (by rw [q2]; exact h6) q1 q3 (by rw [hsl]; exact k2_hasslot (q4 k hk)) rfl rfl hdg fun H' e1 e2 e3 => ?_
  rw [hsl] at e1 ⊢
  exact kk _ H' _ rfl ⟨hK, hJ, gW_put hsep hJ hG ho hk hap rfl (fv_sI_eq hv) q1 e1 e3, hS0.put e2 e3 ⟨o, Or.inl (by rw [ho]; rfl), rfl⟩⟩
/-- a nest mate's field -/
theorem g_getN (C : CallFix p m c cc nL s args lw_all own) (hw : gH D ct sh ad s σ H locs) {ref Cn host : String} {T : u_T} {index o ci b N : Nat} (ho : sh.1 o = some (ci, b, N)) (hc : clx[ci]? = some (Cn, T, N)) (hin : ∀ w ∈ u_ws Cn T N, w ∈ lw_all) (k : Nat) (hk : k < N)
    (hlink : Cond.fieldLinkNest own index ref (T k).2.1 (T k).2.2.1 host ∈ lw_tbl) (href : ref = (T k).1) {v : Value} (hv : fv sh ad σ (b + k) = v) (hdg : decode cc pc = .ok (.getfield index, 3))
    (kk : W p l e R s m args below meth c H locs cells slots Q (F0 m (pc + 3) ls (v :: rest))) : W p l e R s m args below meth c H locs cells slots Q (F0 m pc ls (.ref (ad o) :: rest)) := by
  obtain ⟨hx, hb, -, hown, hts⟩ := C
  obtain ⟨hK, -, ⟨hO, -⟩, -⟩ := hw
  obtain ⟨r, h1, h2, cell, q1, q2, q3, q4⟩ := hO o ci b N ho
  have hr : r = (Cn, T, N) := Option.some.inj (h1.symm.trans hc)
  subst hr
  obtain ⟨hS, hfc, kC, hkC, hkind⟩ := hK.1.1 ci _ hc
  obtain ⟨cf, kf, fi, f, hi, hsl⟩ := hS k hk
  subst href
  refine va_Wgetf hx hb hown (hK.2.1.word hlink rfl) hi (u_facts hfc hkC (u_lays hts hin hk) hi).1 q1 (by rw [q3]; exact fun h => by cases h) (v := v) ?_ rfl rfl hdg kk
  rw [hsl, q4 k hk]
  exact congrArg some hv
theorem g_putN (C : CallFix p m c cc nL s args lw_all own) (hsep : gSep sh) (hw : gH D ct sh ad s σ H locs) {ref Cn host : String} {T : u_T} {index o ci b N : Nat} (ty0 : Nat → FieldType) (hty : ∀ k, k < N → parseFieldDescriptor (T k).2.2.1 = some (ty0 k)) (hnm : ∀ a, a < N → ∀ b, b < N → a ≠ b → (T a).2.1 ≠ (T b).2.1)
    (ho : sh.1 o = some (ci, b, N)) (hc : clx[ci]? = some (Cn, T, N)) (hin : ∀ w ∈ u_ws Cn T N, w ∈ lw_all) (k : Nat) (hk : k < N)
    (hlink : Cond.fieldLinkNest own index ref (T k).2.1 (T k).2.2.1 host ∈ lw_tbl) (href : ref = (T k).1) (hfin : (T k).2.2.2 = false) {ty : FieldType} {x : Int32} (hd : parseFieldDescriptor (T k).2.2.1 = some ty) (hn : narrow ty (.int x) = .int x) (hfit : fits ty (.int x) = true) (hv : (sh.2 (b + k)).1 = 1) (hdg : decode cc pc = .ok (.putfield index, 3))
    (kk : ∀ (σ1 : St) (H1 : Heap) (locs1 : List Loc), σ1 = s_I σ (b + k) x → gH D ct sh ad s σ1 H1 locs1 → W p l e R s m args below meth c H1 locs1 cells slots Q (F0 m (pc + 3) ls rest)) : W p l e R s m args below meth c H locs cells slots Q (F0 m pc ls (.int x :: .ref (ad o) :: rest)) := by
  obtain ⟨hx, hb, -, hown, hts⟩ := C
  obtain ⟨hK, hJ, hG, hS0⟩ := hw
  have hap := va_apart (own := own) (cl := clx) hts hin ty0 hty hnm hK.1 hc
  obtain ⟨r, h1, h2, cell, q1, q2, q3, q4⟩ := hG.1 o ci b N ho
  have hr : r = (Cn, T, N) := Option.some.inj (h1.symm.trans hc)
  subst hr
  obtain ⟨hS, hfc, kC, hkC, hkind⟩ := hK.1.1 ci _ hc
  obtain ⟨cf, kf, fi, f, hi, hsl⟩ := hS k hk
  have hlay := hts _ (hin _ (u_in_lay hk))
  unfold u_lay at hlay
  rw [if_neg (by rw [hfin]; decide)] at hlay
  have hst := (u_facts hfc hkC (u_lays hts hin hk) hi).1
  have h6 := u_store hfc hkC hkind hlay hi hd hn hfit
  subst href
  refine va_WputK hx hb (f := f) hown (hK.2.1.word hlink rfl) hi hst (by rw [q2]; exact h6) q1 q3 (by rw [hsl]; exact k2_hasslot (q4 k hk)) rfl rfl hdg fun H' e1 e2 e3 => ?_
  rw [hsl] at e1 ⊢
  exact kk _ H' _ rfl ⟨hK, hJ, gW_put hsep hJ hG ho hk hap rfl (fv_sI_eq hv) q1 e1 e3, hS0.put e2 e3 ⟨o, Or.inl (by rw [ho]; rfl), rfl⟩⟩
/-- putfield of a reference by its id -/
theorem g_putR (C : CallFix p m c cc nL s args lw_all own) (hsep : gSep sh) (hw : gH D ct sh ad s σ H locs) {ref Cn : String} {T : u_T} {index o ci b N : Nat} (ty0 : Nat → FieldType) (hty : ∀ k, k < N → parseFieldDescriptor (T k).2.2.1 = some (ty0 k)) (hnm : ∀ a, a < N → ∀ b, b < N → a ≠ b → (T a).2.1 ≠ (T b).2.1)
    (ho : sh.1 o = some (ci, b, N)) (hc : clx[ci]? = some (Cn, T, N)) (hin : ∀ w ∈ u_ws Cn T N, w ∈ lw_all) (k : Nat) (hk : k < N)
    (hlink : Cond.fieldLink own index ref (T k).2.1 (T k).2.2.1 ∈ lw_all) (href : ref = (T k).1) (hfin : (T k).2.2.2 = false) {ty : FieldType} {x : Int32} (hd : parseFieldDescriptor (T k).2.2.1 = some ty) (hn : ∀ a, narrow ty (.ref a) = .ref a) (hfit : ∀ a, fits ty (.ref a) = true) (hv : (sh.2 (b + k)).1 = 7) (hdg : decode cc pc = .ok (.putfield index, 3))
    (kk : ∀ (σ1 : St) (H1 : Heap) (locs1 : List Loc), σ1 = s_I σ (b + k) x → gH D ct sh ad s σ1 H1 locs1 → W p l e R s m args below meth c H1 locs1 cells slots Q (F0 m (pc + 3) ls rest)) : W p l e R s m args below meth c H locs cells slots Q (F0 m pc ls (.ref (ad x.toNatClampNeg) :: .ref (ad o) :: rest)) := by
  obtain ⟨hx, hb, -, hown, hts⟩ := C
  obtain ⟨hK, hJ, hG, hS0⟩ := hw
  have hap := va_apart (own := own) (cl := clx) hts hin ty0 hty hnm hK.1 hc
  obtain ⟨r, h1, h2, cell, q1, q2, q3, q4⟩ := hG.1 o ci b N ho
  have hr : r = (Cn, T, N) := Option.some.inj (h1.symm.trans hc)
  subst hr
  obtain ⟨hS, hfc, kC, hkC, hkind⟩ := hK.1.1 ci _ hc
  obtain ⟨cf, kf, fi, f, hi, hsl⟩ := hS k hk
  have hlay := hts _ (hin _ (u_in_lay hk))
  unfold u_lay at hlay
  rw [if_neg (by rw [hfin]; decide)] at hlay
  have hst := (u_facts hfc hkC (u_lays hts hin hk) hi).1
  have h6 := u_store hfc hkC hkind hlay hi hd (hn (ad x.toNatClampNeg)) (hfit (ad x.toNatClampNeg))
  subst href
  refine W.putK hx hb (f := f) ⟨hown, hts _ hlink, ⟨_, _, _, hi⟩, hst⟩ (by rw [q2]; exact h6) q1 q3 (by rw [hsl]; exact k2_hasslot (q4 k hk)) rfl rfl hdg fun H' e1 e2 e3 => ?_
  rw [hsl] at e1 ⊢
  exact kk _ H' _ rfl ⟨hK, hJ, gW_put hsep hJ hG ho hk hap rfl (fv_sI_eq7 hv) q1 e1 e3, hS0.put e2 e3 ⟨o, Or.inl (by rw [ho]; rfl), rfl⟩⟩
theorem gW_stA {k t n i : Nat} {H1 : Heap} {x : Int32} (hsep : gSep sh) (hJ : gJ sh ad ct) (hw : gW D ct sh ad σ H) (hk : sh.2 k = (t, n)) (ht1 : 2 ≤ t) (ht2 : t ≤ 4)
    (e1 : H1[ad k]? = some ((arrV (ct.1 t) n (fun j => .int (σ.2.1 k j))).setSlot i (.int x))) (oq : ∀ q : Nat, q ≠ ad k → H1[q]? = H[q]?) : gW D ct sh ad (s_A σ k i x) H1 := by
  obtain ⟨h1, h2, h3⟩ := hw
  have ok : ownS sh k := Or.inr (by rw [hk]; exact ⟨ht1, by show t ≤ 5; omega⟩)
  refine ⟨fun o ci b N ho => ?_, fun i' t' n' hi ht1' ht2' => ?_, fun i' n' hi => ?_⟩
  · obtain ⟨r, r1, r2, r3⟩ := h1 o ci b N ho
    refine ⟨r, r1, r2, ?_⟩
    have hne : ad o ≠ ad k := fun h => by
      have := hJ.1 o k (Or.inl (by rw [ho]; rfl)) ok h
      subst this
      exact hsep.2 o (by rw [ho]; rfl) (by rw [hk]; exact ⟨ht1, by show t ≤ 5; omega⟩)
    exact r3.kept (oq _ hne)
  · by_cases hik : i' = k
    · subst hik
      cases hk.symm.trans hi
      rw [e1, arrV_store]
      congr 2
      funext q
      simp only [updV, s_A, upd, if_pos]
      split <;> rfl
    · have hne : ad i' ≠ ad k := fun h => hik (hJ.1 i' k (Or.inr (by rw [hi]; exact ⟨ht1', by show t' ≤ 5; omega⟩)) ok h)
      rw [oq _ hne, h2 i' t' n' hi ht1' ht2']
      simp only [s_A, if_neg hik]
  · have hik : i' ≠ k := fun h => by
      subst h
      have := hk.symm.trans hi
      simp at this
      omega
    have hne : ad i' ≠ ad k := fun h => hik (hJ.1 i' k (Or.inr (by rw [hi]; exact ⟨by show 2 ≤ 5; omega, Nat.le_refl 5⟩)) ok h)
    rw [oq _ hne]; exact h3 i' n' hi
theorem gW_stL {k n i : Nat} {H1 : Heap} {x : Int64} (hsep : gSep sh) (hJ : gJ sh ad ct) (hw : gW D ct sh ad σ H) (hk : sh.2 k = (5, n))
    (e1 : H1[ad k]? = some ((arrV (ct.1 5) n (fun j => .long (σ.2.2 k j))).setSlot i (.long x))) (oq : ∀ q : Nat, q ≠ ad k → H1[q]? = H[q]?) : gW D ct sh ad (s_L σ k i x) H1 := by
  obtain ⟨h1, h2, h3⟩ := hw
  have ok : ownS sh k := Or.inr (by rw [hk]; exact ⟨by show 2 ≤ 5; omega, Nat.le_refl 5⟩)
  refine ⟨fun o ci b N ho => ?_, fun i' t' n' hi ht1' ht2' => ?_, fun i' n' hi => ?_⟩
  · obtain ⟨r, r1, r2, r3⟩ := h1 o ci b N ho
    refine ⟨r, r1, r2, ?_⟩
    have hne : ad o ≠ ad k := fun h => by
      have := hJ.1 o k (Or.inl (by rw [ho]; rfl)) ok h
      subst this
      exact hsep.2 o (by rw [ho]; rfl) (by rw [hk]; exact ⟨by show 2 ≤ 5; omega, Nat.le_refl 5⟩)
    exact r3.kept (oq _ hne)
  · have hik : i' ≠ k := fun h => by
      subst h
      have := hk.symm.trans hi
      simp at this
      omega
    have hne : ad i' ≠ ad k := fun h => hik (hJ.1 i' k (Or.inr (by rw [hi]; exact ⟨ht1', by show t' ≤ 5; omega⟩)) ok h)
    rw [oq _ hne]; exact h2 i' t' n' hi ht1' ht2'
  · by_cases hik : i' = k
    · subst hik
      cases hk.symm.trans hi
      rw [e1, arrV_store]
      congr 2
      funext q
      simp only [updV, s_L, vp_updL, if_pos]
      split <;> rfl
    · have hne : ad i' ≠ ad k := fun h => hik (hJ.1 i' k (Or.inr (by rw [hi]; exact ⟨by show 2 ≤ 5; omega, Nat.le_refl 5⟩)) ok h)
      rw [oq _ hne, h3 i' n' hi]
      simp only [s_L, if_neg hik]
/-- arrays -/
theorem g_iald (C : CallFix p m c cc nL s args lw_all own) (hw : gH D ct sh ad s σ H locs) (k : Nat) {n : Nat} (hk : sh.2 k = (2, n)) {i : Int32} (hin : vp_in i n) (hdg : decode cc pc = .ok (.iaload, 1))
    (kk : W p l e R s m args below meth c H locs cells slots Q (F0 m (pc + 1) ls (.int (gI σ k i) :: rest))) : W p l e R s m args below meth c H locs cells slots Q (F0 m pc ls (.int i :: .ref (ad k) :: rest)) := by
  have hlt : i.toNatClampNeg < n := Nat.not_le.mp fun q => hin (Or.inr q)
  exact W.iald (v := .int (gI σ k i)) C.1 C.2.1 (hw.2.2.1.2.1 k 2 n hk (by omega) (by omega)) ((hw.1.1.2 0 _ rfl).1 n (fun j => .int (σ.2.1 k j))) (fun q => by cases q) (by rw [arrV_size]; exact hin) (by rw [arrV_read _ _ hlt]) rfl rfl hdg kk
theorem g_bald (C : CallFix p m c cc nL s args lw_all own) (hw : gH D ct sh ad s σ H locs) (k : Nat) {n : Nat} (hk : sh.2 k = (3, n)) {i : Int32} (hin : vp_in i n) (hdg : decode cc pc = .ok (.baload, 1))
    (kk : W p l e R s m args below meth c H locs cells slots Q (F0 m (pc + 1) ls (.int (gI σ k i) :: rest))) : W p l e R s m args below meth c H locs cells slots Q (F0 m pc ls (.int i :: .ref (ad k) :: rest)) := by
  have hlt : i.toNatClampNeg < n := Nat.not_le.mp fun q => hin (Or.inr q)
  exact W.bald (v := .int (gI σ k i)) C.1 C.2.1 (hw.2.2.1.2.1 k 3 n hk (by omega) (by omega)) ((hw.1.1.2 1 _ rfl).1 n (fun j => .int (σ.2.1 k j))) (fun q => by cases q) (by rw [arrV_size]; exact hin) (by rw [arrV_read _ _ hlt]) rfl rfl hdg kk
theorem g_zald (C : CallFix p m c cc nL s args lw_all own) (hw : gH D ct sh ad s σ H locs) (k : Nat) {n : Nat} (hk : sh.2 k = (4, n)) {i : Int32} (hin : vp_in i n) (hdg : decode cc pc = .ok (.baload, 1))
    (kk : W p l e R s m args below meth c H locs cells slots Q (F0 m (pc + 1) ls (.int (gI σ k i) :: rest))) : W p l e R s m args below meth c H locs cells slots Q (F0 m pc ls (.int i :: .ref (ad k) :: rest)) := by
  have hlt : i.toNatClampNeg < n := Nat.not_le.mp fun q => hin (Or.inr q)
  exact W.zald (v := .int (gI σ k i)) C.1 C.2.1 (hw.2.2.1.2.1 k 4 n hk (by omega) (by omega)) ((hw.1.1.2 2 _ rfl).1 n (fun j => .int (σ.2.1 k j))) (fun q => by cases q) (by rw [arrV_size]; exact hin) (by rw [arrV_read _ _ hlt]) rfl rfl hdg kk
theorem g_lald (C : CallFix p m c cc nL s args lw_all own) (hw : gH D ct sh ad s σ H locs) (k : Nat) {n : Nat} (hk : sh.2 k = (5, n)) {i : Int32} (hin : vp_in i n) (hdg : decode cc pc = .ok (.laload, 1))
    (kk : W p l e R s m args below meth c H locs cells slots Q (F0 m (pc + 1) ls (.long (gL σ k i) :: rest))) : W p l e R s m args below meth c H locs cells slots Q (F0 m pc ls (.int i :: .ref (ad k) :: rest)) := by
  have hlt : i.toNatClampNeg < n := Nat.not_le.mp fun q => hin (Or.inr q)
  exact W.lald (v := .long (gL σ k i)) C.1 C.2.1 (hw.2.2.1.2.2 k n hk) ((hw.1.1.2 3 _ rfl).1 n (fun j => .long (σ.2.2 k j))) (fun q => by cases q) (by rw [arrV_size]; exact hin) (by rw [arrV_read _ _ hlt]) rfl rfl hdg kk
theorem g_iast (C : CallFix p m c cc nL s args lw_all own) (hsep : gSep sh) (hw : gH D ct sh ad s σ H locs) (k : Nat) {n : Nat} (hk : sh.2 k = (2, n)) {i x : Int32} (hin : vp_in i n) (hdg : decode cc pc = .ok (.iastore, 1))
    (kk : ∀ (σ1 : St) (H1 : Heap) (locs1 : List Loc), σ1 = s_A σ k i.toNatClampNeg x → gH D ct sh ad s σ1 H1 locs1 → W p l e R s m args below meth c H1 locs1 cells slots Q (F0 m (pc + 1) ls rest)) : W p l e R s m args below meth c H locs cells slots Q (F0 m pc ls (.int x :: .int i :: .ref (ad k) :: rest)) := by
  obtain ⟨hK, hJ, hG, hS⟩ := hw
  refine W.iast C.1 C.2.1 (hG.2.1 k 2 n hk (by omega) (by omega)) ((hK.1.2 0 _ rfl).1 n (fun j => .int (σ.2.1 k j))) (fun q => by cases q) (by rw [arrV_size]; exact hin) rfl rfl hdg fun H1 e1 z oq => ?_
  exact kk _ H1 _ rfl ⟨hK, hJ, gW_stA hsep hJ hG hk (by omega) (by omega) e1 oq, hS.put z oq ⟨k, Or.inr (by rw [hk]; exact ⟨by show 2 ≤ 2; omega, by show 2 ≤ 5; omega⟩), rfl⟩⟩
theorem g_bast (C : CallFix p m c cc nL s args lw_all own) (hsep : gSep sh) (hw : gH D ct sh ad s σ H locs) (k : Nat) {n : Nat} (hk : sh.2 k = (3, n)) {i x : Int32} (hin : vp_in i n) (hdg : decode cc pc = .ok (.bastore, 1))
    (kk : ∀ (σ1 : St) (H1 : Heap) (locs1 : List Loc), σ1 = s_A σ k i.toNatClampNeg x.toInt8.toInt32 → gH D ct sh ad s σ1 H1 locs1 → W p l e R s m args below meth c H1 locs1 cells slots Q (F0 m (pc + 1) ls rest)) : W p l e R s m args below meth c H locs cells slots Q (F0 m pc ls (.int x :: .int i :: .ref (ad k) :: rest)) := by
  obtain ⟨hK, hJ, hG, hS⟩ := hw
  refine W.bast C.1 C.2.1 (hG.2.1 k 3 n hk (by omega) (by omega)) ((hK.1.2 1 _ rfl).1 n (fun j => .int (σ.2.1 k j))) (fun q => by cases q) (by rw [arrV_size]; exact hin) rfl rfl hdg fun H1 e1 z oq => ?_
  exact kk _ H1 _ rfl ⟨hK, hJ, gW_stA hsep hJ hG hk (by omega) (by omega) e1 oq, hS.put z oq ⟨k, Or.inr (by rw [hk]; exact ⟨by show 2 ≤ 3; omega, by show 3 ≤ 5; omega⟩), rfl⟩⟩
/-- a boolean -/
def zB (x : Int32) : Prop := x = 0 ∨ x = 1
theorem zB_nar {x : Int32} (h : zB x) : narrow .boolean (.int x) = .int x := by rcases h with h | h <;> subst h <;> rfl
theorem zB_fit {x : Int32} (h : zB x) : fits .boolean (.int x) = true := by rcases h with h | h <;> subst h <;> rfl
theorem g_zast (C : CallFix p m c cc nL s args lw_all own) (hsep : gSep sh) (hw : gH D ct sh ad s σ H locs) (k : Nat) {n : Nat} (hk : sh.2 k = (4, n)) {i x : Int32} (hz : zB x) (hin : vp_in i n) (hdg : decode cc pc = .ok (.bastore, 1))
    (kk : ∀ (σ1 : St) (H1 : Heap) (locs1 : List Loc), σ1 = s_A σ k i.toNatClampNeg x → gH D ct sh ad s σ1 H1 locs1 → W p l e R s m args below meth c H1 locs1 cells slots Q (F0 m (pc + 1) ls rest)) : W p l e R s m args below meth c H locs cells slots Q (F0 m pc ls (.int x :: .int i :: .ref (ad k) :: rest)) := by
  obtain ⟨hK, hJ, hG, hS⟩ := hw
  refine W.zast C.1 C.2.1 (hG.2.1 k 4 n hk (by omega) (by omega)) ((hK.1.2 2 _ rfl).1 n (fun j => .int (σ.2.1 k j))) (fun q => by cases q) (by rw [arrV_size]; exact hin) rfl rfl hdg fun H1 e1 z oq => ?_
  rw [zB_nar hz] at e1
  exact kk _ H1 _ rfl ⟨hK, hJ, gW_stA hsep hJ hG hk (by omega) (by omega) e1 oq, hS.put z oq ⟨k, Or.inr (by rw [hk]; exact ⟨by show 2 ≤ 4; omega, by show 4 ≤ 5; omega⟩), rfl⟩⟩
theorem g_last (C : CallFix p m c cc nL s args lw_all own) (hsep : gSep sh) (hw : gH D ct sh ad s σ H locs) (k : Nat) {n : Nat} (hk : sh.2 k = (5, n)) {i : Int32} {x : Int64} (hin : vp_in i n) (hdg : decode cc pc = .ok (.lastore, 1))
    (kk : ∀ (σ1 : St) (H1 : Heap) (locs1 : List Loc), σ1 = s_L σ k i.toNatClampNeg x → gH D ct sh ad s σ1 H1 locs1 → W p l e R s m args below meth c H1 locs1 cells slots Q (F0 m (pc + 1) ls rest)) : W p l e R s m args below meth c H locs cells slots Q (F0 m pc ls (.long x :: .int i :: .ref (ad k) :: rest)) := by
  obtain ⟨hK, hJ, hG, hS⟩ := hw
  refine W.last C.1 C.2.1 (hG.2.2 k n hk) ((hK.1.2 3 _ rfl).1 n (fun j => .long (σ.2.2 k j))) (fun q => by cases q) (by rw [arrV_size]; exact hin) rfl rfl hdg fun H1 e1 z oq => ?_
  exact kk _ H1 _ rfl ⟨hK, hJ, gW_stL hsep hJ hG hk e1 oq, hS.put z oq ⟨k, Or.inr (by rw [hk]; exact ⟨by show 2 ≤ 5; omega, Nat.le_refl 5⟩), rfl⟩⟩
theorem g_alen (C : CallFix p m c cc nL s args lw_all own) (hw : gH D ct sh ad s σ H locs) (k : Nat) {n : Nat} (hk : sh.2 k = (2, n)) (hdg : decode cc pc = .ok (.arraylength, 1))
    (kk : W p l e R s m args below meth c H locs cells slots Q (F0 m (pc + 1) ls (.int (nI n) :: rest))) : W p l e R s m args below meth c H locs cells slots Q (F0 m pc ls (.ref (ad k) :: rest)) :=
  W.alen (n := nI n) C.1 C.2.1 (hw.2.2.1.2.1 k 2 n hk (by omega) (by omega)) ((hw.1.1.2 0 _ rfl).1 n (fun j => .int (σ.2.1 k j))) (by rw [arrV_size]; rfl) rfl rfl hdg kk
def s_C (σ : St) (k0 k1 sp dp n : Nat) : St := (σ.1, (fun j => if j = k1 then va_cpy (σ.2.1 k0) (σ.2.1 k1) sp dp n else σ.2.1 j), σ.2.2)
/-- System.arraycopy of ints -/
theorem g_copy (C : CallFix p m c cc nL s args lw_all own) (hsep : gSep sh) (hw : gH D ct sh ad s σ H locs) (hsz : ls.size = nL) {index : Nat} (hlink : Cond.methodLink own index arraycopyName ∈ lw_all) (hnat : Cond.native arraycopyName ∈ lw_all) (hstat : Cond.static arraycopyName ∈ lw_all) (hini : Cond.initialized "java/lang/System" ∈ lw_all)
    (k0 k1 : Nat) {n0 n1 : Nat} (hk0 : sh.2 k0 = (2, n0)) (hk1 : sh.2 k1 = (2, n1)) {sp dp n : Int32} (h1 : ¬ sp < 0) (h2 : ¬ dp < 0) (h3 : ¬ n < 0) (h4 : sp.toNatClampNeg + n.toNatClampNeg ≤ n0) (h5 : dp.toNatClampNeg + n.toNatClampNeg ≤ n1)
    (hframes : 1 ≤ R.frames) (hlocals : (rest.map fun v => v.category).sum + (nativeFrameWords "java/lang/System" "arraycopy" 5 + 11) ≤ R.locals) (hdg : decode cc pc = .ok (.invokestatic index, 3))
    (kk : ∀ (σ1 : St) (H1 : Heap) (locs1 : List Loc), σ1 = s_C σ k0 k1 sp.toNatClampNeg dp.toNatClampNeg n.toNatClampNeg → gH D ct sh ad s σ1 H1 locs1 → W p l e R s m args below meth c H1 locs1 cells slots Q (F0 m (pc + 3) ls rest)) : W p l e R s m args below meth c H locs cells slots Q (F0 m pc ls (.int n :: .int dp :: .ref (ad k1) :: .int sp :: .ref (ad k0) :: rest)) := by
  have nn : ∀ z : Int32, ¬ z < 0 → z.toInt = (z.toNatClampNeg : Int) := by
    intro z hz
    have hz0 : (0 : Int) ≤ z.toInt := by
      have := Int32.not_lt.mp hz
      simpa using Int32.le_iff_toInt_le.mp this
    show z.toInt = ((z.toInt.toNat : Nat) : Int)
    omega
  obtain ⟨hx, hb, hml, hown, hts⟩ := C
  obtain ⟨hK, hJ, hG, hS⟩ := hw
  intro T hT X
  have hc0 := hG.2.1 k0 2 n0 hk0 (by omega) (by omega)
  have hc1 := hG.2.1 k1 2 n1 hk1 (by omega) (by omega)
  obtain ⟨-, q0, hq0, cm0, hkk0⟩ := (hK.1.2 0 _ rfl).1 n0 (fun j => .int (σ.2.1 k0 j))
  obtain ⟨-, q1, hq1, cm1, hkk1⟩ := (hK.1.2 0 _ rfl).1 n1 (fun j => .int (σ.2.1 k1 j))
  obtain ⟨vm', X', step⟩ := X.arraycopy hx hown (hts _ hlink) (hts _ hnat) (hts _ hstat) (hts _ hini) (src := ad k0) (dst := ad k1) (cs := arrV (ct.1 2) n0 (fun j => .int (σ.2.1 k0 j))) (cd := arrV (ct.1 2) n1 (fun j => .int (σ.2.1 k1 j))) (srcPos := sp) (destPos := dp) (n := n) (by rw [hT]; exact hc0) (by rw [hT]; exact hc1)
    (fun _ h => by cases h) (fun _ h => by cases h) (fun h => by cases h) (fun h => by cases h) hq0 hq1 hkk0 hkk1 (by simp [refKind]) h1 h2 h3
    (by rw [nn sp h1, nn n h3, arrV_size]; omega)
    (by rw [nn dp h2, nn n h3, arrV_size]; omega)
    (fun vm₁ _ i hi => by
      have e : (arrV (ct.1 2) n0 (fun j => .int (σ.2.1 k0 j))).slots.getD (sp.toNatClampNeg + i) .null = .int (σ.2.1 k0 (sp.toNatClampNeg + i)) := by
        rw [Array.getD_eq_getD_getElem?, arrV_read _ _ (by omega)]
        rfl
      refine ⟨?_, ?_⟩
      · rw [e]; rfl
      · rw [e]; exact trivial)
    (g := F0 m pc ls (.int n :: .int dp :: .ref (ad k1) :: .int sp :: .ref (ad k0) :: rest)) rfl (by rw [hml]; exact hsz) (rest := rest) rfl (by rw [hb]; exact hdg) hframes (by show 2 * 0 + _ + _ ≤ _; omega)
  have e1 : copied (arrV (ct.1 2) n0 (fun j => .int (σ.2.1 k0 j))) (arrV (ct.1 2) n1 (fun j => .int (σ.2.1 k1 j))) sp dp n = arrV (ct.1 2) n1 (fun j => .int (va_cpy (σ.2.1 k0) (σ.2.1 k1) sp.toNatClampNeg dp.toNatClampNeg n.toNatClampNeg j)) := va_copied (fun z => .int z) (ct.1 2) (ct.1 2) (σ.2.1 k0) (σ.2.1 k1) h4
  rw [e1] at X' step
  have hl : ad k1 < H.size := (Array.getElem?_eq_some_iff.mp hc1).1
  generalize hcell : arrV (ct.1 2) n1 (fun j => .int (va_cpy (σ.2.1 k0) (σ.2.1 k1) sp.toNatClampNeg dp.toNatClampNeg n.toNatClampNeg j)) = cellN at X' step
  have hheap : ((T.setVm vm').setCell (ad k1) cellN).heap = H.setIfInBounds (ad k1) cellN := by rw [← hT]; rfl
  have oq : ∀ q : Nat, q ≠ ad k1 → (H.setIfInBounds (ad k1) cellN)[q]? = H[q]? := fun q hq => by simp [Array.getElem?_setIfInBounds, Ne.symm hq]
  have ok : ownS sh k1 := Or.inr (by rw [hk1]; exact ⟨by show 2 ≤ 2; omega, by show 2 ≤ 5; omega⟩)
  have hG1 : gW D ct sh ad (s_C σ k0 k1 sp.toNatClampNeg dp.toNatClampNeg n.toNatClampNeg) (H.setIfInBounds (ad k1) cellN) := by
    obtain ⟨g1, g2, g3⟩ := hG
    refine ⟨fun o ci b N ho => ?_, fun i' t' n' hi ht1' ht2' => ?_, fun i' n' hi => ?_⟩
    · obtain ⟨r, r1, r2, r3⟩ := g1 o ci b N ho
      refine ⟨r, r1, r2, ?_⟩
      have hne : ad o ≠ ad k1 := fun h => by
        have := hJ.1 o k1 (Or.inl (by rw [ho]; rfl)) ok h
        subst this
        exact hsep.2 o (by rw [ho]; rfl) (by rw [hk1]; exact ⟨by show 2 ≤ 2; omega, by show 2 ≤ 5; omega⟩)
      exact r3.kept (oq _ hne)
    · by_cases hik : i' = k1
      · subst hik
        cases hk1.symm.trans hi
        rw [← hcell]
        simp only [s_C, if_pos]
        simp [Array.getElem?_setIfInBounds, hl]
      · have hne : ad i' ≠ ad k1 := fun h => hik (hJ.1 i' k1 (Or.inr (by rw [hi]; exact ⟨ht1', by show t' ≤ 5; omega⟩)) ok h)
        rw [oq _ hne, g2 i' t' n' hi ht1' ht2']
        simp only [s_C, if_neg hik]
    · have hik : i' ≠ k1 := fun h => by
        subst h
        have := hk1.symm.trans hi
        simp at this
      have hne : ad i' ≠ ad k1 := fun h => hik (hJ.1 i' k1 (Or.inr (by rw [hi]; exact ⟨by show 2 ≤ 5; omega, Nat.le_refl 5⟩)) ok h)
      rw [oq _ hne]; exact g3 i' n' hi
  obtain ⟨t, a1, b1⟩ := kk _ _ _ rfl ⟨hK, hJ, hG1, ⟨by simp; exact hS.1, fun q g1 g2 => by
      rw [oq q (fun e => g2 ⟨k1, ok, e.symm⟩)]
      exact hS.2.1 q g1 g2, fun q hq => by
      rcases List.mem_append.mp hq with h | h
      · exact hS.2.2 q h
      · obtain ⟨z, -, hz⟩ := List.mem_map.mp h
        rw [← hz]
        exact ⟨k1, ok, rfl⟩⟩⟩ _ hheap X'
  exact ⟨t, step t a1, b1⟩
end GW
/-- what a method's contract starts from and ends in -/
def gP (D : va_G) (ct : Ct) (sh : Sh) (ad : Nat → Nat) (σ : St) (U : State) : Prop := gK D ct U ∧ gW D ct sh ad σ U.heap
def gQ {ρ : Type} (rv : ρ → Option Value) (D : va_G) (ct : Ct) (sh : Sh) (ad : Nat → Nat) (Q : ρ → St → Prop) : Array Value → State → Outcome → State → Prop := fun _ st oc t => ∃ (r : ρ) (σ : St), oc = .returned (rv r) ∧ Q r σ ∧ gW D ct sh ad σ t.heap ∧ va_F (gA sh ad) st t
def gR {ρ : Type} (rv : ρ → Option Value) (Q : ρ → Prop) : Array Value → State → Outcome → State → Prop := fun _ st oc t => ∃ r : ρ, oc = .returned (rv r) ∧ Q r ∧ t.heap = st.heap
abbrev rvI : Int32 → Option Value := fun r => some (.int r)
abbrev rvL : Int64 → Option Value := fun r => some (.long r)
abbrev rvV : Unit → Option Value := fun _ => none
theorem gP_blind {D : va_G} {ct : Ct} {sh : Sh} {ad : Nat → Nat} {σ : St} {av : List Value} (hJ : gJ sh ad ct) : FrameBlind (va_Pc av (gP D ct sh ad σ)) := fun a U g mk q => by
  obtain ⟨q0, q1, q2⟩ := q
  exact ⟨q0, q1.calling hJ, q2⟩
theorem gT_blind {av : List Value} : FrameBlind (va_Pc av (fun _ => True)) := fun a U g mk q => ⟨q.1, trivial⟩
section GC
variable {p : Program} {l : Launch} {e : Env} {R : Room} {s : State} {m : MethodId} {args : Array Value} {below : List Frame} {meth : Method} {c : Code} {H : Heap} {locs : List Loc} {cells slots : Nat} {Q : State → Prop}
variable {cc : ByteArray} {nL pc : Nat} {ls : Array Slot} {rest st0 : List Value} {D : va_G} {ct : Ct} {sh : Sh} {ad : Nat → Nat} {σ : St} {own : String}
variable {ρ : Type} {rv : ρ → Option Value} {y : MethodName} {bytes : ByteArray} {maxL n index : Nat} {ret : Option FieldType} {ws : List Cond} {rm : Room} {As : List Value} {Cn : String}
theorem g_run {Qp : ρ → St → Prop} {g : JFrame} {Qa : Array Value} (hw : gH D ct sh ad s σ H locs) (hr : va_Run p l e R s m args below meth c H locs cells slots 0 0 g rest (gQ rv D ct sh ad Qp Qa) (gA sh ad))
    (kk : ∀ (r : ρ) (σ1 : St) (H1 : Heap) (locs1 : List Loc), Qp r σ1 → gH D ct sh ad s σ1 H1 locs1 → W p l e R s m args below meth c H1 locs1 cells slots Q { g with pc := g.pc + 3, stack := (rv r).toList ++ rest }) : W p l e R s m args below meth c H locs cells slots Q g := by
  intro T hT X
  obtain ⟨v, st₀, t, T', L, h0, X', hL, e1, e2, ⟨r, σ1, hv, hp, hb, hz, hk⟩, st⟩ := hr T hT X
  cases hv
  obtain ⟨hK, hJ, hG, hS⟩ := hw
  have hS' : va_S (gA sh ad) s.heap T'.heap (locs ++ L) := by
    refine ⟨Nat.le_trans hS.1 (by rw [e1, ← h0]; exact hz), fun q q1 q2 => ?_, fun q hq => ?_⟩
    · rw [e1, hk q (by rw [h0]; exact Nat.lt_of_lt_of_le q1 hS.1) q2, h0]; exact hS.2.1 q q1 q2
    · rcases List.mem_append.mp hq with h | h
      · exact hS.2.2 q h
      · exact hL q h
  obtain ⟨t2, a1, b1⟩ := kk r σ1 T'.heap (locs ++ L) hp ⟨hK, hJ, by rw [e1]; exact hb, hS'⟩ T' rfl X'
  exact ⟨t2, st t2 a1, b1⟩
theorem g_runR {Qp : ρ → Prop} {g : JFrame} {Qa : Array Value} (hr : va_Run p l e R s m args below meth c H locs cells slots 0 0 g rest (gR rv Qp Qa) (fun _ => False))
    (kk : ∀ (r : ρ), Qp r → W p l e R s m args below meth c H locs cells slots Q { g with pc := g.pc + 3, stack := (rv r).toList ++ rest }) : W p l e R s m args below meth c H locs cells slots Q g := by
  intro T hT X
  obtain ⟨v, st₀, t, T', L, h0, X', hL, e1, e2, ⟨r, hv, hp, hb⟩, st⟩ := hr T hT X
  cases hv
  have hLn : L = [] := List.eq_nil_iff_forall_not_mem.mpr fun q hq => hL q hq
  subst hLn
  obtain ⟨t2, a1, b1⟩ := kk r hp T' (by rw [e1, hb, h0]) (by simpa using X')
  exact ⟨t2, st t2 a1, b1⟩
/-- calls of the world's own methods -/
theorem g_callV {Qp : ρ → St → Prop} {o ci b N : Nat} {T : u_T} (C : CallFix p m c cc nL s args lw_all own) (hw : gH D ct sh ad s σ H locs) (ho : sh.1 o = some (ci, b, N)) (hc : clx[ci]? = some (Cn, T, N)) (hM : Met l y ws rm (va_Pc (.ref (ad o) :: As) (gP D ct sh ad σ)) (gQ rv D ct sh ad Qp) 0 0 (gA sh ad))
    (cw : CallW R s args own Cn index y bytes maxL ret ws rm 0 0 n) (hn : As.length = n) (hsize : ls.size = nL) (hst : st0 = As.reverse ++ .ref (ad o) :: rest) (hrm : (rest.map fun v => v.category).sum ≤ 8) (hcs : cells ≤ R.cells ∧ slots ≤ R.slots) (hdg : decode cc pc = .ok (.invokevirtual index, 3))
    (kk : ∀ (r : ρ) (σ1 : St) (H1 : Heap) (locs1 : List Loc), Qp r σ1 → gH D ct sh ad s σ1 H1 locs1 → W p l e R s m args below meth c H1 locs1 cells slots Q (F0 m (pc + 3) ls ((rv r).toList ++ rest))) : W p l e R s m args below meth c H locs cells slots Q (F0 m pc ls st0) := by
  obtain ⟨r, h1, h2, cell, q1, q2, q3, q4⟩ := hw.2.2.1.1 o ci b N ho
  have hr : r = (Cn, T, N) := Option.some.inj (h1.symm.trans hc)
  subst hr
  obtain ⟨hS, hfc, kC, hkC, hkind⟩ := hw.1.1.1 ci _ hc
  exact g_run hw (va_runV (As := As) (rest := rest) C hM cw ⟨gP_blind hw.2.1, ⟨cell, q1, by rw [q3]; rfl, by rw [q2]; exact hfc⟩, fun U hU hW => ⟨rfl, gK.moved hw.2.1 hW (by rw [hU]; exact hw.2.2.2) hw.1, by rw [hU]; exact hw.2.2.1⟩⟩ rfl hn hsize hst (lv_room hrm) hdg hcs) kk
theorem g_callS {Qp : ρ → St → Prop} (C : CallFix p m c cc nL s args lw_all own) (hw : gH D ct sh ad s σ H locs) (hM : Met l y ws rm (va_Pc As (gP D ct sh ad σ)) (gQ rv D ct sh ad Qp) 0 0 (gA sh ad))
    (cw : CallB R s args own index y bytes maxL ret ws rm 0 0 n ∧ (Cond.static y).before args s = true) (hn : As.length = n) (hsize : ls.size = nL) (hst : st0 = As.reverse ++ rest) (hrm : (rest.map fun v => v.category).sum ≤ 8) (hcs : cells ≤ R.cells ∧ slots ≤ R.slots) (hdg : decode cc pc = .ok (.invokestatic index, 3))
    (kk : ∀ (r : ρ) (σ1 : St) (H1 : Heap) (locs1 : List Loc), Qp r σ1 → gH D ct sh ad s σ1 H1 locs1 → W p l e R s m args below meth c H1 locs1 cells slots Q (F0 m (pc + 3) ls ((rv r).toList ++ rest))) : W p l e R s m args below meth c H locs cells slots Q (F0 m pc ls st0) :=
  g_run hw (va_runS (As := As) (rest := rest) C hM cw ⟨gP_blind hw.2.1, fun U hU hW => ⟨rfl, gK.moved hw.2.1 hW (by rw [hU]; exact hw.2.2.2) hw.1, by rw [hU]; exact hw.2.2.1⟩⟩ rfl hn hsize hst (lv_room hrm) hdg hcs) kk
theorem g_callVR {Qp : ρ → Prop} {o ci b N : Nat} {T : u_T} (C : CallFix p m c cc nL s args lw_all own) (hw : gH D ct sh ad s σ H locs) (ho : sh.1 o = some (ci, b, N)) (hc : clx[ci]? = some (Cn, T, N)) (hM : Met l y ws rm (va_Pc (.ref (ad o) :: As) (gP D ct sh ad σ)) (gR rv Qp) 0 0 (fun _ => False))
    (cw : CallW R s args own Cn index y bytes maxL ret ws rm 0 0 n) (hn : As.length = n) (hsize : ls.size = nL) (hst : st0 = As.reverse ++ .ref (ad o) :: rest) (hrm : (rest.map fun v => v.category).sum ≤ 8) (hcs : cells ≤ R.cells ∧ slots ≤ R.slots) (hdg : decode cc pc = .ok (.invokevirtual index, 3))
    (kk : ∀ (r : ρ), Qp r → W p l e R s m args below meth c H locs cells slots Q (F0 m (pc + 3) ls ((rv r).toList ++ rest))) : W p l e R s m args below meth c H locs cells slots Q (F0 m pc ls st0) := by
  obtain ⟨r, h1, h2, cell, q1, q2, q3, q4⟩ := hw.2.2.1.1 o ci b N ho
  have hr : r = (Cn, T, N) := Option.some.inj (h1.symm.trans hc)
  subst hr
  obtain ⟨hS, hfc, kC, hkC, hkind⟩ := hw.1.1.1 ci _ hc
  exact g_runR (va_runV (As := As) (rest := rest) C hM cw ⟨gP_blind hw.2.1, ⟨cell, q1, by rw [q3]; rfl, by rw [q2]; exact hfc⟩, fun U hU hW => ⟨rfl, gK.moved hw.2.1 hW (by rw [hU]; exact hw.2.2.2) hw.1, by rw [hU]; exact hw.2.2.1⟩⟩ rfl hn hsize hst (lv_room hrm) hdg hcs) kk
theorem g_callSR {Qp : ρ → Prop} (C : CallFix p m c cc nL s args lw_all own) (hM : Met l y ws rm (va_Pc As (fun _ => True)) (gR rv Qp) 0 0 (fun _ => False))
    (cw : CallB R s args own index y bytes maxL ret ws rm 0 0 n ∧ (Cond.static y).before args s = true) (hn : As.length = n) (hsize : ls.size = nL) (hst : st0 = As.reverse ++ rest) (hrm : (rest.map fun v => v.category).sum ≤ 8) (hcs : cells ≤ R.cells ∧ slots ≤ R.slots) (hdg : decode cc pc = .ok (.invokestatic index, 3))
    (kk : ∀ (r : ρ), Qp r → W p l e R s m args below meth c H locs cells slots Q (F0 m (pc + 3) ls ((rv r).toList ++ rest))) : W p l e R s m args below meth c H locs cells slots Q (F0 m pc ls st0) :=
  g_runR (va_runS (As := As) (rest := rest) C hM cw ⟨gT_blind, fun U hU hW => ⟨rfl, trivial⟩⟩ rfl hn hsize hst (lv_room hrm) hdg hcs) kk
theorem g_callVRf {v : ρ} {o ci b N : Nat} {T : u_T} (C : CallFix p m c cc nL s args lw_all own) (hw : gH D ct sh ad s σ H locs) (ho : sh.1 o = some (ci, b, N)) (hc : clx[ci]? = some (Cn, T, N)) (hM : Met l y ws rm (va_Pc (.ref (ad o) :: As) (gP D ct sh ad σ)) (gR rv (fun r => r = v)) 0 0 (fun _ => False))
    (cw : CallW R s args own Cn index y bytes maxL ret ws rm 0 0 n) (hn : As.length = n) (hsize : ls.size = nL) (hst : st0 = As.reverse ++ .ref (ad o) :: rest) (hrm : (rest.map fun v => v.category).sum ≤ 8) (hcs : cells ≤ R.cells ∧ slots ≤ R.slots) (hdg : decode cc pc = .ok (.invokevirtual index, 3))
    (kk : W p l e R s m args below meth c H locs cells slots Q (F0 m (pc + 3) ls ((rv v).toList ++ rest))) : W p l e R s m args below meth c H locs cells slots Q (F0 m pc ls st0) :=
  g_callVR C hw ho hc hM cw hn hsize hst hrm hcs hdg (fun r hr => by subst hr; exact kk)
theorem g_callSRf {v : ρ} (C : CallFix p m c cc nL s args lw_all own) (hM : Met l y ws rm (va_Pc As (fun _ => True)) (gR rv (fun r => r = v)) 0 0 (fun _ => False))
    (cw : CallB R s args own index y bytes maxL ret ws rm 0 0 n ∧ (Cond.static y).before args s = true) (hn : As.length = n) (hsize : ls.size = nL) (hst : st0 = As.reverse ++ rest) (hrm : (rest.map fun v => v.category).sum ≤ 8) (hcs : cells ≤ R.cells ∧ slots ≤ R.slots) (hdg : decode cc pc = .ok (.invokestatic index, 3))
    (kk : W p l e R s m args below meth c H locs cells slots Q (F0 m (pc + 3) ls ((rv v).toList ++ rest))) : W p l e R s m args below meth c H locs cells slots Q (F0 m pc ls st0) :=
  g_callSR C hM cw hn hsize hst hrm hcs hdg (fun r hr => by subst hr; exact kk)
end GC
section GM
variable {l : Launch} {D : va_G} {ct : Ct} {sh : Sh} {ad : Nat → Nat} {σ : St} {y : MethodName} {cc : ByteArray} {maxL : Nat} {av : List Value} {rm : Room}
theorem g_metI {Qp : Int32 → St → Prop} (hJ : gJ sh ad ct) (hy : plainName y.cls = true) (hlen : (lg_sl av).length ≤ maxL)
    (body : ∀ (p : Program) (e : Env) (s : State) (m : MethodId) (args : Array Value) (below : List Frame) (meth : Method) (c : Code) (QQ : State → Prop) (ls : Array Slot), CallFix p m c cc maxL s args lw_all y.cls → gH D ct sh ad s σ s.heap [] → lv_has ls maxL (lv_args 0 av) →
      (∀ (H : Heap) (locs : List Loc) (pc : Nat) (ls : Array Slot) (r : Int32) (σ1 : St), Qp r σ1 → gH D ct sh ad s σ1 H locs → decode cc pc = .ok (.ireturn, 1) → W p l e rm s m args below meth c H locs 0 0 QQ (F0 m pc ls [.int r])) → W p l e rm s m args below meth c s.heap [] 0 0 QQ (F0 m 0 ls [])) :
    Met l y (ws_ y cc maxL (some .int)) rm (va_Pc av (gP D ct sh ad σ)) (gQ rvI D ct sh ad Qp) 0 0 (gA sh ad) := by
  refine Met.ofW (cc := cc) (maxL := maxL) (ret := some .int) hy rfl ?_
  intro p e s m args below meth c s₁ B hml hv
  obtain ⟨rfl, hK, hG⟩ := hv
  have hts := atoms_spec (ws := ws_ y cc maxL (some .int)) B.pre
  have hts : ∀ w ∈ lw_all, w.before _ s = true := fun w h => hts w (List.mem_cons_of_mem _ h)
  have C : CallFix p m c cc maxL s av.toArray lw_all y.cls := ⟨B.exec, B.bytes, hml, findClass_of_methodNamed B.named, hts⟩
  have hr := B.returns
  have hlk := B.notSynchronized
  have hl := lv_entry av (n := maxL) hlen
  rw [lg_entry_eq]
  exact body p e s m av.toArray below meth c _ _ C ⟨hK, hJ, hG, va_S.rf⟩ hl (fun H locs pc ls r σ1 hq hw hdg => W.iret (v := r) C.1 C.2.1 hr (fun t ht hW => ⟨r, σ1, rfl, hq, by rw [ht]; exact hw.2.2.1, hw.2.2.2.F ht⟩) hw.2.2.2.2.2 hdg hlk)
theorem g_metRI {Qp : Int32 → Prop} (hJ : gJ sh ad ct) (hy : plainName y.cls = true) (hlen : (lg_sl av).length ≤ maxL)
    (body : ∀ (p : Program) (e : Env) (s : State) (m : MethodId) (args : Array Value) (below : List Frame) (meth : Method) (c : Code) (QQ : State → Prop) (ls : Array Slot) (H : Heap), CallFix p m c cc maxL s args lw_all y.cls → gH D ct sh ad s σ H [] → lv_has ls maxL (lv_args 0 av) →
      (∀ (pc : Nat) (ls : Array Slot) (r : Int32), Qp r → decode cc pc = .ok (.ireturn, 1) → W p l e rm s m args below meth c H [] 0 0 QQ (F0 m pc ls [.int r])) → W p l e rm s m args below meth c H [] 0 0 QQ (F0 m 0 ls [])) :
    Met l y (ws_ y cc maxL (some .int)) rm (va_Pc av (gP D ct sh ad σ)) (gR rvI Qp) 0 0 (fun _ => False) := by
  refine Met.ofW (cc := cc) (maxL := maxL) (ret := some .int) hy rfl ?_
  intro p e s m args below meth c s₁ B hml hv
  obtain ⟨rfl, hK, hG⟩ := hv
  have hts := atoms_spec (ws := ws_ y cc maxL (some .int)) B.pre
  have hts : ∀ w ∈ lw_all, w.before _ s = true := fun w h => hts w (List.mem_cons_of_mem _ h)
  have C : CallFix p m c cc maxL s av.toArray lw_all y.cls := ⟨B.exec, B.bytes, hml, findClass_of_methodNamed B.named, hts⟩
  have hr := B.returns
  have hlk := B.notSynchronized
  have hl := lv_entry av (n := maxL) hlen
  rw [lg_entry_eq]
  exact body p e s m av.toArray below meth c _ _ s.heap C ⟨hK, hJ, hG, va_S.rf⟩ hl (fun pc ls r hq hdg => W.iret (v := r) C.1 C.2.1 hr (fun t ht hW => ⟨r, rfl, hq, ht⟩) (fun q hq => by cases hq) hdg hlk)
theorem g_metSI {Qp : Int32 → Prop} (hy : plainName y.cls = true) (hlen : (lg_sl av).length ≤ maxL)
    (body : ∀ (p : Program) (e : Env) (s : State) (m : MethodId) (args : Array Value) (below : List Frame) (meth : Method) (c : Code) (QQ : State → Prop) (ls : Array Slot) (H : Heap), CallFix p m c cc maxL s args lw_all y.cls → lv_has ls maxL (lv_args 0 av) →
      (∀ (pc : Nat) (ls : Array Slot) (r : Int32), Qp r → decode cc pc = .ok (.ireturn, 1) → W p l e rm s m args below meth c H [] 0 0 QQ (F0 m pc ls [.int r])) → W p l e rm s m args below meth c H [] 0 0 QQ (F0 m 0 ls [])) :
    Met l y (ws_ y cc maxL (some .int)) rm (va_Pc av (fun _ => True)) (gR rvI Qp) 0 0 (fun _ => False) := by
  refine Met.ofW (cc := cc) (maxL := maxL) (ret := some .int) hy rfl ?_
  intro p e s m args below meth c s₁ B hml hv
  obtain ⟨rfl, -⟩ := hv
  have hts := atoms_spec (ws := ws_ y cc maxL (some .int)) B.pre
  have hts : ∀ w ∈ lw_all, w.before _ s = true := fun w h => hts w (List.mem_cons_of_mem _ h)
  have C : CallFix p m c cc maxL s av.toArray lw_all y.cls := ⟨B.exec, B.bytes, hml, findClass_of_methodNamed B.named, hts⟩
  have hr := B.returns
  have hlk := B.notSynchronized
  have hl := lv_entry av (n := maxL) hlen
  rw [lg_entry_eq]
  exact body p e s m av.toArray below meth c _ _ s.heap C hl (fun pc ls r hq hdg => W.iret (v := r) C.1 C.2.1 hr (fun t ht hW => ⟨r, rfl, hq, ht⟩) (fun q hq => by cases hq) hdg hlk)
theorem g_metZ {Qp : Int32 → St → Prop} (hJ : gJ sh ad ct) (hy : plainName y.cls = true) (hlen : (lg_sl av).length ≤ maxL)
    (body : ∀ (p : Program) (e : Env) (s : State) (m : MethodId) (args : Array Value) (below : List Frame) (meth : Method) (c : Code) (QQ : State → Prop) (ls : Array Slot), CallFix p m c cc maxL s args lw_all y.cls → gH D ct sh ad s σ s.heap [] → lv_has ls maxL (lv_args 0 av) →
      (∀ (H : Heap) (locs : List Loc) (pc : Nat) (ls : Array Slot) (r : Int32) (σ1 : St), Qp r σ1 → gH D ct sh ad s σ1 H locs → zB r → decode cc pc = .ok (.ireturn, 1) → W p l e rm s m args below meth c H locs 0 0 QQ (F0 m pc ls [.int r])) → W p l e rm s m args below meth c s.heap [] 0 0 QQ (F0 m 0 ls [])) :
    Met l y (ws_ y cc maxL (some .boolean)) rm (va_Pc av (gP D ct sh ad σ)) (gQ rvI D ct sh ad Qp) 0 0 (gA sh ad) := by
  refine Met.ofW (cc := cc) (maxL := maxL) (ret := some .boolean) hy rfl ?_
  intro p e s m args below meth c s₁ B hml hv
  obtain ⟨rfl, hK, hG⟩ := hv
  have hts := atoms_spec (ws := ws_ y cc maxL (some .boolean)) B.pre
  have hts : ∀ w ∈ lw_all, w.before _ s = true := fun w h => hts w (List.mem_cons_of_mem _ h)
  have C : CallFix p m c cc maxL s av.toArray lw_all y.cls := ⟨B.exec, B.bytes, hml, findClass_of_methodNamed B.named, hts⟩
  have hr := B.returns
  have hlk := B.notSynchronized
  have hl := lv_entry av (n := maxL) hlen
  rw [lg_entry_eq]
  exact body p e s m av.toArray below meth c _ _ C ⟨hK, hJ, hG, va_S.rf⟩ hl (fun H locs pc ls r σ1 hq hw hz hdg => W.zret (v := r) C.1 C.2.1 hr (zB_nar hz) (fun t ht hW => ⟨r, σ1, rfl, hq, by rw [ht]; exact hw.2.2.1, hw.2.2.2.F ht⟩) hw.2.2.2.2.2 hdg hlk)
theorem g_metRZ {Qp : Int32 → Prop} (hJ : gJ sh ad ct) (hy : plainName y.cls = true) (hlen : (lg_sl av).length ≤ maxL)
    (body : ∀ (p : Program) (e : Env) (s : State) (m : MethodId) (args : Array Value) (below : List Frame) (meth : Method) (c : Code) (QQ : State → Prop) (ls : Array Slot) (H : Heap), CallFix p m c cc maxL s args lw_all y.cls → gH D ct sh ad s σ H [] → lv_has ls maxL (lv_args 0 av) →
      (∀ (pc : Nat) (ls : Array Slot) (r : Int32), Qp r → zB r → decode cc pc = .ok (.ireturn, 1) → W p l e rm s m args below meth c H [] 0 0 QQ (F0 m pc ls [.int r])) → W p l e rm s m args below meth c H [] 0 0 QQ (F0 m 0 ls [])) :
    Met l y (ws_ y cc maxL (some .boolean)) rm (va_Pc av (gP D ct sh ad σ)) (gR rvI Qp) 0 0 (fun _ => False) := by
  refine Met.ofW (cc := cc) (maxL := maxL) (ret := some .boolean) hy rfl ?_
  intro p e s m args below meth c s₁ B hml hv
  obtain ⟨rfl, hK, hG⟩ := hv
  have hts := atoms_spec (ws := ws_ y cc maxL (some .boolean)) B.pre
  have hts : ∀ w ∈ lw_all, w.before _ s = true := fun w h => hts w (List.mem_cons_of_mem _ h)
  have C : CallFix p m c cc maxL s av.toArray lw_all y.cls := ⟨B.exec, B.bytes, hml, findClass_of_methodNamed B.named, hts⟩
  have hr := B.returns
  have hlk := B.notSynchronized
  have hl := lv_entry av (n := maxL) hlen
  rw [lg_entry_eq]
  exact body p e s m av.toArray below meth c _ _ s.heap C ⟨hK, hJ, hG, va_S.rf⟩ hl (fun pc ls r hq hz hdg => W.zret (v := r) C.1 C.2.1 hr (zB_nar hz) (fun t ht hW => ⟨r, rfl, hq, ht⟩) (fun q hq => by cases hq) hdg hlk)
theorem g_metSZ {Qp : Int32 → Prop} (hy : plainName y.cls = true) (hlen : (lg_sl av).length ≤ maxL)
    (body : ∀ (p : Program) (e : Env) (s : State) (m : MethodId) (args : Array Value) (below : List Frame) (meth : Method) (c : Code) (QQ : State → Prop) (ls : Array Slot) (H : Heap), CallFix p m c cc maxL s args lw_all y.cls → lv_has ls maxL (lv_args 0 av) →
      (∀ (pc : Nat) (ls : Array Slot) (r : Int32), Qp r → zB r → decode cc pc = .ok (.ireturn, 1) → W p l e rm s m args below meth c H [] 0 0 QQ (F0 m pc ls [.int r])) → W p l e rm s m args below meth c H [] 0 0 QQ (F0 m 0 ls [])) :
    Met l y (ws_ y cc maxL (some .boolean)) rm (va_Pc av (fun _ => True)) (gR rvI Qp) 0 0 (fun _ => False) := by
  refine Met.ofW (cc := cc) (maxL := maxL) (ret := some .boolean) hy rfl ?_
  intro p e s m args below meth c s₁ B hml hv
  obtain ⟨rfl, -⟩ := hv
  have hts := atoms_spec (ws := ws_ y cc maxL (some .boolean)) B.pre
  have hts : ∀ w ∈ lw_all, w.before _ s = true := fun w h => hts w (List.mem_cons_of_mem _ h)
  have C : CallFix p m c cc maxL s av.toArray lw_all y.cls := ⟨B.exec, B.bytes, hml, findClass_of_methodNamed B.named, hts⟩
  have hr := B.returns
  have hlk := B.notSynchronized
  have hl := lv_entry av (n := maxL) hlen
  rw [lg_entry_eq]
  exact body p e s m av.toArray below meth c _ _ s.heap C hl (fun pc ls r hq hz hdg => W.zret (v := r) C.1 C.2.1 hr (zB_nar hz) (fun t ht hW => ⟨r, rfl, hq, ht⟩) (fun q hq => by cases hq) hdg hlk)
theorem g_metL {Qp : Int64 → St → Prop} (hJ : gJ sh ad ct) (hy : plainName y.cls = true) (hlen : (lg_sl av).length ≤ maxL)
    (body : ∀ (p : Program) (e : Env) (s : State) (m : MethodId) (args : Array Value) (below : List Frame) (meth : Method) (c : Code) (QQ : State → Prop) (ls : Array Slot), CallFix p m c cc maxL s args lw_all y.cls → gH D ct sh ad s σ s.heap [] → lv_has ls maxL (lv_args 0 av) →
      (∀ (H : Heap) (locs : List Loc) (pc : Nat) (ls : Array Slot) (r : Int64) (σ1 : St), Qp r σ1 → gH D ct sh ad s σ1 H locs → decode cc pc = .ok (.lreturn, 1) → W p l e rm s m args below meth c H locs 0 0 QQ (F0 m pc ls [.long r])) → W p l e rm s m args below meth c s.heap [] 0 0 QQ (F0 m 0 ls [])) :
    Met l y (ws_ y cc maxL (some .long)) rm (va_Pc av (gP D ct sh ad σ)) (gQ rvL D ct sh ad Qp) 0 0 (gA sh ad) := by
  refine Met.ofW (cc := cc) (maxL := maxL) (ret := some .long) hy rfl ?_
  intro p e s m args below meth c s₁ B hml hv
  obtain ⟨rfl, hK, hG⟩ := hv
  have hts := atoms_spec (ws := ws_ y cc maxL (some .long)) B.pre
  have hts : ∀ w ∈ lw_all, w.before _ s = true := fun w h => hts w (List.mem_cons_of_mem _ h)
  have C : CallFix p m c cc maxL s av.toArray lw_all y.cls := ⟨B.exec, B.bytes, hml, findClass_of_methodNamed B.named, hts⟩
  have hr := B.returns
  have hlk := B.notSynchronized
  have hl := lv_entry av (n := maxL) hlen
  rw [lg_entry_eq]
  exact body p e s m av.toArray below meth c _ _ C ⟨hK, hJ, hG, va_S.rf⟩ hl (fun H locs pc ls r σ1 hq hw hdg => W.lret (v := r) C.1 C.2.1 hr (fun t ht hW => ⟨r, σ1, rfl, hq, by rw [ht]; exact hw.2.2.1, hw.2.2.2.F ht⟩) hw.2.2.2.2.2 hdg hlk)
theorem g_metRL {Qp : Int64 → Prop} (hJ : gJ sh ad ct) (hy : plainName y.cls = true) (hlen : (lg_sl av).length ≤ maxL)
    (body : ∀ (p : Program) (e : Env) (s : State) (m : MethodId) (args : Array Value) (below : List Frame) (meth : Method) (c : Code) (QQ : State → Prop) (ls : Array Slot) (H : Heap), CallFix p m c cc maxL s args lw_all y.cls → gH D ct sh ad s σ H [] → lv_has ls maxL (lv_args 0 av) →
      (∀ (pc : Nat) (ls : Array Slot) (r : Int64), Qp r → decode cc pc = .ok (.lreturn, 1) → W p l e rm s m args below meth c H [] 0 0 QQ (F0 m pc ls [.long r])) → W p l e rm s m args below meth c H [] 0 0 QQ (F0 m 0 ls [])) :
    Met l y (ws_ y cc maxL (some .long)) rm (va_Pc av (gP D ct sh ad σ)) (gR rvL Qp) 0 0 (fun _ => False) := by
  refine Met.ofW (cc := cc) (maxL := maxL) (ret := some .long) hy rfl ?_
  intro p e s m args below meth c s₁ B hml hv
  obtain ⟨rfl, hK, hG⟩ := hv
  have hts := atoms_spec (ws := ws_ y cc maxL (some .long)) B.pre
  have hts : ∀ w ∈ lw_all, w.before _ s = true := fun w h => hts w (List.mem_cons_of_mem _ h)
  have C : CallFix p m c cc maxL s av.toArray lw_all y.cls := ⟨B.exec, B.bytes, hml, findClass_of_methodNamed B.named, hts⟩
  have hr := B.returns
  have hlk := B.notSynchronized
  have hl := lv_entry av (n := maxL) hlen
  rw [lg_entry_eq]
  exact body p e s m av.toArray below meth c _ _ s.heap C ⟨hK, hJ, hG, va_S.rf⟩ hl (fun pc ls r hq hdg => W.lret (v := r) C.1 C.2.1 hr (fun t ht hW => ⟨r, rfl, hq, ht⟩) (fun q hq => by cases hq) hdg hlk)
theorem g_metSL {Qp : Int64 → Prop} (hy : plainName y.cls = true) (hlen : (lg_sl av).length ≤ maxL)
    (body : ∀ (p : Program) (e : Env) (s : State) (m : MethodId) (args : Array Value) (below : List Frame) (meth : Method) (c : Code) (QQ : State → Prop) (ls : Array Slot) (H : Heap), CallFix p m c cc maxL s args lw_all y.cls → lv_has ls maxL (lv_args 0 av) →
      (∀ (pc : Nat) (ls : Array Slot) (r : Int64), Qp r → decode cc pc = .ok (.lreturn, 1) → W p l e rm s m args below meth c H [] 0 0 QQ (F0 m pc ls [.long r])) → W p l e rm s m args below meth c H [] 0 0 QQ (F0 m 0 ls [])) :
    Met l y (ws_ y cc maxL (some .long)) rm (va_Pc av (fun _ => True)) (gR rvL Qp) 0 0 (fun _ => False) := by
  refine Met.ofW (cc := cc) (maxL := maxL) (ret := some .long) hy rfl ?_
  intro p e s m args below meth c s₁ B hml hv
  obtain ⟨rfl, -⟩ := hv
  have hts := atoms_spec (ws := ws_ y cc maxL (some .long)) B.pre
  have hts : ∀ w ∈ lw_all, w.before _ s = true := fun w h => hts w (List.mem_cons_of_mem _ h)
  have C : CallFix p m c cc maxL s av.toArray lw_all y.cls := ⟨B.exec, B.bytes, hml, findClass_of_methodNamed B.named, hts⟩
  have hr := B.returns
  have hlk := B.notSynchronized
  have hl := lv_entry av (n := maxL) hlen
  rw [lg_entry_eq]
  exact body p e s m av.toArray below meth c _ _ s.heap C hl (fun pc ls r hq hdg => W.lret (v := r) C.1 C.2.1 hr (fun t ht hW => ⟨r, rfl, hq, ht⟩) (fun q hq => by cases hq) hdg hlk)
theorem g_metV {Qp : Unit → St → Prop} (hJ : gJ sh ad ct) (hy : plainName y.cls = true) (hlen : (lg_sl av).length ≤ maxL)
    (body : ∀ (p : Program) (e : Env) (s : State) (m : MethodId) (args : Array Value) (below : List Frame) (meth : Method) (c : Code) (QQ : State → Prop) (ls : Array Slot), CallFix p m c cc maxL s args lw_all y.cls → gH D ct sh ad s σ s.heap [] → lv_has ls maxL (lv_args 0 av) →
      (∀ (H : Heap) (locs : List Loc) (pc : Nat) (ls : Array Slot) (r : Unit) (σ1 : St), Qp r σ1 → gH D ct sh ad s σ1 H locs → decode cc pc = .ok (.return_, 1) → W p l e rm s m args below meth c H locs 0 0 QQ (F0 m pc ls [])) → W p l e rm s m args below meth c s.heap [] 0 0 QQ (F0 m 0 ls [])) :
    Met l y (ws_ y cc maxL (none)) rm (va_Pc av (gP D ct sh ad σ)) (gQ rvV D ct sh ad Qp) 0 0 (gA sh ad) := by
  refine Met.ofW (cc := cc) (maxL := maxL) (ret := none) hy rfl ?_
  intro p e s m args below meth c s₁ B hml hv
  obtain ⟨rfl, hK, hG⟩ := hv
  have hts := atoms_spec (ws := ws_ y cc maxL (none)) B.pre
  have hts : ∀ w ∈ lw_all, w.before _ s = true := fun w h => hts w (List.mem_cons_of_mem _ h)
  have C : CallFix p m c cc maxL s av.toArray lw_all y.cls := ⟨B.exec, B.bytes, hml, findClass_of_methodNamed B.named, hts⟩
  have hr := B.returns
  have hlk := B.notSynchronized
  have hl := lv_entry av (n := maxL) hlen
  rw [lg_entry_eq]
  exact body p e s m av.toArray below meth c _ _ C ⟨hK, hJ, hG, va_S.rf⟩ hl (fun H locs pc ls r σ1 hq hw hdg => W.vret C.1 C.2.1 hr (fun t ht hW => ⟨r, σ1, rfl, hq, by rw [ht]; exact hw.2.2.1, hw.2.2.2.F ht⟩) hw.2.2.2.2.2 hdg hlk)
theorem g_metRV {Qp : Unit → Prop} (hJ : gJ sh ad ct) (hy : plainName y.cls = true) (hlen : (lg_sl av).length ≤ maxL)
    (body : ∀ (p : Program) (e : Env) (s : State) (m : MethodId) (args : Array Value) (below : List Frame) (meth : Method) (c : Code) (QQ : State → Prop) (ls : Array Slot) (H : Heap), CallFix p m c cc maxL s args lw_all y.cls → gH D ct sh ad s σ H [] → lv_has ls maxL (lv_args 0 av) →
      (∀ (pc : Nat) (ls : Array Slot) (r : Unit), Qp r → decode cc pc = .ok (.return_, 1) → W p l e rm s m args below meth c H [] 0 0 QQ (F0 m pc ls [])) → W p l e rm s m args below meth c H [] 0 0 QQ (F0 m 0 ls [])) :
    Met l y (ws_ y cc maxL (none)) rm (va_Pc av (gP D ct sh ad σ)) (gR rvV Qp) 0 0 (fun _ => False) := by
  refine Met.ofW (cc := cc) (maxL := maxL) (ret := none) hy rfl ?_
  intro p e s m args below meth c s₁ B hml hv
  obtain ⟨rfl, hK, hG⟩ := hv
  have hts := atoms_spec (ws := ws_ y cc maxL (none)) B.pre
  have hts : ∀ w ∈ lw_all, w.before _ s = true := fun w h => hts w (List.mem_cons_of_mem _ h)
  have C : CallFix p m c cc maxL s av.toArray lw_all y.cls := ⟨B.exec, B.bytes, hml, findClass_of_methodNamed B.named, hts⟩
  have hr := B.returns
  have hlk := B.notSynchronized
  have hl := lv_entry av (n := maxL) hlen
  rw [lg_entry_eq]
  exact body p e s m av.toArray below meth c _ _ s.heap C ⟨hK, hJ, hG, va_S.rf⟩ hl (fun pc ls r hq hdg => W.vret C.1 C.2.1 hr (fun t ht hW => ⟨r, rfl, hq, ht⟩) (fun q hq => by cases hq) hdg hlk)
theorem g_metSV {Qp : Unit → Prop} (hy : plainName y.cls = true) (hlen : (lg_sl av).length ≤ maxL)
    (body : ∀ (p : Program) (e : Env) (s : State) (m : MethodId) (args : Array Value) (below : List Frame) (meth : Method) (c : Code) (QQ : State → Prop) (ls : Array Slot) (H : Heap), CallFix p m c cc maxL s args lw_all y.cls → lv_has ls maxL (lv_args 0 av) →
      (∀ (pc : Nat) (ls : Array Slot) (r : Unit), Qp r → decode cc pc = .ok (.return_, 1) → W p l e rm s m args below meth c H [] 0 0 QQ (F0 m pc ls [])) → W p l e rm s m args below meth c H [] 0 0 QQ (F0 m 0 ls [])) :
    Met l y (ws_ y cc maxL (none)) rm (va_Pc av (fun _ => True)) (gR rvV Qp) 0 0 (fun _ => False) := by
  refine Met.ofW (cc := cc) (maxL := maxL) (ret := none) hy rfl ?_
  intro p e s m args below meth c s₁ B hml hv
  obtain ⟨rfl, -⟩ := hv
  have hts := atoms_spec (ws := ws_ y cc maxL (none)) B.pre
  have hts : ∀ w ∈ lw_all, w.before _ s = true := fun w h => hts w (List.mem_cons_of_mem _ h)
  have C : CallFix p m c cc maxL s av.toArray lw_all y.cls := ⟨B.exec, B.bytes, hml, findClass_of_methodNamed B.named, hts⟩
  have hr := B.returns
  have hlk := B.notSynchronized
  have hl := lv_entry av (n := maxL) hlen
  rw [lg_entry_eq]
  exact body p e s m av.toArray below meth c _ _ s.heap C hl (fun pc ls r hq hdg => W.vret C.1 C.2.1 hr (fun t ht hW => ⟨r, rfl, hq, ht⟩) (fun q hq => by cases hq) hdg hlk)
end GM
