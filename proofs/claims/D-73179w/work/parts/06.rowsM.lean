set_option maxRecDepth 100000
def LL1 {A : Type} (b : (A → Prop) → A → Prop) : Nat → A → Prop
  | 0, _ => False
  | n + 1, x0 => b (LL1 b n) x0
def Lp1 {A : Type} (b : (A → Prop) → A → Prop) (x0 : A) : Prop := ∃ n, LL1 b n x0
theorem Lp1_ruleK {A : Type} {b : (A → Prop) → A → Prop} (I : A → Prop) (μ : A → Nat)
    (hs : ∀ (K : A → Prop) (x0 : A), I x0 → (∀ (y0 : A), I y0 → μ y0 < μ x0 → K y0) → b K x0) (x0 : A) (h : I x0) : Lp1 b x0 := by
  have key : ∀ m (x0 : A), μ x0 < m → I x0 → LL1 b m x0 := by
    intro m
    induction m with
    | zero => intro x0 q; exact absurd q (Nat.not_lt_zero _)
    | succ m ih => intro x0 q hI; exact hs _ x0 hI (fun y0 hk q2 => ih y0 (by omega) hk)
  exact ⟨_, key _ x0 (Nat.lt_succ_self _) h⟩
def LL2 {A B : Type} (b : (A → B → Prop) → A → B → Prop) : Nat → A → B → Prop
  | 0, _, _ => False
  | n + 1, x0, x1 => b (LL2 b n) x0 x1
def Lp2 {A B : Type} (b : (A → B → Prop) → A → B → Prop) (x0 : A) (x1 : B) : Prop := ∃ n, LL2 b n x0 x1
theorem Lp2_ruleK {A B : Type} {b : (A → B → Prop) → A → B → Prop} (I : A → B → Prop) (μ : A → B → Nat)
    (hs : ∀ (K : A → B → Prop) (x0 : A) (x1 : B), I x0 x1 → (∀ (y0 : A) (y1 : B), I y0 y1 → μ y0 y1 < μ x0 x1 → K y0 y1) → b K x0 x1) (x0 : A) (x1 : B) (h : I x0 x1) : Lp2 b x0 x1 := by
  have key : ∀ m (x0 : A) (x1 : B), μ x0 x1 < m → I x0 x1 → LL2 b m x0 x1 := by
    intro m
    induction m with
    | zero => intro x0 x1 q; exact absurd q (Nat.not_lt_zero _)
    | succ m ih => intro x0 x1 q hI; exact hs _ x0 x1 hI (fun y0 y1 hk q2 => ih y0 y1 (by omega) hk)
  exact ⟨_, key _ x0 x1 (Nat.lt_succ_self _) h⟩
def LL3 {A B C : Type} (b : (A → B → C → Prop) → A → B → C → Prop) : Nat → A → B → C → Prop
  | 0, _, _, _ => False
  | n + 1, x0, x1, x2 => b (LL3 b n) x0 x1 x2
def Lp3 {A B C : Type} (b : (A → B → C → Prop) → A → B → C → Prop) (x0 : A) (x1 : B) (x2 : C) : Prop := ∃ n, LL3 b n x0 x1 x2
theorem Lp3_ruleK {A B C : Type} {b : (A → B → C → Prop) → A → B → C → Prop} (I : A → B → C → Prop) (μ : A → B → C → Nat)
    (hs : ∀ (K : A → B → C → Prop) (x0 : A) (x1 : B) (x2 : C), I x0 x1 x2 → (∀ (y0 : A) (y1 : B) (y2 : C), I y0 y1 y2 → μ y0 y1 y2 < μ x0 x1 x2 → K y0 y1 y2) → b K x0 x1 x2) (x0 : A) (x1 : B) (x2 : C) (h : I x0 x1 x2) : Lp3 b x0 x1 x2 := by
  have key : ∀ m (x0 : A) (x1 : B) (x2 : C), μ x0 x1 x2 < m → I x0 x1 x2 → LL3 b m x0 x1 x2 := by
    intro m
    induction m with
    | zero => intro x0 x1 x2 q; exact absurd q (Nat.not_lt_zero _)
    | succ m ih => intro x0 x1 x2 q hI; exact hs _ x0 x1 x2 hI (fun y0 y1 y2 hk q2 => ih y0 y1 y2 (by omega) hk)
  exact ⟨_, key _ x0 x1 x2 (Nat.lt_succ_self _) h⟩
def LL4 {A B C D : Type} (b : (A → B → C → D → Prop) → A → B → C → D → Prop) : Nat → A → B → C → D → Prop
  | 0, _, _, _, _ => False
  | n + 1, x0, x1, x2, x3 => b (LL4 b n) x0 x1 x2 x3
def Lp4 {A B C D : Type} (b : (A → B → C → D → Prop) → A → B → C → D → Prop) (x0 : A) (x1 : B) (x2 : C) (x3 : D) : Prop := ∃ n, LL4 b n x0 x1 x2 x3
theorem Lp4_ruleK {A B C D : Type} {b : (A → B → C → D → Prop) → A → B → C → D → Prop} (I : A → B → C → D → Prop) (μ : A → B → C → D → Nat)
    (hs : ∀ (K : A → B → C → D → Prop) (x0 : A) (x1 : B) (x2 : C) (x3 : D), I x0 x1 x2 x3 → (∀ (y0 : A) (y1 : B) (y2 : C) (y3 : D), I y0 y1 y2 y3 → μ y0 y1 y2 y3 < μ x0 x1 x2 x3 → K y0 y1 y2 y3) → b K x0 x1 x2 x3) (x0 : A) (x1 : B) (x2 : C) (x3 : D) (h : I x0 x1 x2 x3) : Lp4 b x0 x1 x2 x3 := by
  have key : ∀ m (x0 : A) (x1 : B) (x2 : C) (x3 : D), μ x0 x1 x2 x3 < m → I x0 x1 x2 x3 → LL4 b m x0 x1 x2 x3 := by
    intro m
    induction m with
    | zero => intro x0 x1 x2 x3 q; exact absurd q (Nat.not_lt_zero _)
    | succ m ih => intro x0 x1 x2 x3 q hI; exact hs _ x0 x1 x2 x3 hI (fun y0 y1 y2 y3 hk q2 => ih y0 y1 y2 y3 (by omega) hk)
  exact ⟨_, key _ x0 x1 x2 x3 (Nat.lt_succ_self _) h⟩
def LL5 {A B C D E : Type} (b : (A → B → C → D → E → Prop) → A → B → C → D → E → Prop) : Nat → A → B → C → D → E → Prop
  | 0, _, _, _, _, _ => False
  | n + 1, x0, x1, x2, x3, x4 => b (LL5 b n) x0 x1 x2 x3 x4
def Lp5 {A B C D E : Type} (b : (A → B → C → D → E → Prop) → A → B → C → D → E → Prop) (x0 : A) (x1 : B) (x2 : C) (x3 : D) (x4 : E) : Prop := ∃ n, LL5 b n x0 x1 x2 x3 x4
theorem Lp5_ruleK {A B C D E : Type} {b : (A → B → C → D → E → Prop) → A → B → C → D → E → Prop} (I : A → B → C → D → E → Prop) (μ : A → B → C → D → E → Nat)
    (hs : ∀ (K : A → B → C → D → E → Prop) (x0 : A) (x1 : B) (x2 : C) (x3 : D) (x4 : E), I x0 x1 x2 x3 x4 → (∀ (y0 : A) (y1 : B) (y2 : C) (y3 : D) (y4 : E), I y0 y1 y2 y3 y4 → μ y0 y1 y2 y3 y4 < μ x0 x1 x2 x3 x4 → K y0 y1 y2 y3 y4) → b K x0 x1 x2 x3 x4) (x0 : A) (x1 : B) (x2 : C) (x3 : D) (x4 : E) (h : I x0 x1 x2 x3 x4) : Lp5 b x0 x1 x2 x3 x4 := by
  have key : ∀ m (x0 : A) (x1 : B) (x2 : C) (x3 : D) (x4 : E), μ x0 x1 x2 x3 x4 < m → I x0 x1 x2 x3 x4 → LL5 b m x0 x1 x2 x3 x4 := by
    intro m
    induction m with
    | zero => intro x0 x1 x2 x3 x4 q; exact absurd q (Nat.not_lt_zero _)
    | succ m ih => intro x0 x1 x2 x3 x4 q hI; exact hs _ x0 x1 x2 x3 x4 hI (fun y0 y1 y2 y3 y4 hk q2 => ih y0 y1 y2 y3 y4 (by omega) hk)
  exact ⟨_, key _ x0 x1 x2 x3 x4 (Nat.lt_succ_self _) h⟩
def LL6 {A B C D E F : Type} (b : (A → B → C → D → E → F → Prop) → A → B → C → D → E → F → Prop) : Nat → A → B → C → D → E → F → Prop
  | 0, _, _, _, _, _, _ => False
  | n + 1, x0, x1, x2, x3, x4, x5 => b (LL6 b n) x0 x1 x2 x3 x4 x5
def Lp6 {A B C D E F : Type} (b : (A → B → C → D → E → F → Prop) → A → B → C → D → E → F → Prop) (x0 : A) (x1 : B) (x2 : C) (x3 : D) (x4 : E) (x5 : F) : Prop := ∃ n, LL6 b n x0 x1 x2 x3 x4 x5
theorem Lp6_ruleK {A B C D E F : Type} {b : (A → B → C → D → E → F → Prop) → A → B → C → D → E → F → Prop} (I : A → B → C → D → E → F → Prop) (μ : A → B → C → D → E → F → Nat)
    (hs : ∀ (K : A → B → C → D → E → F → Prop) (x0 : A) (x1 : B) (x2 : C) (x3 : D) (x4 : E) (x5 : F), I x0 x1 x2 x3 x4 x5 → (∀ (y0 : A) (y1 : B) (y2 : C) (y3 : D) (y4 : E) (y5 : F), I y0 y1 y2 y3 y4 y5 → μ y0 y1 y2 y3 y4 y5 < μ x0 x1 x2 x3 x4 x5 → K y0 y1 y2 y3 y4 y5) → b K x0 x1 x2 x3 x4 x5) (x0 : A) (x1 : B) (x2 : C) (x3 : D) (x4 : E) (x5 : F) (h : I x0 x1 x2 x3 x4 x5) : Lp6 b x0 x1 x2 x3 x4 x5 := by
  have key : ∀ m (x0 : A) (x1 : B) (x2 : C) (x3 : D) (x4 : E) (x5 : F), μ x0 x1 x2 x3 x4 x5 < m → I x0 x1 x2 x3 x4 x5 → LL6 b m x0 x1 x2 x3 x4 x5 := by
    intro m
    induction m with
    | zero => intro x0 x1 x2 x3 x4 x5 q; exact absurd q (Nat.not_lt_zero _)
    | succ m ih => intro x0 x1 x2 x3 x4 x5 q hI; exact hs _ x0 x1 x2 x3 x4 x5 hI (fun y0 y1 y2 y3 y4 y5 hk q2 => ih y0 y1 y2 y3 y4 y5 (by omega) hk)
  exact ⟨_, key _ x0 x1 x2 x3 x4 x5 (Nat.lt_succ_self _) h⟩
def LL7 {A B C D E F G : Type} (b : (A → B → C → D → E → F → G → Prop) → A → B → C → D → E → F → G → Prop) : Nat → A → B → C → D → E → F → G → Prop
  | 0, _, _, _, _, _, _, _ => False
  | n + 1, x0, x1, x2, x3, x4, x5, x6 => b (LL7 b n) x0 x1 x2 x3 x4 x5 x6
def Lp7 {A B C D E F G : Type} (b : (A → B → C → D → E → F → G → Prop) → A → B → C → D → E → F → G → Prop) (x0 : A) (x1 : B) (x2 : C) (x3 : D) (x4 : E) (x5 : F) (x6 : G) : Prop := ∃ n, LL7 b n x0 x1 x2 x3 x4 x5 x6
theorem Lp7_ruleK {A B C D E F G : Type} {b : (A → B → C → D → E → F → G → Prop) → A → B → C → D → E → F → G → Prop} (I : A → B → C → D → E → F → G → Prop) (μ : A → B → C → D → E → F → G → Nat)
    (hs : ∀ (K : A → B → C → D → E → F → G → Prop) (x0 : A) (x1 : B) (x2 : C) (x3 : D) (x4 : E) (x5 : F) (x6 : G), I x0 x1 x2 x3 x4 x5 x6 → (∀ (y0 : A) (y1 : B) (y2 : C) (y3 : D) (y4 : E) (y5 : F) (y6 : G), I y0 y1 y2 y3 y4 y5 y6 → μ y0 y1 y2 y3 y4 y5 y6 < μ x0 x1 x2 x3 x4 x5 x6 → K y0 y1 y2 y3 y4 y5 y6) → b K x0 x1 x2 x3 x4 x5 x6) (x0 : A) (x1 : B) (x2 : C) (x3 : D) (x4 : E) (x5 : F) (x6 : G) (h : I x0 x1 x2 x3 x4 x5 x6) : Lp7 b x0 x1 x2 x3 x4 x5 x6 := by
  have key : ∀ m (x0 : A) (x1 : B) (x2 : C) (x3 : D) (x4 : E) (x5 : F) (x6 : G), μ x0 x1 x2 x3 x4 x5 x6 < m → I x0 x1 x2 x3 x4 x5 x6 → LL7 b m x0 x1 x2 x3 x4 x5 x6 := by
    intro m
    induction m with
    | zero => intro x0 x1 x2 x3 x4 x5 x6 q; exact absurd q (Nat.not_lt_zero _)
    | succ m ih => intro x0 x1 x2 x3 x4 x5 x6 q hI; exact hs _ x0 x1 x2 x3 x4 x5 x6 hI (fun y0 y1 y2 y3 y4 y5 y6 hk q2 => ih y0 y1 y2 y3 y4 y5 y6 (by omega) hk)
  exact ⟨_, key _ x0 x1 x2 x3 x4 x5 x6 (Nat.lt_succ_self _) h⟩
def LL8 {A B C D E F G A8 : Type} (b : (A → B → C → D → E → F → G → A8 → Prop) → A → B → C → D → E → F → G → A8 → Prop) : Nat → A → B → C → D → E → F → G → A8 → Prop
  | 0, _, _, _, _, _, _, _, _ => False
  | n + 1, x0, x1, x2, x3, x4, x5, x6, x7 => b (LL8 b n) x0 x1 x2 x3 x4 x5 x6 x7
def Lp8 {A B C D E F G A8 : Type} (b : (A → B → C → D → E → F → G → A8 → Prop) → A → B → C → D → E → F → G → A8 → Prop) (x0 : A) (x1 : B) (x2 : C) (x3 : D) (x4 : E) (x5 : F) (x6 : G) (x7 : A8) : Prop := ∃ n, LL8 b n x0 x1 x2 x3 x4 x5 x6 x7
theorem Lp8_ruleK {A B C D E F G A8 : Type} {b : (A → B → C → D → E → F → G → A8 → Prop) → A → B → C → D → E → F → G → A8 → Prop} (I : A → B → C → D → E → F → G → A8 → Prop) (μ : A → B → C → D → E → F → G → A8 → Nat)
    (hs : ∀ (K : A → B → C → D → E → F → G → A8 → Prop) (x0 : A) (x1 : B) (x2 : C) (x3 : D) (x4 : E) (x5 : F) (x6 : G) (x7 : A8), I x0 x1 x2 x3 x4 x5 x6 x7 → (∀ (y0 : A) (y1 : B) (y2 : C) (y3 : D) (y4 : E) (y5 : F) (y6 : G) (y7 : A8), I y0 y1 y2 y3 y4 y5 y6 y7 → μ y0 y1 y2 y3 y4 y5 y6 y7 < μ x0 x1 x2 x3 x4 x5 x6 x7 → K y0 y1 y2 y3 y4 y5 y6 y7) → b K x0 x1 x2 x3 x4 x5 x6 x7) (x0 : A) (x1 : B) (x2 : C) (x3 : D) (x4 : E) (x5 : F) (x6 : G) (x7 : A8) (h : I x0 x1 x2 x3 x4 x5 x6 x7) : Lp8 b x0 x1 x2 x3 x4 x5 x6 x7 := by
  have key : ∀ m (x0 : A) (x1 : B) (x2 : C) (x3 : D) (x4 : E) (x5 : F) (x6 : G) (x7 : A8), μ x0 x1 x2 x3 x4 x5 x6 x7 < m → I x0 x1 x2 x3 x4 x5 x6 x7 → LL8 b m x0 x1 x2 x3 x4 x5 x6 x7 := by
    intro m
    induction m with
    | zero => intro x0 x1 x2 x3 x4 x5 x6 x7 q; exact absurd q (Nat.not_lt_zero _)
    | succ m ih => intro x0 x1 x2 x3 x4 x5 x6 x7 q hI; exact hs _ x0 x1 x2 x3 x4 x5 x6 x7 hI (fun y0 y1 y2 y3 y4 y5 y6 y7 hk q2 => ih y0 y1 y2 y3 y4 y5 y6 y7 (by omega) hk)
  exact ⟨_, key _ x0 x1 x2 x3 x4 x5 x6 x7 (Nat.lt_succ_self _) h⟩
theorem tb_out_0_4 {x : Int32} (h0 : ¬ x = 0) (h1 : ¬ x = 1) (h2 : ¬ x = 2) (h3 : ¬ x = 3) (h4 : ¬ x = 4) : x.toInt < 0 ∨ 4 < x.toInt := by
  have e : ∀ j : Int32, x.toInt = j.toInt → x = j := fun j h => Int32.toInt_inj.mp h
  rcases Int.lt_or_le x.toInt 0 with h | h
  · exact Or.inl h
  rcases Int.lt_or_le 4 x.toInt with g | g
  · exact Or.inr g
  exfalso
  have q : x.toInt = 0 ∨ x.toInt = 1 ∨ x.toInt = 2 ∨ x.toInt = 3 ∨ x.toInt = 4 := by omega
  rcases q with q | q | q | q | q
  · exact h0 (e 0 q)
  · exact h1 (e 1 q)
  · exact h2 (e 2 q)
  · exact h3 (e 3 q)
  · exact h4 (e 4 q)
theorem tb_out_0_5 {x : Int32} (h0 : ¬ x = 0) (h1 : ¬ x = 1) (h2 : ¬ x = 2) (h3 : ¬ x = 3) (h4 : ¬ x = 4) (h5 : ¬ x = 5) : x.toInt < 0 ∨ 5 < x.toInt := by
  have e : ∀ j : Int32, x.toInt = j.toInt → x = j := fun j h => Int32.toInt_inj.mp h
  rcases Int.lt_or_le x.toInt 0 with h | h
  · exact Or.inl h
  rcases Int.lt_or_le 5 x.toInt with g | g
  · exact Or.inr g
  exfalso
  have q : x.toInt = 0 ∨ x.toInt = 1 ∨ x.toInt = 2 ∨ x.toInt = 3 ∨ x.toInt = 4 ∨ x.toInt = 5 := by omega
  rcases q with q | q | q | q | q | q
  · exact h0 (e 0 q)
  · exact h1 (e 1 q)
  · exact h2 (e 2 q)
  · exact h3 (e 3 q)
  · exact h4 (e 4 q)
  · exact h5 (e 5 q)
theorem tb_out_0_8 {x : Int32} (h0 : ¬ x = 0) (h1 : ¬ x = 1) (h2 : ¬ x = 2) (h3 : ¬ x = 3) (h4 : ¬ x = 4) (h5 : ¬ x = 5) (h6 : ¬ x = 6) (h7 : ¬ x = 7) (h8 : ¬ x = 8) : x.toInt < 0 ∨ 8 < x.toInt := by
  have e : ∀ j : Int32, x.toInt = j.toInt → x = j := fun j h => Int32.toInt_inj.mp h
  rcases Int.lt_or_le x.toInt 0 with h | h
  · exact Or.inl h
  rcases Int.lt_or_le 8 x.toInt with g | g
  · exact Or.inr g
  exfalso
  have q : x.toInt = 0 ∨ x.toInt = 1 ∨ x.toInt = 2 ∨ x.toInt = 3 ∨ x.toInt = 4 ∨ x.toInt = 5 ∨ x.toInt = 6 ∨ x.toInt = 7 ∨ x.toInt = 8 := by omega
  rcases q with q | q | q | q | q | q | q | q | q
  · exact h0 (e 0 q)
  · exact h1 (e 1 q)
  · exact h2 (e 2 q)
  · exact h3 (e 3 q)
  · exact h4 (e 4 q)
  · exact h5 (e 5 q)
  · exact h6 (e 6 q)
  · exact h7 (e 7 q)
  · exact h8 (e 8 q)
theorem tb_out_1_3 {x : Int32} (h1 : ¬ x = 1) (h2 : ¬ x = 2) (h3 : ¬ x = 3) : x.toInt < 1 ∨ 3 < x.toInt := by
  have e : ∀ j : Int32, x.toInt = j.toInt → x = j := fun j h => Int32.toInt_inj.mp h
  rcases Int.lt_or_le x.toInt 1 with h | h
  · exact Or.inl h
  rcases Int.lt_or_le 3 x.toInt with g | g
  · exact Or.inr g
  exfalso
  have q : x.toInt = 1 ∨ x.toInt = 2 ∨ x.toInt = 3 := by omega
  rcases q with q | q | q
  · exact h1 (e 1 q)
  · exact h2 (e 2 q)
  · exact h3 (e 3 q)
theorem lk_out_33_60_62 {x : Int32} (h0 : ¬ x = 33) (h1 : ¬ x = 60) (h2 : ¬ x = 62) : Op.lookupswitch.offset [(33, 39), (60, 35), (62, 37)] 41 x.toInt = 41 := by
  have e : ∀ j : Int32, ¬ x = j → ¬ j.toInt = x.toInt := fun j h q => h (Int32.toInt_inj.mp q.symm)
  have a0 : ¬ (33 : Int) = x.toInt := e 33 h0
  have a1 : ¬ (60 : Int) = x.toInt := e 60 h1
  have a2 : ¬ (62 : Int) = x.toInt := e 62 h2
  simp [Op.lookupswitch.offset, a0, a1, a2, Ne.symm a0, Ne.symm a1, Ne.symm a2]
def kdM : List (Nat × Nat) := [(0, 0), (1, 0), (2, 7), (2, 12), (2, 12), (2, 48), (2, 12), (2, 12), (2, 12), (2, 8), (2, 12), (2, 12), (2, 48), (2, 12), (2, 12), (2, 48), (1, 0), (1, 0), (1, 0), (1, 0), (3, 400), (2, 7), (2, 12), (2, 12), (2, 48), (2, 12), (2, 12), (1, 0), (1, 0), (1, 0), (1, 0), (2, 26), (2, 26), (2, 26), (5, 90), (2, 4680), (1, 0), (1, 0), (2, 480), (2, 1), (1, 0), (1, 0), (1, 0), (4, 4056), (4, 65), (4, 65), (4, 1170), (4, 2028), (5, 2028), (5, 65), (4, 65), (2, 12), (4, 2028), (4, 2028), (2, 65), (1, 0), (1, 0), (1, 0), (1, 0), (2, 2028), (2, 65), (1, 0), (1, 0), (1, 0), (1, 0), (2, 2028), (2, 65), (2, 28), (1, 0), (2, 2560), (4, 4), (1, 0), (1, 0)]
abbrev shM : Sh := (fun o => if o = 0 then some (3, 1, 72) else none, fun i => kdM.getD i (0, 0))
theorem shM_sep : gSep shM := by
  refine ⟨?_, ?_⟩
  · intro o o' ci b N ci' b' N' h h' hne
    simp only [shM] at h h'
    split at h
    · split at h'
      · omega
      · cases h'
    · cases h
  · intro o h
    simp only [shM] at h
    split at h
    · subst o; decide
    · cases h
section
variable {p : Program} {l : Launch} {e : Env} {R : Room} {s : State} {m : MethodId} {args : Array Value} {below : List Frame} {meth : Method} {c : Code} {H : Heap} {locs : List Loc} {cells slots : Nat} {Q : State → Prop} {cc : ByteArray} {nL pc : Nat} {ls : Array Slot} {rest : List Value} {D : va_G} {ct : Ct} {ad : Nat → Nat} {σ : St}
theorem mg_ahead (C : CallFix p m c cc nL s args lw_all RX3) (hw : gH D ct shM ad s σ H locs) (hdg : decode cc pc = .ok (.getfield 100, 3)) (kk : W p l e R s m args below meth c H locs cells slots Q (F0 m (pc + 3) ls (.ref (ad 44) :: rest))) : W p l e R s m args below meth c H locs cells slots Q (F0 m pc ls (.ref (ad 0) :: rest)) :=
  g_getf (o := 0) (ci := 3) (b := 1) (N := 72) (T := TX3) C hw rfl rfl in_X3 43 (by decide) q1372 rfl rfl hdg kk
theorem mg_all (C : CallFix p m c cc nL s args lw_all RX3) (hw : gH D ct shM ad s σ H locs) (hdg : decode cc pc = .ok (.getfield 282, 3)) (kk : W p l e R s m args below meth c H locs cells slots Q (F0 m (pc + 3) ls (.int (σ.1 30) :: rest))) : W p l e R s m args below meth c H locs cells slots Q (F0 m pc ls (.ref (ad 0) :: rest)) :=
  g_getf (o := 0) (ci := 3) (b := 1) (N := 72) (T := TX3) C hw rfl rfl in_X3 29 (by decide) q1358 rfl rfl hdg kk
theorem mg_bans (C : CallFix p m c cc nL s args lw_all RX3) (hw : gH D ct shM ad s σ H locs) (hdg : decode cc pc = .ok (.getfield 31, 3)) (kk : W p l e R s m args below meth c H locs cells slots Q (F0 m (pc + 3) ls (.ref (ad 9) :: rest))) : W p l e R s m args below meth c H locs cells slots Q (F0 m pc ls (.ref (ad 0) :: rest)) :=
  g_getf (o := 0) (ci := 3) (b := 1) (N := 72) (T := TX3) C hw rfl rfl in_X3 8 (by decide) q1337 rfl rfl hdg kk
theorem mg_behind (C : CallFix p m c cc nL s args lw_all RX3) (hw : gH D ct shM ad s σ H locs) (hdg : decode cc pc = .ok (.getfield 103, 3)) (kk : W p l e R s m args below meth c H locs cells slots Q (F0 m (pc + 3) ls (.ref (ad 45) :: rest))) : W p l e R s m args below meth c H locs cells slots Q (F0 m pc ls (.ref (ad 0) :: rest)) :=
  g_getf (o := 0) (ci := 3) (b := 1) (N := 72) (T := TX3) C hw rfl rfl in_X3 44 (by decide) q1373 rfl rfl hdg kk
theorem mg_below (C : CallFix p m c cc nL s args lw_all RX3) (hw : gH D ct shM ad s σ H locs) (hdg : decode cc pc = .ok (.getfield 121, 3)) (kk : W p l e R s m args below meth c H locs cells slots Q (F0 m (pc + 3) ls (.ref (ad 51) :: rest))) : W p l e R s m args below meth c H locs cells slots Q (F0 m pc ls (.ref (ad 0) :: rest)) :=
  g_getf (o := 0) (ci := 3) (b := 1) (N := 72) (T := TX3) C hw rfl rfl in_X3 50 (by decide) q1379 rfl rfl hdg kk
theorem mg_counts (C : CallFix p m c cc nL s args lw_all RX3) (hw : gH D ct shM ad s σ H locs) (hdg : decode cc pc = .ok (.getfield 115, 3)) (kk : W p l e R s m args below meth c H locs cells slots Q (F0 m (pc + 3) ls (.ref (ad 49) :: rest))) : W p l e R s m args below meth c H locs cells slots Q (F0 m pc ls (.ref (ad 0) :: rest)) :=
  g_getf (o := 0) (ci := 3) (b := 1) (N := 72) (T := TX3) C hw rfl rfl in_X3 48 (by decide) q1377 rfl rfl hdg kk
theorem mg_empties (C : CallFix p m c cc nL s args lw_all RX3) (hw : gH D ct shM ad s σ H locs) (hdg : decode cc pc = .ok (.getfield 273, 3)) (kk : W p l e R s m args below meth c H locs cells slots Q (F0 m (pc + 3) ls (.int (σ.1 27) :: rest))) : W p l e R s m args below meth c H locs cells slots Q (F0 m pc ls (.ref (ad 0) :: rest)) :=
  g_getf (o := 0) (ci := 3) (b := 1) (N := 72) (T := TX3) C hw rfl rfl in_X3 26 (by decide) q1355 rfl rfl hdg kk
theorem mg_ending (C : CallFix p m c cc nL s args lw_all RX3) (hw : gH D ct shM ad s σ H locs) (hdg : decode cc pc = .ok (.getfield 276, 3)) (kk : W p l e R s m args below meth c H locs cells slots Q (F0 m (pc + 3) ls (.int (σ.1 28) :: rest))) : W p l e R s m args below meth c H locs cells slots Q (F0 m pc ls (.ref (ad 0) :: rest)) :=
  g_getf (o := 0) (ci := 3) (b := 1) (N := 72) (T := TX3) C hw rfl rfl in_X3 27 (by decide) q1356 rfl rfl hdg kk
theorem mg_endlessAhead (C : CallFix p m c cc nL s args lw_all RX3) (hw : gH D ct shM ad s σ H locs) (hdg : decode cc pc = .ok (.getfield 118, 3)) (kk : W p l e R s m args below meth c H locs cells slots Q (F0 m (pc + 3) ls (.ref (ad 50) :: rest))) : W p l e R s m args below meth c H locs cells slots Q (F0 m pc ls (.ref (ad 0) :: rest)) :=
  g_getf (o := 0) (ci := 3) (b := 1) (N := 72) (T := TX3) C hw rfl rfl in_X3 49 (by decide) q1378 rfl rfl hdg kk
theorem mg_fault (C : CallFix p m c cc nL s args lw_all RX3) (hw : gH D ct shM ad s σ H locs) (hdg : decode cc pc = .ok (.getfield 173, 3)) (kk : W p l e R s m args below meth c H locs cells slots Q (F0 m (pc + 3) ls (.int (σ.1 19) :: rest))) : W p l e R s m args below meth c H locs cells slots Q (F0 m pc ls (.ref (ad 0) :: rest)) :=
  g_getf (o := 0) (ci := 3) (b := 1) (N := 72) (T := TX3) C hw rfl rfl in_X3 18 (by decide) q1347 rfl rfl hdg kk
theorem mg_fewest (C : CallFix p m c cc nL s args lw_all RX3) (hw : gH D ct shM ad s σ H locs) (hdg : decode cc pc = .ok (.getfield 80, 3)) (kk : W p l e R s m args below meth c H locs cells slots Q (F0 m (pc + 3) ls (.ref (ad 33) :: rest))) : W p l e R s m args below meth c H locs cells slots Q (F0 m pc ls (.ref (ad 0) :: rest)) :=
  g_getf (o := 0) (ci := 3) (b := 1) (N := 72) (T := TX3) C hw rfl rfl in_X3 32 (by decide) q1361 rfl rfl hdg kk
theorem mg_first (C : CallFix p m c cc nL s args lw_all RX3) (hw : gH D ct shM ad s σ H locs) (hdg : decode cc pc = .ok (.getfield 74, 3)) (kk : W p l e R s m args below meth c H locs cells slots Q (F0 m (pc + 3) ls (.ref (ad 31) :: rest))) : W p l e R s m args below meth c H locs cells slots Q (F0 m pc ls (.ref (ad 0) :: rest)) :=
  g_getf (o := 0) (ci := 3) (b := 1) (N := 72) (T := TX3) C hw rfl rfl in_X3 30 (by decide) q1359 rfl rfl hdg kk
theorem mg_follow (C : CallFix p m c cc nL s args lw_all RX3) (hw : gH D ct shM ad s σ H locs) (hdg : decode cc pc = .ok (.getfield 77, 3)) (kk : W p l e R s m args below meth c H locs cells slots Q (F0 m (pc + 3) ls (.ref (ad 32) :: rest))) : W p l e R s m args below meth c H locs cells slots Q (F0 m pc ls (.ref (ad 0) :: rest)) :=
  g_getf (o := 0) (ci := 3) (b := 1) (N := 72) (T := TX3) C hw rfl rfl in_X3 31 (by decide) q1360 rfl rfl hdg kk
theorem mg_goTo (C : CallFix p m c cc nL s args lw_all RX3) (hw : gH D ct shM ad s σ H locs) (hdg : decode cc pc = .ok (.getfield 87, 3)) (kk : W p l e R s m args below meth c H locs cells slots Q (F0 m (pc + 3) ls (.ref (ad 35) :: rest))) : W p l e R s m args below meth c H locs cells slots Q (F0 m pc ls (.ref (ad 0) :: rest)) :=
  g_getf (o := 0) (ci := 3) (b := 1) (N := 72) (T := TX3) C hw rfl rfl in_X3 34 (by decide) q1363 rfl rfl hdg kk
theorem mg_goesBack (C : CallFix p m c cc nL s args lw_all RX3) (hw : gH D ct shM ad s σ H locs) (hdg : decode cc pc = .ok (.getfield 621, 3)) (kk : W p l e R s m args below meth c H locs cells slots Q (F0 m (pc + 3) ls (.int (σ.1 72) :: rest))) : W p l e R s m args below meth c H locs cells slots Q (F0 m pc ls (.ref (ad 0) :: rest)) :=
  g_getf (o := 0) (ci := 3) (b := 1) (N := 72) (T := TX3) C hw rfl rfl in_X3 71 (by decide) q1400 rfl rfl hdg kk
theorem mg_imageAt (C : CallFix p m c cc nL s args lw_all RX3) (hw : gH D ct shM ad s σ H locs) (hdg : decode cc pc = .ok (.getfield 624, 3)) (kk : W p l e R s m args below meth c H locs cells slots Q (F0 m (pc + 3) ls (.int (σ.1 71) :: rest))) : W p l e R s m args below meth c H locs cells slots Q (F0 m pc ls (.ref (ad 0) :: rest)) :=
  g_getf (o := 0) (ci := 3) (b := 1) (N := 72) (T := TX3) C hw rfl rfl in_X3 70 (by decide) q1399 rfl rfl hdg kk
theorem mg_images (C : CallFix p m c cc nL s args lw_all RX3) (hw : gH D ct shM ad s σ H locs) (hdg : decode cc pc = .ok (.getfield 148, 3)) (kk : W p l e R s m args below meth c H locs cells slots Q (F0 m (pc + 3) ls (.ref (ad 69) :: rest))) : W p l e R s m args below meth c H locs cells slots Q (F0 m pc ls (.ref (ad 0) :: rest)) :=
  g_getf (o := 0) (ci := 3) (b := 1) (N := 72) (T := TX3) C hw rfl rfl in_X3 68 (by decide) q1397 rfl rfl hdg kk
theorem mg_isAlive (C : CallFix p m c cc nL s args lw_all RX3) (hw : gH D ct shM ad s σ H locs) (hdg : decode cc pc = .ok (.getfield 106, 3)) (kk : W p l e R s m args below meth c H locs cells slots Q (F0 m (pc + 3) ls (.ref (ad 46) :: rest))) : W p l e R s m args below meth c H locs cells slots Q (F0 m pc ls (.ref (ad 0) :: rest)) :=
  g_getf (o := 0) (ci := 3) (b := 1) (N := 72) (T := TX3) C hw rfl rfl in_X3 45 (by decide) q1374 rfl rfl hdg kk
theorem mg_isEndless (C : CallFix p m c cc nL s args lw_all RX3) (hw : gH D ct shM ad s σ H locs) (hdg : decode cc pc = .ok (.getfield 109, 3)) (kk : W p l e R s m args below meth c H locs cells slots Q (F0 m (pc + 3) ls (.ref (ad 47) :: rest))) : W p l e R s m args below meth c H locs cells slots Q (F0 m pc ls (.ref (ad 0) :: rest)) :=
  g_getf (o := 0) (ci := 3) (b := 1) (N := 72) (T := TX3) C hw rfl rfl in_X3 46 (by decide) q1375 rfl rfl hdg kk
theorem mg_isGone (C : CallFix p m c cc nL s args lw_all RX3) (hw : gH D ct shM ad s σ H locs) (hdg : decode cc pc = .ok (.getfield 127, 3)) (kk : W p l e R s m args below meth c H locs cells slots Q (F0 m (pc + 3) ls (.ref (ad 53) :: rest))) : W p l e R s m args below meth c H locs cells slots Q (F0 m pc ls (.ref (ad 0) :: rest)) :=
  g_getf (o := 0) (ci := 3) (b := 1) (N := 72) (T := TX3) C hw rfl rfl in_X3 52 (by decide) q1381 rfl rfl hdg kk
theorem mg_isKept (C : CallFix p m c cc nL s args lw_all RX3) (hw : gH D ct shM ad s σ H locs) (hdg : decode cc pc = .ok (.getfield 151, 3)) (kk : W p l e R s m args below meth c H locs cells slots Q (F0 m (pc + 3) ls (.ref (ad 70) :: rest))) : W p l e R s m args below meth c H locs cells slots Q (F0 m pc ls (.ref (ad 0) :: rest)) :=
  g_getf (o := 0) (ci := 3) (b := 1) (N := 72) (T := TX3) C hw rfl rfl in_X3 69 (by decide) q1398 rfl rfl hdg kk
theorem mg_isLaid (C : CallFix p m c cc nL s args lw_all RX3) (hw : gH D ct shM ad s σ H locs) (hdg : decode cc pc = .ok (.getfield 245, 3)) (kk : W p l e R s m args below meth c H locs cells slots Q (F0 m (pc + 3) ls (.int (σ.1 37) :: rest))) : W p l e R s m args below meth c H locs cells slots Q (F0 m pc ls (.ref (ad 0) :: rest)) :=
  g_getf (o := 0) (ci := 3) (b := 1) (N := 72) (T := TX3) C hw rfl rfl in_X3 36 (by decide) q1365 rfl rfl hdg kk
theorem mg_isPiece (C : CallFix p m c cc nL s args lw_all RX3) (hw : gH D ct shM ad s σ H locs) (hdg : decode cc pc = .ok (.getfield 124, 3)) (kk : W p l e R s m args below meth c H locs cells slots Q (F0 m (pc + 3) ls (.ref (ad 52) :: rest))) : W p l e R s m args below meth c H locs cells slots Q (F0 m pc ls (.ref (ad 0) :: rest)) :=
  g_getf (o := 0) (ci := 3) (b := 1) (N := 72) (T := TX3) C hw rfl rfl in_X3 51 (by decide) q1380 rfl rfl hdg kk
theorem mg_left (C : CallFix p m c cc nL s args lw_all RX3) (hw : gH D ct shM ad s σ H locs) (hdg : decode cc pc = .ok (.getfield 13, 3)) (kk : W p l e R s m args below meth c H locs cells slots Q (F0 m (pc + 3) ls (.ref (ad 3) :: rest))) : W p l e R s m args below meth c H locs cells slots Q (F0 m pc ls (.ref (ad 0) :: rest)) :=
  g_getf (o := 0) (ci := 3) (b := 1) (N := 72) (T := TX3) C hw rfl rfl in_X3 2 (by decide) q1331 rfl rfl hdg kk
theorem mg_made (C : CallFix p m c cc nL s args lw_all RX3) (hw : gH D ct shM ad s σ H locs) (hdg : decode cc pc = .ok (.getfield 96, 3)) (kk : W p l e R s m args below meth c H locs cells slots Q (F0 m (pc + 3) ls (.ref (ad 43) :: rest))) : W p l e R s m args below meth c H locs cells slots Q (F0 m pc ls (.ref (ad 0) :: rest)) :=
  g_getf (o := 0) (ci := 3) (b := 1) (N := 72) (T := TX3) C hw rfl rfl in_X3 42 (by decide) q1371 rfl rfl hdg kk
theorem mg_manyStates (C : CallFix p m c cc nL s args lw_all RX3) (hw : gH D ct shM ad s σ H locs) (hdg : decode cc pc = .ok (.getfield 351, 3)) (kk : W p l e R s m args below meth c H locs cells slots Q (F0 m (pc + 3) ls (.int (σ.1 36) :: rest))) : W p l e R s m args below meth c H locs cells slots Q (F0 m pc ls (.ref (ad 0) :: rest)) :=
  g_getf (o := 0) (ci := 3) (b := 1) (N := 72) (T := TX3) C hw rfl rfl in_X3 35 (by decide) q1364 rfl rfl hdg kk
theorem mg_manyTrees (C : CallFix p m c cc nL s args lw_all RX3) (hw : gH D ct shM ad s σ H locs) (hdg : decode cc pc = .ok (.getfield 112, 3)) (kk : W p l e R s m args below meth c H locs cells slots Q (F0 m (pc + 3) ls (.ref (ad 48) :: rest))) : W p l e R s m args below meth c H locs cells slots Q (F0 m pc ls (.ref (ad 0) :: rest)) :=
  g_getf (o := 0) (ci := 3) (b := 1) (N := 72) (T := TX3) C hw rfl rfl in_X3 47 (by decide) q1376 rfl rfl hdg kk
theorem mg_mended (C : CallFix p m c cc nL s args lw_all RX3) (hw : gH D ct shM ad s σ H locs) (hdg : decode cc pc = .ok (.getfield 139, 3)) (kk : W p l e R s m args below meth c H locs cells slots Q (F0 m (pc + 3) ls (.ref (ad 65) :: rest))) : W p l e R s m args below meth c H locs cells slots Q (F0 m pc ls (.ref (ad 0) :: rest)) :=
  g_getf (o := 0) (ci := 3) (b := 1) (N := 72) (T := TX3) C hw rfl rfl in_X3 64 (by decide) q1393 rfl rfl hdg kk
theorem mg_mendedAhead (C : CallFix p m c cc nL s args lw_all RX3) (hw : gH D ct shM ad s σ H locs) (hdg : decode cc pc = .ok (.getfield 142, 3)) (kk : W p l e R s m args below meth c H locs cells slots Q (F0 m (pc + 3) ls (.ref (ad 66) :: rest))) : W p l e R s m args below meth c H locs cells slots Q (F0 m pc ls (.ref (ad 0) :: rest)) :=
  g_getf (o := 0) (ci := 3) (b := 1) (N := 72) (T := TX3) C hw rfl rfl in_X3 65 (by decide) q1394 rfl rfl hdg kk
theorem mg_narrow (C : CallFix p m c cc nL s args lw_all RX3) (hw : gH D ct shM ad s σ H locs) (hdg : decode cc pc = .ok (.getfield 527, 3)) (kk : W p l e R s m args below meth c H locs cells slots Q (F0 m (pc + 3) ls (.int (σ.1 58) :: rest))) : W p l e R s m args below meth c H locs cells slots Q (F0 m pc ls (.ref (ad 0) :: rest)) :=
  g_getf (o := 0) (ci := 3) (b := 1) (N := 72) (T := TX3) C hw rfl rfl in_X3 57 (by decide) q1386 rfl rfl hdg kk
theorem mg_newLeft (C : CallFix p m c cc nL s args lw_all RX3) (hw : gH D ct shM ad s σ H locs) (hdg : decode cc pc = .ok (.getfield 34, 3)) (kk : W p l e R s m args below meth c H locs cells slots Q (F0 m (pc + 3) ls (.ref (ad 10) :: rest))) : W p l e R s m args below meth c H locs cells slots Q (F0 m pc ls (.ref (ad 0) :: rest)) :=
  g_getf (o := 0) (ci := 3) (b := 1) (N := 72) (T := TX3) C hw rfl rfl in_X3 9 (by decide) q1338 rfl rfl hdg kk
theorem mg_newMany (C : CallFix p m c cc nL s args lw_all RX3) (hw : gH D ct shM ad s σ H locs) (hdg : decode cc pc = .ok (.getfield 187, 3)) (kk : W p l e R s m args below meth c H locs cells slots Q (F0 m (pc + 3) ls (.int (σ.1 16) :: rest))) : W p l e R s m args below meth c H locs cells slots Q (F0 m pc ls (.ref (ad 0) :: rest)) :=
  g_getf (o := 0) (ci := 3) (b := 1) (N := 72) (T := TX3) C hw rfl rfl in_X3 15 (by decide) q1344 rfl rfl hdg kk
theorem mg_newRank (C : CallFix p m c cc nL s args lw_all RX3) (hw : gH D ct shM ad s σ H locs) (hdg : decode cc pc = .ok (.getfield 43, 3)) (kk : W p l e R s m args below meth c H locs cells slots Q (F0 m (pc + 3) ls (.ref (ad 13) :: rest))) : W p l e R s m args below meth c H locs cells slots Q (F0 m pc ls (.ref (ad 0) :: rest)) :=
  g_getf (o := 0) (ci := 3) (b := 1) (N := 72) (T := TX3) C hw rfl rfl in_X3 12 (by decide) q1341 rfl rfl hdg kk
theorem mg_newSide (C : CallFix p m c cc nL s args lw_all RX3) (hw : gH D ct shM ad s σ H locs) (hdg : decode cc pc = .ok (.getfield 46, 3)) (kk : W p l e R s m args below meth c H locs cells slots Q (F0 m (pc + 3) ls (.ref (ad 14) :: rest))) : W p l e R s m args below meth c H locs cells slots Q (F0 m pc ls (.ref (ad 0) :: rest)) :=
  g_getf (o := 0) (ci := 3) (b := 1) (N := 72) (T := TX3) C hw rfl rfl in_X3 13 (by decide) q1342 rfl rfl hdg kk
theorem mg_newSize (C : CallFix p m c cc nL s args lw_all RX3) (hw : gH D ct shM ad s σ H locs) (hdg : decode cc pc = .ok (.getfield 37, 3)) (kk : W p l e R s m args below meth c H locs cells slots Q (F0 m (pc + 3) ls (.ref (ad 11) :: rest))) : W p l e R s m args below meth c H locs cells slots Q (F0 m pc ls (.ref (ad 0) :: rest)) :=
  g_getf (o := 0) (ci := 3) (b := 1) (N := 72) (T := TX3) C hw rfl rfl in_X3 10 (by decide) q1339 rfl rfl hdg kk
theorem mg_newSym (C : CallFix p m c cc nL s args lw_all RX3) (hw : gH D ct shM ad s σ H locs) (hdg : decode cc pc = .ok (.getfield 40, 3)) (kk : W p l e R s m args below meth c H locs cells slots Q (F0 m (pc + 3) ls (.ref (ad 12) :: rest))) : W p l e R s m args below meth c H locs cells slots Q (F0 m pc ls (.ref (ad 0) :: rest)) :=
  g_getf (o := 0) (ci := 3) (b := 1) (N := 72) (T := TX3) C hw rfl rfl in_X3 11 (by decide) q1340 rfl rfl hdg kk
theorem mg_nodes (C : CallFix p m c cc nL s args lw_all RX3) (hw : gH D ct shM ad s σ H locs) (hdg : decode cc pc = .ok (.getfield 521, 3)) (kk : W p l e R s m args below meth c H locs cells slots Q (F0 m (pc + 3) ls (.int (σ.1 56) :: rest))) : W p l e R s m args below meth c H locs cells slots Q (F0 m pc ls (.ref (ad 0) :: rest)) :=
  g_getf (o := 0) (ci := 3) (b := 1) (N := 72) (T := TX3) C hw rfl rfl in_X3 55 (by decide) q1384 rfl rfl hdg kk
theorem mg_oldLeft (C : CallFix p m c cc nL s args lw_all RX3) (hw : gH D ct shM ad s σ H locs) (hdg : decode cc pc = .ok (.getfield 59, 3)) (kk : W p l e R s m args below meth c H locs cells slots Q (F0 m (pc + 3) ls (.ref (ad 22) :: rest))) : W p l e R s m args below meth c H locs cells slots Q (F0 m pc ls (.ref (ad 0) :: rest)) :=
  g_getf (o := 0) (ci := 3) (b := 1) (N := 72) (T := TX3) C hw rfl rfl in_X3 21 (by decide) q1350 rfl rfl hdg kk
theorem mg_oldRank (C : CallFix p m c cc nL s args lw_all RX3) (hw : gH D ct shM ad s σ H locs) (hdg : decode cc pc = .ok (.getfield 68, 3)) (kk : W p l e R s m args below meth c H locs cells slots Q (F0 m (pc + 3) ls (.ref (ad 25) :: rest))) : W p l e R s m args below meth c H locs cells slots Q (F0 m pc ls (.ref (ad 0) :: rest)) :=
  g_getf (o := 0) (ci := 3) (b := 1) (N := 72) (T := TX3) C hw rfl rfl in_X3 24 (by decide) q1353 rfl rfl hdg kk
theorem mg_oldScalar (C : CallFix p m c cc nL s args lw_all RX3) (hw : gH D ct shM ad s σ H locs) (hdg : decode cc pc = .ok (.getfield 56, 3)) (kk : W p l e R s m args below meth c H locs cells slots Q (F0 m (pc + 3) ls (.ref (ad 21) :: rest))) : W p l e R s m args below meth c H locs cells slots Q (F0 m pc ls (.ref (ad 0) :: rest)) :=
  g_getf (o := 0) (ci := 3) (b := 1) (N := 72) (T := TX3) C hw rfl rfl in_X3 20 (by decide) q1349 rfl rfl hdg kk
theorem mg_oldSide (C : CallFix p m c cc nL s args lw_all RX3) (hw : gH D ct shM ad s σ H locs) (hdg : decode cc pc = .ok (.getfield 71, 3)) (kk : W p l e R s m args below meth c H locs cells slots Q (F0 m (pc + 3) ls (.ref (ad 26) :: rest))) : W p l e R s m args below meth c H locs cells slots Q (F0 m pc ls (.ref (ad 0) :: rest)) :=
  g_getf (o := 0) (ci := 3) (b := 1) (N := 72) (T := TX3) C hw rfl rfl in_X3 25 (by decide) q1354 rfl rfl hdg kk
theorem mg_oldSize (C : CallFix p m c cc nL s args lw_all RX3) (hw : gH D ct shM ad s σ H locs) (hdg : decode cc pc = .ok (.getfield 62, 3)) (kk : W p l e R s m args below meth c H locs cells slots Q (F0 m (pc + 3) ls (.ref (ad 23) :: rest))) : W p l e R s m args below meth c H locs cells slots Q (F0 m pc ls (.ref (ad 0) :: rest)) :=
  g_getf (o := 0) (ci := 3) (b := 1) (N := 72) (T := TX3) C hw rfl rfl in_X3 22 (by decide) q1351 rfl rfl hdg kk
theorem mg_oldSym (C : CallFix p m c cc nL s args lw_all RX3) (hw : gH D ct shM ad s σ H locs) (hdg : decode cc pc = .ok (.getfield 65, 3)) (kk : W p l e R s m args below meth c H locs cells slots Q (F0 m (pc + 3) ls (.ref (ad 24) :: rest))) : W p l e R s m args below meth c H locs cells slots Q (F0 m pc ls (.ref (ad 0) :: rest)) :=
  g_getf (o := 0) (ci := 3) (b := 1) (N := 72) (T := TX3) C hw rfl rfl in_X3 23 (by decide) q1352 rfl rfl hdg kk
theorem mg_p (C : CallFix p m c cc nL s args lw_all RX3) (hw : gH D ct shM ad s σ H locs) (hdg : decode cc pc = .ok (.getfield 176, 3)) (kk : W p l e R s m args below meth c H locs cells slots Q (F0 m (pc + 3) ls (.int (σ.1 18) :: rest))) : W p l e R s m args below meth c H locs cells slots Q (F0 m pc ls (.ref (ad 0) :: rest)) :=
  g_getf (o := 0) (ci := 3) (b := 1) (N := 72) (T := TX3) C hw rfl rfl in_X3 17 (by decide) q1346 rfl rfl hdg kk
theorem mg_past (C : CallFix p m c cc nL s args lw_all RX3) (hw : gH D ct shM ad s σ H locs) (hdg : decode cc pc = .ok (.getfield 90, 3)) (kk : W p l e R s m args below meth c H locs cells slots Q (F0 m (pc + 3) ls (.ref (ad 38) :: rest))) : W p l e R s m args below meth c H locs cells slots Q (F0 m pc ls (.ref (ad 0) :: rest)) :=
  g_getf (o := 0) (ci := 3) (b := 1) (N := 72) (T := TX3) C hw rfl rfl in_X3 37 (by decide) q1366 rfl rfl hdg kk
theorem mg_pastAt (C : CallFix p m c cc nL s args lw_all RX3) (hw : gH D ct shM ad s σ H locs) (hdg : decode cc pc = .ok (.getfield 379, 3)) (kk : W p l e R s m args below meth c H locs cells slots Q (F0 m (pc + 3) ls (.int (σ.1 41) :: rest))) : W p l e R s m args below meth c H locs cells slots Q (F0 m pc ls (.ref (ad 0) :: rest)) :=
  g_getf (o := 0) (ci := 3) (b := 1) (N := 72) (T := TX3) C hw rfl rfl in_X3 40 (by decide) q1369 rfl rfl hdg kk
theorem mg_pastMany (C : CallFix p m c cc nL s args lw_all RX3) (hw : gH D ct shM ad s σ H locs) (hdg : decode cc pc = .ok (.getfield 254, 3)) (kk : W p l e R s m args below meth c H locs cells slots Q (F0 m (pc + 3) ls (.int (σ.1 40) :: rest))) : W p l e R s m args below meth c H locs cells slots Q (F0 m pc ls (.ref (ad 0) :: rest)) :=
  g_getf (o := 0) (ci := 3) (b := 1) (N := 72) (T := TX3) C hw rfl rfl in_X3 39 (by decide) q1368 rfl rfl hdg kk
theorem mg_pastOf (C : CallFix p m c cc nL s args lw_all RX3) (hw : gH D ct shM ad s σ H locs) (hdg : decode cc pc = .ok (.getfield 93, 3)) (kk : W p l e R s m args below meth c H locs cells slots Q (F0 m (pc + 3) ls (.ref (ad 39) :: rest))) : W p l e R s m args below meth c H locs cells slots Q (F0 m pc ls (.ref (ad 0) :: rest)) :=
  g_getf (o := 0) (ci := 3) (b := 1) (N := 72) (T := TX3) C hw rfl rfl in_X3 38 (by decide) q1367 rfl rfl hdg kk
theorem mg_pieces (C : CallFix p m c cc nL s args lw_all RX3) (hw : gH D ct shM ad s σ H locs) (hdg : decode cc pc = .ok (.getfield 530, 3)) (kk : W p l e R s m args below meth c H locs cells slots Q (F0 m (pc + 3) ls (.int (σ.1 55) :: rest))) : W p l e R s m args below meth c H locs cells slots Q (F0 m pc ls (.ref (ad 0) :: rest)) :=
  g_getf (o := 0) (ci := 3) (b := 1) (N := 72) (T := TX3) C hw rfl rfl in_X3 54 (by decide) q1383 rfl rfl hdg kk
theorem mg_rank (C : CallFix p m c cc nL s args lw_all RX3) (hw : gH D ct shM ad s σ H locs) (hdg : decode cc pc = .ok (.getfield 22, 3)) (kk : W p l e R s m args below meth c H locs cells slots Q (F0 m (pc + 3) ls (.ref (ad 6) :: rest))) : W p l e R s m args below meth c H locs cells slots Q (F0 m pc ls (.ref (ad 0) :: rest)) :=
  g_getf (o := 0) (ci := 3) (b := 1) (N := 72) (T := TX3) C hw rfl rfl in_X3 5 (by decide) q1334 rfl rfl hdg kk
theorem mg_reached (C : CallFix p m c cc nL s args lw_all RX3) (hw : gH D ct shM ad s σ H locs) (hdg : decode cc pc = .ok (.getfield 279, 3)) (kk : W p l e R s m args below meth c H locs cells slots Q (F0 m (pc + 3) ls (.int (σ.1 29) :: rest))) : W p l e R s m args below meth c H locs cells slots Q (F0 m pc ls (.ref (ad 0) :: rest)) :=
  g_getf (o := 0) (ci := 3) (b := 1) (N := 72) (T := TX3) C hw rfl rfl in_X3 28 (by decide) q1357 rfl rfl hdg kk
theorem mg_row (C : CallFix p m c cc nL s args lw_all RX3) (hw : gH D ct shM ad s σ H locs) (hdg : decode cc pc = .ok (.getfield 145, 3)) (kk : W p l e R s m args below meth c H locs cells slots Q (F0 m (pc + 3) ls (.ref (ad 67) :: rest))) : W p l e R s m args below meth c H locs cells slots Q (F0 m pc ls (.ref (ad 0) :: rest)) :=
  g_getf (o := 0) (ci := 3) (b := 1) (N := 72) (T := TX3) C hw rfl rfl in_X3 66 (by decide) q1395 rfl rfl hdg kk
theorem mg_rowMany (C : CallFix p m c cc nL s args lw_all RX3) (hw : gH D ct shM ad s σ H locs) (hdg : decode cc pc = .ok (.getfield 594, 3)) (kk : W p l e R s m args below meth c H locs cells slots Q (F0 m (pc + 3) ls (.int (σ.1 68) :: rest))) : W p l e R s m args below meth c H locs cells slots Q (F0 m pc ls (.ref (ad 0) :: rest)) :=
  g_getf (o := 0) (ci := 3) (b := 1) (N := 72) (T := TX3) C hw rfl rfl in_X3 67 (by decide) q1396 rfl rfl hdg kk
theorem mg_scalar (C : CallFix p m c cc nL s args lw_all RX3) (hw : gH D ct shM ad s σ H locs) (hdg : decode cc pc = .ok (.getfield 9, 3)) (kk : W p l e R s m args below meth c H locs cells slots Q (F0 m (pc + 3) ls (.ref (ad 2) :: rest))) : W p l e R s m args below meth c H locs cells slots Q (F0 m pc ls (.ref (ad 0) :: rest)) :=
  g_getf (o := 0) (ci := 3) (b := 1) (N := 72) (T := TX3) C hw rfl rfl in_X3 1 (by decide) q1330 rfl rfl hdg kk
theorem mg_side (C : CallFix p m c cc nL s args lw_all RX3) (hw : gH D ct shM ad s σ H locs) (hdg : decode cc pc = .ok (.getfield 25, 3)) (kk : W p l e R s m args below meth c H locs cells slots Q (F0 m (pc + 3) ls (.ref (ad 7) :: rest))) : W p l e R s m args below meth c H locs cells slots Q (F0 m pc ls (.ref (ad 0) :: rest)) :=
  g_getf (o := 0) (ci := 3) (b := 1) (N := 72) (T := TX3) C hw rfl rfl in_X3 6 (by decide) q1335 rfl rfl hdg kk
theorem mg_size (C : CallFix p m c cc nL s args lw_all RX3) (hw : gH D ct shM ad s σ H locs) (hdg : decode cc pc = .ok (.getfield 16, 3)) (kk : W p l e R s m args below meth c H locs cells slots Q (F0 m (pc + 3) ls (.ref (ad 4) :: rest))) : W p l e R s m args below meth c H locs cells slots Q (F0 m pc ls (.ref (ad 0) :: rest)) :=
  g_getf (o := 0) (ci := 3) (b := 1) (N := 72) (T := TX3) C hw rfl rfl in_X3 3 (by decide) q1332 rfl rfl hdg kk
theorem mg_sizeOf (C : CallFix p m c cc nL s args lw_all RX3) (hw : gH D ct shM ad s σ H locs) (hdg : decode cc pc = .ok (.getfield 133, 3)) (kk : W p l e R s m args below meth c H locs cells slots Q (F0 m (pc + 3) ls (.ref (ad 59) :: rest))) : W p l e R s m args below meth c H locs cells slots Q (F0 m pc ls (.ref (ad 0) :: rest)) :=
  g_getf (o := 0) (ci := 3) (b := 1) (N := 72) (T := TX3) C hw rfl rfl in_X3 58 (by decide) q1387 rfl rfl hdg kk
theorem mg_sizesBehind (C : CallFix p m c cc nL s args lw_all RX3) (hw : gH D ct shM ad s σ H locs) (hdg : decode cc pc = .ok (.getfield 136, 3)) (kk : W p l e R s m args below meth c H locs cells slots Q (F0 m (pc + 3) ls (.ref (ad 60) :: rest))) : W p l e R s m args below meth c H locs cells slots Q (F0 m pc ls (.ref (ad 0) :: rest)) :=
  g_getf (o := 0) (ci := 3) (b := 1) (N := 72) (T := TX3) C hw rfl rfl in_X3 59 (by decide) q1388 rfl rfl hdg kk
theorem mg_stateOf (C : CallFix p m c cc nL s args lw_all RX3) (hw : gH D ct shM ad s σ H locs) (hdg : decode cc pc = .ok (.getfield 83, 3)) (kk : W p l e R s m args below meth c H locs cells slots Q (F0 m (pc + 3) ls (.ref (ad 34) :: rest))) : W p l e R s m args below meth c H locs cells slots Q (F0 m pc ls (.ref (ad 0) :: rest)) :=
  g_getf (o := 0) (ci := 3) (b := 1) (N := 72) (T := TX3) C hw rfl rfl in_X3 33 (by decide) q1362 rfl rfl hdg kk
theorem mg_sym (C : CallFix p m c cc nL s args lw_all RX3) (hw : gH D ct shM ad s σ H locs) (hdg : decode cc pc = .ok (.getfield 19, 3)) (kk : W p l e R s m args below meth c H locs cells slots Q (F0 m (pc + 3) ls (.ref (ad 5) :: rest))) : W p l e R s m args below meth c H locs cells slots Q (F0 m pc ls (.ref (ad 0) :: rest)) :=
  g_getf (o := 0) (ci := 3) (b := 1) (N := 72) (T := TX3) C hw rfl rfl in_X3 4 (by decide) q1333 rfl rfl hdg kk
theorem mg_symAt (C : CallFix p m c cc nL s args lw_all RX3) (hw : gH D ct shM ad s σ H locs) (hdg : decode cc pc = .ok (.getfield 49, 3)) (kk : W p l e R s m args below meth c H locs cells slots Q (F0 m (pc + 3) ls (.ref (ad 15) :: rest))) : W p l e R s m args below meth c H locs cells slots Q (F0 m pc ls (.ref (ad 0) :: rest)) :=
  g_getf (o := 0) (ci := 3) (b := 1) (N := 72) (T := TX3) C hw rfl rfl in_X3 14 (by decide) q1343 rfl rfl hdg kk
theorem mg_takesBack (C : CallFix p m c cc nL s args lw_all RX3) (hw : gH D ct shM ad s σ H locs) (hdg : decode cc pc = .ok (.getfield 375, 3)) (kk : W p l e R s m args below meth c H locs cells slots Q (F0 m (pc + 3) ls (.int (σ.1 42) :: rest))) : W p l e R s m args below meth c H locs cells slots Q (F0 m pc ls (.ref (ad 0) :: rest)) :=
  g_getf (o := 0) (ci := 3) (b := 1) (N := 72) (T := TX3) C hw rfl rfl in_X3 41 (by decide) q1370 rfl rfl hdg kk
theorem mg_tape (C : CallFix p m c cc nL s args lw_all RX3) (hw : gH D ct shM ad s σ H locs) (hdg : decode cc pc = .ok (.getfield 52, 3)) (kk : W p l e R s m args below meth c H locs cells slots Q (F0 m (pc + 3) ls (.ref (ad 20) :: rest))) : W p l e R s m args below meth c H locs cells slots Q (F0 m pc ls (.ref (ad 0) :: rest)) :=
  g_getf (o := 0) (ci := 3) (b := 1) (N := 72) (T := TX3) C hw rfl rfl in_X3 19 (by decide) q1348 rfl rfl hdg kk
theorem mg_taped (C : CallFix p m c cc nL s args lw_all RX3) (hw : gH D ct shM ad s σ H locs) (hdg : decode cc pc = .ok (.getfield 166, 3)) (kk : W p l e R s m args below meth c H locs cells slots Q (F0 m (pc + 3) ls (.int (σ.1 17) :: rest))) : W p l e R s m args below meth c H locs cells slots Q (F0 m pc ls (.ref (ad 0) :: rest)) :=
  g_getf (o := 0) (ci := 3) (b := 1) (N := 72) (T := TX3) C hw rfl rfl in_X3 16 (by decide) q1345 rfl rfl hdg kk
theorem mg_text (C : CallFix p m c cc nL s args lw_all RX3) (hw : gH D ct shM ad s σ H locs) (hdg : decode cc pc = .ok (.getfield 28, 3)) (kk : W p l e R s m args below meth c H locs cells slots Q (F0 m (pc + 3) ls (.ref (ad 8) :: rest))) : W p l e R s m args below meth c H locs cells slots Q (F0 m pc ls (.ref (ad 0) :: rest)) :=
  g_getf (o := 0) (ci := 3) (b := 1) (N := 72) (T := TX3) C hw rfl rfl in_X3 7 (by decide) q1336 rfl rfl hdg kk
theorem mg_treeFrom (C : CallFix p m c cc nL s args lw_all RX3) (hw : gH D ct shM ad s σ H locs) (hdg : decode cc pc = .ok (.getfield 565, 3)) (kk : W p l e R s m args below meth c H locs cells slots Q (F0 m (pc + 3) ls (.int (σ.1 62) :: rest))) : W p l e R s m args below meth c H locs cells slots Q (F0 m pc ls (.ref (ad 0) :: rest)) :=
  g_getf (o := 0) (ci := 3) (b := 1) (N := 72) (T := TX3) C hw rfl rfl in_X3 61 (by decide) q1390 rfl rfl hdg kk
theorem mg_treeLeft (C : CallFix p m c cc nL s args lw_all RX3) (hw : gH D ct shM ad s σ H locs) (hdg : decode cc pc = .ok (.getfield 568, 3)) (kk : W p l e R s m args below meth c H locs cells slots Q (F0 m (pc + 3) ls (.int (σ.1 64) :: rest))) : W p l e R s m args below meth c H locs cells slots Q (F0 m pc ls (.ref (ad 0) :: rest)) :=
  g_getf (o := 0) (ci := 3) (b := 1) (N := 72) (T := TX3) C hw rfl rfl in_X3 63 (by decide) q1392 rfl rfl hdg kk
theorem mg_treeRule (C : CallFix p m c cc nL s args lw_all RX3) (hw : gH D ct shM ad s σ H locs) (hdg : decode cc pc = .ok (.getfield 559, 3)) (kk : W p l e R s m args below meth c H locs cells slots Q (F0 m (pc + 3) ls (.int (σ.1 61) :: rest))) : W p l e R s m args below meth c H locs cells slots Q (F0 m pc ls (.ref (ad 0) :: rest)) :=
  g_getf (o := 0) (ci := 3) (b := 1) (N := 72) (T := TX3) C hw rfl rfl in_X3 60 (by decide) q1389 rfl rfl hdg kk
theorem mg_treeTo (C : CallFix p m c cc nL s args lw_all RX3) (hw : gH D ct shM ad s σ H locs) (hdg : decode cc pc = .ok (.getfield 562, 3)) (kk : W p l e R s m args below meth c H locs cells slots Q (F0 m (pc + 3) ls (.int (σ.1 63) :: rest))) : W p l e R s m args below meth c H locs cells slots Q (F0 m pc ls (.ref (ad 0) :: rest)) :=
  g_getf (o := 0) (ci := 3) (b := 1) (N := 72) (T := TX3) C hw rfl rfl in_X3 62 (by decide) q1391 rfl rfl hdg kk
theorem mg_unsure (C : CallFix p m c cc nL s args lw_all RX3) (hw : gH D ct shM ad s σ H locs) (hdg : decode cc pc = .ok (.getfield 524, 3)) (kk : W p l e R s m args below meth c H locs cells slots Q (F0 m (pc + 3) ls (.int (σ.1 57) :: rest))) : W p l e R s m args below meth c H locs cells slots Q (F0 m pc ls (.ref (ad 0) :: rest)) :=
  g_getf (o := 0) (ci := 3) (b := 1) (N := 72) (T := TX3) C hw rfl rfl in_X3 56 (by decide) q1385 rfl rfl hdg kk
theorem mg_waysAhead (C : CallFix p m c cc nL s args lw_all RX3) (hw : gH D ct shM ad s σ H locs) (hdg : decode cc pc = .ok (.getfield 130, 3)) (kk : W p l e R s m args below meth c H locs cells slots Q (F0 m (pc + 3) ls (.ref (ad 54) :: rest))) : W p l e R s m args below meth c H locs cells slots Q (F0 m pc ls (.ref (ad 0) :: rest)) :=
  g_getf (o := 0) (ci := 3) (b := 1) (N := 72) (T := TX3) C hw rfl rfl in_X3 53 (by decide) q1382 rfl rfl hdg kk
theorem mp_all {x : Int32} (C : CallFix p m c cc nL s args lw_all RX3) (hw : gH D ct shM ad s σ H locs) (hdg : decode cc pc = .ok (.putfield 282, 3)) (kk : ∀ (σ1 : St) (H1 : Heap) (locs1 : List Loc), σ1 = s_I σ 30 x → gH D ct shM ad s σ1 H1 locs1 → W p l e R s m args below meth c H1 locs1 cells slots Q (F0 m (pc + 3) ls rest)) : W p l e R s m args below meth c H locs cells slots Q (F0 m pc ls (.int x :: .ref (ad 0) :: rest)) :=
  g_putf (o := 0) (ci := 3) (b := 1) (N := 72) (T := TX3) (ty := .int) C shM_sep hw tyX3 tyX3_ok nmX3 rfl rfl in_X3 29 (by decide) q1358 rfl rfl rfl rfl rfl rfl hdg kk
theorem mp_empties {x : Int32} (C : CallFix p m c cc nL s args lw_all RX3) (hw : gH D ct shM ad s σ H locs) (hdg : decode cc pc = .ok (.putfield 273, 3)) (kk : ∀ (σ1 : St) (H1 : Heap) (locs1 : List Loc), σ1 = s_I σ 27 x → gH D ct shM ad s σ1 H1 locs1 → W p l e R s m args below meth c H1 locs1 cells slots Q (F0 m (pc + 3) ls rest)) : W p l e R s m args below meth c H locs cells slots Q (F0 m pc ls (.int x :: .ref (ad 0) :: rest)) :=
  g_putf (o := 0) (ci := 3) (b := 1) (N := 72) (T := TX3) (ty := .int) C shM_sep hw tyX3 tyX3_ok nmX3 rfl rfl in_X3 26 (by decide) q1355 rfl rfl rfl rfl rfl rfl hdg kk
theorem mp_ending {x : Int32} (C : CallFix p m c cc nL s args lw_all RX3) (hw : gH D ct shM ad s σ H locs) (hdg : decode cc pc = .ok (.putfield 276, 3)) (kk : ∀ (σ1 : St) (H1 : Heap) (locs1 : List Loc), σ1 = s_I σ 28 x → gH D ct shM ad s σ1 H1 locs1 → W p l e R s m args below meth c H1 locs1 cells slots Q (F0 m (pc + 3) ls rest)) : W p l e R s m args below meth c H locs cells slots Q (F0 m pc ls (.int x :: .ref (ad 0) :: rest)) :=
  g_putf (o := 0) (ci := 3) (b := 1) (N := 72) (T := TX3) (ty := .int) C shM_sep hw tyX3 tyX3_ok nmX3 rfl rfl in_X3 27 (by decide) q1356 rfl rfl rfl rfl rfl rfl hdg kk
theorem mp_fault {x : Int32} (C : CallFix p m c cc nL s args lw_all RX3) (hw : gH D ct shM ad s σ H locs) (hdg : decode cc pc = .ok (.putfield 173, 3)) (kk : ∀ (σ1 : St) (H1 : Heap) (locs1 : List Loc), σ1 = s_I σ 19 x → gH D ct shM ad s σ1 H1 locs1 → W p l e R s m args below meth c H1 locs1 cells slots Q (F0 m (pc + 3) ls rest)) : W p l e R s m args below meth c H locs cells slots Q (F0 m pc ls (.int x :: .ref (ad 0) :: rest)) :=
  g_putf (o := 0) (ci := 3) (b := 1) (N := 72) (T := TX3) (ty := .int) C shM_sep hw tyX3 tyX3_ok nmX3 rfl rfl in_X3 18 (by decide) q1347 rfl rfl rfl rfl rfl rfl hdg kk
theorem mp_goesBack {x : Int32} (C : CallFix p m c cc nL s args lw_all RX3) (hw : gH D ct shM ad s σ H locs) (hz : zB x) (hdg : decode cc pc = .ok (.putfield 621, 3)) (kk : ∀ (σ1 : St) (H1 : Heap) (locs1 : List Loc), σ1 = s_I σ 72 x → gH D ct shM ad s σ1 H1 locs1 → W p l e R s m args below meth c H1 locs1 cells slots Q (F0 m (pc + 3) ls rest)) : W p l e R s m args below meth c H locs cells slots Q (F0 m pc ls (.int x :: .ref (ad 0) :: rest)) :=
  g_putf (o := 0) (ci := 3) (b := 1) (N := 72) (T := TX3) (ty := .boolean) C shM_sep hw tyX3 tyX3_ok nmX3 rfl rfl in_X3 71 (by decide) q1400 rfl rfl rfl (zB_nar hz) (zB_fit hz) rfl hdg kk
theorem mp_imageAt {x : Int32} (C : CallFix p m c cc nL s args lw_all RX3) (hw : gH D ct shM ad s σ H locs) (hdg : decode cc pc = .ok (.putfield 624, 3)) (kk : ∀ (σ1 : St) (H1 : Heap) (locs1 : List Loc), σ1 = s_I σ 71 x → gH D ct shM ad s σ1 H1 locs1 → W p l e R s m args below meth c H1 locs1 cells slots Q (F0 m (pc + 3) ls rest)) : W p l e R s m args below meth c H locs cells slots Q (F0 m pc ls (.int x :: .ref (ad 0) :: rest)) :=
  g_putf (o := 0) (ci := 3) (b := 1) (N := 72) (T := TX3) (ty := .int) C shM_sep hw tyX3 tyX3_ok nmX3 rfl rfl in_X3 70 (by decide) q1399 rfl rfl rfl rfl rfl rfl hdg kk
theorem mp_isLaid {x : Int32} (C : CallFix p m c cc nL s args lw_all RX3) (hw : gH D ct shM ad s σ H locs) (hdg : decode cc pc = .ok (.putfield 245, 3)) (kk : ∀ (σ1 : St) (H1 : Heap) (locs1 : List Loc), σ1 = s_I σ 37 x → gH D ct shM ad s σ1 H1 locs1 → W p l e R s m args below meth c H1 locs1 cells slots Q (F0 m (pc + 3) ls rest)) : W p l e R s m args below meth c H locs cells slots Q (F0 m pc ls (.int x :: .ref (ad 0) :: rest)) :=
  g_putf (o := 0) (ci := 3) (b := 1) (N := 72) (T := TX3) (ty := .int) C shM_sep hw tyX3 tyX3_ok nmX3 rfl rfl in_X3 36 (by decide) q1365 rfl rfl rfl rfl rfl rfl hdg kk
theorem mp_manyStates {x : Int32} (C : CallFix p m c cc nL s args lw_all RX3) (hw : gH D ct shM ad s σ H locs) (hdg : decode cc pc = .ok (.putfield 351, 3)) (kk : ∀ (σ1 : St) (H1 : Heap) (locs1 : List Loc), σ1 = s_I σ 36 x → gH D ct shM ad s σ1 H1 locs1 → W p l e R s m args below meth c H1 locs1 cells slots Q (F0 m (pc + 3) ls rest)) : W p l e R s m args below meth c H locs cells slots Q (F0 m pc ls (.int x :: .ref (ad 0) :: rest)) :=
  g_putf (o := 0) (ci := 3) (b := 1) (N := 72) (T := TX3) (ty := .int) C shM_sep hw tyX3 tyX3_ok nmX3 rfl rfl in_X3 35 (by decide) q1364 rfl rfl rfl rfl rfl rfl hdg kk
theorem mp_narrow {x : Int32} (C : CallFix p m c cc nL s args lw_all RX3) (hw : gH D ct shM ad s σ H locs) (hdg : decode cc pc = .ok (.putfield 527, 3)) (kk : ∀ (σ1 : St) (H1 : Heap) (locs1 : List Loc), σ1 = s_I σ 58 x → gH D ct shM ad s σ1 H1 locs1 → W p l e R s m args below meth c H1 locs1 cells slots Q (F0 m (pc + 3) ls rest)) : W p l e R s m args below meth c H locs cells slots Q (F0 m pc ls (.int x :: .ref (ad 0) :: rest)) :=
  g_putf (o := 0) (ci := 3) (b := 1) (N := 72) (T := TX3) (ty := .int) C shM_sep hw tyX3 tyX3_ok nmX3 rfl rfl in_X3 57 (by decide) q1386 rfl rfl rfl rfl rfl rfl hdg kk
theorem mp_newMany {x : Int32} (C : CallFix p m c cc nL s args lw_all RX3) (hw : gH D ct shM ad s σ H locs) (hdg : decode cc pc = .ok (.putfield 187, 3)) (kk : ∀ (σ1 : St) (H1 : Heap) (locs1 : List Loc), σ1 = s_I σ 16 x → gH D ct shM ad s σ1 H1 locs1 → W p l e R s m args below meth c H1 locs1 cells slots Q (F0 m (pc + 3) ls rest)) : W p l e R s m args below meth c H locs cells slots Q (F0 m pc ls (.int x :: .ref (ad 0) :: rest)) :=
  g_putf (o := 0) (ci := 3) (b := 1) (N := 72) (T := TX3) (ty := .int) C shM_sep hw tyX3 tyX3_ok nmX3 rfl rfl in_X3 15 (by decide) q1344 rfl rfl rfl rfl rfl rfl hdg kk
theorem mp_nodes {x : Int32} (C : CallFix p m c cc nL s args lw_all RX3) (hw : gH D ct shM ad s σ H locs) (hdg : decode cc pc = .ok (.putfield 521, 3)) (kk : ∀ (σ1 : St) (H1 : Heap) (locs1 : List Loc), σ1 = s_I σ 56 x → gH D ct shM ad s σ1 H1 locs1 → W p l e R s m args below meth c H1 locs1 cells slots Q (F0 m (pc + 3) ls rest)) : W p l e R s m args below meth c H locs cells slots Q (F0 m pc ls (.int x :: .ref (ad 0) :: rest)) :=
  g_putf (o := 0) (ci := 3) (b := 1) (N := 72) (T := TX3) (ty := .int) C shM_sep hw tyX3 tyX3_ok nmX3 rfl rfl in_X3 55 (by decide) q1384 rfl rfl rfl rfl rfl rfl hdg kk
theorem mp_p {x : Int32} (C : CallFix p m c cc nL s args lw_all RX3) (hw : gH D ct shM ad s σ H locs) (hdg : decode cc pc = .ok (.putfield 176, 3)) (kk : ∀ (σ1 : St) (H1 : Heap) (locs1 : List Loc), σ1 = s_I σ 18 x → gH D ct shM ad s σ1 H1 locs1 → W p l e R s m args below meth c H1 locs1 cells slots Q (F0 m (pc + 3) ls rest)) : W p l e R s m args below meth c H locs cells slots Q (F0 m pc ls (.int x :: .ref (ad 0) :: rest)) :=
  g_putf (o := 0) (ci := 3) (b := 1) (N := 72) (T := TX3) (ty := .int) C shM_sep hw tyX3 tyX3_ok nmX3 rfl rfl in_X3 17 (by decide) q1346 rfl rfl rfl rfl rfl rfl hdg kk
theorem mp_pastAt {x : Int32} (C : CallFix p m c cc nL s args lw_all RX3) (hw : gH D ct shM ad s σ H locs) (hdg : decode cc pc = .ok (.putfield 379, 3)) (kk : ∀ (σ1 : St) (H1 : Heap) (locs1 : List Loc), σ1 = s_I σ 41 x → gH D ct shM ad s σ1 H1 locs1 → W p l e R s m args below meth c H1 locs1 cells slots Q (F0 m (pc + 3) ls rest)) : W p l e R s m args below meth c H locs cells slots Q (F0 m pc ls (.int x :: .ref (ad 0) :: rest)) :=
  g_putf (o := 0) (ci := 3) (b := 1) (N := 72) (T := TX3) (ty := .int) C shM_sep hw tyX3 tyX3_ok nmX3 rfl rfl in_X3 40 (by decide) q1369 rfl rfl rfl rfl rfl rfl hdg kk
theorem mp_pastMany {x : Int32} (C : CallFix p m c cc nL s args lw_all RX3) (hw : gH D ct shM ad s σ H locs) (hdg : decode cc pc = .ok (.putfield 254, 3)) (kk : ∀ (σ1 : St) (H1 : Heap) (locs1 : List Loc), σ1 = s_I σ 40 x → gH D ct shM ad s σ1 H1 locs1 → W p l e R s m args below meth c H1 locs1 cells slots Q (F0 m (pc + 3) ls rest)) : W p l e R s m args below meth c H locs cells slots Q (F0 m pc ls (.int x :: .ref (ad 0) :: rest)) :=
  g_putf (o := 0) (ci := 3) (b := 1) (N := 72) (T := TX3) (ty := .int) C shM_sep hw tyX3 tyX3_ok nmX3 rfl rfl in_X3 39 (by decide) q1368 rfl rfl rfl rfl rfl rfl hdg kk
theorem mp_pieces {x : Int32} (C : CallFix p m c cc nL s args lw_all RX3) (hw : gH D ct shM ad s σ H locs) (hdg : decode cc pc = .ok (.putfield 530, 3)) (kk : ∀ (σ1 : St) (H1 : Heap) (locs1 : List Loc), σ1 = s_I σ 55 x → gH D ct shM ad s σ1 H1 locs1 → W p l e R s m args below meth c H1 locs1 cells slots Q (F0 m (pc + 3) ls rest)) : W p l e R s m args below meth c H locs cells slots Q (F0 m pc ls (.int x :: .ref (ad 0) :: rest)) :=
  g_putf (o := 0) (ci := 3) (b := 1) (N := 72) (T := TX3) (ty := .int) C shM_sep hw tyX3 tyX3_ok nmX3 rfl rfl in_X3 54 (by decide) q1383 rfl rfl rfl rfl rfl rfl hdg kk
theorem mp_reached {x : Int32} (C : CallFix p m c cc nL s args lw_all RX3) (hw : gH D ct shM ad s σ H locs) (hdg : decode cc pc = .ok (.putfield 279, 3)) (kk : ∀ (σ1 : St) (H1 : Heap) (locs1 : List Loc), σ1 = s_I σ 29 x → gH D ct shM ad s σ1 H1 locs1 → W p l e R s m args below meth c H1 locs1 cells slots Q (F0 m (pc + 3) ls rest)) : W p l e R s m args below meth c H locs cells slots Q (F0 m pc ls (.int x :: .ref (ad 0) :: rest)) :=
  g_putf (o := 0) (ci := 3) (b := 1) (N := 72) (T := TX3) (ty := .int) C shM_sep hw tyX3 tyX3_ok nmX3 rfl rfl in_X3 28 (by decide) q1357 rfl rfl rfl rfl rfl rfl hdg kk
theorem mp_rowMany {x : Int32} (C : CallFix p m c cc nL s args lw_all RX3) (hw : gH D ct shM ad s σ H locs) (hdg : decode cc pc = .ok (.putfield 594, 3)) (kk : ∀ (σ1 : St) (H1 : Heap) (locs1 : List Loc), σ1 = s_I σ 68 x → gH D ct shM ad s σ1 H1 locs1 → W p l e R s m args below meth c H1 locs1 cells slots Q (F0 m (pc + 3) ls rest)) : W p l e R s m args below meth c H locs cells slots Q (F0 m pc ls (.int x :: .ref (ad 0) :: rest)) :=
  g_putf (o := 0) (ci := 3) (b := 1) (N := 72) (T := TX3) (ty := .int) C shM_sep hw tyX3 tyX3_ok nmX3 rfl rfl in_X3 67 (by decide) q1396 rfl rfl rfl rfl rfl rfl hdg kk
theorem mp_takesBack {x : Int32} (C : CallFix p m c cc nL s args lw_all RX3) (hw : gH D ct shM ad s σ H locs) (hz : zB x) (hdg : decode cc pc = .ok (.putfield 375, 3)) (kk : ∀ (σ1 : St) (H1 : Heap) (locs1 : List Loc), σ1 = s_I σ 42 x → gH D ct shM ad s σ1 H1 locs1 → W p l e R s m args below meth c H1 locs1 cells slots Q (F0 m (pc + 3) ls rest)) : W p l e R s m args below meth c H locs cells slots Q (F0 m pc ls (.int x :: .ref (ad 0) :: rest)) :=
  g_putf (o := 0) (ci := 3) (b := 1) (N := 72) (T := TX3) (ty := .boolean) C shM_sep hw tyX3 tyX3_ok nmX3 rfl rfl in_X3 41 (by decide) q1370 rfl rfl rfl (zB_nar hz) (zB_fit hz) rfl hdg kk
theorem mp_taped {x : Int32} (C : CallFix p m c cc nL s args lw_all RX3) (hw : gH D ct shM ad s σ H locs) (hdg : decode cc pc = .ok (.putfield 166, 3)) (kk : ∀ (σ1 : St) (H1 : Heap) (locs1 : List Loc), σ1 = s_I σ 17 x → gH D ct shM ad s σ1 H1 locs1 → W p l e R s m args below meth c H1 locs1 cells slots Q (F0 m (pc + 3) ls rest)) : W p l e R s m args below meth c H locs cells slots Q (F0 m pc ls (.int x :: .ref (ad 0) :: rest)) :=
  g_putf (o := 0) (ci := 3) (b := 1) (N := 72) (T := TX3) (ty := .int) C shM_sep hw tyX3 tyX3_ok nmX3 rfl rfl in_X3 16 (by decide) q1345 rfl rfl rfl rfl rfl rfl hdg kk
theorem mp_treeFrom {x : Int32} (C : CallFix p m c cc nL s args lw_all RX3) (hw : gH D ct shM ad s σ H locs) (hdg : decode cc pc = .ok (.putfield 565, 3)) (kk : ∀ (σ1 : St) (H1 : Heap) (locs1 : List Loc), σ1 = s_I σ 62 x → gH D ct shM ad s σ1 H1 locs1 → W p l e R s m args below meth c H1 locs1 cells slots Q (F0 m (pc + 3) ls rest)) : W p l e R s m args below meth c H locs cells slots Q (F0 m pc ls (.int x :: .ref (ad 0) :: rest)) :=
  g_putf (o := 0) (ci := 3) (b := 1) (N := 72) (T := TX3) (ty := .int) C shM_sep hw tyX3 tyX3_ok nmX3 rfl rfl in_X3 61 (by decide) q1390 rfl rfl rfl rfl rfl rfl hdg kk
theorem mp_treeLeft {x : Int32} (C : CallFix p m c cc nL s args lw_all RX3) (hw : gH D ct shM ad s σ H locs) (hdg : decode cc pc = .ok (.putfield 568, 3)) (kk : ∀ (σ1 : St) (H1 : Heap) (locs1 : List Loc), σ1 = s_I σ 64 x → gH D ct shM ad s σ1 H1 locs1 → W p l e R s m args below meth c H1 locs1 cells slots Q (F0 m (pc + 3) ls rest)) : W p l e R s m args below meth c H locs cells slots Q (F0 m pc ls (.int x :: .ref (ad 0) :: rest)) :=
  g_putf (o := 0) (ci := 3) (b := 1) (N := 72) (T := TX3) (ty := .int) C shM_sep hw tyX3 tyX3_ok nmX3 rfl rfl in_X3 63 (by decide) q1392 rfl rfl rfl rfl rfl rfl hdg kk
theorem mp_treeRule {x : Int32} (C : CallFix p m c cc nL s args lw_all RX3) (hw : gH D ct shM ad s σ H locs) (hdg : decode cc pc = .ok (.putfield 559, 3)) (kk : ∀ (σ1 : St) (H1 : Heap) (locs1 : List Loc), σ1 = s_I σ 61 x → gH D ct shM ad s σ1 H1 locs1 → W p l e R s m args below meth c H1 locs1 cells slots Q (F0 m (pc + 3) ls rest)) : W p l e R s m args below meth c H locs cells slots Q (F0 m pc ls (.int x :: .ref (ad 0) :: rest)) :=
  g_putf (o := 0) (ci := 3) (b := 1) (N := 72) (T := TX3) (ty := .int) C shM_sep hw tyX3 tyX3_ok nmX3 rfl rfl in_X3 60 (by decide) q1389 rfl rfl rfl rfl rfl rfl hdg kk
theorem mp_treeTo {x : Int32} (C : CallFix p m c cc nL s args lw_all RX3) (hw : gH D ct shM ad s σ H locs) (hdg : decode cc pc = .ok (.putfield 562, 3)) (kk : ∀ (σ1 : St) (H1 : Heap) (locs1 : List Loc), σ1 = s_I σ 63 x → gH D ct shM ad s σ1 H1 locs1 → W p l e R s m args below meth c H1 locs1 cells slots Q (F0 m (pc + 3) ls rest)) : W p l e R s m args below meth c H locs cells slots Q (F0 m pc ls (.int x :: .ref (ad 0) :: rest)) :=
  g_putf (o := 0) (ci := 3) (b := 1) (N := 72) (T := TX3) (ty := .int) C shM_sep hw tyX3 tyX3_ok nmX3 rfl rfl in_X3 62 (by decide) q1391 rfl rfl rfl rfl rfl rfl hdg kk
theorem mp_unsure {x : Int32} (C : CallFix p m c cc nL s args lw_all RX3) (hw : gH D ct shM ad s σ H locs) (hdg : decode cc pc = .ok (.putfield 524, 3)) (kk : ∀ (σ1 : St) (H1 : Heap) (locs1 : List Loc), σ1 = s_I σ 57 x → gH D ct shM ad s σ1 H1 locs1 → W p l e R s m args below meth c H1 locs1 cells slots Q (F0 m (pc + 3) ls rest)) : W p l e R s m args below meth c H locs cells slots Q (F0 m pc ls (.int x :: .ref (ad 0) :: rest)) :=
  g_putf (o := 0) (ci := 3) (b := 1) (N := 72) (T := TX3) (ty := .int) C shM_sep hw tyX3 tyX3_ok nmX3 rfl rfl in_X3 56 (by decide) q1385 rfl rfl rfl rfl rfl rfl hdg kk
end
