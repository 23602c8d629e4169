section
/-! the pure picture: tokens, levels, kinds, meanings as naturals; an operand: strength, value, pairs around it, bare strength, root's place (none: a number); a frame: a waiting token, its place, the operand to its left (none: a bracket or an operator that stands ahead of its operand) -/
abbrev mx_C : Type := Nat × Int32 × Nat × Nat × Option Nat
abbrev mx_F : Type := Nat × Nat × Option mx_C
abbrev mx_A : Type := List mx_F × Option mx_C × Nat
def mx_lv (V : Nat → Nat) (t : Nat) : Nat := V (t - 10)
def mx_kd (K V : Nat → Nat) (t : Nat) : Nat := K (V (t - 10))
def mx_nl (K V : Nat → Nat) (t : Nat) : Nat := if mx_kd K V t = 1 then mx_lv V t + 1 else if mx_kd K V t = 2 then mx_lv V t + 1 else mx_lv V t
def mx_nr (K V : Nat → Nat) (t : Nat) : Nat := if mx_kd K V t = 0 then mx_lv V t + 1 else if mx_kd K V t = 2 then mx_lv V t + 1 else mx_lv V t
def mx_bt (m : Nat) (a b : Int32) : Int32 := if m = 0 then a + b else if m = 1 then a - b else if m = 2 then a * b else 10 * a + b
def mx_al (m : Nat) (a : Int32) : Int32 := if m = 0 then -a else if m = 1 then a + 1 else if m = 2 then 2 * a else 7 * a + 3
def mx_sa (x : mx_C) (need : Nat) : Nat := if x.2.2.1 = 1 then (if x.2.2.2.1 < need then 0 else 1) else x.2.2.1
def mx_ap1 (V M : Nat → Nat) (t p : Nat) (x : mx_C) : mx_C := (mx_lv V t, mx_al (M (t - 10)) x.2.1, 0, mx_lv V t, some p)
def mx_ap2 (V M : Nat → Nat) (t p : Nat) (a b : mx_C) : mx_C := (mx_lv V t, mx_bt (M (t - 10)) a.2.1 b.2.1, 0, mx_lv V t, some p)
def mx_ok1 (V : Nat → Nat) (t : Nat) (x : mx_C) : Bool := decide (mx_lv V t ≤ x.1)
def mx_ok2 (K V : Nat → Nat) (t : Nat) (a b : mx_C) : Bool := decide (mx_nl K V t ≤ a.1) && decide (mx_nr K V t ≤ b.1)
def mx_tk (K V : Nat → Nat) (k : Option Nat) (t : Nat) : Bool :=
  match k with
  | none => true
  | some k => decide (k < mx_lv V t) || (decide (mx_lv V t = k) && !decide (K k = 1))
def mx_col (K V M : Nat → Nat) (k : Option Nat) : List mx_F → mx_C → Nat → Bool → List mx_F × mx_C × Nat × Bool
  | [], x, s, o => ([], x, s, o)
  | (t, p, l) :: fs, x, s, o =>
    if t = 18 then ((t, p, l) :: fs, x, s, o)
    else if mx_tk K V k t = true then
      (match l with
       | none => mx_col K V M k fs (mx_ap1 V M t p x) (s + mx_sa x (mx_lv V t)) (o && mx_ok1 V t x)
       | some a => mx_col K V M k fs (mx_ap2 V M t p a x) (s + (mx_sa a (mx_nl K V t) + mx_sa x (mx_nr K V t))) (o && mx_ok2 K V t a x))
    else ((t, p, l) :: fs, x, s, o)
def mx_br (x : mx_C) : mx_C := (5, x.2.1, x.2.2.1 + 1, x.2.2.2.1, x.2.2.2.2)
/-- the end of a step behind a close bracket -/
def mx_cl (g : List mx_F × mx_C × Nat × Bool) : Option mx_A :=
  match g.1 with
  | [] => none
  | _ :: fs => if g.2.2.2 = true then some (fs, some (mx_br g.2.1), g.2.2.1) else none
/-- the end of a step behind an operator -/
def mx_go (K V M : Nat → Nat) (t p : Nat) (g : List mx_F × mx_C × Nat × Bool) : Option mx_A :=
  if mx_kd K V t = 4 then (if (g.2.2.2 && mx_ok1 V t g.2.1) = true then some (g.1, some (mx_ap1 V M t p g.2.1), g.2.2.1 + mx_sa g.2.1 (mx_lv V t)) else none)
  else (if g.2.2.2 = true then some ((t, p, some g.2.1) :: g.1, none, g.2.2.1) else none)
def mx_stp (K V M : Nat → Nat) (t p : Nat) (A : mx_A) : Option mx_A :=
  match A.2.1 with
  | none =>
    if t < 10 then some (A.1, some (5, nI t, 0, 5, none), A.2.2)
    else if t = 18 ∨ (t < 18 ∧ mx_kd K V t = 3) then some ((t, p, none) :: A.1, none, A.2.2) else none
  | some x =>
    if t = 19 then mx_cl (mx_col K V M none A.1 x A.2.2 true)
    else if t < 10 ∨ 18 ≤ t ∨ mx_kd K V t = 3 then none
    else mx_go K V M t p (mx_col K V M (some (mx_lv V t)) A.1 x A.2.2 true)
def mx_run (K V M T : Nat → Nat) : Nat → Option mx_A
  | 0 => some ([], none, 0)
  | i + 1 => (mx_run K V M T i).bind (mx_stp K V M (T i) i)
def mx_fe (g : List mx_F × mx_C × Nat × Bool) : Option (mx_C × Nat) :=
  match g.1 with
  | [] => if g.2.2.2 = true then some (g.2.1, g.2.2.1) else none
  | _ :: _ => none
def mx_fin (K V M : Nat → Nat) (A : mx_A) : Option (mx_C × Nat) :=
  match A.2.1 with
  | none => none
  | some x => mx_fe (mx_col K V M none A.1 x A.2.2 true)
def mx_rd (K V M T : Nat → Nat) (c : Nat) : Option (mx_C × Nat) := (mx_run K V M T c).bind (mx_fin K V M)
/-- the depth of brackets ahead of a place -/
def mx_D (T : Nat → Nat) : Nat → Int
  | 0 => 0
  | k + 1 => mx_D T k + (if T k = 18 then 1 else if T k = 19 then -1 else 0)
/-- the tokens f .. e - 1 are an expression with p pairs around it, its root (if it has one) at depth 0 within them -/
def mx_Sp (T : Nat → Nat) (f e p : Nat) (ro : Option Nat) : Prop :=
  f + p + p < e ∧ (∀ j, j < p → T (f + j) = 18 ∧ T (e - 1 - j) = 19) ∧ mx_D T (e - p) = mx_D T (f + p) ∧
  (∀ k, f + p ≤ k → k ≤ e - p → mx_D T (f + p) ≤ mx_D T k) ∧
  (∀ r, ro = some r → f + p ≤ r ∧ r < e - p ∧ mx_D T r = mx_D T (f + p) ∧ T r ≠ 18 ∧ T r ≠ 19)
end
section
/-! collapse: its equations -/
section
variable {K V M : Nat → Nat} {k : Option Nat} {t p : Nat} {l : Option mx_C} {fs : List mx_F} {x : mx_C} {s : Nat} {o : Bool}
theorem mx_col_0 : mx_col K V M k [] x s o = ([], x, s, o) := by rw [mx_col]
theorem mx_col_18 (h : t = 18) : mx_col K V M k ((t, p, l) :: fs) x s o = ((t, p, l) :: fs, x, s, o) := by
  cases l <;> rw [mx_col, if_pos h]
theorem mx_col_k (h : ¬ t = 18) (h2 : ¬ mx_tk K V k t = true) : mx_col K V M k ((t, p, l) :: fs) x s o = ((t, p, l) :: fs, x, s, o) := by
  cases l <;> rw [mx_col, if_neg h, if_neg h2]
theorem mx_col_1 (h : ¬ t = 18) (h2 : mx_tk K V k t = true) : mx_col K V M k ((t, p, none) :: fs) x s o = mx_col K V M k fs (mx_ap1 V M t p x) (s + mx_sa x (mx_lv V t)) (o && mx_ok1 V t x) := by
  rw [mx_col, if_neg h, if_pos h2]
theorem mx_col_2 {a : mx_C} (h : ¬ t = 18) (h2 : mx_tk K V k t = true) : mx_col K V M k ((t, p, some a) :: fs) x s o = mx_col K V M k fs (mx_ap2 V M t p a x) (s + (mx_sa a (mx_nl K V t) + mx_sa x (mx_nr K V t))) (o && mx_ok2 K V t a x) := by
  rw [mx_col, if_neg h, if_pos h2]
end
/-! a step: its equations -/
section
variable {K V M : Nat → Nat} {t p : Nat} {fr : List mx_F} {x : mx_C} {s : Nat}
theorem mx_stp_a (h : t < 10) : mx_stp K V M t p (fr, none, s) = some (fr, some (5, nI t, 0, 5, none), s) := if_pos h
theorem mx_stp_b (h : ¬ t < 10) (h2 : t = 18 ∨ (t < 18 ∧ mx_kd K V t = 3)) : mx_stp K V M t p (fr, none, s) = some ((t, p, none) :: fr, none, s) := by
  show (if t < 10 then _ else if t = 18 ∨ (t < 18 ∧ mx_kd K V t = 3) then _ else _) = _
  rw [if_neg h, if_pos h2]
theorem mx_stp_c (h : ¬ t < 10) (h2 : ¬ (t = 18 ∨ (t < 18 ∧ mx_kd K V t = 3))) : mx_stp K V M t p (fr, none, s) = none := by
  show (if t < 10 then _ else if t = 18 ∨ (t < 18 ∧ mx_kd K V t = 3) then _ else _) = _
  rw [if_neg h, if_neg h2]
theorem mx_stp_d (h : t = 19) : mx_stp K V M t p (fr, some x, s) = mx_cl (mx_col K V M none fr x s true) := if_pos h
theorem mx_stp_e (h : ¬ t = 19) (h2 : t < 10 ∨ 18 ≤ t ∨ mx_kd K V t = 3) : mx_stp K V M t p (fr, some x, s) = none := by
  show (if t = 19 then _ else if t < 10 ∨ 18 ≤ t ∨ mx_kd K V t = 3 then _ else _) = _
  rw [if_neg h, if_pos h2]
theorem mx_stp_f (h : ¬ t = 19) (h2 : ¬ (t < 10 ∨ 18 ≤ t ∨ mx_kd K V t = 3)) : mx_stp K V M t p (fr, some x, s) = mx_go K V M t p (mx_col K V M (some (mx_lv V t)) fr x s true) := by
  show (if t = 19 then _ else if t < 10 ∨ 18 ≤ t ∨ mx_kd K V t = 3 then _ else _) = _
  rw [if_neg h, if_neg h2]
end
theorem mx_run_s {K V M T : Nat → Nat} {i : Nat} {A : mx_A} (h : mx_run K V M T i = some A) : mx_run K V M T (i + 1) = mx_stp K V M (T i) i A := by
  show (mx_run K V M T i).bind (mx_stp K V M (T i) i) = _
  rw [h]
  rfl
theorem mx_run_cong {K V M T T' : Nat → Nat} : ∀ (i : Nat), (∀ j, j < i → T j = T' j) → mx_run K V M T i = mx_run K V M T' i := by
  intro i
  induction i with
  | zero => intro _; rfl
  | succ i ih =>
    intro h
    show (mx_run K V M T i).bind (mx_stp K V M (T i) i) = (mx_run K V M T' i).bind (mx_stp K V M (T' i) i)
    rw [ih (fun j hj => h j (by omega)), h i (by omega)]
theorem mx_rd_cong {K V M T T' : Nat → Nat} (c : Nat) (h : ∀ j, j < c → T j = T' j) : mx_rd K V M T c = mx_rd K V M T' c := by
  unfold mx_rd
  rw [mx_run_cong c h]
theorem mx_run_none {K V M T : Nat → Nat} {i : Nat} (h : mx_run K V M T i = none) : ∀ d, mx_run K V M T (i + d) = none := by
  intro d
  induction d with
  | zero => exact h
  | succ d ih =>
    show (mx_run K V M T (i + d)).bind _ = none
    rw [ih]
    rfl
/-! digits: whether a text reads doesn't depend on its last digit -/
theorem mx_col_s {K V M : Nat → Nat} {k : Option Nat} : ∀ (fr : List mx_F) (x y : mx_C) (s z : Nat) (o : Bool), x.1 = y.1 → (mx_col K V M k fr x s o).1 = (mx_col K V M k fr y z o).1 ∧ (mx_col K V M k fr x s o).2.2.2 = (mx_col K V M k fr y z o).2.2.2 := by
  intro fr
  induction fr with
  | nil =>
    intro x y s z o h
    rw [mx_col_0, mx_col_0]
    exact ⟨rfl, rfl⟩
  | cons g fs ih =>
    obtain ⟨t, p, l⟩ := g
    intro x y s z o h
    by_cases h1 : t = 18
    · rw [mx_col_18 h1, mx_col_18 h1]
      exact ⟨rfl, rfl⟩
    · by_cases h2 : mx_tk K V k t = true
      · cases l with
        | none =>
          rw [mx_col_1 h1 h2, mx_col_1 h1 h2, show mx_ok1 V t x = mx_ok1 V t y by unfold mx_ok1; rw [h]]
          exact ih _ _ _ _ _ rfl
        | some a =>
          rw [mx_col_2 h1 h2, mx_col_2 h1 h2, show mx_ok2 K V t a x = mx_ok2 K V t a y by unfold mx_ok2; rw [h]]
          exact ih _ _ _ _ _ rfl
      · rw [mx_col_k h1 h2, mx_col_k h1 h2]
        exact ⟨rfl, rfl⟩
theorem mx_fe_s {g g' : List mx_F × mx_C × Nat × Bool} (h1 : g.1 = g'.1) (h2 : g.2.2.2 = g'.2.2.2) : (mx_fe g).isSome = (mx_fe g').isSome := by
  obtain ⟨l, x, s, o⟩ := g
  obtain ⟨l', x', s', o'⟩ := g'
  have e1 : l = l' := h1
  have e2 : o = o' := h2
  subst e1
  subst e2
  cases l with
  | nil => cases o <;> rfl
  | cons a b => rfl
theorem mx_last {K V M T T' : Nat → Nat} {c a b : Nat} (ha : a < 10) (hb : b < 10) (hT : ∀ j, j < c → T j = T' j) (h1 : T c = a) (h2 : T' c = b) : (mx_rd K V M T (c + 1)).isSome = (mx_rd K V M T' (c + 1)).isSome := by
  unfold mx_rd
  show (((mx_run K V M T c).bind (mx_stp K V M (T c) c)).bind _).isSome = (((mx_run K V M T' c).bind (mx_stp K V M (T' c) c)).bind _).isSome
  rw [mx_run_cong c hT, h1, h2]
  cases hr : mx_run K V M T' c with
  | none => rfl
  | some A =>
    show ((mx_stp K V M a c A).bind (mx_fin K V M)).isSome = ((mx_stp K V M b c A).bind (mx_fin K V M)).isSome
    obtain ⟨fr, cur, s⟩ := A
    cases cur with
    | none =>
      rw [mx_stp_a ha, mx_stp_a hb]
      show (mx_fe (mx_col K V M none fr (5, nI a, 0, 5, none) s true)).isSome = (mx_fe (mx_col K V M none fr (5, nI b, 0, 5, none) s true)).isSome
      obtain ⟨q1, q2⟩ := mx_col_s (K := K) (V := V) (M := M) (k := none) fr (5, nI a, 0, 5, none) (5, nI b, 0, 5, none) s s true rfl
      exact mx_fe_s q1 q2
    | some x => rw [mx_stp_e (by omega) (Or.inl ha), mx_stp_e (by omega) (Or.inl hb)]
/-! one pair of brackets more -/
def mx_Q (x y : mx_C) : Prop := x.1 = y.1 ∧ x.2.1 = y.2.1 ∧ x.2.2.1 = y.2.2.1 ∧ x.2.2.2.1 = y.2.2.2.1
def mx_QL : Option mx_C → Option mx_C → Prop
  | none, none => True
  | some x, some y => mx_Q x y
  | none, some _ => False
  | some _, none => False
def mx_QF : List mx_F → List mx_F → Prop
  | [], fs => ∃ p l, fs = [(18, p, l)]
  | g :: gs, fs => ∃ h hs, fs = h :: hs ∧ g.1 = h.1 ∧ mx_QL g.2.2 h.2.2 ∧ mx_QF gs hs
def mx_QA (A B : mx_A) : Prop := mx_QF A.1 B.1 ∧ mx_QL A.2.1 B.2.1 ∧ A.2.2 = B.2.2
theorem mx_sa_q {x y : mx_C} (h : mx_Q x y) (n : Nat) : mx_sa x n = mx_sa y n := by
  unfold mx_sa
  rw [h.2.2.1, h.2.2.2]
theorem mx_ok1_q {V : Nat → Nat} {t : Nat} {x y : mx_C} (h : mx_Q x y) : mx_ok1 V t x = mx_ok1 V t y := by
  unfold mx_ok1
  rw [h.1]
theorem mx_ok2_q {K V : Nat → Nat} {t : Nat} {a b x y : mx_C} (h : mx_Q a b) (h2 : mx_Q x y) : mx_ok2 K V t a x = mx_ok2 K V t b y := by
  unfold mx_ok2
  rw [h.1, h2.1]
theorem mx_ap1_q {V M : Nat → Nat} {t p q : Nat} {x y : mx_C} (h : mx_Q x y) : mx_Q (mx_ap1 V M t p x) (mx_ap1 V M t q y) := by
  refine ⟨rfl, ?_, rfl, rfl⟩
  show mx_al _ x.2.1 = mx_al _ y.2.1
  rw [h.2.1]
theorem mx_ap2_q {V M : Nat → Nat} {t p q : Nat} {a b x y : mx_C} (h : mx_Q a b) (h2 : mx_Q x y) : mx_Q (mx_ap2 V M t p a x) (mx_ap2 V M t q b y) := by
  refine ⟨rfl, ?_, rfl, rfl⟩
  show mx_bt _ a.2.1 x.2.1 = mx_bt _ b.2.1 y.2.1
  rw [h.2.1, h2.2.1]
theorem mx_col_q {K V M : Nat → Nat} {k : Option Nat} : ∀ (fr fr' : List mx_F) (x y : mx_C) (s : Nat) (o : Bool), mx_QF fr fr' → mx_Q x y →
    mx_QF (mx_col K V M k fr x s o).1 (mx_col K V M k fr' y s o).1 ∧ mx_Q (mx_col K V M k fr x s o).2.1 (mx_col K V M k fr' y s o).2.1 ∧
    (mx_col K V M k fr x s o).2.2.1 = (mx_col K V M k fr' y s o).2.2.1 ∧ (mx_col K V M k fr x s o).2.2.2 = (mx_col K V M k fr' y s o).2.2.2 := by
  intro fr
  induction fr with
  | nil =>
    intro fr' x y s o hf hq
    obtain ⟨p, l, e⟩ := hf
    subst e
    rw [mx_col_0, mx_col_18 rfl]
    exact ⟨⟨p, l, rfl⟩, hq, rfl, rfl⟩
  | cons g gs ih =>
    intro fr' x y s o hf hq
    obtain ⟨t, p, l⟩ := g
    obtain ⟨h, hs, e, e1, e2, e3⟩ := hf
    subst e
    obtain ⟨t', p', l'⟩ := h
    have e1 : t = t' := e1
    have e2 : mx_QL l l' := e2
    subst e1
    by_cases h1 : t = 18
    · rw [mx_col_18 h1, mx_col_18 h1]
      exact ⟨⟨_, hs, rfl, rfl, e2, e3⟩, hq, rfl, rfl⟩
    · by_cases h2 : mx_tk K V k t = true
      · cases l with
        | none =>
          cases l' with
          | none =>
            rw [mx_col_1 h1 h2, mx_col_1 h1 h2, mx_sa_q hq, mx_ok1_q hq]
            exact ih _ _ _ _ _ e3 (mx_ap1_q hq)
          | some b => exact False.elim e2
        | some a =>
          cases l' with
          | none => exact False.elim e2
          | some b =>
            rw [mx_col_2 h1 h2, mx_col_2 h1 h2, mx_sa_q hq, mx_sa_q (show mx_Q a b from e2), mx_ok2_q (show mx_Q a b from e2) hq]
            exact ih _ _ _ _ _ e3 (mx_ap2_q e2 hq)
      · rw [mx_col_k h1 h2, mx_col_k h1 h2]
        exact ⟨⟨_, hs, rfl, rfl, e2, e3⟩, hq, rfl, rfl⟩
theorem mx_cl_q {g g' : List mx_F × mx_C × Nat × Bool} {B : mx_A} (h1 : mx_QF g.1 g'.1) (h2 : mx_Q g.2.1 g'.2.1) (h3 : g.2.2.1 = g'.2.2.1) (h4 : g.2.2.2 = g'.2.2.2) (h : mx_cl g = some B) : ∃ B', mx_cl g' = some B' ∧ mx_QA B B' := by
  obtain ⟨l, x, s, o⟩ := g
  obtain ⟨l', x', s', o'⟩ := g'
  have e3 : s = s' := h3
  have e4 : o = o' := h4
  subst e3
  subst e4
  cases l with
  | nil => exact absurd h (by intro z; cases z)
  | cons a b =>
    obtain ⟨c, d, e, _, _, e7⟩ := h1
    have e : l' = c :: d := e
    subst e
    cases o with
    | false => exact absurd h (by intro z; cases z)
    | true =>
      have h : some (b, some (mx_br x), s) = some B := h
      cases h
      refine ⟨(d, some (mx_br x'), s), rfl, e7, ?_, rfl⟩
      exact ⟨rfl, h2.2.1, congrArg (· + 1) h2.2.2.1, h2.2.2.2⟩
theorem mx_go_q {K V M : Nat → Nat} {t p q : Nat} {g g' : List mx_F × mx_C × Nat × Bool} {B : mx_A} (h1 : mx_QF g.1 g'.1) (h2 : mx_Q g.2.1 g'.2.1) (h3 : g.2.2.1 = g'.2.2.1) (h4 : g.2.2.2 = g'.2.2.2) (h : mx_go K V M t p g = some B) : ∃ B', mx_go K V M t q g' = some B' ∧ mx_QA B B' := by
  obtain ⟨l, x, s, o⟩ := g
  obtain ⟨l', x', s', o'⟩ := g'
  have e3 : s = s' := h3
  have e4 : o = o' := h4
  have h1 : mx_QF l l' := h1
  have h2 : mx_Q x x' := h2
  subst e3
  subst e4
  unfold mx_go at h ⊢
  by_cases c : mx_kd K V t = 4
  · rw [if_pos c] at h ⊢
    dsimp only at h ⊢
    rw [mx_ok1_q (V := V) (t := t) h2, mx_sa_q h2] at h
    by_cases d : (o && mx_ok1 V t x') = true
    · rw [if_pos d] at h ⊢
      cases h
      exact ⟨_, rfl, h1, mx_ap1_q h2, rfl⟩
    · rw [if_neg d] at h
      cases h
  · rw [if_neg c] at h ⊢
    dsimp only at h ⊢
    by_cases d : o = true
    · rw [if_pos d] at h ⊢
      cases h
      exact ⟨_, rfl, ⟨_, _, rfl, rfl, h2, h1⟩, trivial, rfl⟩
    · rw [if_neg d] at h
      cases h
theorem mx_stp_q {K V M : Nat → Nat} {t p q : Nat} {A A' B : mx_A} (h : mx_QA A A') (hs : mx_stp K V M t p A = some B) : ∃ B', mx_stp K V M t q A' = some B' ∧ mx_QA B B' := by
  obtain ⟨fr, cur, s⟩ := A
  obtain ⟨fr', cur', s'⟩ := A'
  obtain ⟨h1, h2, h3⟩ := h
  have h1 : mx_QF fr fr' := h1
  have h2 : mx_QL cur cur' := h2
  have h3 : s = s' := h3
  subst h3
  cases cur with
  | none =>
    cases cur' with
    | some y => exact False.elim h2
    | none =>
      by_cases c1 : t < 10
      · rw [mx_stp_a c1] at hs ⊢
        cases hs
        exact ⟨_, rfl, h1, ⟨rfl, rfl, rfl, rfl⟩, rfl⟩
      · by_cases c2 : t = 18 ∨ (t < 18 ∧ mx_kd K V t = 3)
        · rw [mx_stp_b c1 c2] at hs ⊢
          cases hs
          exact ⟨_, rfl, ⟨_, _, rfl, rfl, trivial, h1⟩, trivial, rfl⟩
        · rw [mx_stp_c c1 c2] at hs
          cases hs
  | some x =>
    cases cur' with
    | none => exact False.elim h2
    | some y =>
      by_cases c1 : t = 19
      · rw [mx_stp_d c1] at hs ⊢
        obtain ⟨a1, a2, a3, a4⟩ := mx_col_q (K := K) (V := V) (M := M) (k := none) fr fr' x y s true h1 h2
        exact mx_cl_q a1 a2 a3 a4 hs
      · by_cases c2 : t < 10 ∨ 18 ≤ t ∨ mx_kd K V t = 3
        · rw [mx_stp_e c1 c2] at hs
          cases hs
        · rw [mx_stp_f c1 c2] at hs ⊢
          obtain ⟨a1, a2, a3, a4⟩ := mx_col_q (K := K) (V := V) (M := M) (k := some (mx_lv V t)) fr fr' x y s true h1 h2
          exact mx_go_q a1 a2 a3 a4 hs
theorem mx_run_q {K V M T T' : Nat → Nat} (h0 : T' 0 = 18) : ∀ (i : Nat) (A : mx_A), (∀ j, j < i → T' (j + 1) = T j) → mx_run K V M T i = some A → ∃ A', mx_run K V M T' (i + 1) = some A' ∧ mx_QA A A' := by
  intro i
  induction i with
  | zero =>
    intro A _ h
    have h : some (([], none, 0) : mx_A) = some A := h
    cases h
    refine ⟨([(18, 0, none)], none, 0), ?_, ⟨0, none, rfl⟩, trivial, rfl⟩
    rw [mx_run_s (A := ([], none, 0)) rfl, h0]
    exact mx_stp_b (by omega) (Or.inl rfl)
  | succ i ih =>
    intro A hT h
    cases hr : mx_run K V M T i with
    | none =>
      have h : (mx_run K V M T i).bind (mx_stp K V M (T i) i) = some A := h
      rw [hr] at h
      cases h
    | some B =>
      rw [mx_run_s hr] at h
      obtain ⟨B', e, q⟩ := ih B (fun j hj => hT j (by omega)) hr
      obtain ⟨A', e', q'⟩ := mx_stp_q (q := i + 1) q h
      refine ⟨A', ?_, q'⟩
      rw [mx_run_s e, hT i (by omega)]
      exact e'
theorem mx_fe_e {g : List mx_F × mx_C × Nat × Bool} {x : mx_C} {s : Nat} (h : mx_fe g = some (x, s)) : g = ([], x, s, true) := by
  obtain ⟨l, y, z, o⟩ := g
  cases l with
  | nil =>
    cases o with
    | false => exact absurd h (by intro w; cases w)
    | true =>
      have h : some (y, z) = some (x, s) := h
      cases h
      rfl
  | cons a b => exact absurd h (by intro w; cases w)
theorem mx_brk {K V M T T' : Nat → Nat} {c s : Nat} {x : mx_C} (h0 : T' 0 = 18) (hT : ∀ j, j < c → T' (j + 1) = T j) (h9 : T' (c + 1) = 19) (h : mx_rd K V M T c = some (x, s)) :
    ∃ y : mx_C, mx_rd K V M T' (c + 2) = some (y, s) ∧ y.1 = 5 ∧ y.2.1 = x.2.1 ∧ y.2.2.1 = x.2.2.1 + 1 := by
  unfold mx_rd at h
  cases hr : mx_run K V M T c with
  | none =>
    rw [hr] at h
    cases h
  | some A =>
    rw [hr] at h
    have h : mx_fin K V M A = some (x, s) := h
    obtain ⟨A', e', q⟩ := mx_run_q h0 c A hT hr
    obtain ⟨fr, cur, z⟩ := A
    obtain ⟨fr', cur', z'⟩ := A'
    obtain ⟨q1, q2, q3⟩ := q
    have q1 : mx_QF fr fr' := q1
    have q2 : mx_QL cur cur' := q2
    have q3 : z = z' := q3
    subst q3
    cases cur with
    | none => cases h
    | some x0 =>
      cases cur' with
      | none => exact False.elim q2
      | some y0 =>
        have h : mx_fe (mx_col K V M none fr x0 z true) = some (x, s) := h
        have hg := mx_fe_e h
        obtain ⟨a1, a2, a3, a4⟩ := mx_col_q (K := K) (V := V) (M := M) (k := none) fr fr' x0 y0 z true q1 q2
        rw [hg] at a1 a2 a3 a4
        have hs := mx_run_s e'
        rw [h9, mx_stp_d rfl] at hs
        generalize mx_col K V M none fr' y0 z true = g at a1 a2 a3 a4 hs
        obtain ⟨l, y, z', o⟩ := g
        obtain ⟨p, l0, e⟩ := a1
        have e : l = [(18, p, l0)] := e
        have a3 : s = z' := a3
        have a4 : true = o := a4
        have a2 : mx_Q x y := a2
        subst e
        subst a3
        subst a4
        refine ⟨mx_br y, ?_, rfl, a2.2.1.symm, congrArg (· + 1) a2.2.2.1.symm⟩
        unfold mx_rd
        show (mx_run K V M T' (c + 1 + 1)).bind _ = _
        rw [hs]
        show mx_fe (mx_col K V M none [] (mx_br y) s true) = _
        rw [mx_col_0]
        rfl
end
section
/-! brackets and their depth -/
theorem mx_D18 {T : Nat → Nat} {k : Nat} (h : T k = 18) : mx_D T (k + 1) = mx_D T k + 1 := by
  show mx_D T k + (if T k = 18 then 1 else if T k = 19 then -1 else 0) = _
  rw [if_pos h]
theorem mx_D19 {T : Nat → Nat} {k : Nat} (h : T k = 19) : mx_D T (k + 1) = mx_D T k - 1 := by
  show mx_D T k + (if T k = 18 then 1 else if T k = 19 then -1 else 0) = _
  rw [if_neg (by omega), if_pos h]
  omega
theorem mx_Do {T : Nat → Nat} {k : Nat} (h : T k ≠ 18) (h2 : T k ≠ 19) : mx_D T (k + 1) = mx_D T k := by
  show mx_D T k + (if T k = 18 then 1 else if T k = 19 then -1 else 0) = _
  rw [if_neg h, if_neg h2]
  omega
theorem mx_Sp_a {T : Nat → Nat} {f e p : Nat} {ro : Option Nat} (h : mx_Sp T f e p ro) : ∀ j : Nat, j ≤ p → mx_D T (f + j) = mx_D T f + (j : Int) := by
  intro j
  induction j with
  | zero =>
    intro _
    show mx_D T f = mx_D T f + ((0 : Nat) : Int)
    omega
  | succ j ih =>
    intro hj
    have a := mx_D18 (h.2.1 j (by omega)).1
    have b := ih (by omega)
    rw [show f + (j + 1) = f + j + 1 by omega]
    omega
theorem mx_Sp_b {T : Nat → Nat} {f e p : Nat} {ro : Option Nat} (h : mx_Sp T f e p ro) : ∀ j : Nat, j ≤ p → mx_D T (e - j) = mx_D T e + (j : Int) := by
  have h1 := h.1
  intro j
  induction j with
  | zero =>
    intro _
    show mx_D T e = mx_D T e + ((0 : Nat) : Int)
    omega
  | succ j ih =>
    intro hj
    have a := mx_D19 (h.2.1 j (by omega)).2
    have b := ih (by omega)
    rw [show e - 1 - j + 1 = e - j by omega] at a
    rw [show e - (j + 1) = e - 1 - j by omega]
    omega
theorem mx_Sp_full {T : Nat → Nat} {f e p : Nat} {ro : Option Nat} (h : mx_Sp T f e p ro) : mx_D T e = mx_D T f ∧ ∀ k, f ≤ k → k ≤ e → mx_D T f ≤ mx_D T k := by
  have a := mx_Sp_a h
  have b := mx_Sp_b h
  obtain ⟨h1, h2, h3, h4, h5⟩ := h
  have ap := a p (Nat.le_refl p)
  have bp := b p (Nat.le_refl p)
  refine ⟨by omega, fun k hk1 hk2 => ?_⟩
  by_cases c1 : k ≤ f + p
  · have := a (k - f) (by omega)
    rw [show f + (k - f) = k by omega] at this
    omega
  · by_cases c2 : k ≤ e - p
    · have := h4 k (by omega) c2
      omega
    · have := b (e - k) (by omega)
      rw [show e - (e - k) = k by omega] at this
      omega
theorem mx_Sp_leaf {T : Nat → Nat} {f : Nat} (h : T f < 10) : mx_Sp T f (f + 1) 0 none := by
  have a := mx_Do (T := T) (k := f) (by omega) (by omega)
  refine ⟨by omega, fun j hj => absurd hj (by omega), a, fun k h1 h2 => ?_, fun r hr => by cases hr⟩
  show mx_D T f ≤ mx_D T k
  have h1 : f ≤ k := h1
  have h2 : k ≤ f + 1 := h2
  rcases (by omega : k = f ∨ k = f + 1) with e | e
  · rw [e]; exact Int.le_refl _
  · rw [e, a]; exact Int.le_refl _
theorem mx_Sp_pre {T : Nat → Nat} {r e p : Nat} {ro : Option Nat} (h18 : T r ≠ 18) (h19 : T r ≠ 19) (h : mx_Sp T (r + 1) e p ro) : mx_Sp T r e 0 (some r) := by
  have a := mx_Do h18 h19
  obtain ⟨b, d⟩ := mx_Sp_full h
  have h1 := h.1
  refine ⟨by omega, fun j hj => absurd hj (by omega), ?_, fun k h1 h2 => ?_, fun q hq => ?_⟩
  · show mx_D T e = mx_D T r
    omega
  · show mx_D T r ≤ mx_D T k
    have h1 : r ≤ k := h1
    have h2 : k ≤ e := h2
    by_cases c : k = r
    · rw [c]; exact Int.le_refl _
    · have := d k (by omega) h2
      omega
  · cases hq
    exact ⟨Nat.le_refl _, by show r < e; omega, rfl, h18, h19⟩
theorem mx_Sp_beh {T : Nat → Nat} {f r p : Nat} {ro : Option Nat} (h18 : T r ≠ 18) (h19 : T r ≠ 19) (h : mx_Sp T f r p ro) : mx_Sp T f (r + 1) 0 (some r) := by
  have a := mx_Do h18 h19
  obtain ⟨b, d⟩ := mx_Sp_full h
  have h1 := h.1
  refine ⟨by omega, fun j hj => absurd hj (by omega), ?_, fun k h1 h2 => ?_, fun q hq => ?_⟩
  · show mx_D T (r + 1) = mx_D T f
    omega
  · show mx_D T f ≤ mx_D T k
    have h1 : f ≤ k := h1
    have h2 : k ≤ r + 1 := h2
    by_cases c : k = r + 1
    · rw [c]; omega
    · exact d k h1 (by omega)
  · cases hq
    exact ⟨by show f ≤ r; omega, by show r < r + 1; omega, b, h18, h19⟩
theorem mx_Sp_two {T : Nat → Nat} {f r e p p' : Nat} {ro ro' : Option Nat} (h18 : T r ≠ 18) (h19 : T r ≠ 19) (h : mx_Sp T f r p ro) (h' : mx_Sp T (r + 1) e p' ro') : mx_Sp T f e 0 (some r) := by
  have a := mx_Do h18 h19
  obtain ⟨b, d⟩ := mx_Sp_full h
  obtain ⟨b', d'⟩ := mx_Sp_full h'
  have h1 := h.1
  have h1' := h'.1
  refine ⟨by omega, fun j hj => absurd hj (by omega), ?_, fun k h1 h2 => ?_, fun q hq => ?_⟩
  · show mx_D T e = mx_D T f
    omega
  · show mx_D T f ≤ mx_D T k
    have h1 : f ≤ k := h1
    have h2 : k ≤ e := h2
    by_cases c : k ≤ r
    · exact d k h1 c
    · have := d' k (by omega) h2
      omega
  · cases hq
    exact ⟨by show f ≤ r; omega, by show r < e; omega, b, h18, h19⟩
theorem mx_Sp_brk {T : Nat → Nat} {f e p : Nat} {ro : Option Nat} (h18 : T f = 18) (h19 : T e = 19) (h : mx_Sp T (f + 1) e p ro) : mx_Sp T f (e + 1) (p + 1) ro := by
  obtain ⟨h1, h2, h3, h4, h5⟩ := h
  have e1 : f + (p + 1) = f + 1 + p := by omega
  have e2 : e + 1 - (p + 1) = e - p := by omega
  refine ⟨by omega, fun j hj => ?_, ?_, ?_, ?_⟩
  · by_cases c : j = 0
    · subst c
      exact ⟨h18, h19⟩
    · have := h2 (j - 1) (by omega)
      rw [show f + 1 + (j - 1) = f + j by omega, show e - 1 - (j - 1) = e + 1 - 1 - j by omega] at this
      exact this
  · rw [e1, e2]; exact h3
  · rw [e1, e2]; exact h4
  · rw [e1, e2]; exact h5
/-- the i-th token and the i-th from the end are a pair around all between them -/
def mx_wh (T : Nat → Nat) (c i : Nat) : Prop := i < c - 1 - i ∧ T i = 18 ∧ T (c - 1 - i) = 19 ∧ ∀ k, i ≤ k → k < c - 1 - i → mx_D T i < mx_D T (k + 1)
theorem mx_wh_lt {T : Nat → Nat} {c p i : Nat} {ro : Option Nat} (h : mx_Sp T 0 c p ro) (hi : i < p) : mx_wh T c i := by
  have a := mx_Sp_a h
  have b := mx_Sp_b h
  have g := (mx_Sp_full h).1
  obtain ⟨h1, h2, h3, h4, h5⟩ := h
  have ai := a i (by omega)
  have ap := a p (by omega)
  have u := h2 i hi
  rw [Nat.zero_add] at u ai ap
  refine ⟨by omega, u.1, u.2, fun k k1 k2 => ?_⟩
  by_cases c1 : k + 1 ≤ p
  · have := a (k + 1) c1
    rw [Nat.zero_add] at this
    omega
  · by_cases c2 : k + 1 ≤ c - p
    · have := h4 (k + 1) (by omega) c2
      rw [Nat.zero_add] at this
      omega
    · have := b (c - (k + 1)) (by omega)
      rw [show c - (c - (k + 1)) = k + 1 by omega] at this
      omega
theorem mx_wh_p {T : Nat → Nat} {c p r : Nat} (h : mx_Sp T 0 c p (some r)) : ¬ mx_wh T c p := by
  obtain ⟨h1, h2, h3, h4, h5⟩ := h
  obtain ⟨r1, r2, r3, r4, r5⟩ := h5 r rfl
  rw [Nat.zero_add] at r1 r3
  intro w
  obtain ⟨w1, w2, w3, w4⟩ := w
  by_cases e : r = c - 1 - p
  · rw [e] at r5
    exact r5 w3
  · have a := mx_Do r4 r5
    have b := w4 r r1 (by omega)
    omega
end
section
/-! the state against the picture -/
def mx_En (K V M T : Nat → Nat) (c : Nat) (f0 : Int32) (a1 a2 a3 a4 : Nat → Int32) : Prop :=
  f0 = nI c ∧ c ≤ 15 ∧ (∀ j, j < 5 → K j < 5 ∧ a1 j = nI (K j)) ∧ (∀ j, j < 8 → V j < 5 ∧ a2 j = nI (V j)) ∧
  (∀ j, j < 8 → M j < 4 ∧ a3 j = nI (M j)) ∧ (∀ j, j < c → T j < 20 ∧ a4 j = nI (T j))
abbrev mx_P : Type := Int32 × Int32 × Int32 × Int32 × Int32 × Int32 × Int32 × Int32
abbrev mx_R : Type := Nat → mx_P
/-- a node's row: at, first, second, strong, value, pairs, from, to -/
def mx_r (a5 a6 a7 a8 a9 a10 a11 a12 : Nat → Int32) : mx_R := fun j => (a5 j, a6 j, a7 j, a8 j, a9 j, a10 j, a11 j, a12 j)
/-- a row holds the operand x, which lies at f .. e - 1 -/
def mx_O (V T : Nat → Nat) (c : Nat) (d : mx_P) (x : mx_C) (f e : Nat) : Prop :=
  d.2.2.2.1 = nI x.1 ∧ x.1 ≤ 5 ∧ d.2.2.2.2.1 = x.2.1 ∧ d.2.2.2.2.2.1 = nI x.2.2.1 ∧ d.2.2.2.2.2.2.1 = nI f ∧ d.2.2.2.2.2.2.2 = nI (e - 1) ∧
  e ≤ c ∧ mx_Sp T f e x.2.2.1 x.2.2.2.2 ∧
  ((x.2.2.2.2 = none ∧ d.2.1 = -1 ∧ x.2.2.2.1 = 5) ∨
   ∃ r q, x.2.2.2.2 = some r ∧ d.1 = nI r ∧ d.2.1 = nI q ∧ q < 16 ∧ 10 ≤ T r ∧ T r < 18 ∧ x.2.2.2.1 = V (T r - 10))
/-- node n: a number, or an operator over earlier nodes; v: what its operands add to spare -/
def mx_N (K V T : Nat → Nat) (c : Nat) (R : mx_R) (n v : Nat) : Prop :=
  ((R n).2.1 = -1 ∧ (R n).2.2.1 = -1 ∧ v = 0) ∨
  ∃ r q x f e, r < c ∧ 10 ≤ T r ∧ T r < 18 ∧ q < n ∧ (R n).1 = nI r ∧ (R n).2.1 = nI q ∧ mx_O V T c (R q) x f e ∧ (r < f ∨ e ≤ r) ∧
    ((3 ≤ mx_kd K V (T r) ∧ (R n).2.2.1 = -1 ∧ v = mx_sa x (mx_lv V (T r))) ∨
     (mx_kd K V (T r) < 3 ∧ ∃ q2 x2 f2 e2, q2 < n ∧ (R n).2.2.1 = nI q2 ∧ mx_O V T c (R q2) x2 f2 e2 ∧ (r < f2 ∨ e2 ≤ r) ∧
       v = mx_sa x (mx_nl K V (T r)) + mx_sa x2 (mx_nr K V (T r))))
def mx_sm (G : Nat → Nat) : Nat → Nat
  | 0 => 0
  | k + 1 => mx_sm G k + G k
def mx_b (o : Bool) : Int32 := if o = true then 1 else 0
/-- the two stacks hold the frames, which lie at 0 .. e - 1; the operands' nodes are below B -/
def mx_S (K V T : Nat → Nat) (c : Nat) (R : mx_R) (a13 a14 : Nat → Int32) : List mx_F → Nat → Nat → Nat → Nat → Prop
  | [], _, e, no, nw => e = 0 ∧ no = 0 ∧ nw = 0
  | (t, p, none) :: fs, B, e, no, nw => e = p + 1 ∧ t = T p ∧ (t = 18 ∨ (10 ≤ t ∧ t < 18 ∧ 3 ≤ mx_kd K V t)) ∧
      ∃ nw', nw = nw' + 1 ∧ a14 nw' = nI p ∧ mx_S K V T c R a13 a14 fs B p no nw'
  | (t, p, some x) :: fs, B, e, no, nw => e = p + 1 ∧ t = T p ∧ (10 ≤ t ∧ t < 18 ∧ mx_kd K V t < 3) ∧
      ∃ nw' no' j f, nw = nw' + 1 ∧ a14 nw' = nI p ∧ no = no' + 1 ∧ j < B ∧ a13 no' = nI j ∧ mx_O V T c (R j) x f p ∧ mx_S K V T c R a13 a14 fs j f no' nw'
/-- behind an expression x -/
def mx_W (K V T : Nat → Nat) (c e : Nat) (fr : List mx_F) (x : mx_C) (s : Nat) (o : Bool) (f1 f2 f3 f4 : Int32) (a5 a6 a7 a8 a9 a10 a11 a12 a13 a14 : Nat → Int32) : Prop :=
  ∃ (N no nw f : Nat) (G : Nat → Nat), f1 = nI (N + 1) ∧ f2 = nI (no + 1) ∧ f3 = nI nw ∧ f4 = mx_b o ∧ N + 1 + nw ≤ e ∧ a13 no = nI N ∧
    mx_O V T c (mx_r a5 a6 a7 a8 a9 a10 a11 a12 N) x f e ∧ mx_S K V T c (mx_r a5 a6 a7 a8 a9 a10 a11 a12) a13 a14 fr N f no nw ∧ (∀ n, n < N + 1 → mx_N K V T c (mx_r a5 a6 a7 a8 a9 a10 a11 a12) n (G n)) ∧ mx_sm G (N + 1) = s
/-- where an expression is expected -/
def mx_Z (K V T : Nat → Nat) (c e : Nat) (fr : List mx_F) (s : Nat) (o : Bool) (f1 f2 f3 f4 : Int32) (a5 a6 a7 a8 a9 a10 a11 a12 a13 a14 : Nat → Int32) : Prop :=
  ∃ (N no nw : Nat) (G : Nat → Nat), f1 = nI N ∧ f2 = nI no ∧ f3 = nI nw ∧ f4 = mx_b o ∧ N + nw ≤ e ∧
    mx_S K V T c (mx_r a5 a6 a7 a8 a9 a10 a11 a12) a13 a14 fr N e no nw ∧ (∀ n, n < N → mx_N K V T c (mx_r a5 a6 a7 a8 a9 a10 a11 a12) n (G n)) ∧ mx_sm G N = s
/-- the loop's state: r: whether an expression was read whole -/
def mx_St (K V T : Nat → Nat) (c : Nat) (A : Option mx_A) (i : Nat) (r : Int32) (f1 f2 f3 f4 : Int32) (a5 a6 a7 a8 a9 a10 a11 a12 a13 a14 : Nat → Int32) : Prop :=
  match A with
  | none => f4 = 0
  | some (fr, none, s) => r = 0 ∧ mx_Z K V T c i fr s true f1 f2 f3 f4 a5 a6 a7 a8 a9 a10 a11 a12 a13 a14
  | some (fr, some x, s) => r = 1 ∧ mx_W K V T c i fr x s true f1 f2 f3 f4 a5 a6 a7 a8 a9 a10 a11 a12 a13 a14
/-- the text is read: its node is top -/
def mx_Tp (K V T : Nat → Nat) (c : Nat) (x : mx_C) (s : Nat) (f1 f5 : Int32) (a5 a6 a7 a8 a9 a10 a11 a12 : Nat → Int32) : Prop :=
  ∃ (N : Nat) (G : Nat → Nat), f1 = nI (N + 1) ∧ f5 = nI N ∧ N < 15 ∧ mx_O V T c (mx_r a5 a6 a7 a8 a9 a10 a11 a12 N) x 0 c ∧ (∀ n, n < N + 1 → mx_N K V T c (mx_r a5 a6 a7 a8 a9 a10 a11 a12) n (G n)) ∧ mx_sm G (N + 1) = s
def mx_Dn (K V T : Nat → Nat) (c : Nat) (A : Option (mx_C × Nat)) (r f1 f5 : Int32) (a5 a6 a7 a8 a9 a10 a11 a12 : Nat → Int32) : Prop :=
  match A with
  | none => r = 0
  | some (x, s) => r = 1 ∧ mx_Tp K V T c x s f1 f5 a5 a6 a7 a8 a9 a10 a11 a12
/-! what stays -/
theorem mx_sm_c {G G' : Nat → Nat} : ∀ k, (∀ n, n < k → G' n = G n) → mx_sm G' k = mx_sm G k := by
  intro k
  induction k with
  | zero => intro _; rfl
  | succ k ih =>
    intro h
    show mx_sm G' k + G' k = mx_sm G k + G k
    rw [ih (fun n hn => h n (by omega)), h k (by omega)]
theorem mx_N_st {K V T : Nat → Nat} {c : Nat} {R R' : mx_R} {n v : Nat} (h1 : (R' n).1 = (R n).1) (h2 : (R' n).2.1 = (R n).2.1) (h3 : (R' n).2.2.1 = (R n).2.2.1) (hq : ∀ q, q < n → R' q = R q) (h : mx_N K V T c R n v) : mx_N K V T c R' n v := by
  rcases h with ⟨a, b, d⟩ | ⟨r, q, x, f, e, b1, b2, b3, b4, b5, b6, b7, b8, b9⟩
  · exact Or.inl ⟨h2.trans a, h3.trans b, d⟩
  · refine Or.inr ⟨r, q, x, f, e, b1, b2, b3, b4, h1.trans b5, h2.trans b6, by rw [hq q b4]; exact b7, b8, ?_⟩
    rcases b9 with ⟨c1, c2, c3⟩ | ⟨c1, q2, x2, f2, e2, d1, d2, d3, d4, d5⟩
    · exact Or.inl ⟨c1, h3.trans c2, c3⟩
    · exact Or.inr ⟨c1, q2, x2, f2, e2, d1, h3.trans d2, by rw [hq q2 d1]; exact d3, d4, d5⟩
theorem mx_S_st {K V T : Nat → Nat} {c : Nat} {R R' : mx_R} {a13 a14 b13 b14 : Nat → Int32} : ∀ (fr : List mx_F) (B B' e no nw : Nat), B ≤ B' → (∀ q, q < B → R' q = R q) → (∀ j, j < no → b13 j = a13 j) → (∀ j, j < nw → b14 j = a14 j) →
    mx_S K V T c R a13 a14 fr B e no nw → mx_S K V T c R' b13 b14 fr B' e no nw := by
  intro fr
  induction fr with
  | nil => intro B B' e no nw _ _ _ _ h; exact h
  | cons g fs ih =>
    obtain ⟨t, p, l⟩ := g
    intro B B' e no nw hB hR h13 h14 h
    cases l with
    | none =>
      obtain ⟨e1, e2, e3, nw', e4, e5, e6⟩ := h
      exact ⟨e1, e2, e3, nw', e4, by rw [h14 nw' (by omega)]; exact e5, ih B B' p no nw' hB hR h13 (fun j hj => h14 j (by omega)) e6⟩
    | some x =>
      obtain ⟨e1, e2, e3, nw', no', j, f, e4, e5, e6, e7, e8, e9, e10⟩ := h
      refine ⟨e1, e2, e3, nw', no', j, f, e4, by rw [h14 nw' (by omega)]; exact e5, e6, by omega, by rw [h13 no' (by omega)]; exact e8, by rw [hR j e7]; exact e9, ?_⟩
      exact ih j j f no' nw' (Nat.le_refl j) (fun q hq => hR q (by omega)) (fun i hi => h13 i (by omega)) (fun i hi => h14 i (by omega)) e10
theorem mx_S_len {K V T : Nat → Nat} {c : Nat} {R : mx_R} {a13 a14 : Nat → Int32} : ∀ (fr : List mx_F) (B e no nw : Nat), mx_S K V T c R a13 a14 fr B e no nw → fr.length = nw ∧ no ≤ B := by
  intro fr
  induction fr with
  | nil =>
    intro B e no nw h
    obtain ⟨_, h2, h3⟩ := h
    exact ⟨h3.symm, by omega⟩
  | cons g fs ih =>
    obtain ⟨t, p, l⟩ := g
    intro B e no nw h
    cases l with
    | none =>
      obtain ⟨e1, e2, e3, nw', e4, e5, e6⟩ := h
      have := ih B p no nw' e6
      exact ⟨by show fs.length + 1 = nw; omega, this.2⟩
    | some x =>
      obtain ⟨e1, e2, e3, nw', no', j, f, e4, e5, e6, e7, e8, e9, e10⟩ := h
      have := ih j f no' nw' e10
      exact ⟨by show fs.length + 1 = nw; omega, by omega⟩
section
variable {f0 f1 f2 f3 f4 f5 : Int32} {a1 a2 a3 a4 a5 a6 a7 a8 a9 a10 a11 a12 a13 a14 : Nat → Int32}
theorem mx_r_ne {k j : Nat} {v5 v6 v7 v8 v9 v10 v11 w v12 : Int32} (h : j ≠ k) : mx_r (upd a5 k v5) (upd a6 k v6) (upd a7 k v7) (upd a8 k v8) (upd a9 k v9) (upd a10 k v10) (upd a11 k v11) (upd (upd a12 k w) k v12) j = mx_r a5 a6 a7 a8 a9 a10 a11 a12 j := by
  unfold mx_r
  rw [pk_un h, pk_un h, pk_un h, pk_un h, pk_un h, pk_un h, pk_un h, pk_un h, pk_un h]
theorem mx_r_eq {k : Nat} {v5 v6 v7 v8 v9 v10 v11 w v12 : Int32} : mx_r (upd a5 k v5) (upd a6 k v6) (upd a7 k v7) (upd a8 k v8) (upd a9 k v9) (upd a10 k v10) (upd a11 k v11) (upd (upd a12 k w) k v12) k = (v5, v6, v7, v8, v9, v10, v11, v12) := by
  unfold mx_r
  rw [pk_us, pk_us, pk_us, pk_us, pk_us, pk_us, pk_us, pk_us]
theorem mx_r_ne' {k j : Nat} {v5 v6 v7 v8 v9 v10 v11 v12 : Int32} (h : j ≠ k) : mx_r (upd a5 k v5) (upd a6 k v6) (upd a7 k v7) (upd a8 k v8) (upd a9 k v9) (upd a10 k v10) (upd a11 k v11) (upd a12 k v12) j = mx_r a5 a6 a7 a8 a9 a10 a11 a12 j := by
  unfold mx_r
  rw [pk_un h, pk_un h, pk_un h, pk_un h, pk_un h, pk_un h, pk_un h, pk_un h]
theorem mx_r_eq' {k : Nat} {v5 v6 v7 v8 v9 v10 v11 v12 : Int32} : mx_r (upd a5 k v5) (upd a6 k v6) (upd a7 k v7) (upd a8 k v8) (upd a9 k v9) (upd a10 k v10) (upd a11 k v11) (upd a12 k v12) k = (v5, v6, v7, v8, v9, v10, v11, v12) := by
  unfold mx_r
  rw [pk_us, pk_us, pk_us, pk_us, pk_us, pk_us, pk_us, pk_us]
def mx_ug (G : Nat → Nat) (k v : Nat) : Nat → Nat := fun n => if n = k then v else G n
/-- a node more -/
theorem mx_N_add {K V T : Nat → Nat} {c : Nat} {R R' : mx_R} {G : Nat → Nat} {N v s : Nat} (hR : ∀ q, q < N → R' q = R q) (h : ∀ n, n < N → mx_N K V T c R n (G n)) (hs : mx_sm G N = s) (hv : mx_N K V T c R' N v) :
    (∀ n, n < N + 1 → mx_N K V T c R' n (mx_ug G N v n)) ∧ mx_sm (mx_ug G N v) (N + 1) = s + v := by
  constructor
  · intro n hn
    by_cases e : n = N
    · subst e
      rw [show mx_ug G n v n = v from if_pos rfl]
      exact hv
    · rw [show mx_ug G N v n = G n from if_neg e]
      have := hR n (by omega)
      exact mx_N_st (by rw [this]) (by rw [this]) (by rw [this]) (fun q hq => hR q (by omega)) (h n (by omega))
  · show mx_sm (mx_ug G N v) N + mx_ug G N v N = s + v
    rw [mx_sm_c (G := G) (G' := mx_ug G N v) N (fun n hn => if_neg (show ¬ n = N by omega)), hs, show mx_ug G N v N = v from if_pos rfl]
/-- an operator over one operand is applied -/
theorem mx_W1 {K V M T : Nat → Nat} {c : Nat} {fs : List mx_F} {x : mx_C} {s N no nw f e f' e' p : Nat} {o : Bool} {G : Nat → Nat}
    (hV : ∀ j, j < 8 → V j < 5) (hc : c ≤ 15) (hp : p < c) (h10 : 10 ≤ T p) (h18 : T p < 18) (hk : 3 ≤ mx_kd K V (T p)) (hb : N + 2 + nw ≤ e') (hO : mx_O V T c (mx_r a5 a6 a7 a8 a9 a10 a11 a12 N) x f e) (hS : mx_S K V T c (mx_r a5 a6 a7 a8 a9 a10 a11 a12) a13 a14 fs N f' no nw)
    (hN : ∀ n, n < N + 1 → mx_N K V T c (mx_r a5 a6 a7 a8 a9 a10 a11 a12) n (G n)) (hs : mx_sm G (N + 1) = s) (hmin : min f p = f') (hmax : max (e - 1) p = e' - 1) (he : e' ≤ c) (haw : p < f ∨ e ≤ p) (hSp : mx_Sp T f' e' 0 (some p)) :
    mx_W K V T c e' fs (mx_ap1 V M (T p) p x) (s + mx_sa x (mx_lv V (T p))) o (nI (N + 2)) (nI (no + 1)) (nI nw) (mx_b o)
      (upd a5 (N + 1) (nI p)) (upd a6 (N + 1) (nI N)) (upd a7 (N + 1) (-1)) (upd a8 (N + 1) (nI (mx_lv V (T p)))) (upd a9 (N + 1) (mx_al (M (T p - 10)) x.2.1)) (upd a10 (N + 1) 0) (upd a11 (N + 1) (nI (min f p))) (upd (upd a12 (N + 1) (nI p)) (N + 1) (nI (max (e - 1) p))) (upd a13 no (nI (N + 1))) a14 := by
  have hR : ∀ q, q < N + 1 → mx_r (upd a5 (N + 1) (nI p)) (upd a6 (N + 1) (nI N)) (upd a7 (N + 1) (-1)) (upd a8 (N + 1) (nI (mx_lv V (T p)))) (upd a9 (N + 1) (mx_al (M (T p - 10)) x.2.1)) (upd a10 (N + 1) 0) (upd a11 (N + 1) (nI (min f p))) (upd (upd a12 (N + 1) (nI p)) (N + 1) (nI (max (e - 1) p))) q = mx_r a5 a6 a7 a8 a9 a10 a11 a12 q := fun q hq => mx_r_ne (by omega)
  have hlv : mx_lv V (T p) < 5 := hV _ (by omega)
  obtain ⟨g1, g2⟩ := mx_N_add (c := c) (v := mx_sa x (mx_lv V (T p))) hR hN hs (Or.inr ⟨p, N, x, f, e, hp, h10, h18, by omega, by rw [mx_r_eq], by rw [mx_r_eq], by rw [hR N (by omega)]; exact hO, haw, Or.inl ⟨hk, by rw [mx_r_eq], rfl⟩⟩)
  refine ⟨N + 1, no, nw, f', _, rfl, rfl, rfl, rfl, by omega, pk_us, ?_, mx_S_st fs N (N + 1) f' no nw (by omega) (fun q hq => hR q (by omega)) (fun j hj => pk_un (by omega)) (fun j _ => rfl) hS, g1, g2⟩
  rw [mx_r_eq]
  exact ⟨rfl, by show mx_lv V (T p) ≤ 5; omega, rfl, rfl, by show nI (min f p) = nI f'; rw [hmin], by show nI (max (e - 1) p) = nI (e' - 1); rw [hmax], he, hSp, Or.inr ⟨p, N, rfl, rfl, rfl, by omega, h10, h18, rfl⟩⟩
/-- an operator between two operands is applied -/
theorem mx_W2 {K V M T : Nat → Nat} {c : Nat} {fs : List mx_F} {x y : mx_C} {s N no nw f e p j : Nat} {o : Bool} {G : Nat → Nat}
    (hV : ∀ j, j < 8 → V j < 5) (hc : c ≤ 15) (hp : p < c) (h10 : 10 ≤ T p) (h18 : T p < 18) (hk : mx_kd K V (T p) < 3) (hb : N + 2 + nw ≤ e) (hj : j < N) (hx : mx_O V T c (mx_r a5 a6 a7 a8 a9 a10 a11 a12 j) x f p) (hy : mx_O V T c (mx_r a5 a6 a7 a8 a9 a10 a11 a12 N) y (p + 1) e) (hS : mx_S K V T c (mx_r a5 a6 a7 a8 a9 a10 a11 a12) a13 a14 fs j f no nw)
    (hN : ∀ n, n < N + 1 → mx_N K V T c (mx_r a5 a6 a7 a8 a9 a10 a11 a12) n (G n)) (hs : mx_sm G (N + 1) = s) :
    mx_W K V T c e fs (mx_ap2 V M (T p) p x y) (s + (mx_sa x (mx_nl K V (T p)) + mx_sa y (mx_nr K V (T p)))) o (nI (N + 2)) (nI (no + 1)) (nI nw) (mx_b o)
      (upd a5 (N + 1) (nI p)) (upd a6 (N + 1) (nI j)) (upd a7 (N + 1) (nI N)) (upd a8 (N + 1) (nI (mx_lv V (T p)))) (upd a9 (N + 1) (mx_bt (M (T p - 10)) x.2.1 y.2.1)) (upd a10 (N + 1) 0) (upd a11 (N + 1) (nI (min f p))) (upd (upd a12 (N + 1) (nI p)) (N + 1) (nI (e - 1))) (upd a13 no (nI (N + 1))) a14 := by
  have hR : ∀ q, q < N + 1 → mx_r (upd a5 (N + 1) (nI p)) (upd a6 (N + 1) (nI j)) (upd a7 (N + 1) (nI N)) (upd a8 (N + 1) (nI (mx_lv V (T p)))) (upd a9 (N + 1) (mx_bt (M (T p - 10)) x.2.1 y.2.1)) (upd a10 (N + 1) 0) (upd a11 (N + 1) (nI (min f p))) (upd (upd a12 (N + 1) (nI p)) (N + 1) (nI (e - 1))) q = mx_r a5 a6 a7 a8 a9 a10 a11 a12 q := fun q hq => mx_r_ne (by omega)
  have hlv : mx_lv V (T p) < 5 := hV _ (by omega)
  have hSx := hx.2.2.2.2.2.2.2.1
  have hSy := hy.2.2.2.2.2.2.2.1
  have hfx := hSx.1
  have hey := hy.2.2.2.2.2.2.1
  obtain ⟨g1, g2⟩ := mx_N_add (c := c) (v := mx_sa x (mx_nl K V (T p)) + mx_sa y (mx_nr K V (T p))) hR hN hs (Or.inr ⟨p, j, x, f, p, hp, h10, h18, by omega, by rw [mx_r_eq], by rw [mx_r_eq], by rw [hR j (by omega)]; exact hx, Or.inr (Nat.le_refl p), Or.inr ⟨hk, N, y, p + 1, e, by omega, by rw [mx_r_eq], by rw [hR N (by omega)]; exact hy, Or.inl (by omega), rfl⟩⟩)
  refine ⟨N + 1, no, nw, f, _, rfl, rfl, rfl, rfl, by omega, pk_us, ?_, mx_S_st fs j (N + 1) f no nw (by omega) (fun q hq => hR q (by omega)) (fun j hj => pk_un (by omega)) (fun j _ => rfl) hS, g1, g2⟩
  rw [mx_r_eq]
  exact ⟨rfl, by show mx_lv V (T p) ≤ 5; omega, rfl, rfl, by show nI (min f p) = nI f; rw [show min f p = f by omega], rfl, hey, mx_Sp_two (by omega) (by omega) hSx hSy, Or.inr ⟨p, j, rfl, rfl, rfl, by omega, h10, h18, rfl⟩⟩
end
end
section
/-! the small methods -/
theorem mx_s10 {t : Nat} (h : 10 ≤ t) : nI t - 10 = nI (t - 10) := pk_sub (a := t) (b := 10) h
theorem mx_b_br {o : Bool} {A B : Prop} (hA : o = false → A) (hB : o = true → B) : (mx_b o = 0 → A) ∧ (¬ mx_b o = 0 → B) := by
  cases o with
  | false => exact br_t rfl (hA rfl)
  | true => exact br_f (by decide) (hB rfl)
theorem mx_bn (o : Bool) : narrow .boolean (.int (mx_b o)) = .int (mx_b o) ∧ fits .boolean (.int (mx_b o)) = true := by
  cases o with
  | false => exact ⟨rfl, rfl⟩
  | true => exact ⟨rfl, rfl⟩
section
variable {K V M T : Nat → Nat} {c : Nat} {f0 f1 f2 f3 f4 f5 : Int32} {a1 a2 a3 a4 a5 a6 a7 a8 a9 a10 a11 a12 a13 a14 : Nat → Int32}
theorem mx_levelAt {post : Int32 → Prop} {p : Nat} (hE : mx_En K V M T c f0 a1 a2 a3 a4) (hp : p < c) (h1 : 10 ≤ T p) (h2 : T p < 18) (H : post (nI (mx_lv V (T p)))) : wpX_levelAt post (f0, f1, f2, f3, f4, f5, a1, a2, a3, a4, a5, a6, a7, a8, a9, a10, a11, a12, a13, a14) (nI p) := by
  obtain ⟨e0, ec, e1, e2, e3, e4⟩ := hE
  have a := (e4 p hp).2
  have b := (e2 (T p - 10) (by omega)).2
  unfold wpX_levelAt
  dsimp only
  rw [nI_clamp (show p < 2 ^ 31 by omega), a, mx_s10 h1, nI_clamp (show T p - 10 < 2 ^ 31 by omega), b]
  exact ⟨pk_in p 16 (by omega), pk_in (T p - 10) 8 (by omega), H⟩
theorem mx_kindAt {post : Int32 → Prop} {p : Nat} (hE : mx_En K V M T c f0 a1 a2 a3 a4) (hp : p < c) (h1 : 10 ≤ T p) (h2 : T p < 18) (H : post (nI (mx_kd K V (T p)))) : wpX_kindAt post (f0, f1, f2, f3, f4, f5, a1, a2, a3, a4, a5, a6, a7, a8, a9, a10, a11, a12, a13, a14) (nI p) := by
  unfold wpX_kindAt
  dsimp only
  refine mx_levelAt hE hp h1 h2 ?_
  obtain ⟨e0, ec, e1, e2, e3, e4⟩ := hE
  have b : mx_lv V (T p) < 5 := (e2 (T p - 10) (by omega)).1
  have a := (e1 (mx_lv V (T p)) b).2
  refine ⟨pk_in _ 5 b, ?_⟩
  rw [nI_clamp (show mx_lv V (T p) < 2 ^ 31 by omega), a]
  exact H
theorem mx_needLeft {post : Int32 → Prop} {p : Nat} (hE : mx_En K V M T c f0 a1 a2 a3 a4) (hp : p < c) (h1 : 10 ≤ T p) (h2 : T p < 18) (H : post (nI (mx_nl K V (T p)))) : wpX_needLeft post (f0, f1, f2, f3, f4, f5, a1, a2, a3, a4, a5, a6, a7, a8, a9, a10, a11, a12, a13, a14) (nI p) := by
  unfold wpX_needLeft
  dsimp only
  refine mx_levelAt hE hp h1 h2 ?_
  obtain ⟨e0, ec, e1, e2, e3, e4⟩ := hE
  have b : mx_lv V (T p) < 5 := (e2 (T p - 10) (by omega)).1
  have a := (e1 (mx_lv V (T p)) b).2
  have k := (e1 (mx_lv V (T p)) b).1
  refine ⟨pk_in _ 5 b, ?_⟩
  rw [nI_clamp (show mx_lv V (T p) < 2 ^ 31 by omega), a]
  have u : mx_nl K V (T p) = if K (mx_lv V (T p)) = 1 then mx_lv V (T p) + 1 else if K (mx_lv V (T p)) = 2 then mx_lv V (T p) + 1 else mx_lv V (T p) := rfl
  rw [u] at H
  refine nm_e (pk_eq _ 1 (fun z => ?_) (fun z => pk_eq _ 2 (fun y => ?_) (fun y => ?_)))
  · rw [if_pos z] at H
    rw [nI_1]
    exact H
  · rw [if_neg z, if_pos y] at H
    rw [nI_1]
    exact H
  · rw [if_neg z, if_neg y] at H
    exact H
theorem mx_needRight {post : Int32 → Prop} {p : Nat} (hE : mx_En K V M T c f0 a1 a2 a3 a4) (hp : p < c) (h1 : 10 ≤ T p) (h2 : T p < 18) (H : post (nI (mx_nr K V (T p)))) : wpX_needRight post (f0, f1, f2, f3, f4, f5, a1, a2, a3, a4, a5, a6, a7, a8, a9, a10, a11, a12, a13, a14) (nI p) := by
  unfold wpX_needRight
  dsimp only
  refine mx_levelAt hE hp h1 h2 ?_
  obtain ⟨e0, ec, e1, e2, e3, e4⟩ := hE
  have b : mx_lv V (T p) < 5 := (e2 (T p - 10) (by omega)).1
  have a := (e1 (mx_lv V (T p)) b).2
  have k := (e1 (mx_lv V (T p)) b).1
  refine ⟨pk_in _ 5 b, ?_⟩
  rw [nI_clamp (show mx_lv V (T p) < 2 ^ 31 by omega), a]
  have u : mx_nr K V (T p) = if K (mx_lv V (T p)) = 0 then mx_lv V (T p) + 1 else if K (mx_lv V (T p)) = 2 then mx_lv V (T p) + 1 else mx_lv V (T p) := rfl
  rw [u] at H
  refine nm_e (pk_eq _ 0 (fun z => ?_) (fun z => pk_eq _ 2 (fun y => ?_) (fun y => ?_)))
  · rw [if_pos z] at H
    rw [nI_1]
    exact H
  · rw [if_neg z, if_pos y] at H
    rw [nI_1]
    exact H
  · rw [if_neg z, if_neg y] at H
    exact H
theorem mx_takesFirst {post : Int32 → Prop} {p k : Nat} (hE : mx_En K V M T c f0 a1 a2 a3 a4) (hp : p < c) (h1 : 10 ≤ T p) (h2 : T p < 18) (hk : k < 5) (H : post (mx_b (mx_tk K V (some k) (T p)))) : wpX_takesFirst post (f0, f1, f2, f3, f4, f5, a1, a2, a3, a4, a5, a6, a7, a8, a9, a10, a11, a12, a13, a14) (nI p) (nI k) := by
  unfold wpX_takesFirst
  dsimp only
  refine mx_levelAt hE hp h1 h2 ?_
  obtain ⟨e0, ec, e1, e2, e3, e4⟩ := hE
  have b : mx_lv V (T p) < 5 := (e2 (T p - 10) (by omega)).1
  have a := (e1 k hk).2
  have kk := (e1 k hk).1
  have u : mx_tk K V (some k) (T p) = (decide (k < mx_lv V (T p)) || (decide (mx_lv V (T p) = k) && !decide (K k = 1))) := rfl
  rw [u] at H
  refine pk_lt k _ (fun z => ?_) (fun z => pk_eq _ k (fun y => ⟨pk_in k 5 hk, ?_⟩) (fun y => ?_))
  · rw [decide_eq_true z, Bool.true_or] at H
    exact H
  · rw [nI_clamp (show k < 2 ^ 31 by omega), a]
    rw [decide_eq_false (show ¬ k < mx_lv V (T p) by omega), decide_eq_true y, Bool.false_or, Bool.true_and] at H
    refine pk_eq _ 1 (fun w => ?_) (fun w => ?_)
    · rw [decide_eq_true w] at H
      exact H
    · rw [decide_eq_false w] at H
      exact H
  · rw [decide_eq_false (show ¬ k < mx_lv V (T p) by omega), decide_eq_false y, Bool.false_or, Bool.false_and] at H
    exact H
theorem mx_isOperator {post : Int32 → Prop} {t : Nat} (ht : t < 20) (H : post (mx_b (decide (10 ≤ t ∧ t < 18)))) : wpX_isOperator post (f0, f1, f2, f3, f4, f5, a1, a2, a3, a4, a5, a6, a7, a8, a9, a10, a11, a12, a13, a14) (nI t) := by
  unfold wpX_isOperator
  dsimp only
  refine pk_lt t 10 (fun z => ?_) (fun z => pk_le 18 t (fun y => ?_) (fun y => ?_))
  · rw [decide_eq_false (show ¬ (10 ≤ t ∧ t < 18) by omega)] at H
    exact H
  · rw [decide_eq_false (show ¬ (10 ≤ t ∧ t < 18) by omega)] at H
    exact H
  · rw [decide_eq_true (show (10 ≤ t ∧ t < 18) by omega)] at H
    exact H
theorem mx_alone {post : Int32 → Prop} {m : Nat} {a : Int32} (hm : m < 4) (H : post (mx_al m a)) : wpX_alone post (f0, f1, f2, f3, f4, f5, a1, a2, a3, a4, a5, a6, a7, a8, a9, a10, a11, a12, a13, a14) (nI m) a := by
  unfold wpX_alone
  dsimp only
  rcases (by omega : m = 0 ∨ m = 1 ∨ m = 2 ∨ m = 3) with e | e | e | e <;> subst e
  · exact br_t rfl H
  · exact br_f (by decide) (br_t rfl H)
  · exact br_f (by decide) (br_f (by decide) (br_t rfl H))
  · exact br_f (by decide) (br_f (by decide) (br_f (by decide) H))
theorem mx_between {post : Int32 → Prop} {m : Nat} {a b : Int32} (hm : m < 4) (H : post (mx_bt m a b)) : wpX_between post (f0, f1, f2, f3, f4, f5, a1, a2, a3, a4, a5, a6, a7, a8, a9, a10, a11, a12, a13, a14) (nI m) a b := by
  unfold wpX_between
  dsimp only
  rcases (by omega : m = 0 ∨ m = 1 ∨ m = 2 ∨ m = 3) with e | e | e | e <;> subst e
  · exact br_t rfl H
  · exact br_f (by decide) (br_t rfl H)
  · exact br_f (by decide) (br_f (by decide) (br_t rfl H))
  · exact br_f (by decide) (br_f (by decide) (br_f (by decide) H))
theorem mx_mk0 {post : Int32 → St1 → Prop} {N : Nat} {p0 p3 p4 : Int32} (hN : N < 16)
    (H : post (nI N) (f0, nI (N + 1), f2, f3, f4, f5, a1, a2, a3, a4, upd a5 N p0, upd a6 N (-1), upd a7 N (-1), upd a8 N p3, upd a9 N p4, upd a10 N 0, upd a11 N p0, upd a12 N p0, a13, a14)) :
    wpX_makeNode post (f0, nI N, f2, f3, f4, f5, a1, a2, a3, a4, a5, a6, a7, a8, a9, a10, a11, a12, a13, a14) p0 (-1) (-1) p3 p4 := by
  have hi : vp_in (nI N) 16 := vp_in_nI hN (by omega)
  unfold wpX_makeNode wX_makeNode_93 wX_makeNode_94
  dsimp only
  rw [nI_clamp (show N < 2 ^ 31 by omega)]
  refine ⟨hi, nm_e ⟨hi, nm_e ⟨hi, nm_e ⟨hi, nm_e ⟨hi, nm_e ⟨hi, nm_e (br_t (by decide) ⟨hi, nm_e ⟨hi, nm_e (nm_r (nI_1 N) ?_)⟩⟩)⟩⟩⟩⟩⟩⟩
  rw [nI_pred]
  exact H
theorem mx_mk1 {post : Int32 → St1 → Prop} {N p q f : Nat} {p2 p3 p4 : Int32} (hN : N < 16) (hq : q < 16) (hp : p < 16) (hf : f < 16) (h11 : a11 q = nI f)
    (H : post (nI N) (f0, nI (N + 1), f2, f3, f4, f5, a1, a2, a3, a4, upd a5 N (nI p), upd a6 N (nI q), upd a7 N p2, upd a8 N p3, upd a9 N p4, upd a10 N 0, upd a11 N (nI (min f p)), upd a12 N (nI p), a13, a14)) :
    wpX_makeNode post (f0, nI N, f2, f3, f4, f5, a1, a2, a3, a4, a5, a6, a7, a8, a9, a10, a11, a12, a13, a14) (nI p) (nI q) p2 p3 p4 := by
  have hi : vp_in (nI N) 16 := vp_in_nI hN (by omega)
  have hj : vp_in (nI q) 16 := vp_in_nI hq (by omega)
  unfold wpX_makeNode wX_makeNode_93 wX_makeNode_94
  dsimp only
  rw [nI_clamp (show N < 2 ^ 31 by omega), nI_clamp (show q < 2 ^ 31 by omega), h11]
  refine ⟨hi, nm_e ⟨hi, nm_e ⟨hi, nm_e ⟨hi, nm_e ⟨hi, nm_e ⟨hi, nm_e (br_f (nI_pos (by omega)) ⟨hj, pk_le p f (fun z => ⟨hi, nm_e ⟨hi, nm_e (nm_r (nI_1 N) ?_)⟩⟩) (fun z => ⟨hj, ⟨hi, nm_e ⟨hi, nm_e (nm_r (nI_1 N) ?_)⟩⟩⟩)⟩)⟩⟩⟩⟩⟩⟩
  · rw [nI_pred]
    rw [show min f p = p by omega] at H
    exact H
  · rw [nI_pred]
    rw [show min f p = f by omega] at H
    exact H
theorem mx_apply1 {post : St1 → Prop} {N no p f e : Nat} {x : mx_C} {o : Bool} (hE : mx_En K V M T c f0 a1 a2 a3 a4) (hp : p < c) (h1 : 10 ≤ T p) (h2 : T p < 18) (hk : 3 ≤ mx_kd K V (T p))
    (hN : N + 1 < 16) (hno : no < 16) (h13 : a13 no = nI N) (hO : mx_O V T c (mx_r a5 a6 a7 a8 a9 a10 a11 a12 N) x f e)
    (H : post (f0, nI (N + 2), nI (no + 1), f3, mx_b (o && mx_ok1 V (T p) x), f5, a1, a2, a3, a4, upd a5 (N + 1) (nI p), upd a6 (N + 1) (nI N), upd a7 (N + 1) (-1), upd a8 (N + 1) (nI (mx_lv V (T p))), upd a9 (N + 1) (mx_al (M (T p - 10)) x.2.1), upd a10 (N + 1) 0, upd a11 (N + 1) (nI (min f p)), upd (upd a12 (N + 1) (nI p)) (N + 1) (nI (max (e - 1) p)), upd a13 no (nI (N + 1)), a14)) :
    wpX_apply post (f0, nI (N + 1), nI (no + 1), f3, mx_b o, f5, a1, a2, a3, a4, a5, a6, a7, a8, a9, a10, a11, a12, a13, a14) (nI p) := by
  have hE' := hE
  obtain ⟨e0, ec, e1, e2, e3, e4⟩ := hE'
  obtain ⟨o1, o2, o3, o4, o5, o6, o7, o8, o9⟩ := hO
  have o1 : a8 N = nI x.1 := o1
  have o3 : a9 N = x.2.1 := o3
  have o5 : a11 N = nI f := o5
  have o6 : a12 N = nI (e - 1) := o6
  have g4 := (e4 p hp).2
  have g3 := (e3 (T p - 10) (by omega)).2
  have m3 := (e3 (T p - 10) (by omega)).1
  have hlv : mx_lv V (T p) < 5 := (e2 (T p - 10) (by omega)).1
  have hkd : mx_kd K V (T p) < 5 := (e1 _ hlv).1
  have hf : f < 16 := by have := o8.1; omega
  have key : ∀ o' : Bool, o' = (o && mx_ok1 V (T p) x) → wX_apply_71 post (nI p) (nI (M (T p - 10))) (nI (mx_lv V (T p))) (nI N) (mx_b o') f0 (nI (N + 1)) (nI (no + 1)) f3 (mx_b o) f5 a1 a2 a3 a4 a5 a6 a7 a8 a9 a10 a11 a12 a13 a14 := by
    intro o' ho
    unfold wX_apply_71
    refine ⟨(mx_bn o').1, (mx_bn o').2, pk_in N 16 (by omega), ?_⟩
    rw [nI_clamp (show N < 2 ^ 31 by omega), o3]
    refine mx_alone m3 (mx_mk1 (by omega) (by omega) (by omega) hf o5 ?_)
    dsimp only
    rw [pk_un (show N ≠ N + 1 by omega), o6]
    unfold wX_apply_130
    rw [nI_clamp (show N + 1 < 2 ^ 31 by omega), nI_pred, nI_clamp (show no < 2 ^ 31 by omega)]
    refine ⟨pk_in N 16 (by omega), pk_le (e - 1) p (fun z => ⟨pk_in (N + 1) 16 hN, nm_e ⟨pk_in no 16 hno, nm_e ?_⟩⟩) (fun z => ⟨pk_in N 16 (by omega), ⟨pk_in (N + 1) 16 hN, nm_e ⟨pk_in no 16 hno, nm_e ?_⟩⟩⟩)⟩
    · rw [show max (e - 1) p = p by omega, ← ho] at H
      exact H
    · rw [show max (e - 1) p = e - 1 by omega, ← ho] at H
      exact H
  unfold wpX_apply
  dsimp only
  rw [nI_clamp (show p < 2 ^ 31 by omega), g4, mx_s10 h1, nI_clamp (show T p - 10 < 2 ^ 31 by omega), g3]
  refine ⟨pk_in p 16 (by omega), pk_in (T p - 10) 8 (by omega), nm_e (mx_kindAt hE hp h1 h2 (mx_levelAt hE hp h1 h2 ?_))⟩
  refine pk_lt (mx_kd K V (T p)) 3 (fun z => absurd z (by omega)) (fun _ => ⟨pk_in no 16 hno (nI_pred no), ?_⟩)
  rw [nI_pred, nI_clamp (show no < 2 ^ 31 by omega), h13]
  refine nm_e (mx_b_br (fun z => ?_) (fun z => ⟨pk_in N 16 (by omega), ?_⟩))
  · exact key false (by rw [z]; rfl)
  · rw [nI_clamp (show N < 2 ^ 31 by omega), o1]
    refine pk_lt x.1 (mx_lv V (T p)) (fun y => key false ?_) (fun y => key true ?_)
    · rw [z, Bool.true_and]
      exact (decide_eq_false (show ¬ mx_lv V (T p) ≤ x.1 by omega)).symm
    · rw [z, Bool.true_and]
      exact (decide_eq_true y).symm
theorem mx_apply2 {post : St1 → Prop} {N no p f e j : Nat} {x y : mx_C} {o : Bool} (hE : mx_En K V M T c f0 a1 a2 a3 a4) (hp : p < c) (h1 : 10 ≤ T p) (h2 : T p < 18) (hk : mx_kd K V (T p) < 3)
    (hN : N + 1 < 16) (hno : no + 1 < 16) (hj : j < N) (h13 : a13 no = nI j) (h13' : a13 (no + 1) = nI N) (hx : mx_O V T c (mx_r a5 a6 a7 a8 a9 a10 a11 a12 j) x f p) (hy : mx_O V T c (mx_r a5 a6 a7 a8 a9 a10 a11 a12 N) y (p + 1) e)
    (H : post (f0, nI (N + 2), nI (no + 1), f3, mx_b (o && mx_ok2 K V (T p) x y), f5, a1, a2, a3, a4, upd a5 (N + 1) (nI p), upd a6 (N + 1) (nI j), upd a7 (N + 1) (nI N), upd a8 (N + 1) (nI (mx_lv V (T p))), upd a9 (N + 1) (mx_bt (M (T p - 10)) x.2.1 y.2.1), upd a10 (N + 1) 0, upd a11 (N + 1) (nI (min f p)), upd (upd a12 (N + 1) (nI p)) (N + 1) (nI (e - 1)), upd a13 no (nI (N + 1)), a14)) :
    wpX_apply post (f0, nI (N + 1), nI (no + 2), f3, mx_b o, f5, a1, a2, a3, a4, a5, a6, a7, a8, a9, a10, a11, a12, a13, a14) (nI p) := by
  have hE' := hE
  obtain ⟨e0, ec, e1, e2, e3, e4⟩ := hE'
  obtain ⟨o1, o2, o3, o4, o5, o6, o7, o8, o9⟩ := hx
  obtain ⟨q1, q2, q3, q4, q5, q6, q7, q8, q9⟩ := hy
  have o1 : a8 j = nI x.1 := o1
  have o3 : a9 j = x.2.1 := o3
  have o5 : a11 j = nI f := o5
  have q1 : a8 N = nI y.1 := q1
  have q3 : a9 N = y.2.1 := q3
  have q6 : a12 N = nI (e - 1) := q6
  have g4 := (e4 p hp).2
  have g3 := (e3 (T p - 10) (by omega)).2
  have m3 := (e3 (T p - 10) (by omega)).1
  have hlv : mx_lv V (T p) < 5 := (e2 (T p - 10) (by omega)).1
  have hkd : mx_kd K V (T p) < 5 := (e1 _ hlv).1
  have hf : f < 16 := by have := o8.1; omega
  have hnl : mx_nl K V (T p) < 6 := by
    unfold mx_nl
    split
    · omega
    · split <;> omega
  have hnr : mx_nr K V (T p) < 6 := by
    unfold mx_nr
    split
    · omega
    · split <;> omega
  have key : ∀ o' : Bool, o' = (o && mx_ok2 K V (T p) x y) → wX_apply_214 post (nI p) (nI (M (T p - 10))) (nI (mx_lv V (T p))) (nI j) (nI N) (mx_b o') f0 (nI (N + 1)) (nI (no + 2)) f3 (mx_b o) f5 a1 a2 a3 a4 a5 a6 a7 a8 a9 a10 a11 a12 a13 a14 := by
    intro o' ho
    unfold wX_apply_214
    refine ⟨(mx_bn o').1, (mx_bn o').2, pk_in j 16 (by omega), pk_in N 16 (by omega), ?_⟩
    rw [nI_clamp (show N < 2 ^ 31 by omega), nI_clamp (show j < 2 ^ 31 by omega), o3, q3]
    refine mx_between m3 (mx_mk1 (by omega) (by omega) (by omega) hf o5 ?_)
    dsimp only
    rw [nI_clamp (show N + 1 < 2 ^ 31 by omega), pk_un (show N ≠ N + 1 by omega), q6]
    refine ⟨pk_in N 16 (by omega), pk_in (N + 1) 16 hN, nm_e (nm_r (nI_pred (no + 1)) ?_)⟩
    rw [nI_pred, nI_clamp (show no < 2 ^ 31 by omega)]
    refine ⟨pk_in no 16 (by omega), nm_e ?_⟩
    rw [← ho] at H
    exact H
  have s2 : nI (no + 2) - 2 = nI no := pk_sub (a := no + 2) (b := 2) (by omega)
  have s1 : nI (no + 2) - 1 = nI (no + 1) := nI_pred (no + 1)
  unfold wpX_apply
  dsimp only
  rw [nI_clamp (show p < 2 ^ 31 by omega), g4, mx_s10 h1, nI_clamp (show T p - 10 < 2 ^ 31 by omega), g3]
  refine ⟨pk_in p 16 (by omega), pk_in (T p - 10) 8 (by omega), nm_e (mx_kindAt hE hp h1 h2 (mx_levelAt hE hp h1 h2 ?_))⟩
  refine pk_lt (mx_kd K V (T p)) 3 (fun _ => ?_) (fun z => absurd z (by omega))
  rw [s2, s1, nI_clamp (show no < 2 ^ 31 by omega), nI_clamp (show no + 1 < 2 ^ 31 by omega), h13, h13']
  refine ⟨pk_in no 16 (by omega), nm_e ⟨pk_in (no + 1) 16 (by omega), nm_e (mx_b_br (fun z => ?_) (fun z => ⟨pk_in j 16 (by omega), mx_needLeft hE hp h1 h2 ?_⟩))⟩⟩
  · exact key false (by rw [z]; rfl)
  · rw [nI_clamp (show j < 2 ^ 31 by omega), o1]
    refine pk_lt x.1 (mx_nl K V (T p)) (fun w => key false ?_) (fun w => ⟨pk_in N 16 (by omega), mx_needRight hE hp h1 h2 ?_⟩)
    · rw [z, Bool.true_and]
      unfold mx_ok2
      rw [decide_eq_false (show ¬ mx_nl K V (T p) ≤ x.1 by omega)]
      rfl
    · rw [nI_clamp (show N < 2 ^ 31 by omega), q1]
      refine pk_lt y.1 (mx_nr K V (T p)) (fun v => key false ?_) (fun v => key true ?_)
      · rw [z, Bool.true_and]
        unfold mx_ok2
        rw [decide_eq_true w, decide_eq_false (show ¬ mx_nr K V (T p) ≤ y.1 by omega)]
        rfl
      · rw [z, Bool.true_and]
        unfold mx_ok2
        rw [decide_eq_true w, decide_eq_true v]
        rfl
end
end
section
/-! the walk: applyWaiting, begin, closeBracket, goOn, readAll -/
section
variable {K V M T : Nat → Nat} {c : Nat} {f0 f1 f2 f3 f4 f5 : Int32} {a1 a2 a3 a4 a5 a6 a7 a8 a9 a10 a11 a12 a13 a14 : Nat → Int32}
theorem mx_aw {post : St1 → Prop} {k : Option Nat} {kI : Int32} {e : Nat} (hE : mx_En K V M T c f0 a1 a2 a3 a4) (hk : (k = none ∧ kI = -1) ∨ ∃ m, k = some m ∧ m < 5 ∧ kI = nI m) (he : e ≤ c) :
    ∀ (fr : List mx_F) (x : mx_C) (s : Nat) (o : Bool) (i : Nat) (f1 f2 f3 f4 f5 : Int32) (a5 a6 a7 a8 a9 a10 a11 a12 a13 a14 : Nat → Int32), mx_W K V T c e fr x s o f1 f2 f3 f4 a5 a6 a7 a8 a9 a10 a11 a12 a13 a14 → i + fr.length ≤ 15 →
      (∀ (f1 f2 f3 f4 f5 : Int32) (a5 a6 a7 a8 a9 a10 a11 a12 a13 a14 : Nat → Int32), mx_W K V T c e (mx_col K V M k fr x s o).1 (mx_col K V M k fr x s o).2.1 (mx_col K V M k fr x s o).2.2.1 (mx_col K V M k fr x s o).2.2.2 f1 f2 f3 f4 a5 a6 a7 a8 a9 a10 a11 a12 a13 a14 → post (f0, f1, f2, f3, f4, f5, a1, a2, a3, a4, a5, a6, a7, a8, a9, a10, a11, a12, a13, a14)) →
      wX_applyWaiting_2 post kI (fr.length + 1) (nI i) f0 f1 f2 f3 f4 f5 a1 a2 a3 a4 a5 a6 a7 a8 a9 a10 a11 a12 a13 a14 := by
  have hE' := hE
  obtain ⟨e0, ec, e1, e2, e3, e4⟩ := hE'
  intro fr
  induction fr with
  | nil =>
    intro x s o i f1 f2 f3 f4 f5 a5 a6 a7 a8 a9 a10 a11 a12 a13 a14 hW hi H
    have P := H f1 f2 f3 f4 f5 a5 a6 a7 a8 a9 a10 a11 a12 a13 a14 (by rw [mx_col_0]; exact hW)
    obtain ⟨N, no, nw, f, G, w1, w2, w3, w4, w5, w6, w7, w8, w9, w10⟩ := hW
    obtain ⟨z1, z2, z3⟩ := w8
    exact br_c (fun _ => P) (fun _ => br_t (by rw [w3, z3]; decide) P)
  | cons g fs ih =>
    obtain ⟨t, p, l⟩ := g
    intro x s o i f1 f2 f3 f4 f5 a5 a6 a7 a8 a9 a10 a11 a12 a13 a14 hW hi H
    have hlen : i + (fs.length + 1) ≤ 15 := hi
    have hW' := hW
    obtain ⟨N, no, nw, f, G, w1, w2, w3, w4, w5, w6, w7, w8, w9, w10⟩ := hW
    have hno := (mx_S_len _ _ _ _ _ w8).2
    have cm : f = p + 1 ∧ t = T p ∧ (t = 18 ∨ (10 ≤ t ∧ t < 18)) ∧ ∃ nw', nw = nw' + 1 ∧ a14 nw' = nI p := by
      cases l with
      | none =>
        obtain ⟨b1, b2, b3, nw', b4, b5, b6⟩ := w8
        refine ⟨b1, b2, ?_, nw', b4, b5⟩
        rcases b3 with b3 | b3
        · exact Or.inl b3
        · exact Or.inr ⟨b3.1, b3.2.1⟩
      | some a =>
        obtain ⟨b1, b2, b3, nw', no', j, f', b4, b5, b6⟩ := w8
        exact ⟨b1, b2, Or.inr ⟨b3.1, b3.2.1⟩, nw', b4, b5⟩
    obtain ⟨c1, c2, c3, nw', c4, c5⟩ := cm
    have hSp := w7.2.2.2.2.2.2.2.1
    have hSp1 := hSp.1
    have hpc : p < c := by omega
    have g4 := (e4 p hpc).2
    have gT := (e4 p hpc).1
    subst c2
    subst w1
    subst w2
    subst w3
    subst w4
    subst c4
    have stop : mx_col K V M k ((T p, p, l) :: fs) x s o = ((T p, p, l) :: fs, x, s, o) → post (f0, nI (N + 1), nI (no + 1), nI (nw' + 1), mx_b o, f5, a1, a2, a3, a4, a5, a6, a7, a8, a9, a10, a11, a12, a13, a14) := by
      intro q
      refine H _ _ _ _ _ a5 a6 a7 a8 a9 a10 a11 a12 a13 a14 ?_
      rw [q]
      exact hW'
    have go : T p ≠ 18 → mx_tk K V k (T p) = true → wX_applyWaiting_61 post (wX_applyWaiting_2 post kI (fs.length + 1)) kI (nI i) (nI p) f0 (nI (N + 1)) (nI (no + 1)) (nI (nw' + 1)) (mx_b o) f5 a1 a2 a3 a4 a5 a6 a7 a8 a9 a10 a11 a12 a13 a14 := by
      intro ht htk
      have ho : 10 ≤ T p ∧ T p < 18 := by
        rcases c3 with c3 | c3
        · exact absurd c3 ht
        · exact c3
      unfold wX_applyWaiting_61 wX_applyWaiting_66
      refine br_f (by decide) (nm_r (nI_pred nw') ?_)
      cases l with
      | none =>
        obtain ⟨b1, b2, b3, nw2, b4, b5, b6⟩ := w8
        have b4 : nw2 = nw' := by omega
        subst b4
        have hkd : 3 ≤ mx_kd K V (T p) := by
          rcases b3 with b3 | b3
          · exact absurd b3 ht
          · exact b3.2.2
        refine mx_apply1 hE hpc ho.1 ho.2 hkd (by omega) (by omega) w6 w7 ?_
        dsimp only
        refine nm_r (nI_1 i) (ih (mx_ap1 V M (T p) p x) (s + mx_sa x (mx_lv V (T p))) (o && mx_ok1 V (T p) x) (i + 1) _ _ _ _ _ _ _ _ _ _ _ _ _ _ _ (mx_W1 (fun j hj => (e2 j hj).1) ec hpc ho.1 ho.2 hkd (by omega) w7 b6 w9 w10 (by omega) (by omega) he (Or.inl (by omega)) ?_) (by omega) ?_)
        · subst c1
          exact mx_Sp_pre (by omega) (by omega) hSp
        · intro f1 f2 f3 f4 f5 a5 a6 a7 a8 a9 a10 a11 a12 a13 a14 hw
          refine H f1 f2 f3 f4 f5 a5 a6 a7 a8 a9 a10 a11 a12 a13 a14 ?_
          rw [mx_col_1 ht htk]
          exact hw
      | some a =>
        obtain ⟨b1, b2, b3, nw2, no', j, f', b4, b5, b6, b7, b8, b9, b10⟩ := w8
        have b4 : nw2 = nw' := by omega
        subst b4
        subst b6
        subst c1
        refine mx_apply2 hE hpc ho.1 ho.2 b3.2.2 (by omega) (by omega) b7 b8 w6 b9 w7 ?_
        dsimp only
        refine nm_r (nI_1 i) (ih (mx_ap2 V M (T p) p a x) (s + (mx_sa a (mx_nl K V (T p)) + mx_sa x (mx_nr K V (T p)))) (o && mx_ok2 K V (T p) a x) (i + 1) _ _ _ _ _ _ _ _ _ _ _ _ _ _ _ (mx_W2 (fun j hj => (e2 j hj).1) ec hpc ho.1 ho.2 b3.2.2 (by omega) b7 b9 w7 b10 w9 w10) (by omega) ?_)
        intro f1 f2 f3 f4 f5 a5 a6 a7 a8 a9 a10 a11 a12 a13 a14 hw
        refine H f1 f2 f3 f4 f5 a5 a6 a7 a8 a9 a10 a11 a12 a13 a14 ?_
        rw [mx_col_2 ht htk]
        exact hw
    show wX_applyWaiting_2 post kI (fs.length + 1 + 1) (nI i) f0 (nI (N + 1)) (nI (no + 1)) (nI (nw' + 1)) (mx_b o) f5 a1 a2 a3 a4 a5 a6 a7 a8 a9 a10 a11 a12 a13 a14
    refine pk_le 15 i (fun z => absurd z (by omega)) (fun _ => pk_le (nw' + 1) 0 (fun z => absurd z (by omega)) (fun _ => ⟨pk_in nw' 16 (by omega) (nI_pred nw'), ?_⟩))
    rw [nI_pred nw', nI_clamp (show nw' < 2 ^ 31 by omega), c5, nI_clamp (show p < 2 ^ 31 by omega), g4]
    refine ⟨pk_in p 16 (by omega), pk_eq (T p) 18 (fun z => stop (mx_col_18 z)) (fun z => ⟨pk_in nw' 16 (by omega), nm_e ?_⟩)⟩
    rcases hk with ⟨hk1, hk2⟩ | ⟨m, hk1, hk2, hk3⟩
    · exact br_t (by rw [hk2]; decide) (go z (by rw [hk1]; rfl))
    · have ho : 10 ≤ T p ∧ T p < 18 := by
        rcases c3 with c3 | c3
        · exact absurd c3 z
        · exact c3
      have tf : ∀ {post' : Int32 → Prop}, post' (mx_b (mx_tk K V k (T p))) → wpX_takesFirst post' (f0, nI (N + 1), nI (no + 1), nI (nw' + 1), mx_b o, f5, a1, a2, a3, a4, a5, a6, a7, a8, a9, a10, a11, a12, a13, a14) (nI p) kI := by
        intro post' h
        rw [hk3]
        rw [hk1] at h
        exact mx_takesFirst hE hpc ho.1 ho.2 hk2 h
      refine br_f (by rw [hk3]; exact nI_pos (by omega)) (tf (mx_b_br (fun y => ?_) (fun y => go z y)))
      exact br_t rfl (stop (mx_col_k z (by rw [y]; decide)))
theorem mx_col_hd {k : Option Nat} (hk : k = none) : ∀ (fr : List mx_F) (x : mx_C) (s : Nat) (o : Bool), (mx_col K V M k fr x s o).1 = [] ∨ ∃ p l fs, (mx_col K V M k fr x s o).1 = (18, p, l) :: fs := by
  intro fr
  induction fr with
  | nil => intro x s o; rw [mx_col_0]; exact Or.inl rfl
  | cons g fs ih =>
    obtain ⟨t, p, l⟩ := g
    intro x s o
    by_cases h1 : t = 18
    · rw [mx_col_18 h1, h1]
      exact Or.inr ⟨p, l, fs, rfl⟩
    · have h2 : mx_tk K V k t = true := by rw [hk]; rfl
      cases l with
      | none => rw [mx_col_1 h1 h2]; exact ih _ _ _
      | some a => rw [mx_col_2 h1 h2]; exact ih _ _ _
theorem mx_begin {post : Int32 → St1 → Prop} {i s : Nat} {fr : List mx_F} (hE : mx_En K V M T c f0 a1 a2 a3 a4) (hi : i < c) (hZ : mx_Z K V T c i fr s true f1 f2 f3 f4 a5 a6 a7 a8 a9 a10 a11 a12 a13 a14)
    (H : ∀ (r : Int32) (f1 f2 f3 f4 f5 : Int32) (a5 a6 a7 a8 a9 a10 a11 a12 a13 a14 : Nat → Int32), mx_St K V T c (mx_stp K V M (T i) i (fr, none, s)) (i + 1) r f1 f2 f3 f4 a5 a6 a7 a8 a9 a10 a11 a12 a13 a14 → post r (f0, f1, f2, f3, f4, f5, a1, a2, a3, a4, a5, a6, a7, a8, a9, a10, a11, a12, a13, a14)) : wpX_begin post (f0, f1, f2, f3, f4, f5, a1, a2, a3, a4, a5, a6, a7, a8, a9, a10, a11, a12, a13, a14) (nI i) := by
  have hE' := hE
  obtain ⟨e0, ec, e1, e2, e3, e4⟩ := hE'
  obtain ⟨N, no, nw, G, z1, z2, z3, z4, z5, z6, z7, z8⟩ := hZ
  have hno := (mx_S_len _ _ _ _ _ z6).2
  have g4 := (e4 i hi).2
  have gT := (e4 i hi).1
  subst z1
  subst z2
  subst z3
  subst z4
  unfold wpX_begin
  dsimp only
  rw [nI_clamp (show i < 2 ^ 31 by omega), g4]
  refine ⟨pk_in i 16 (by omega), nm_e (pk_le 10 (T i) (fun h10 => br_f (by decide) ?_) (fun h10 => mx_mk0 (by omega) ?_))⟩
  · have good : (T i = 18 ∨ (T i < 18 ∧ mx_kd K V (T i) = 3)) → wX_begin_61 post (nI i) f0 (nI N) (nI no) (nI nw) (mx_b true) f5 a1 a2 a3 a4 a5 a6 a7 a8 a9 a10 a11 a12 a13 a14 := by
      intro h
      unfold wX_begin_61 wX_begin_66
      rw [nI_clamp (show nw < 2 ^ 31 by omega)]
      refine ⟨rfl, rfl, pk_in nw 16 (by omega), nm_e (nm_r (nI_1 nw) (H 0 _ _ _ _ _ _ _ _ _ _ _ _ _ _ _ ?_))⟩
      rw [mx_stp_b (by omega) h]
      refine ⟨rfl, N, no, nw + 1, G, rfl, rfl, rfl, rfl, by omega, ⟨rfl, rfl, ?_, nw, rfl, pk_us, ?_⟩, z7, z8⟩
      · rcases h with h | h
        · exact Or.inl h
        · exact Or.inr ⟨h10, h.1, by omega⟩
      · exact mx_S_st fr N N i no nw (Nat.le_refl N) (fun q _ => rfl) (fun j _ => rfl) (fun j hj => pk_un (by omega)) z6
    have bad : ¬ (T i = 18 ∨ (T i < 18 ∧ mx_kd K V (T i) = 3)) → wX_begin_65 post (nI i) f0 (nI N) (nI no) (nI nw) (mx_b true) f5 a1 a2 a3 a4 a5 a6 a7 a8 a9 a10 a11 a12 a13 a14 := by
      intro h
      unfold wX_begin_65 wX_begin_66
      refine ⟨rfl, rfl, pk_in nw 16 (by omega), nm_e (nm_e (H 0 _ _ _ _ _ _ _ _ _ _ _ _ _ _ _ ?_))⟩
      rw [mx_stp_c (by omega) h]
      exact rfl
    refine pk_eq (T i) 18 (fun z => good (Or.inl z)) (fun z => mx_isOperator gT (mx_b_br (fun y => bad ?_) (fun y => ?_)))
    · have y := of_decide_eq_false y
      omega
    · have y := of_decide_eq_true y
      have hlv : mx_lv V (T i) < 5 := (e2 (T i - 10) (by omega)).1
      have hkd : mx_kd K V (T i) < 5 := (e1 _ hlv).1
      exact mx_kindAt hE hi h10 y.2 (pk_eq (mx_kd K V (T i)) 3 (fun w => good (Or.inr ⟨y.2, w⟩)) (fun w => bad (by omega)))
  · dsimp only
    unfold wpX_putOperand
    dsimp only
    rw [nI_clamp (show no < 2 ^ 31 by omega)]
    refine ⟨pk_in no 16 (by omega), nm_e (nm_r (nI_1 no) (H 1 _ _ _ _ _ _ _ _ _ _ _ _ _ _ _ ?_))⟩
    rw [mx_stp_a (by omega)]
    have hR : ∀ q, q < N → mx_r (upd a5 N (nI i)) (upd a6 N (-1)) (upd a7 N (-1)) (upd a8 N 5) (upd a9 N (nI (T i))) (upd a10 N 0) (upd a11 N (nI i)) (upd a12 N (nI i)) q = mx_r a5 a6 a7 a8 a9 a10 a11 a12 q := fun q hq => mx_r_ne' (by omega)
    obtain ⟨g1, g2⟩ := mx_N_add (K := K) (c := c) (v := 0) hR z7 z8 (Or.inl ⟨by rw [mx_r_eq'], by rw [mx_r_eq'], rfl⟩)
    refine ⟨rfl, N, no, nw, i, _, rfl, rfl, rfl, rfl, by omega, pk_us, ?_, mx_S_st fr N N i no nw (Nat.le_refl N) hR (fun j hj => pk_un (by omega)) (fun j _ => rfl) z6, g1, g2⟩
    rw [mx_r_eq']
    exact ⟨rfl, Nat.le_refl 5, rfl, rfl, rfl, rfl, hi, mx_Sp_leaf (by omega), Or.inl ⟨rfl, rfl, rfl⟩⟩
theorem mx_close {post : St1 → Prop} {i s : Nat} {fr : List mx_F} {x : mx_C} (hE : mx_En K V M T c f0 a1 a2 a3 a4) (hi : i < c) (h19 : T i = 19) (hW : mx_W K V T c i fr x s true f1 f2 f3 f4 a5 a6 a7 a8 a9 a10 a11 a12 a13 a14)
    (H : ∀ (f1 f2 f3 f4 f5 : Int32) (a5 a6 a7 a8 a9 a10 a11 a12 a13 a14 : Nat → Int32), mx_St K V T c (mx_cl (mx_col K V M none fr x s true)) (i + 1) 1 f1 f2 f3 f4 a5 a6 a7 a8 a9 a10 a11 a12 a13 a14 → post (f0, f1, f2, f3, f4, f5, a1, a2, a3, a4, a5, a6, a7, a8, a9, a10, a11, a12, a13, a14)) : wpX_closeBracket post (f0, f1, f2, f3, f4, f5, a1, a2, a3, a4, a5, a6, a7, a8, a9, a10, a11, a12, a13, a14) (nI i) := by
  have hE' := hE
  obtain ⟨e0, ec, e1, e2, e3, e4⟩ := hE'
  have hlen : fr.length ≤ 15 := by
    obtain ⟨N, no, nw, f, G, w1, w2, w3, w4, w5, w6, w7, w8, w9, w10⟩ := hW
    have := (mx_S_len _ _ _ _ _ w8).1
    omega
  unfold wpX_closeBracket
  dsimp only
  unfold wpX_applyWaiting
  dsimp only
  refine ⟨fr.length + 1, mx_aw hE (k := none) (Or.inl ⟨rfl, rfl⟩) (Nat.le_of_lt hi) fr x s true 0 f1 f2 f3 f4 f5 a5 a6 a7 a8 a9 a10 a11 a12 a13 a14 hW (by omega) ?_⟩
  clear hW
  intro f1 f2 f3 f4 f5 a5 a6 a7 a8 a9 a10 a11 a12 a13 a14 hw
  dsimp only
  have hd := mx_col_hd (K := K) (V := V) (M := M) rfl fr x s true
  generalize mx_col K V M none fr x s true = g at hw H hd
  obtain ⟨l, y, s', o'⟩ := g
  obtain ⟨N, no, nw, f, G, w1, w2, w3, w4, w5, w6, w7, w8, w9, w10⟩ := hw
  have hno := (mx_S_len _ _ _ _ _ w8).2
  subst w1
  subst w2
  subst w3
  subst w4
  rcases hd with hd | ⟨p, l', fs, hd⟩
  · have hd : l = [] := hd
    subst hd
    obtain ⟨q1, q2, q3⟩ := w8
    refine br_t (by rw [q3]; rfl) (H _ _ _ _ _ _ _ _ _ _ _ _ _ _ _ ?_)
    exact rfl
  · have hd : l = (18, p, l') :: fs := hd
    subst hd
    cases l' with
    | some a =>
      obtain ⟨b1, b2, b3, b4⟩ := w8
      exact absurd b3.2.1 (by omega)
    | none =>
      obtain ⟨b1, b2, b3, nw', b4, b5, b6⟩ := w8
      subst b4
      have hSp := w7.2.2.2.2.2.2.2.1
      have hSp1 := hSp.1
      refine br_f (nI_ne0 (by omega) (by omega)) (nm_r (nI_pred nw') ?_)
      rw [nI_pred no, nI_clamp (show no < 2 ^ 31 by omega), w6]
      have hN : vp_in (nI N) 16 := pk_in N 16 (by omega)
      refine ⟨pk_in no 16 (by omega), nm_e ?_⟩
      rw [nI_clamp (show N < 2 ^ 31 by omega), nI_clamp (show nw' < 2 ^ 31 by omega), b5]
      refine ⟨hN, hN, nm_e ⟨hN, nm_e ⟨pk_in nw' 16 (by omega), hN, nm_e ⟨hN, nm_e (H _ _ _ _ _ _ _ _ _ _ _ _ _ _ _ ?_)⟩⟩⟩⟩
      show mx_St K V T c (mx_cl ((18, p, none) :: fs, y, s', o')) (i + 1) 1 _ _ _ _ _ _ _ _ _ _ _ _ _ _
      cases o' with
      | false => exact rfl
      | true =>
        have hR : ∀ q, q ≠ N → mx_r a5 a6 a7 (upd a8 N 5) a9 (upd a10 N (a10 N + 1)) (upd a11 N (nI p)) (upd a12 N (nI i)) q = mx_r a5 a6 a7 a8 a9 a10 a11 a12 q := by
          intro q hq
          unfold mx_r
          rw [pk_un hq, pk_un hq, pk_un hq, pk_un hq]
        obtain ⟨u1, u2, u3, u4, u5, u6, u7, u8, u9⟩ := w7
        refine ⟨rfl, N, no, nw', p, G, rfl, rfl, rfl, rfl, by omega, w6, ?_, mx_S_st fs N N p no nw' (Nat.le_refl N) (fun q hq => hR q (by omega)) (fun j _ => rfl) (fun j _ => rfl) b6, fun n hn => ?_, w10⟩
        · subst b1
          refine ⟨pk_us, Nat.le_refl 5, u3, ?_, pk_us, pk_us, hi, mx_Sp_brk b2.symm h19 hSp, u9⟩
          show upd a10 N (a10 N + 1) N = nI (y.2.2.1 + 1)
          rw [pk_us, show a10 N = nI y.2.2.1 from u4, nI_1]
        · exact mx_N_st (R := mx_r a5 a6 a7 a8 a9 a10 a11 a12) rfl rfl rfl (fun q hq => hR q (by omega)) (w9 n hn)
theorem mx_goOn {post : Int32 → St1 → Prop} {i s : Nat} {fr : List mx_F} {x : mx_C} (hE : mx_En K V M T c f0 a1 a2 a3 a4) (hi : i < c) (hW : mx_W K V T c i fr x s true f1 f2 f3 f4 a5 a6 a7 a8 a9 a10 a11 a12 a13 a14)
    (H : ∀ (r : Int32) (f1 f2 f3 f4 f5 : Int32) (a5 a6 a7 a8 a9 a10 a11 a12 a13 a14 : Nat → Int32), mx_St K V T c (mx_stp K V M (T i) i (fr, some x, s)) (i + 1) r f1 f2 f3 f4 a5 a6 a7 a8 a9 a10 a11 a12 a13 a14 → post r (f0, f1, f2, f3, f4, f5, a1, a2, a3, a4, a5, a6, a7, a8, a9, a10, a11, a12, a13, a14)) : wpX_goOn post (f0, f1, f2, f3, f4, f5, a1, a2, a3, a4, a5, a6, a7, a8, a9, a10, a11, a12, a13, a14) (nI i) := by
  have hE' := hE
  obtain ⟨e0, ec, e1, e2, e3, e4⟩ := hE'
  have g4 := (e4 i hi).2
  have gT := (e4 i hi).1
  have hlen : fr.length ≤ 15 := by
    obtain ⟨N, no, nw, f, G, w1, w2, w3, w4, w5, w6, w7, w8, w9, w10⟩ := hW
    have := (mx_S_len _ _ _ _ _ w8).1
    omega
  unfold wpX_goOn
  dsimp only
  rw [nI_clamp (show i < 2 ^ 31 by omega), g4]
  refine ⟨pk_in i 16 (by omega), nm_e (pk_eq (T i) 19 (fun z => ?_) (fun z => mx_isOperator gT (mx_b_br (fun y => ?_) (fun y => ?_))))⟩
  · refine mx_close hE hi z hW (fun f1 f2 f3 f4 f5 a5 a6 a7 a8 a9 a10 a11 a12 a13 a14 hst => ?_)
    refine H 1 f1 f2 f3 f4 f5 a5 a6 a7 a8 a9 a10 a11 a12 a13 a14 ?_
    rw [mx_stp_d z]
    exact hst
  · have y := of_decide_eq_false y
    refine H 1 _ _ _ _ _ _ _ _ _ _ _ _ _ _ _ ?_
    rw [mx_stp_e z (by omega)]
    exact rfl
  · have y := of_decide_eq_true y
    have hlv : mx_lv V (T i) < 5 := (e2 (T i - 10) (by omega)).1
    have hkd : mx_kd K V (T i) < 5 := (e1 _ hlv).1
    refine mx_kindAt hE hi y.1 y.2 (pk_eq (mx_kd K V (T i)) 3 (fun w => ?_) (fun w => mx_levelAt hE hi y.1 y.2 ?_))
    · refine H 1 _ _ _ _ _ _ _ _ _ _ _ _ _ _ _ ?_
      rw [mx_stp_e z (by omega)]
      exact rfl
    · unfold wpX_applyWaiting
      dsimp only
      refine ⟨fr.length + 1, mx_aw hE (k := some (mx_lv V (T i))) (Or.inr ⟨_, rfl, hlv, rfl⟩) (Nat.le_of_lt hi) fr x s true 0 f1 f2 f3 f4 f5 a5 a6 a7 a8 a9 a10 a11 a12 a13 a14 hW (by omega) ?_⟩
      clear hW
      intro f1 f2 f3 f4 f5 a5 a6 a7 a8 a9 a10 a11 a12 a13 a14 hw
      dsimp only
      rw [mx_stp_f z (by omega)] at H
      generalize mx_col K V M (some (mx_lv V (T i))) fr x s true = g at hw H
      obtain ⟨l, y', s', o'⟩ := g
      obtain ⟨N, no, nw, f, G, w1, w2, w3, w4, w5, w6, w7, w8, w9, w10⟩ := hw
      have hno := (mx_S_len _ _ _ _ _ w8).2
      have hSp := w7.2.2.2.2.2.2.2.1
      have hSp1 := hSp.1
      subst w1
      subst w2
      subst w3
      subst w4
      refine mx_kindAt hE hi y.1 y.2 (pk_eq (mx_kd K V (T i)) 4 (fun v => ?_) (fun v => ?_))
      · refine mx_apply1 hE hi y.1 y.2 (by omega) (by omega) (by omega) w6 w7 ?_
        dsimp only
        refine H 1 _ _ _ _ _ _ _ _ _ _ _ _ _ _ _ ?_
        unfold mx_go
        rw [if_pos v]
        dsimp only
        cases hb : (o' && mx_ok1 V (T i) y') with
        | false => exact rfl
        | true => exact ⟨rfl, mx_W1 (fun j hj => (e2 j hj).1) ec hi y.1 y.2 (by omega) (by omega) w7 w8 w9 w10 (by omega) (by omega) hi (Or.inr (Nat.le_refl i)) (mx_Sp_beh (by omega) (by omega) hSp)⟩
      · rw [nI_clamp (show nw < 2 ^ 31 by omega)]
        refine ⟨pk_in nw 16 (by omega), nm_e (nm_r (nI_1 nw) (H 0 _ _ _ _ _ _ _ _ _ _ _ _ _ _ _ ?_))⟩
        unfold mx_go
        rw [if_neg v]
        dsimp only
        cases o' with
        | false => exact rfl
        | true =>
          refine ⟨rfl, N + 1, no + 1, nw + 1, G, rfl, rfl, rfl, rfl, by omega, ⟨rfl, rfl, ⟨y.1, y.2, by omega⟩, nw, no, N, f, rfl, pk_us, rfl, by omega, w6, w7, ?_⟩, w9, w10⟩
          exact mx_S_st l N N f no nw (Nat.le_refl N) (fun q _ => rfl) (fun j _ => rfl) (fun j hj => pk_un (by omega)) w8
theorem mx_ex0 {post : Int32 → St1 → Prop} {r : Int32} (h4 : f4 = 0) (hn : mx_rd K V M T c = none) (H : ∀ (r : Int32) (f1 f2 f3 f4 f5 : Int32) (a5 a6 a7 a8 a9 a10 a11 a12 a13 a14 : Nat → Int32), mx_Dn K V T c (mx_rd K V M T c) r f1 f5 a5 a6 a7 a8 a9 a10 a11 a12 → post r (f0, f1, f2, f3, f4, f5, a1, a2, a3, a4, a5, a6, a7, a8, a9, a10, a11, a12, a13, a14)) : wX_readAll_74 post r f0 f1 f2 f3 f4 f5 a1 a2 a3 a4 a5 a6 a7 a8 a9 a10 a11 a12 a13 a14 := by
  refine br_t h4 ⟨rfl, rfl, br_t rfl ⟨rfl, H 0 _ _ _ _ _ _ _ _ _ _ _ _ _ _ _ ?_⟩⟩
  rw [hn]
  exact rfl
theorem mx_ex {post : Int32 → St1 → Prop} {r : Int32} (hE : mx_En K V M T c f0 a1 a2 a3 a4) (hS : mx_St K V T c (mx_run K V M T c) c r f1 f2 f3 f4 a5 a6 a7 a8 a9 a10 a11 a12 a13 a14) (H : ∀ (r : Int32) (f1 f2 f3 f4 f5 : Int32) (a5 a6 a7 a8 a9 a10 a11 a12 a13 a14 : Nat → Int32), mx_Dn K V T c (mx_rd K V M T c) r f1 f5 a5 a6 a7 a8 a9 a10 a11 a12 → post r (f0, f1, f2, f3, f4, f5, a1, a2, a3, a4, a5, a6, a7, a8, a9, a10, a11, a12, a13, a14)) : wX_readAll_74 post r f0 f1 f2 f3 f4 f5 a1 a2 a3 a4 a5 a6 a7 a8 a9 a10 a11 a12 a13 a14 := by
  have hE' := hE
  obtain ⟨e0, ec, e1, e2, e3, e4⟩ := hE'
  cases hr : mx_run K V M T c with
  | none =>
    rw [hr] at hS
    exact mx_ex0 hS (by unfold mx_rd; rw [hr]; rfl) H
  | some A =>
    rw [hr] at hS
    obtain ⟨fr, cur, s⟩ := A
    cases cur with
    | none =>
      obtain ⟨h0, N, no, nw, G, z1, z2, z3, z4, z5⟩ := hS
      refine br_f (by rw [z4]; decide) (br_t h0 ⟨rfl, rfl, br_t rfl ⟨rfl, H 0 _ _ _ _ _ _ _ _ _ _ _ _ _ _ _ ?_⟩⟩)
      unfold mx_rd
      rw [hr]
      exact rfl
    | some x =>
      obtain ⟨h0, hW⟩ := hS
      have hlen : fr.length ≤ 15 := by
        obtain ⟨N, no, nw, f, G, w1, w2, w3, w4, w5, w6, w7, w8, w9, w10⟩ := hW
        have := (mx_S_len _ _ _ _ _ w8).1
        omega
      have h4 : f4 = 1 := by
        obtain ⟨N, no, nw, f, G, w1, w2, w3, w4, w5⟩ := hW
        rw [w4]
        rfl
      have hrd : mx_rd K V M T c = mx_fe (mx_col K V M none fr x s true) := by
        unfold mx_rd
        rw [hr]
        rfl
      rw [hrd] at H
      subst h4
      refine br_f (by decide) (br_f (by rw [h0]; decide) ⟨rfl, rfl, br_f (by decide) ?_⟩)
      unfold wpX_applyWaiting
      dsimp only
      refine ⟨fr.length + 1, mx_aw hE (k := none) (Or.inl ⟨rfl, rfl⟩) (Nat.le_refl c) fr x s true 0 f1 f2 f3 1 f5 a5 a6 a7 a8 a9 a10 a11 a12 a13 a14 hW (by omega) ?_⟩
      clear hW
      intro f1 f2 f3 f4 f5 a5 a6 a7 a8 a9 a10 a11 a12 a13 a14 hw
      dsimp only
      generalize mx_col K V M none fr x s true = g at hw H
      obtain ⟨l, y, s', o'⟩ := g
      obtain ⟨N, no, nw, f, G, w1, w2, w3, w4, w5, w6, w7, w8, w9, w10⟩ := hw
      have hlen2 := (mx_S_len _ _ _ _ _ w8).1
      have hlen2 : l.length = nw := hlen2
      subst w1
      subst w2
      subst w3
      subst w4
      have bad : mx_fe (l, y, s', o') = none → wX_readAll_125 post f0 (nI (N + 1)) (nI (no + 1)) (nI nw) (mx_b o') f5 a1 a2 a3 a4 a5 a6 a7 a8 a9 a10 a11 a12 a13 a14 := fun q => ⟨rfl, rfl, nm_e ⟨rfl, H 0 _ _ _ _ _ _ _ _ _ _ _ _ _ _ _ (by rw [q]; exact rfl)⟩⟩
      cases o' with
      | false =>
        refine br_t rfl (bad ?_)
        cases l with
        | nil => rfl
        | cons a b => rfl
      | true =>
        refine br_f (show ¬ mx_b true = 0 by decide) ?_
        cases l with
        | nil =>
          obtain ⟨q1, q2, q3⟩ := w8
          refine br_t (by rw [q3]; rfl) ⟨rfl, rfl, nm_e ⟨rfl, H 1 _ _ _ _ _ _ _ _ _ _ _ _ _ _ _ ?_⟩⟩
          subst q1
          subst q2
          exact ⟨rfl, N, G, rfl, w6, by omega, w7, w9, w10⟩
        | cons a b =>
          have hlen2 : b.length + 1 = nw := hlen2
          exact br_f (nI_ne0 (by omega) (by omega)) (bad rfl)
theorem mx_ra {post : Int32 → St1 → Prop} (hE : mx_En K V M T c f0 a1 a2 a3 a4) (H : ∀ (r : Int32) (f1 f2 f3 f4 f5 : Int32) (a5 a6 a7 a8 a9 a10 a11 a12 a13 a14 : Nat → Int32), mx_Dn K V T c (mx_rd K V M T c) r f1 f5 a5 a6 a7 a8 a9 a10 a11 a12 → post r (f0, f1, f2, f3, f4, f5, a1, a2, a3, a4, a5, a6, a7, a8, a9, a10, a11, a12, a13, a14)) :
    ∀ (d i : Nat) (r : Int32) (f1 f2 f3 f4 f5 : Int32) (a5 a6 a7 a8 a9 a10 a11 a12 a13 a14 : Nat → Int32), i + d = c → mx_St K V T c (mx_run K V M T i) i r f1 f2 f3 f4 a5 a6 a7 a8 a9 a10 a11 a12 a13 a14 → wX_readAll_35 post (d + 1) r (nI i) f0 f1 f2 f3 f4 f5 a1 a2 a3 a4 a5 a6 a7 a8 a9 a10 a11 a12 a13 a14 := by
  have hE' := hE
  obtain ⟨e0, ec, e1, e2, e3, e4⟩ := hE'
  intro d
  induction d with
  | zero =>
    intro i r f1 f2 f3 f4 f5 a5 a6 a7 a8 a9 a10 a11 a12 a13 a14 hi hS
    have hi : i = c := hi
    subst hi
    exact br_t (by rw [e0]; exact nI_le (Nat.le_refl _) (by omega)) (mx_ex hE hS H)
  | succ d ih =>
    intro i r f1 f2 f3 f4 f5 a5 a6 a7 a8 a9 a10 a11 a12 a13 a14 hi hS
    refine pk_le c i (fun z => absurd z (by omega)) (fun _ => ?_) e0
    cases hr : mx_run K V M T i with
    | none =>
      rw [hr] at hS
      refine br_t hS (mx_ex0 hS ?_ H)
      have := mx_run_none hr (d + 1)
      rw [hi] at this
      unfold mx_rd
      rw [this]
      rfl
    | some A =>
      rw [hr] at hS
      obtain ⟨fr, cur, s⟩ := A
      cases cur with
      | none =>
        obtain ⟨h0, hZ⟩ := hS
        have h4 : f4 = mx_b true := by
          obtain ⟨N, no, nw, G, z1, z2, z3, z4, z5⟩ := hZ
          exact z4
        refine br_f (by rw [h4]; decide) (br_t h0 (mx_begin hE (by omega) hZ (fun r' f1 f2 f3 f4 f5 a5 a6 a7 a8 a9 a10 a11 a12 a13 a14 hst => ?_)))
        refine nm_r (nI_1 i) (ih (i + 1) r' f1 f2 f3 f4 f5 a5 a6 a7 a8 a9 a10 a11 a12 a13 a14 (by omega) ?_)
        rw [mx_run_s hr]
        exact hst
      | some x =>
        obtain ⟨h0, hW⟩ := hS
        have h4 : f4 = mx_b true := by
          obtain ⟨N, no, nw, f, G, w1, w2, w3, w4, w5⟩ := hW
          exact w4
        refine br_f (by rw [h4]; decide) (br_f (by rw [h0]; decide) (mx_goOn hE (by omega) hW (fun r' f1 f2 f3 f4 f5 a5 a6 a7 a8 a9 a10 a11 a12 a13 a14 hst => ?_)))
        refine nm_r (nI_1 i) (ih (i + 1) r' f1 f2 f3 f4 f5 a5 a6 a7 a8 a9 a10 a11 a12 a13 a14 (by omega) ?_)
        rw [mx_run_s hr]
        exact hst
theorem mx_readAll {post : Int32 → St1 → Prop} (hE : mx_En K V M T c f0 a1 a2 a3 a4) (H : ∀ (r : Int32) (f1 f2 f3 f4 f5 : Int32) (a5 a6 a7 a8 a9 a10 a11 a12 a13 a14 : Nat → Int32), mx_Dn K V T c (mx_rd K V M T c) r f1 f5 a5 a6 a7 a8 a9 a10 a11 a12 → post r (f0, f1, f2, f3, f4, f5, a1, a2, a3, a4, a5, a6, a7, a8, a9, a10, a11, a12, a13, a14)) : wpX_readAll post (f0, f1, f2, f3, f4, f5, a1, a2, a3, a4, a5, a6, a7, a8, a9, a10, a11, a12, a13, a14) := by
  have hE' := hE
  obtain ⟨e0, ec, e1, e2, e3, e4⟩ := hE'
  unfold wpX_readAll
  dsimp only
  by_cases h : c = 0
  · subst h
    refine br_t (by rw [e0]; decide) ⟨1, br_t (by rw [e0]; decide) (mx_ex0 rfl rfl H)⟩
  · refine br_f (by rw [e0]; exact nI_nle (by omega) (by omega)) ⟨c + 1, mx_ra hE H c 0 0 0 0 0 1 f5 a5 a6 a7 a8 a9 a10 a11 a12 a13 a14 (by omega) ⟨rfl, 0, 0, 0, fun _ => 0, rfl, rfl, rfl, rfl, by omega, ⟨rfl, rfl, rfl⟩, fun n hn => absurd hn (by omega), rfl⟩⟩
end
end
section
/-! the questions -/
def mx_qs : Option (mx_C × Nat) → Int32
  | none => -4
  | some y => nI y.1.1
def mx_qv : Option (mx_C × Nat) → Int32
  | none => 0
  | some y => y.1.2.1
def mx_qp : Option (mx_C × Nat) → Int32
  | none => -4
  | some y => nI (y.1.2.2.1 + y.2)
def mx_qo : Option Nat → Int32
  | none => -4
  | some r => nI r
def mx_qr : Option (mx_C × Nat) → Int32
  | none => -4
  | some y => mx_qo y.1.2.2.2.2
section
variable {K V M T : Nat → Nat} {c : Nat} {f0 f1 f2 f3 f4 f5 : Int32} {a1 a2 a3 a4 a5 a6 a7 a8 a9 a10 a11 a12 a13 a14 : Nat → Int32}
theorem mx_reads {post : Int32 → St1 → Prop} (hE : mx_En K V M T c f0 a1 a2 a3 a4)
    (H : ∀ (f1 f2 f3 f4 f5 : Int32) (a5 a6 a7 a8 a9 a10 a11 a12 a13 a14 : Nat → Int32), (∀ x s, mx_rd K V M T c = some (x, s) → x.1 ≤ 5 ∧ mx_Sp T 0 c x.2.2.1 x.2.2.2.2) → post (mx_b (mx_rd K V M T c).isSome) (f0, f1, f2, f3, f4, f5, a1, a2, a3, a4, a5, a6, a7, a8, a9, a10, a11, a12, a13, a14)) : wpX_reads post (f0, f1, f2, f3, f4, f5, a1, a2, a3, a4, a5, a6, a7, a8, a9, a10, a11, a12, a13, a14) := by
  unfold wpX_reads
  dsimp only
  refine mx_readAll hE (fun r f1 f2 f3 f4 f5 a5 a6 a7 a8 a9 a10 a11 a12 a13 a14 hd => ?_)
  dsimp only
  cases hr : mx_rd K V M T c with
  | none =>
    rw [hr] at hd H
    have hd : r = 0 := hd
    subst hd
    exact ⟨rfl, H f1 f2 f3 f4 f5 a5 a6 a7 a8 a9 a10 a11 a12 a13 a14 (fun x s h => by cases h)⟩
  | some A =>
    obtain ⟨x, s⟩ := A
    rw [hr] at hd H
    obtain ⟨h1, N, G, h2, h3, h4, h5, h6⟩ := hd
    subst h1
    refine ⟨rfl, H f1 f2 f3 f4 f5 a5 a6 a7 a8 a9 a10 a11 a12 a13 a14 (fun y z h => ?_)⟩
    cases h
    exact ⟨h5.2.1, h5.2.2.2.2.2.2.2.1⟩
theorem mx_strength {post : Int32 → St1 → Prop} (hE : mx_En K V M T c f0 a1 a2 a3 a4) (H : ∀ (f1 f2 f3 f4 f5 : Int32) (a5 a6 a7 a8 a9 a10 a11 a12 a13 a14 : Nat → Int32), post (mx_qs (mx_rd K V M T c)) (f0, f1, f2, f3, f4, f5, a1, a2, a3, a4, a5, a6, a7, a8, a9, a10, a11, a12, a13, a14)) : wpX_strength post (f0, f1, f2, f3, f4, f5, a1, a2, a3, a4, a5, a6, a7, a8, a9, a10, a11, a12, a13, a14) := by
  unfold wpX_strength
  dsimp only
  refine mx_readAll hE (fun r f1 f2 f3 f4 f5 a5 a6 a7 a8 a9 a10 a11 a12 a13 a14 hd => ?_)
  dsimp only
  cases hr : mx_rd K V M T c with
  | none =>
    rw [hr] at hd H
    exact br_t hd (H f1 f2 f3 f4 f5 a5 a6 a7 a8 a9 a10 a11 a12 a13 a14)
  | some A =>
    obtain ⟨x, s⟩ := A
    rw [hr] at hd H
    obtain ⟨h1, N, G, h2, h3, h4, h5, h6⟩ := hd
    subst h1
    subst h3
    refine br_f (by decide) ⟨pk_in N 16 (by omega), ?_⟩
    rw [nI_clamp (show N < 2 ^ 31 by omega), show a8 N = nI x.1 from h5.1]
    exact H f1 f2 f3 f4 (nI N) a5 a6 a7 a8 a9 a10 a11 a12 a13 a14
theorem mx_value {post : Int32 → St1 → Prop} (hE : mx_En K V M T c f0 a1 a2 a3 a4) (H : ∀ (f1 f2 f3 f4 f5 : Int32) (a5 a6 a7 a8 a9 a10 a11 a12 a13 a14 : Nat → Int32), post (mx_qv (mx_rd K V M T c)) (f0, f1, f2, f3, f4, f5, a1, a2, a3, a4, a5, a6, a7, a8, a9, a10, a11, a12, a13, a14)) : wpX_value post (f0, f1, f2, f3, f4, f5, a1, a2, a3, a4, a5, a6, a7, a8, a9, a10, a11, a12, a13, a14) := by
  unfold wpX_value
  dsimp only
  refine mx_readAll hE (fun r f1 f2 f3 f4 f5 a5 a6 a7 a8 a9 a10 a11 a12 a13 a14 hd => ?_)
  dsimp only
  cases hr : mx_rd K V M T c with
  | none =>
    rw [hr] at hd H
    exact br_t hd (H f1 f2 f3 f4 f5 a5 a6 a7 a8 a9 a10 a11 a12 a13 a14)
  | some A =>
    obtain ⟨x, s⟩ := A
    rw [hr] at hd H
    obtain ⟨h1, N, G, h2, h3, h4, h5, h6⟩ := hd
    subst h1
    subst h3
    refine br_f (by decide) ⟨pk_in N 16 (by omega), ?_⟩
    rw [nI_clamp (show N < 2 ^ 31 by omega), show a9 N = x.2.1 from h5.2.2.1]
    exact H f1 f2 f3 f4 (nI N) a5 a6 a7 a8 a9 a10 a11 a12 a13 a14
theorem mx_root {post : Int32 → St1 → Prop} (hE : mx_En K V M T c f0 a1 a2 a3 a4) (H : ∀ (f1 f2 f3 f4 f5 : Int32) (a5 a6 a7 a8 a9 a10 a11 a12 a13 a14 : Nat → Int32), post (mx_qr (mx_rd K V M T c)) (f0, f1, f2, f3, f4, f5, a1, a2, a3, a4, a5, a6, a7, a8, a9, a10, a11, a12, a13, a14)) : wpX_root post (f0, f1, f2, f3, f4, f5, a1, a2, a3, a4, a5, a6, a7, a8, a9, a10, a11, a12, a13, a14) := by
  unfold wpX_root
  dsimp only
  refine mx_readAll hE (fun r f1 f2 f3 f4 f5 a5 a6 a7 a8 a9 a10 a11 a12 a13 a14 hd => ?_)
  dsimp only
  cases hr : mx_rd K V M T c with
  | none =>
    rw [hr] at hd H
    exact br_t hd (H f1 f2 f3 f4 f5 a5 a6 a7 a8 a9 a10 a11 a12 a13 a14)
  | some A =>
    obtain ⟨x, s⟩ := A
    rw [hr] at hd H
    obtain ⟨h1, N, G, h2, h3, h4, h5, h6⟩ := hd
    subst h1
    subst h3
    refine br_f (by decide) ⟨pk_in N 16 (by omega), ?_⟩
    rw [nI_clamp (show N < 2 ^ 31 by omega)]
    have P := H f1 f2 f3 f4 (nI N) a5 a6 a7 a8 a9 a10 a11 a12 a13 a14
    have P : post (mx_qo x.2.2.2.2) (f0, f1, f2, f3, f4, nI N, a1, a2, a3, a4, a5, a6, a7, a8, a9, a10, a11, a12, a13, a14) := P
    rcases h5.2.2.2.2.2.2.2.2 with ⟨v1, v2, v3⟩ | ⟨r, q', v1, v2, v3, v4, v5, v6, v7⟩
    · rw [show a6 N = -1 from v2]
      rw [v1] at P
      exact br_t (by decide) P
    · rw [show a6 N = nI q' from v3, show a5 N = nI r from v2]
      rw [v1] at P
      exact br_f (nI_pos (by omega)) ⟨pk_in N 16 (by omega), P⟩
theorem mx_spareAt {post : Int32 → Prop} {q n f e : Nat} {x : mx_C} (hE : mx_En K V M T c f0 a1 a2 a3 a4) (hq : q < 16) (hn : n < 16) (hO : mx_O V T c (mx_r a5 a6 a7 a8 a9 a10 a11 a12 q) x f e) (H : post (nI (mx_sa x n))) : wpX_spareAt post (f0, f1, f2, f3, f4, f5, a1, a2, a3, a4, a5, a6, a7, a8, a9, a10, a11, a12, a13, a14) (nI q) (nI n) := by
  have hE' := hE
  obtain ⟨e0, ec, e1, e2, e3, e4⟩ := hE'
  obtain ⟨u1, u2, u3, u4, u5, u6, u7, u8, u9⟩ := hO
  have u4 : a10 q = nI x.2.2.1 := u4
  have u81 := u8.1
  unfold wpX_spareAt
  dsimp only
  rw [nI_clamp (show q < 2 ^ 31 by omega), u4]
  refine ⟨pk_in q 16 hq, pk_eq x.2.2.1 1 (fun z => ?_) (fun z => ⟨pk_in q 16 hq, ?_⟩)⟩
  · unfold wpX_bare
    dsimp only
    rw [nI_clamp (show q < 2 ^ 31 by omega)]
    rw [show mx_sa x n = if x.2.2.2.1 < n then 0 else 1 from if_pos z] at H
    have fin : ∀ b : Nat, b = x.2.2.2.1 → b < 16 → ((nI b < nI n → post 0) ∧ (¬ nI b < nI n → post 1)) := by
      intro b hb hb'
      subst hb
      refine pk_lt _ n (fun y => ?_) (fun y => ?_)
      · rw [if_pos y] at H
        exact H
      · rw [if_neg (by omega)] at H
        exact H
    refine ⟨pk_in q 16 hq, ?_⟩
    rcases u9 with ⟨v1, v2, v3⟩ | ⟨r, q', v1, v2, v3, v4, v5, v6, v7⟩
    · rw [show a6 q = -1 from v2]
      exact br_f (by decide) (fin 5 v3.symm (by omega))
    · rw [show a6 q = nI q' from v3, show a5 q = nI r from v2]
      have hr := (u8.2.2.2.2 r v1).2.1
      have hv := (e2 (T r - 10) (by omega)).1
      refine br_t (nI_pos' (by omega)) ⟨pk_in q 16 hq, mx_levelAt hE (by omega) v5 v6 (fin _ v7.symm ?_)⟩
      show V (T r - 10) < 16
      omega
  · rw [show mx_sa x n = x.2.2.1 from if_neg z] at H
    exact H
theorem mx_107a {post : Int32 → St1 → Prop} {J : Int32 → Int32 → Prop} {i : Nat} {s : Int32} (hi : i < 16) (h7 : a7 i = -1) (H : J s (nI (i + 1))) : wX_spare_107 post J s (nI i) f0 f1 f2 f3 f4 f5 a1 a2 a3 a4 a5 a6 a7 a8 a9 a10 a11 a12 a13 a14 := by
  unfold wX_spare_107
  rw [nI_clamp (show i < 2 ^ 31 by omega), h7]
  exact ⟨pk_in i 16 hi, br_t (by decide) (nm_r (nI_1 i) H)⟩
theorem mx_nl_lt (hE : mx_En K V M T c f0 a1 a2 a3 a4) {t : Nat} (h1 : 10 ≤ t) (h2 : t < 18) : mx_nl K V t < 16 ∧ mx_nr K V t < 16 ∧ mx_lv V t < 16 := by
  obtain ⟨e0, ec, e1, e2, e3, e4⟩ := hE
  have hlv : mx_lv V t < 5 := (e2 (t - 10) (by omega)).1
  refine ⟨?_, ?_, by omega⟩
  · unfold mx_nl
    split
    · omega
    · split <;> omega
  · unfold mx_nr
    split
    · omega
    · split <;> omega
theorem mx_107b {post : Int32 → St1 → Prop} {J : Int32 → Int32 → Prop} {i r q f e : Nat} {x : mx_C} {s : Nat} (hE : mx_En K V M T c f0 a1 a2 a3 a4) (hi : i < 16) (hq : q < 16) (hr : r < c) (h1 : 10 ≤ T r) (h2 : T r < 18) (h5 : a5 i = nI r) (h7 : a7 i = nI q) (hO : mx_O V T c (mx_r a5 a6 a7 a8 a9 a10 a11 a12 q) x f e)
    (H : J (nI (s + mx_sa x (mx_nr K V (T r)))) (nI (i + 1))) : wX_spare_107 post J (nI s) (nI i) f0 f1 f2 f3 f4 f5 a1 a2 a3 a4 a5 a6 a7 a8 a9 a10 a11 a12 a13 a14 := by
  unfold wX_spare_107
  rw [nI_clamp (show i < 2 ^ 31 by omega), h7, h5]
  exact ⟨pk_in i 16 hi, br_f (nI_pos (by omega)) ⟨pk_in i 16 hi, mx_needRight hE hr h1 h2 ⟨pk_in i 16 hi, mx_spareAt hE hq (mx_nl_lt hE h1 h2).2.1 hO (nm_r (nI_add _ _) (nm_r (nI_1 i) H))⟩⟩⟩
theorem mx_spl {post : Int32 → St1 → Prop} {k s0 : Nat} {G : Nat → Nat} (hE : mx_En K V M T c f0 a1 a2 a3 a4) (h1 : f1 = nI k) (hk : k ≤ 15) (hN : ∀ n, n < k → mx_N K V T c (mx_r a5 a6 a7 a8 a9 a10 a11 a12) n (G n)) (H : post (nI (s0 + mx_sm G k)) (f0, f1, f2, f3, f4, f5, a1, a2, a3, a4, a5, a6, a7, a8, a9, a10, a11, a12, a13, a14)) :
    ∃ fu, wX_spare_24 post f0 f1 f2 f3 f4 f5 a1 a2 a3 a4 a5 a6 a7 a8 a9 a10 a11 a12 a13 a14 fu (nI s0) 0 := by
  subst h1
  refine pk_loop (σ := Int32) (fun n i s => wX_spare_24 post f0 (nI k) f2 f3 f4 f5 a1 a2 a3 a4 a5 a6 a7 a8 a9 a10 a11 a12 a13 a14 n s (nI i)) (fun i s => s = nI (s0 + mx_sm G i)) k 0 (nI s0) (by omega) rfl ?_ ?_
  · intro n s h
    subst h
    exact pk_le k k (fun _ => H) (fun z => absurd z (by omega))
  · intro n i s hi h hw
    subst h
    refine pk_le k i (fun z => absurd z (by omega)) (fun _ => ⟨pk_in i 16 (by omega), ?_⟩)
    rw [nI_clamp (show i < 2 ^ 31 by omega)]
    have hw' := hw (nI (s0 + mx_sm G (i + 1))) rfl
    have hw' : wX_spare_24 post f0 (nI k) f2 f3 f4 f5 a1 a2 a3 a4 a5 a6 a7 a8 a9 a10 a11 a12 a13 a14 n (nI (s0 + (mx_sm G i + G i))) (nI (i + 1)) := hw'
    rw [← Nat.add_assoc] at hw'
    rcases hN i hi with ⟨d1, d2, d3⟩ | ⟨r, q, x, f, e, b1, b2, b3, b4, b5, b6, b7, b8, b9⟩
    · rw [show a6 i = -1 from d1]
      rw [d3] at hw'
      exact br_t (by decide) (mx_107a (by omega) d2 hw')
    · have b5 : a5 i = nI r := b5
      have b6 : a6 i = nI q := b6
      rw [b6, b5]
      refine br_f (nI_pos (by omega)) ⟨pk_in i 16 (by omega), mx_kindAt hE b1 b2 b3 ?_⟩
      have hkd : mx_kd K V (T r) < 5 := (hE.2.2.1 _ ((hE.2.2.2.1 (T r - 10) (by omega)).1)).1
      rcases b9 with ⟨c1, c2, c3⟩ | ⟨c1, q2, x2, f2, e2, c2, c3, c4, c5, c6⟩
      · refine pk_lt (mx_kd K V (T r)) 3 (fun z => absurd z (by omega)) (fun _ => ?_)
        unfold wX_spare_60 wX_spare_90
        rw [nI_clamp (show i < 2 ^ 31 by omega), b6, b5]
        refine br_f (by decide) ⟨pk_in i 16 (by omega), mx_levelAt hE b1 b2 b3 ⟨pk_in i 16 (by omega), mx_spareAt hE (by omega) (mx_nl_lt hE b2 b3).2.2 b7 (nm_r (nI_add _ _) ?_)⟩⟩
        rw [c3] at hw'
        exact mx_107a (by omega) c2 hw'
      · refine pk_lt (mx_kd K V (T r)) 3 (fun _ => ?_) (fun z => absurd z (by omega))
        unfold wX_spare_60 wX_spare_90
        rw [nI_clamp (show i < 2 ^ 31 by omega), b6, b5]
        refine br_t rfl ⟨pk_in i 16 (by omega), mx_needLeft hE b1 b2 b3 ⟨pk_in i 16 (by omega), mx_spareAt hE (by omega) (mx_nl_lt hE b2 b3).1 b7 (nm_r (nI_add _ _) ?_)⟩⟩
        rw [c6, ← Nat.add_assoc] at hw'
        exact mx_107b hE (by omega) (by omega) b1 b2 b3 b5 c3 c4 hw'
theorem mx_sa0 (x : mx_C) : mx_sa x 0 = x.2.2.1 := by
  unfold mx_sa
  by_cases h : x.2.2.1 = 1
  · rw [if_pos h, if_neg (by omega), h]
  · rw [if_neg h]
theorem mx_spare {post : Int32 → St1 → Prop} (hE : mx_En K V M T c f0 a1 a2 a3 a4) (H : ∀ (f1 f2 f3 f4 f5 : Int32) (a5 a6 a7 a8 a9 a10 a11 a12 a13 a14 : Nat → Int32), post (mx_qp (mx_rd K V M T c)) (f0, f1, f2, f3, f4, f5, a1, a2, a3, a4, a5, a6, a7, a8, a9, a10, a11, a12, a13, a14)) : wpX_spare post (f0, f1, f2, f3, f4, f5, a1, a2, a3, a4, a5, a6, a7, a8, a9, a10, a11, a12, a13, a14) := by
  unfold wpX_spare
  dsimp only
  refine mx_readAll hE (fun r f1 f2 f3 f4 f5 a5 a6 a7 a8 a9 a10 a11 a12 a13 a14 hd => ?_)
  dsimp only
  cases hr : mx_rd K V M T c with
  | none =>
    rw [hr] at hd H
    exact br_t hd (H f1 f2 f3 f4 f5 a5 a6 a7 a8 a9 a10 a11 a12 a13 a14)
  | some A =>
    obtain ⟨x, s⟩ := A
    rw [hr] at hd H
    obtain ⟨h1, N, G, h2, h3, h4, h5, h6, h7⟩ := hd
    subst h1
    subst h3
    refine br_f (by decide) (mx_spareAt (n := 0) hE (by omega) (by omega) h5 ?_)
    rw [mx_sa0]
    refine mx_spl hE h2 (by omega) h6 ?_
    rw [h7]
    exact H f1 f2 f3 f4 (nI N) a5 a6 a7 a8 a9 a10 a11 a12 a13 a14
theorem mx_pairsAround {post : Int32 → Prop} {N r : Nat} {x : mx_C} (hc : c ≤ 15) (hN : N < 16) (hO : mx_O V T c (mx_r a5 a6 a7 a8 a9 a10 a11 a12 N) x 0 c) (h1 : x.2.2.1 ≤ r) (h2 : r < c - x.2.2.1) (H : post (nI x.2.2.1)) : wpX_pairsAround post (f0, f1, f2, f3, f4, f5, a1, a2, a3, a4, a5, a6, a7, a8, a9, a10, a11, a12, a13, a14) (nI N) (nI r) := by
  obtain ⟨u1, u2, u3, u4, u5, u6, u7, u8, u9⟩ := hO
  have u81 := u8.1
  have hn : vp_in (nI N) 16 := pk_in N 16 hN
  unfold wpX_pairsAround
  dsimp only
  rw [nI_clamp (show N < 2 ^ 31 by omega), show a10 N = nI x.2.2.1 from u4, show a11 N = nI 0 from u5, show a12 N = nI (c - 1) from u6, nI_add, pk_sub (show x.2.2.1 ≤ c - 1 by omega)]
  exact ⟨hn, hn, pk_le (0 + x.2.2.1) r (fun _ => ⟨hn, hn, pk_le r (c - 1 - x.2.2.1) (fun _ => ⟨hn, H⟩) (fun z => absurd z (by omega))⟩) (fun z => absurd z (by omega))⟩
theorem mx_within0 {post : Int32 → Prop} {q r f e : Nat} {x : mx_C} (hc : c ≤ 15) (hq : q < 16) (hr : r < 16) (hO : mx_O V T c (mx_r a5 a6 a7 a8 a9 a10 a11 a12 q) x f e) (ha : r < f ∨ e ≤ r) (H : post 0) : wpX_within post (f0, f1, f2, f3, f4, f5, a1, a2, a3, a4, a5, a6, a7, a8, a9, a10, a11, a12, a13, a14) (nI q) (nI r) := by
  obtain ⟨u1, u2, u3, u4, u5, u6, u7, u8, u9⟩ := hO
  have u81 := u8.1
  unfold wpX_within
  dsimp only
  rw [nI_clamp (show q < 2 ^ 31 by omega), show a11 q = nI f from u5, show a12 q = nI (e - 1) from u6]
  exact ⟨pk_in q 16 hq, pk_lt r f (fun _ => H) (fun z => ⟨pk_in q 16 hq, pk_lt (e - 1) r (fun _ => H) (fun y => absurd y (by omega))⟩)⟩
theorem mx_partWith {post : Int32 → Prop} {N r q v : Nat} (hc : c ≤ 15) (hN : N < 16) (hr : r < c) (hq : q < 16) (h5 : a5 N = nI r) (h6 : a6 N = nI q) (hn : mx_N K V T c (mx_r a5 a6 a7 a8 a9 a10 a11 a12) N v) (H : post (-1)) : wpX_partWith post (f0, f1, f2, f3, f4, f5, a1, a2, a3, a4, a5, a6, a7, a8, a9, a10, a11, a12, a13, a14) (nI N) (nI r) := by
  unfold wpX_partWith
  dsimp only
  rw [nI_clamp (show N < 2 ^ 31 by omega)]
  refine ⟨pk_in N 16 hN, nm_e ⟨pk_in N 16 hN, nm_e ?_⟩⟩
  rcases hn with ⟨d1, d2, d3⟩ | ⟨r', q', x, f, e, b1, b2, b3, b4, b5, b6, b7, b8, b9⟩
  · have d1 : a6 N = -1 := d1
    rw [h6] at d1
    exact absurd (show nI q < 0 by rw [d1]; decide) (nI_pos (by omega))
  · have b5 : a5 N = nI r' := b5
    have b6 : a6 N = nI q' := b6
    have er : r = r' := (nI_eq (by omega) (by omega)).mp (h5.symm.trans b5)
    subst er
    rw [b6]
    refine br_f (nI_pos (by omega)) (mx_within0 hc (by omega) (by omega) b7 b8 (br_t rfl ?_))
    rcases b9 with ⟨c1, c2, c3⟩ | ⟨c1, q2, x2, f2, e2, c2, c3, c4, c5, c6⟩
    · rw [show a7 N = -1 from c2]
      exact br_t (by decide) H
    · rw [show a7 N = nI q2 from c3]
      exact br_f (nI_pos (by omega)) (mx_within0 hc (by omega) (by omega) c4 c5 (br_t rfl H))
theorem mx_depth {post : Int32 → St1 → Prop} {x : mx_C} {s r : Nat} (hE : mx_En K V M T c f0 a1 a2 a3 a4) (hrd : mx_rd K V M T c = some (x, s)) (hr : x.2.2.2.2 = some r) (H : ∀ (f1 f2 f3 f4 f5 : Int32) (a5 a6 a7 a8 a9 a10 a11 a12 a13 a14 : Nat → Int32), post (nI x.2.2.1) (f0, f1, f2, f3, f4, f5, a1, a2, a3, a4, a5, a6, a7, a8, a9, a10, a11, a12, a13, a14)) : wpX_depth post (f0, f1, f2, f3, f4, f5, a1, a2, a3, a4, a5, a6, a7, a8, a9, a10, a11, a12, a13, a14) (nI r) := by
  have hE' := hE
  obtain ⟨e0, ec, e1, e2, e3, e4⟩ := hE'
  unfold wpX_depth
  dsimp only
  refine mx_readAll hE (fun r' f1 f2 f3 f4 f5 a5 a6 a7 a8 a9 a10 a11 a12 a13 a14 hd => ?_)
  dsimp only
  rw [hrd] at hd
  obtain ⟨h1, N, G, h2, h3, h4, h5, h6, h7⟩ := hd
  subst h1
  subst h3
  have hn := h6 N (by omega)
  have u8 := h5.2.2.2.2.2.2.2.1
  obtain ⟨r1, r2, r3, r4, r5⟩ := u8.2.2.2.2 r hr
  rw [Nat.zero_add] at r1
  refine br_f (by decide) (br_f (nI_pos (by omega)) (br_t (by rw [e0]; exact nI_lt (by omega) (by omega)) ⟨2, br_f (by decide) (br_f (nI_pos (by omega)) ?_)⟩))
  rcases h5.2.2.2.2.2.2.2.2 with ⟨v1, v2, v3⟩ | ⟨r', q', v1, v2, v3, v4, v5, v6, v7⟩
  · rw [hr] at v1
    cases v1
  · rw [hr] at v1
    cases v1
    refine mx_pairsAround ec (by omega) h5 r1 r2 (nm_r (show (0 : Int32) + nI x.2.2.1 = nI x.2.2.1 from Int32.zero_add _) ⟨pk_in N 16 (by omega), ?_⟩)
    rw [nI_clamp (show N < 2 ^ 31 by omega)]
    refine br_t (h5.2.2.2.1).symm (mx_partWith ec (by omega) (by omega) v4 v2 v3 hn ?_)
    exact br_t (by decide) (nm_e (br_f (by decide) (br_t (by decide) (H f1 f2 f3 f4 (nI N) a5 a6 a7 a8 a9 a10 a11 a12 a13 a14))))
end
end
section
/-! the packed text -/
def mx_f (x : Int64) (s : Nat) : Nat := x.toBitVec.toNat / 2 ^ (5 * s) % 2 ^ 5
theorem mx_f_bit (x : Int64) (s j : Nat) : (mx_f x s).testBit j = (decide (j < 5) && x.toBitVec.getLsbD (5 * s + j)) := by
  unfold mx_f
  rw [Nat.testBit_mod_two_pow, Nat.testBit_div_two_pow, Nat.add_comm j]
  rfl
theorem mx_f_lt (x : Int64) (s : Nat) : mx_f x s < 32 := Nat.mod_lt _ (by decide)
theorem mx_sh : ∀ s, s < 8 → (((nI (5 * s)).toInt64 &&& 63).toBitVec.smod 64) = BitVec.ofNat 64 (5 * s) := by decide +kernel
theorem mx_shN {s : Nat} (hs : s < 8) : (BitVec.ofNat 64 (5 * s)).toNat = 5 * s := by
  rw [BitVec.toNat_ofNat, Nat.mod_eq_of_lt (by omega)]
theorem mx_31 (j : Nat) (hj : j < 64) : (31 : Int64).toBitVec.getLsbD j = decide (j < 5) := by
  show (BitVec.ofNat 64 (2 ^ 5 - 1)).getLsbD j = _
  rw [BitVec.getLsbD_ofNat, Nat.testBit_two_pow_sub_one, decide_eq_true hj, Bool.true_and]
theorem mx_at12 (x : Int64) {s : Nat} (hs : s < 8) : ((x >>> ((nI (5 * s)).toInt64 &&& 63)) &&& 31) = lN (mx_f x s) := by
  apply Int64.toBitVec_inj.mp
  apply BitVec.eq_of_getLsbD_eq
  intro j hj
  rw [Int64.toBitVec_and, Int64.toBitVec_shiftRight, mx_sh s hs, BitVec.getLsbD_and, BitVec.sshiftRight_eq', mx_shN hs, BitVec.getLsbD_sshiftRight, mx_31 j hj]
  show _ = (BitVec.ofNat 64 (mx_f x s)).getLsbD j
  rw [BitVec.getLsbD_ofNat, mx_f_bit, decide_eq_true hj, Bool.true_and, decide_eq_false (show ¬ 64 ≤ j by omega)]
  by_cases h5 : j < 5
  · rw [decide_eq_true h5, if_pos (by omega), Bool.and_true, Bool.true_and]
    rfl
  · rw [decide_eq_false h5, Bool.and_false, Bool.false_and]
/-- a token is written at place s -/
theorem mx_wr (x : Int64) {s t : Nat} (hs : s < 8) (ht : t < 32) {r : Nat} (hr : r < 8) :
    mx_f ((x &&& (((31 : Int64) <<< ((nI (5 * s)).toInt64 &&& 63)) ^^^ (-1))) ||| ((nI t).toInt64 <<< ((nI (5 * s)).toInt64 &&& 63))) r = if r = s then t else mx_f x r := by
  have e1 : (-1 : Int64).toBitVec = BitVec.allOnes 64 := by decide
  have et : (nI t).toInt64 = lN t := nI_l (by omega)
  apply Nat.eq_of_testBit_eq
  intro j
  rw [mx_f_bit, et]
  by_cases h5 : j < 5
  · have hj : 5 * r + j < 64 := by omega
    rw [decide_eq_true h5, Bool.true_and, Int64.toBitVec_or, Int64.toBitVec_and, Int64.toBitVec_xor, Int64.toBitVec_shiftLeft, Int64.toBitVec_shiftLeft, mx_sh s hs, e1,
      BitVec.getLsbD_or, BitVec.getLsbD_and, BitVec.getLsbD_xor, BitVec.getLsbD_allOnes, BitVec.shiftLeft_eq', BitVec.shiftLeft_eq', mx_shN hs, BitVec.getLsbD_shiftLeft, BitVec.getLsbD_shiftLeft, decide_eq_true hj, Bool.true_and]
    show (x.toBitVec.getLsbD (5 * r + j) && (_ ^^ true) || (_ && (BitVec.ofNat 64 t).getLsbD (5 * r + j - 5 * s))) = _
    rw [BitVec.getLsbD_ofNat, mx_31 _ (by omega)]
    by_cases c : r = s
    · subst c
      rw [if_pos rfl, show 5 * r + j - 5 * r = j by omega, decide_eq_true h5, decide_eq_false (show ¬ 5 * r + j < 5 * r by omega), decide_eq_true (show j < 64 by omega)]
      cases x.toBitVec.getLsbD (5 * r + j) <;> cases t.testBit j <;> rfl
    · rw [if_neg c, mx_f_bit, decide_eq_true h5]
      by_cases c2 : r < s
      · rw [decide_eq_true (show 5 * r + j < 5 * s by omega)]
        cases x.toBitVec.getLsbD (5 * r + j) <;> rfl
      · rw [decide_eq_false (show ¬ 5 * r + j < 5 * s by omega), decide_eq_false (show ¬ 5 * r + j - 5 * s < 5 by omega), decide_eq_true (show 5 * r + j - 5 * s < 64 by omega),
          Nat.testBit_lt_two_pow (Nat.lt_of_lt_of_le ht (Nat.pow_le_pow_right (n := 2) (i := 5) (by decide) (show 5 ≤ 5 * r + j - 5 * s by omega)))]
        cases x.toBitVec.getLsbD (5 * r + j) <;> rfl
  · rw [decide_eq_false h5, Bool.false_and]
    have hb : (if r = s then t else mx_f x r) < 32 := by
      split
      · exact ht
      · exact mx_f_lt x r
    exact (Nat.testBit_lt_two_pow (Nat.lt_of_lt_of_le hb (Nat.pow_le_pow_right (n := 2) (i := 5) (by decide) (show 5 ≤ j by omega)))).symm
def mx_pk (T : Nat → Nat) (z : Nat) (lo hi : Int64) : Prop := ∀ i, i < z → mx_f (if i < 8 then lo else hi) (i % 8) = T i
theorem mx_at {post : Int32 → Prop} {T : Nat → Nat} {z i : Nat} {lo hi : Int64} (h : mx_pk T z lo hi) (hz : z ≤ 15) (hi' : i < z) (H : post (nI (T i))) : wpL_at post () lo hi (nI i) := by
  have a := h i hi'
  have e : ∀ x : Int64, ((x >>> ((5 * (nI i &&& 7)).toInt64 &&& 63)) &&& 31).toInt32 = nI (mx_f x (i % 8)) := by
    intro x
    rw [pk_andN (show i < 2 ^ 32 by omega) 3 (by decide), show (5 : Int32) = nI 5 from rfl, pk_mul, show 2 ^ 3 = 8 from rfl, mx_at12 x (show i % 8 < 8 by omega), lN_i]
  unfold wpL_at wL_at_12
  rw [e, e]
  refine pk_le 8 i (fun c => ?_) (fun c => ?_)
  · rw [if_neg (by omega)] at a
    rw [a]
    exact H
  · rw [if_pos c] at a
    rw [a]
    exact H
/-! the law's count of pairs -/
theorem mx_D_b (T : Nat → Nat) : ∀ k : Nat, -(k : Int) ≤ mx_D T k ∧ mx_D T k ≤ (k : Int) := by
  intro k
  induction k with
  | zero => exact ⟨Int.le_refl 0, Int.le_refl 0⟩
  | succ k ih =>
    by_cases h : T k = 18
    · have := mx_D18 h
      omega
    · by_cases h2 : T k = 19
      · have := mx_D19 h2
        omega
      · have := mx_Do h h2
        omega
theorem mx_le3 : ∀ z, z < 16 → ∀ i, i < 8 → ∀ k, k < 16 → (((nI z - 1) - nI i ≤ nI k) ↔ z ≤ k + 1 + i) := by decide +kernel
theorem mx_oz {d : Int} (h1 : -100 ≤ d) (h2 : d ≤ 100) : Int32.ofInt d ≤ 0 ↔ d ≤ 0 := by
  rw [Int32.le_iff_toInt_le, Int32.toInt_ofInt_of_le (by omega) (by omega)]
  exact Iff.rfl
theorem mx_71 {post : Int32 → Prop} {J : Int32 → Int32 → Int32 → Prop} {T : Nat → Nat} {z i : Nat} {lo hi : Int64} {x5 : Int32} {m w : Bool} (h : mx_pk T z lo hi) (hz : z ≤ 15) (hi' : i < 8)
    (H : ∀ b : Bool, (b = true ↔ (w = true ∧ ∀ k, i ≤ k → k < z - 1 - i → mx_D T i < mx_D T (k + 1))) → wL_pairs_162 post J lo hi (nI z) x5 (nI i) (mx_b (m && b))) :
    ∃ fu, wL_pairs_71 post J lo hi (nI z) x5 (mx_b m) (nI i) fu 0 (mx_b w) (nI i) := by
  have key := pk_loop (σ := Int32 × Int32) (fun n k s => wL_pairs_71 post J lo hi (nI z) x5 (mx_b m) (nI i) n s.1 s.2 (nI k))
    (fun k s => i ≤ k ∧ s.1 = Int32.ofInt (mx_D T k - mx_D T i) ∧ ∃ b : Bool, s.2 = mx_b b ∧ (b = true ↔ (w = true ∧ ∀ j, i ≤ j → j < k → mx_D T i < mx_D T (j + 1)))) (max i (z - 1 - i)) i (0, mx_b w) (by omega)
    ⟨Nat.le_refl i, by rw [Int.sub_self]; rfl, w, rfl, ⟨fun q => ⟨q, fun j j1 j2 => absurd j1 (by omega)⟩, fun q => q.1⟩⟩ ?_ ?_
  · exact key
  · intro n s hs
    obtain ⟨x8, x9⟩ := s
    obtain ⟨hki, h8, b, h9, hb⟩ := hs
    have h9 : x9 = mx_b b := h9
    subst h9
    have hb' : (b = true ↔ (w = true ∧ ∀ k, i ≤ k → k < z - 1 - i → mx_D T i < mx_D T (k + 1))) := by
      constructor
      · intro q
        refine ⟨(hb.mp q).1, fun k k1 k2 => (hb.mp q).2 k k1 (by omega)⟩
      · intro q
        exact hb.mpr ⟨q.1, fun k k1 k2 => q.2 k k1 (by omega)⟩
    have P := H b hb'
    refine br_t ((mx_le3 z (by omega) i hi' (max i (z - 1 - i)) (by omega)).mpr (by omega)) (mx_b_br (fun q => ?_) (fun q => mx_b_br (fun q2 => ?_) (fun q2 => ?_)))
    · rw [q] at P
      exact P
    · rw [q2, Bool.and_false] at P
      exact P
    · rw [q, q2] at P
      exact P
  · intro n k s hk hs hw
    obtain ⟨x8, x9⟩ := s
    obtain ⟨hki, h8, b, h9, hb⟩ := hs
    have h8 : x8 = Int32.ofInt (mx_D T k - mx_D T i) := h8
    have h9 : x9 = mx_b b := h9
    subst h9
    subst h8
    have hki : i ≤ k := hki
    have hT : T k < 32 := by
      rw [← h k (by omega)]
      exact mx_f_lt _ _
    have next : ∀ d : Int, mx_D T (k + 1) = mx_D T k + d → wL_pairs_122 post J (wL_pairs_71 post J lo hi (nI z) x5 (mx_b m) (nI i) n) lo hi (nI z) x5 (mx_b m) (nI i) (mx_b b) (nI k) (Int32.ofInt (mx_D T k - mx_D T i + d)) := by
      intro d hd
      have b1 := mx_D_b T k
      have b2 := mx_D_b T i
      have b3 := mx_D_b T (k + 1)
      have e1 : mx_D T k - mx_D T i + d = mx_D T (k + 1) - mx_D T i := by omega
      rw [e1]
      have go : ∀ b' : Bool, (b' = true ↔ (w = true ∧ ∀ j, i ≤ j → j < k + 1 → mx_D T i < mx_D T (j + 1))) → wL_pairs_71 post J lo hi (nI z) x5 (mx_b m) (nI i) n (Int32.ofInt (mx_D T (k + 1) - mx_D T i)) (mx_b b') (nI (k + 1)) :=
        fun b' hb' => hw (Int32.ofInt (mx_D T (k + 1) - mx_D T i), mx_b b') ⟨by omega, rfl, b', rfl, hb'⟩
      unfold wL_pairs_122
      refine mx_b_br (fun q => nm_r (nI_1 k) (go false ?_)) (fun q => br_c (fun c => nm_r (nI_1 k) (go false ?_)) (fun c => nm_r (nI_1 k) (go true ?_)))
      · constructor
        · intro u; cases u
        · intro u
          have := hb.mpr ⟨u.1, fun j j1 j2 => u.2 j j1 (by omega)⟩
          rw [q] at this
          cases this
      · have c := (mx_oz (by omega) (by omega)).mp c
        constructor
        · intro u; cases u
        · intro u
          have := u.2 k hki (by omega)
          omega
      · have c : ¬ mx_D T (k + 1) - mx_D T i ≤ 0 := fun c' => c ((mx_oz (by omega) (by omega)).mpr c')
        constructor
        · intro _
          refine ⟨(hb.mp q).1, fun j j1 j2 => ?_⟩
          by_cases ej : j = k
          · rw [ej]; omega
          · exact (hb.mp q).2 j j1 (by omega)
        · intro _; rfl
    refine br_f (fun q => absurd ((mx_le3 z (by omega) i hi' k (by omega)).mp q) (by omega)) (mx_at h hz (by omega) ?_)
    refine pk_eq (T k) 18 (fun q => ?_) (fun q => pk_eq (T k) 19 (fun q2 => ?_) (fun q2 => ?_))
    · have P := next 1 (mx_D18 q)
      rw [Int32.ofInt_add] at P
      exact P
    · have P := next (-1) (by have := mx_D19 q2; omega)
      rw [Int32.ofInt_add] at P
      rw [show ∀ x : Int32, x - 1 = x + Int32.ofInt (-1) from fun x => Int32.sub_eq_add_neg x 1]
      exact P
    · have P := next 0 (by have := mx_Do q q2; omega)
      rw [Int.add_zero] at P
      exact P
theorem mx_pairs {post : Int32 → Prop} {T : Nat → Nat} {z p : Nat} {lo hi : Int64} (h : mx_pk T z lo hi) (hz : z ≤ 15) (hp : p ≤ 7) (h1 : ∀ i, i < p → mx_wh T z i) (h2 : ¬ mx_wh T z p) (H : post (nI p)) : wpL_pairs post () lo hi (nI z) := by
  have key := pk_loop (σ := Int32 × Int32) (fun n i s => wL_pairs_9 post lo hi (nI z) n s.1 s.2 (nI i)) (fun i s => s.1 = nI (min i p) ∧ s.2 = mx_b (decide (i ≤ p))) 7 0 (0, 1) (by omega)
    ⟨by rw [show min 0 p = 0 by omega]; rfl, by rw [decide_eq_true (Nat.zero_le p)]; rfl⟩ ?_ ?_
  · exact key
  · intro n s hs
    obtain ⟨x5, x6⟩ := s
    have h5 : x5 = nI (min 7 p) := hs.1
    rw [show min 7 p = p by omega] at h5
    subst h5
    exact br_t (by decide) H
  · intro n i s hi' hs hw
    obtain ⟨x5, x6⟩ := s
    have h5 : x5 = nI (min i p) := hs.1
    have h6 : x6 = mx_b (decide (i ≤ p)) := hs.2
    subst h5
    subst h6
    have fin : ∀ w : Bool, (w = true ↔ (i < z - 1 - i ∧ T i = 18 ∧ T (z - 1 - i) = 19)) → ∃ fu, wL_pairs_71 post (wL_pairs_9 post lo hi (nI z) n) lo hi (nI z) (nI (min i p)) (mx_b (decide (i ≤ p))) (nI i) fu 0 (mx_b w) (nI i) := by
      intro w hw'
      refine mx_71 h hz (by omega) (fun b hb => ?_)
      have hb' : b = true ↔ mx_wh T z i := by
        constructor
        · intro q
          have := hb.mp q
          have u := hw'.mp this.1
          exact ⟨u.1, u.2.1, u.2.2, this.2⟩
        · intro q
          exact hb.mpr ⟨hw'.mpr ⟨q.1, q.2.1, q.2.2.1⟩, q.2.2.2⟩
      have e : (decide (i ≤ p) && b) = decide (i + 1 ≤ p) := by
        by_cases c : i < p
        · rw [decide_eq_true (show i ≤ p by omega), decide_eq_true (show i + 1 ≤ p by omega), hb'.mpr (h1 i c)]
          rfl
        · rw [decide_eq_false (show ¬ i + 1 ≤ p by omega)]
          by_cases c2 : i = p
          · subst c2
            cases b with
            | false => rw [Bool.and_false]
            | true => exact absurd (hb'.mp rfl) h2
          · rw [decide_eq_false (show ¬ i ≤ p by omega), Bool.false_and]
      rw [e]
      refine mx_b_br (fun q => ?_) (fun q => ?_)
      · have q' := of_decide_eq_false q
        refine nm_r (nI_1 i) (hw (nI (min i p), mx_b (decide (i + 1 ≤ p))) ⟨?_, rfl⟩)
        show nI (min i p) = nI (min (i + 1) p)
        rw [show min (i + 1) p = min i p by omega]
      · have q' := of_decide_eq_true q
        refine nm_r (nI_1 _) (nm_r (nI_1 i) (hw (nI (min i p + 1), mx_b (decide (i + 1 ≤ p))) ⟨?_, rfl⟩))
        show nI (min i p + 1) = nI (min (i + 1) p)
        rw [show min (i + 1) p = min i p + 1 by omega]
    refine pk_le 7 i (fun q => absurd q (by omega)) (fun _ => br_c (fun q => ?_) (fun q => ?_))
    · have q := (mx_le3 z (by omega) i (by omega) i (by omega)).mp q
      exact fin false ⟨fun u => (by cases u), fun u => absurd u.1 (by omega)⟩
    · have q : ¬ z ≤ i + 1 + i := fun q' => q ((mx_le3 z (by omega) i (by omega) i (by omega)).mpr q')
      have hT : ∀ k, k < z → T k < 32 := by
        intro k hk
        rw [← h k hk]
        exact mx_f_lt _ _
      have hT1 := hT i (by omega)
      have hT2 := hT (z - 1 - i) (by omega)
      refine mx_at h hz (by omega) (pk_eq (T i) 18 (fun c => ?_) (fun c => ?_))
      · rw [show nI z - 1 - nI i = nI (z - 1 - i) by rw [show (1 : Int32) = nI 1 from rfl, pk_sub (by omega), pk_sub (by omega)]]
        refine mx_at h hz (by omega) (pk_eq (T (z - 1 - i)) 19 (fun c2 => ?_) (fun c2 => ?_))
        · exact fin true ⟨fun _ => ⟨by omega, c, c2⟩, fun _ => rfl⟩
        · exact fin false ⟨fun u => (by cases u), fun u => absurd u.2.2 c2⟩
      · exact fin false ⟨fun u => (by cases u), fun u => absurd u.2.1 c⟩
end
section
/-! tokens, levels, operators; a turn -/
theorem mx_ug_s (G : Nat → Nat) (k v : Nat) : mx_ug G k v k = v := if_pos rfl
theorem mx_ug_n {G : Nat → Nat} {k v j : Nat} (h : j ≠ k) : mx_ug G k v j = G j := if_neg h
theorem mx_arr {G : Nat → Nat} {a : Nat → Int32} {n B k v : Nat} (hv : v < B) (h : ∀ j, j < n → G j < B ∧ a j = nI (G j)) : ∀ j, j < n → mx_ug G k v j < B ∧ upd a k (nI v) j = nI (mx_ug G k v j) := by
  intro j hj
  by_cases e : j = k
  · subst e
    rw [mx_ug_s, pk_us]
    exact ⟨hv, rfl⟩
  · rw [mx_ug_n e, pk_un e]
    exact h j hj
section
variable {K V M T : Nat → Nat} {c : Nat} {f0 f1 f2 f3 f4 f5 : Int32} {a1 a2 a3 a4 a5 a6 a7 a8 a9 a10 a11 a12 a13 a14 : Nat → Int32}
theorem mx_tok {post : Int32 → St1 → Prop} {t : Nat} (hE : mx_En K V M T c f0 a1 a2 a3 a4) (ht : t < 20) (H0 : c = 15 → post (-2) (f0, f1, f2, f3, f4, f5, a1, a2, a3, a4, a5, a6, a7, a8, a9, a10, a11, a12, a13, a14))
    (H1 : c < 15 → mx_En K V M (mx_ug T c t) (c + 1) (nI (c + 1)) a1 a2 a3 (upd a4 c (nI t)) → post (nI (c + 1)) (nI (c + 1), f1, f2, f3, f4, f5, a1, a2, a3, upd a4 c (nI t), a5, a6, a7, a8, a9, a10, a11, a12, a13, a14)) : wpX_token post (f0, f1, f2, f3, f4, f5, a1, a2, a3, a4, a5, a6, a7, a8, a9, a10, a11, a12, a13, a14) (nI t) := by
  obtain ⟨e0, ec, e1, e2, e3, e4⟩ := hE
  subst e0
  unfold wpX_token
  dsimp only
  refine br_f (nI_pos (by omega)) (pk_le t 19 (fun _ => pk_eq c 15 (fun z => H0 z) (fun z => ⟨pk_in c 16 (by omega), ?_⟩)) (fun z => absurd z (by omega)))
  rw [nI_clamp (show c < 2 ^ 31 by omega)]
  refine nm_e (nm_r (nI_1 c) (H1 (by omega) ⟨rfl, by omega, e1, e2, e3, ?_⟩))
  intro j hj
  by_cases e : j = c
  · subst e
    rw [mx_ug_s, pk_us]
    exact ⟨ht, rfl⟩
  · rw [mx_ug_n e, pk_un e]
    exact e4 j (by omega)
theorem mx_unt {post : Int32 → St1 → Prop} (hE : mx_En K V M T c f0 a1 a2 a3 a4) (H0 : c = 0 → post (-4) (f0, f1, f2, f3, f4, f5, a1, a2, a3, a4, a5, a6, a7, a8, a9, a10, a11, a12, a13, a14))
    (H1 : ∀ d, c = d + 1 → mx_En K V M T d (nI d) a1 a2 a3 a4 → post (nI (T d)) (nI d, f1, f2, f3, f4, f5, a1, a2, a3, a4, a5, a6, a7, a8, a9, a10, a11, a12, a13, a14)) : wpX_untoken post (f0, f1, f2, f3, f4, f5, a1, a2, a3, a4, a5, a6, a7, a8, a9, a10, a11, a12, a13, a14) := by
  obtain ⟨e0, ec, e1, e2, e3, e4⟩ := hE
  subst e0
  unfold wpX_untoken
  dsimp only
  refine pk_eq c 0 (fun z => H0 z) (fun z => ?_)
  obtain ⟨d, rfl⟩ : ∃ d, c = d + 1 := ⟨c - 1, by omega⟩
  refine nm_r (nI_pred d) ⟨pk_in d 16 (by omega), ?_⟩
  rw [nI_clamp (show d < 2 ^ 31 by omega), (e4 d (by omega)).2]
  exact H1 d rfl ⟨rfl, by omega, e1, e2, e3, fun j hj => e4 j (by omega)⟩
theorem mx_lev {post : Int32 → St1 → Prop} {k v : Nat} (hE : mx_En K V M T c f0 a1 a2 a3 a4) (hk : k < 5) (hv : v < 5)
    (H : ∀ r, mx_En (mx_ug K k v) V M T c f0 (upd a1 k (nI v)) a2 a3 a4 → post r (f0, f1, f2, f3, f4, f5, upd a1 k (nI v), a2, a3, a4, a5, a6, a7, a8, a9, a10, a11, a12, a13, a14)) : wpX_level post (f0, f1, f2, f3, f4, f5, a1, a2, a3, a4, a5, a6, a7, a8, a9, a10, a11, a12, a13, a14) (nI k) (nI v) := by
  obtain ⟨e0, ec, e1, e2, e3, e4⟩ := hE
  unfold wpX_level
  dsimp only
  refine br_f (nI_pos (by omega)) (br_f (nI_ge (b := 5) hk (by decide)) (br_f (nI_pos (by omega)) (br_t (nI_le (b := 4) (by omega) (by decide)) ⟨pk_in k 5 hk, nm_e ⟨pk_in k 5 hk, ?_⟩⟩)))
  rw [nI_clamp (show k < 2 ^ 31 by omega)]
  exact nm_e (H _ ⟨e0, ec, mx_arr hv e1, e2, e3, e4⟩)
theorem mx_ope {post : Int32 → St1 → Prop} {o k m : Nat} (hE : mx_En K V M T c f0 a1 a2 a3 a4) (ho : o < 8) (hk : k < 5) (hm : m < 4)
    (H : ∀ r, mx_En K (mx_ug V o k) (mx_ug M o m) T c f0 a1 (upd a2 o (nI k)) (upd a3 o (nI m)) a4 → post r (f0, f1, f2, f3, f4, f5, a1, upd a2 o (nI k), upd a3 o (nI m), a4, a5, a6, a7, a8, a9, a10, a11, a12, a13, a14)) : wpX_operator post (f0, f1, f2, f3, f4, f5, a1, a2, a3, a4, a5, a6, a7, a8, a9, a10, a11, a12, a13, a14) (nI o) (nI k) (nI m) := by
  obtain ⟨e0, ec, e1, e2, e3, e4⟩ := hE
  unfold wpX_operator
  dsimp only
  refine br_f (nI_pos (by omega)) (br_f (nI_nlt (a := 7) (b := o) (by omega) (by decide)) (br_f (nI_pos (by omega)) (br_f (nI_ge (b := 5) hk (by decide)) (br_f (nI_pos (by omega)) (br_t (nI_le (b := 3) (by omega) (by decide)) ⟨pk_in o 8 ho, nm_e ⟨pk_in o 8 ho, ?_⟩⟩)))))
  rw [nI_clamp (show o < 2 ^ 31 by omega)]
  exact nm_e ⟨pk_in o 8 ho, nm_e (H _ ⟨e0, ec, e1, mx_arr hk e2, mx_arr hm e3, e4⟩)⟩
theorem mx_turn {post : Int32 → St1 → Prop} {p1 p2 : Int32} {o t j1 j2 j3 : Nat} (hE : mx_En K V M T c f0 a1 a2 a3 a4) (ho : p1 &&& 31 = nI o) (ho' : o < 32) (ht : t < 20) (hL : ∀ post : Int32 → Prop, post (nI t) → wpL_token post () (p2 &&& 127))
    (h1 : p2 &&& 7 = nI j1) (h1' : j1 < 8) (h2 : (p2 >>> ((3 : Int32) &&& 31)) &&& 7 = nI j2) (h2' : j2 < 8) (h3 : (p2 >>> ((6 : Int32) &&& 31)) &&& 3 = nI j3) (h3' : j3 < 4)
    (H1 : o < 24 → c = 15 → post (-2) (f0, f1, f2, f3, f4, f5, a1, a2, a3, a4, a5, a6, a7, a8, a9, a10, a11, a12, a13, a14))
    (H2 : o < 24 → c < 15 → mx_En K V M (mx_ug T c t) (c + 1) (nI (c + 1)) a1 a2 a3 (upd a4 c (nI t)) → post (nI (c + 1)) (nI (c + 1), f1, f2, f3, f4, f5, a1, a2, a3, upd a4 c (nI t), a5, a6, a7, a8, a9, a10, a11, a12, a13, a14))
    (H3 : 24 ≤ o → o < 26 → c = 0 → post (-4) (f0, f1, f2, f3, f4, f5, a1, a2, a3, a4, a5, a6, a7, a8, a9, a10, a11, a12, a13, a14))
    (H4 : 24 ≤ o → o < 26 → ∀ d, c = d + 1 → mx_En K V M T d (nI d) a1 a2 a3 a4 → post (nI (T d)) (nI d, f1, f2, f3, f4, f5, a1, a2, a3, a4, a5, a6, a7, a8, a9, a10, a11, a12, a13, a14))
    (H5 : 26 ≤ o → o < 28 → ∀ r, mx_En (mx_ug K (j1 % 5) (j2 % 5)) V M T c f0 (upd a1 (j1 % 5) (nI (j2 % 5))) a2 a3 a4 → post r (f0, f1, f2, f3, f4, f5, upd a1 (j1 % 5) (nI (j2 % 5)), a2, a3, a4, a5, a6, a7, a8, a9, a10, a11, a12, a13, a14))
    (H6 : 28 ≤ o → o < 31 → ∀ r, mx_En K (mx_ug V j1 (j2 % 5)) (mx_ug M j1 j3) T c f0 a1 (upd a2 j1 (nI (j2 % 5))) (upd a3 j1 (nI j3)) a4 → post r (f0, f1, f2, f3, f4, f5, a1, upd a2 j1 (nI (j2 % 5)), upd a3 j1 (nI j3), a4, a5, a6, a7, a8, a9, a10, a11, a12, a13, a14))
    (H7 : o = 31 → j1 = 0 → mx_En K V M T 0 0 a1 a2 a3 a4 → post 0 (0, f1, f2, f3, f4, f5, a1, a2, a3, a4, a5, a6, a7, a8, a9, a10, a11, a12, a13, a14))
    (H8 : o = 31 → j1 ≠ 0 → post 0 (f0, f1, f2, f3, f4, f5, a1, a2, a3, a4, a5, a6, a7, a8, a9, a10, a11, a12, a13, a14)) : wpL_turn post (f0, f1, f2, f3, f4, f5, a1, a2, a3, a4, a5, a6, a7, a8, a9, a10, a11, a12, a13, a14) p1 p2 := by
  have r5 : ∀ j, j < 8 → nI j - nI j / 5 * 5 = nI (j % 5) := fun j hj => pk_rem (a := j) (d := 5) (by omega) (by omega) (by omega)
  unfold wpL_turn
  dsimp only
  rw [ho, h1, h2, h3, r5 j1 h1', r5 j2 h2']
  refine nm_e (hL _ ?_)
  refine pk_le 24 o (fun z => pk_le 26 o (fun y => pk_le 28 o (fun x => pk_le 31 o (fun w => ?_) (fun w => ?_)) (fun x => ?_)) (fun y => ?_)) (fun z => ?_)
  · refine pk_eq j1 0 (fun v => ?_) (fun v => H8 (by omega) v)
    unfold wpX_clear
    obtain ⟨e0, ec, e1, e2, e3, e4⟩ := hE
    exact H7 (by omega) v ⟨rfl, by omega, e1, e2, e3, fun j hj => absurd hj (by omega)⟩
  · exact ⟨by decide, mx_ope hE h1' (by omega) h3' (H6 x w)⟩
  · exact ⟨by decide, by decide, mx_lev hE (by omega) (by omega) (H5 y x)⟩
  · exact mx_unt hE (H3 z y) (H4 z y)
  · exact mx_tok hE ht (H1 z) (H2 z)
end
theorem mx_tokL (x : Int32) : ∃ t, t < 20 ∧ ∀ post : Int32 → Prop, post (nI t) → wpL_token post () (x &&& 127) := by
  obtain ⟨y, hy, e⟩ := pk_andE x (m := 127) 7 (by decide)
  have hy : y < 128 := hy
  have e7 : nI y &&& 7 = nI (y % 8) := pk_andN (show y < 2 ^ 32 by omega) 3 (by decide)
  have es : nI y >>> ((3 : Int32) &&& 31) = nI (y / 8) := pk_shrN (show y < 2 ^ 31 by omega) _ 3 (by decide)
  have es7 : nI (y / 8) &&& 7 = nI (y / 8 % 8) := pk_andN (show y / 8 < 2 ^ 32 by omega) 3 (by decide)
  have er : nI (y / 8) - nI (y / 8) / 10 * 10 = nI (y / 8 % 10) := pk_rem (a := y / 8) (d := 10) (by omega) (by omega) (by omega)
  have ea : 10 + nI (y / 8 % 8) = nI (10 + y / 8 % 8) := nI_add 10 _
  unfold wpL_token
  rw [e, e7, es, es7, er, ea]
  by_cases c1 : y % 8 < 3
  · exact ⟨y / 8 % 10, by omega, fun post H => nm_e (pk_le 3 (y % 8) (fun z => absurd z (by omega)) (fun _ => ⟨by decide, H⟩))⟩
  · by_cases c2 : y % 8 < 6
    · exact ⟨10 + y / 8 % 8, by omega, fun post H => nm_e (pk_le 3 (y % 8) (fun _ => pk_le 6 (y % 8) (fun z => absurd z (by omega)) (fun _ => H)) (fun z => absurd z (by omega)))⟩
    · by_cases c3 : y % 8 = 6
      · exact ⟨18, by omega, fun post H => nm_e (pk_le 3 (y % 8) (fun _ => pk_le 6 (y % 8) (fun _ => pk_eq (y % 8) 6 (fun _ => H) (fun z => absurd c3 z)) (fun z => absurd z (by omega))) (fun z => absurd z (by omega)))⟩
      · exact ⟨19, by omega, fun post H => nm_e (pk_le 3 (y % 8) (fun _ => pk_le 6 (y % 8) (fun _ => pk_eq (y % 8) 6 (fun z => absurd z c3) (fun _ => H)) (fun z => absurd z (by omega))) (fun z => absurd z (by omega)))⟩
/-! a new reader -/
def mx_K0 : Nat → Nat := fun _ => 0
def mx_V0 : Nat → Nat := fun o => if o < 6 then o / 2 else o - 3
def mx_M0 : Nat → Nat := fun o => o % 4
theorem mx_init {post : St1 → Prop} (H : ∀ a2 a3 : Nat → Int32, mx_En mx_K0 mx_V0 mx_M0 mx_K0 0 0 (fun _ => 0) a2 a3 (fun _ => 0) → post (0, 0, 0, 0, 0, 0, fun _ => 0, a2, a3, fun _ => 0, fun _ => 0, fun _ => 0, fun _ => 0, fun _ => 0, fun _ => 0, fun _ => 0, fun _ => 0, fun _ => 0, fun _ => 0, fun _ => 0)) :
    wpX_init post 14 197 (0, 0, 0, 0, 0, 0) := by
  refine ⟨by omega, by omega, by omega, by omega, by omega, by omega, by omega, by omega, by omega, by omega, by omega, by omega, by omega, by omega, by omega, by omega, by omega, by omega, by omega, by omega, by omega, by omega, by omega, by omega, by omega, by omega, by omega, by omega, ?_⟩
  refine pk_loop (σ := (Nat → Int32) × (Nat → Int32)) (fun n i s => wX_init_117 post 14 197 14 197 0 0 0 0 0 0 n (nI i) (fun _ => 0) s.1 s.2 (fun _ => 0) (fun _ => 0) (fun _ => 0) (fun _ => 0) (fun _ => 0) (fun _ => 0) (fun _ => 0) (fun _ => 0) (fun _ => 0) (fun _ => 0) (fun _ => 0))
    (fun i s => (∀ j, j < i → mx_V0 j < 5 ∧ s.1 j = nI (mx_V0 j)) ∧ (∀ j, j < i → mx_M0 j < 4 ∧ s.2 j = nI (mx_M0 j))) 8 0 (fun _ => 0, fun _ => 0) (by omega) ⟨fun j hj => absurd hj (by omega), fun j hj => absurd hj (by omega)⟩ ?_ ?_
  · intro n s hs
    obtain ⟨a2, a3⟩ := s
    exact br_t (by decide) (H a2 a3 ⟨rfl, by omega, fun j _ => ⟨by show (0 : Nat) < 5; omega, rfl⟩, hs.1, hs.2, fun j hj => absurd hj (by omega)⟩)
  · intro n i s hi hs hw
    obtain ⟨a2, a3⟩ := s
    obtain ⟨h1, h2⟩ := hs
    have h1 : ∀ j, j < i → mx_V0 j < 5 ∧ a2 j = nI (mx_V0 j) := h1
    have h2 : ∀ j, j < i → mx_M0 j < 4 ∧ a3 j = nI (mx_M0 j) := h2
    have e3 : nI i &&& 3 = nI (i % 4) := pk_andN (show i < 2 ^ 32 by omega) 2 (by decide)
    have fin : ∀ v : Int32, v = nI (mx_V0 i) → wX_init_143 post 14 197 (wX_init_117 post 14 197 14 197 0 0 0 0 0 0 n) (nI i) v (nI i) 14 197 0 0 0 0 0 0 (fun _ => 0) a2 a3 (fun _ => 0) (fun _ => 0) (fun _ => 0) (fun _ => 0) (fun _ => 0) (fun _ => 0) (fun _ => 0) (fun _ => 0) (fun _ => 0) (fun _ => 0) (fun _ => 0) := by
      intro v hv
      unfold wX_init_143
      rw [nI_clamp (show i < 2 ^ 31 by omega), e3, hv]
      refine ⟨pk_in i 8 hi, nm_e ⟨pk_in i 8 hi, nm_e (nm_r (nI_1 i) (hw (upd a2 i (nI (mx_V0 i)), upd a3 i (nI (i % 4))) ⟨?_, ?_⟩))⟩⟩
      · intro j hj
        show mx_V0 j < 5 ∧ upd a2 i (nI (mx_V0 i)) j = nI (mx_V0 j)
        by_cases e : j = i
        · subst e
          rw [pk_us]
          refine ⟨?_, rfl⟩
          unfold mx_V0
          split <;> omega
        · rw [pk_un e]
          exact h1 j (by omega)
      · intro j hj
        show mx_M0 j < 4 ∧ upd a3 i (nI (i % 4)) j = nI (mx_M0 j)
        by_cases e : j = i
        · subst e
          rw [pk_us]
          exact ⟨Nat.mod_lt _ (by decide), rfl⟩
        · rw [pk_un e]
          exact h2 j (by omega)
    refine br_f (nI_ge (b := 8) hi (by decide)) (pk_le 6 i (fun c => fin _ ?_) (fun c => ⟨by decide, fin _ ?_⟩))
    · rw [show mx_V0 i = i - 3 from if_neg (by omega), show (3 : Int32) = nI 3 from rfl, pk_sub (by omega)]
    · rw [show mx_V0 i = i / 2 from if_pos c, show (2 : Int32) = nI 2 from rfl, pk_div (by omega) (by omega) (by omega)]
end
section
/-! the law behind its loop -/
section
variable {K V M T : Nat → Nat} {z L kc ks : Nat} {xs : Nat → Int32} {lo hi : Int64} {post : Int32 → Prop} {f0 f1 f2 f3 f4 f5 : Int32} {a1 a2 a3 a4 a5 a6 a7 a8 a9 a10 a11 a12 a13 a14 : Nat → Int32} {g0 g1 g2 g3 g4 g5 : Int32} {b1 b2 b3 b4 b5 b6 b7 b8 b9 b10 b11 b12 b13 b14 : Nat → Int32}
theorem mx_495 {T' : Nat → Nat} {x : mx_C} {s : Nat} (hE : mx_En K V M T' (z + 1) g0 b1 b2 b3 b4) (hz : z ≤ 13) (h0 : T' 0 = 18) (hT : ∀ j, j < z → T' (j + 1) = T j) (hrd : mx_rd K V M T z = some (x, s)) (H : post 1) :
    wL_law_495 post L xs (nI (x.2.2.1 + s)) x.2.1 kc ks g0 g1 g2 g3 g4 g5 b1 b2 b3 b4 b5 b6 b7 b8 b9 b10 b11 b12 b13 b14 := by
  unfold wL_law_495
  refine mx_tok (t := 19) hE (by omega) (fun q => absurd q (by omega)) (fun _ hE' => ?_)
  obtain ⟨y, hy, y1, y2, y3⟩ := mx_brk (T' := mx_ug T' (z + 1) 19) (by rw [mx_ug_n (by omega)]; exact h0) (fun j hj => by rw [mx_ug_n (by omega)]; exact hT j hj) (mx_ug_s _ _ _) hrd
  have hy : mx_rd K V M (mx_ug T' (z + 1) 19) (z + 1 + 1) = some (y, s) := hy
  dsimp only
  refine mx_reads hE' (fun g1 g2 g3 g4 g5 b5 b6 b7 b8 b9 b10 b11 b12 b13 b14 _ => ?_)
  dsimp only
  rw [hy]
  refine br_f (show ¬ mx_b true = 0 by decide) (mx_value hE' (fun g1 g2 g3 g4 g5 b5 b6 b7 b8 b9 b10 b11 b12 b13 b14 => ?_))
  dsimp only
  rw [hy]
  refine br_t y2 (mx_strength hE' (fun g1 g2 g3 g4 g5 b5 b6 b7 b8 b9 b10 b11 b12 b13 b14 => ?_))
  dsimp only
  rw [hy]
  refine br_t (show nI y.1 = 5 by rw [y1]; rfl) (mx_spare hE' (fun g1 g2 g3 g4 g5 b5 b6 b7 b8 b9 b10 b11 b12 b13 b14 => ?_))
  rw [hy]
  refine br_t (show nI (y.2.2.1 + s) = nI (x.2.2.1 + s) + 1 from ?_) H
  rw [y3, nI_1, show x.2.2.1 + 1 + s = x.2.2.1 + s + 1 by omega]
theorem mx_458 {x : mx_C} {s : Nat} (hpk : mx_pk T z lo hi) (hz : z ≤ 13) (hTz : ∀ j, j < z → T j < 20) (hrd : mx_rd K V M T z = some (x, s)) (H : post 1) :
    ∀ (d i : Nat) (T' : Nat → Nat) (g0 g1 g2 g3 g4 g5 : Int32) (b1 b2 b3 b4 b5 b6 b7 b8 b9 b10 b11 b12 b13 b14 : Nat → Int32), i + d = z → mx_En K V M T' (i + 1) g0 b1 b2 b3 b4 → T' 0 = 18 → (∀ j, j < i → T' (j + 1) = T j) →
      wL_law_458 post L xs lo hi (nI z) (nI (x.2.2.1 + s)) x.2.1 kc ks (d + 1) (nI i) g0 g1 g2 g3 g4 g5 b1 b2 b3 b4 b5 b6 b7 b8 b9 b10 b11 b12 b13 b14 := by
  intro d
  induction d with
  | zero =>
    intro i T' g0 g1 g2 g3 g4 g5 b1 b2 b3 b4 b5 b6 b7 b8 b9 b10 b11 b12 b13 b14 hi' hE h0 hT
    have hi' : i = z := hi'
    subst hi'
    have P : wL_law_495 post L xs (nI (x.2.2.1 + s)) x.2.1 kc ks g0 g1 g2 g3 g4 g5 b1 b2 b3 b4 b5 b6 b7 b8 b9 b10 b11 b12 b13 b14 := mx_495 hE hz h0 hT hrd H
    exact br_c (fun _ => P) (fun _ => br_t (nI_le (Nat.le_refl i) (by omega)) (P))
  | succ d ih =>
    intro i T' g0 g1 g2 g3 g4 g5 b1 b2 b3 b4 b5 b6 b7 b8 b9 b10 b11 b12 b13 b14 hi' hE h0 hT
    refine br_f (nI_ge (b := 13) (by omega) (by decide)) (pk_le z i (fun q => absurd q (by omega)) (fun _ => mx_at hpk (by omega) (by omega) ?_))
    refine mx_tok hE (hTz i (by omega)) (fun q => absurd q (by omega)) (fun _ hE' => ?_)
    dsimp only
    refine nm_r (nI_1 i) (ih (i + 1) _ _ _ _ _ _ _ _ _ _ _ b5 b6 b7 b8 b9 b10 b11 b12 b13 b14 (by omega) hE' ?_ ?_)
    · rw [mx_ug_n (by omega)]
      exact h0
    · intro j hj
      by_cases e : j = i
      · subst e
        exact mx_ug_s _ _ _
      · rw [mx_ug_n (by omega)]
        exact hT j (by omega)
theorem mx_434 (hpk : mx_pk T z lo hi) (hTz : ∀ j, j < z → T j < 20) (hz : z ≤ 15) (hG : mx_En K V M T 0 g0 b1 b2 b3 b4) (H : post 1) :
    wL_law_434 post L xs lo hi (nI z) (mx_b (mx_rd K V M T z).isSome) (mx_qp (mx_rd K V M T z)) (mx_qv (mx_rd K V M T z)) kc ks g0 g1 g2 g3 g4 g5 b1 b2 b3 b4 b5 b6 b7 b8 b9 b10 b11 b12 b13 b14 := by
  unfold wL_law_434
  cases hr : mx_rd K V M T z with
  | none => exact br_t rfl H
  | some A =>
    obtain ⟨x, s⟩ := A
    refine br_f (show ¬ mx_b true = 0 by decide) (pk_le z 13 (fun c => ?_) (fun _ => H))
    refine mx_tok (t := 18) hG (by omega) (fun q => absurd q (by omega)) (fun _ hE' => ?_)
    exact ⟨z + 1, mx_458 hpk c hTz hr H z 0 (mx_ug T 0 18) _ _ _ _ _ _ _ _ _ _ b5 b6 b7 b8 b9 b10 b11 b12 b13 b14 (by omega) hE' (mx_ug_s _ _ _) (fun j hj => absurd hj (by omega))⟩
theorem mx_383 (hE : mx_En K V M T z f0 a1 a2 a3 a4) (hpk : mx_pk T z lo hi) (hG : mx_En K V M T 0 g0 b1 b2 b3 b4) (H : post 1) :
    wL_law_383 post L xs lo hi (nI z) (mx_b (mx_rd K V M T z).isSome) (mx_qp (mx_rd K V M T z)) (mx_qv (mx_rd K V M T z)) kc ks f0 f1 f2 f3 f4 f5 a1 a2 a3 a4 a5 a6 a7 a8 a9 a10 a11 a12 a13 a14 g0 g1 g2 g3 g4 g5 b1 b2 b3 b4 b5 b6 b7 b8 b9 b10 b11 b12 b13 b14 := by
  have hz := hE.2.1
  have P : wL_law_434 post L xs lo hi (nI z) (mx_b (mx_rd K V M T z).isSome) (mx_qp (mx_rd K V M T z)) (mx_qv (mx_rd K V M T z)) kc ks g0 g1 g2 g3 g4 g5 b1 b2 b3 b4 b5 b6 b7 b8 b9 b10 b11 b12 b13 b14 := mx_434 hpk (fun j hj => (hE.2.2.2.2.2 j hj).1) hz hG H
  unfold wL_law_383
  refine pk_le 15 z (fun _ => P) (fun c => ?_)
  refine mx_tok (t := 0) hE (by omega) (fun q => absurd q (by omega)) (fun _ hE1 => ?_)
  dsimp only
  refine mx_reads hE1 (fun f1 f2 f3 f4 f5 a5 a6 a7 a8 a9 a10 a11 a12 a13 a14 _ => ?_)
  dsimp only
  refine mx_unt hE1 (fun q => absurd q (by omega)) (fun d hd hE2 => ?_)
  have hd : d = z := by omega
  subst hd
  dsimp only
  refine mx_tok (t := 9) hE2 (by omega) (fun q => absurd q (by omega)) (fun _ hE3 => ?_)
  dsimp only
  refine mx_reads hE3 (fun f1 f2 f3 f4 f5 a5 a6 a7 a8 a9 a10 a11 a12 a13 a14 _ => ?_)
  dsimp only
  refine br_t (congrArg mx_b (mx_last (a := 9) (b := 0) (by omega) (by omega) (fun j hj => mx_ug_n (by omega)) (mx_ug_s _ _ _) (mx_ug_s _ _ _))) ?_
  refine mx_unt hE3 (fun q => absurd q (by omega)) (fun e he hE4 => ?_)
  have he : e = d := by omega
  subst he
  exact br_t (by rw [mx_ug_s]; rfl) P
theorem mx_343 (hE : mx_En K V M T z f0 a1 a2 a3 a4) (hpk : mx_pk T z lo hi) (hG : mx_En K V M T 0 g0 b1 b2 b3 b4) (hf : ∀ x s, mx_rd K V M T z = some (x, s) → x.1 ≤ 5 ∧ mx_Sp T 0 z x.2.2.1 x.2.2.2.2) (H : post 1) :
    wL_law_343 post L xs lo hi (nI z) (mx_b (mx_rd K V M T z).isSome) (mx_qr (mx_rd K V M T z)) (mx_qp (mx_rd K V M T z)) (mx_qv (mx_rd K V M T z)) kc ks f0 f1 f2 f3 f4 f5 a1 a2 a3 a4 a5 a6 a7 a8 a9 a10 a11 a12 a13 a14 g0 g1 g2 g3 g4 g5 b1 b2 b3 b4 b5 b6 b7 b8 b9 b10 b11 b12 b13 b14 := by
  have hz := hE.2.1
  have P : ∀ (f1 f2 f3 f4 f5 : Int32) (a5 a6 a7 a8 a9 a10 a11 a12 a13 a14 : Nat → Int32), wL_law_383 post L xs lo hi (nI z) (mx_b (mx_rd K V M T z).isSome) (mx_qp (mx_rd K V M T z)) (mx_qv (mx_rd K V M T z)) kc ks f0 f1 f2 f3 f4 f5 a1 a2 a3 a4 a5 a6 a7 a8 a9 a10 a11 a12 a13 a14 g0 g1 g2 g3 g4 g5 b1 b2 b3 b4 b5 b6 b7 b8 b9 b10 b11 b12 b13 b14 := fun f1 f2 f3 f4 f5 a5 a6 a7 a8 a9 a10 a11 a12 a13 a14 => mx_383 hE hpk hG H
  unfold wL_law_343 wpX_size
  dsimp only
  refine br_t hE.1 ?_
  cases hr : mx_rd K V M T z with
  | none =>
    rw [hr] at P
    exact br_t rfl (P f1 f2 f3 f4 f5 a5 a6 a7 a8 a9 a10 a11 a12 a13 a14)
  | some A =>
    obtain ⟨x, s⟩ := A
    rw [hr] at P
    refine br_f (show ¬ mx_b true = 0 by decide) ?_
    have hS := (hf x s hr).2
    cases ho : x.2.2.2.2 with
    | none => exact br_t (show mx_qo x.2.2.2.2 < 0 by rw [ho]; decide) (P f1 f2 f3 f4 f5 a5 a6 a7 a8 a9 a10 a11 a12 a13 a14)
    | some r =>
      rw [ho] at hS
      have h5 := hS.2.2.2.2 r rfl
      have e : mx_qr (some (x, s)) = nI r := by
        show mx_qo x.2.2.2.2 = nI r
        rw [ho]
        rfl
      rw [e]
      refine br_f (nI_pos (by omega)) (mx_depth hE hr ho (fun f1 f2 f3 f4 f5 a5 a6 a7 a8 a9 a10 a11 a12 a13 a14 => ?_))
      dsimp only
      have h1 := hS.1
      exact mx_pairs hpk hz (by omega) (fun i hi' => mx_wh_lt hS hi') (mx_wh_p hS) (br_t rfl (P f1 f2 f3 f4 f5 a5 a6 a7 a8 a9 a10 a11 a12 a13 a14))
theorem mx_end (hE : mx_En K V M T z f0 a1 a2 a3 a4) (hpk : mx_pk T z lo hi) (hG : mx_En K V M T 0 g0 b1 b2 b3 b4) (H : post 1) {n : Nat} {k : Int32} (hk : nI L ≤ k + 1) :
    wL_law_27 post L xs kc ks (n + 1) lo hi (nI z) k f0 f1 f2 f3 f4 f5 a1 a2 a3 a4 a5 a6 a7 a8 a9 a10 a11 a12 a13 a14 g0 g1 g2 g3 g4 g5 b1 b2 b3 b4 b5 b6 b7 b8 b9 b10 b11 b12 b13 b14 := by
  refine br_t hk (mx_reads hE (fun f1 f2 f3 f4 f5 a5 a6 a7 a8 a9 a10 a11 a12 a13 a14 hf => ?_))
  dsimp only
  refine mx_strength hE (fun f1 f2 f3 f4 f5 a5 a6 a7 a8 a9 a10 a11 a12 a13 a14 => ?_)
  dsimp only
  refine mx_root hE (fun f1 f2 f3 f4 f5 a5 a6 a7 a8 a9 a10 a11 a12 a13 a14 => ?_)
  dsimp only
  refine mx_spare hE (fun f1 f2 f3 f4 f5 a5 a6 a7 a8 a9 a10 a11 a12 a13 a14 => ?_)
  dsimp only
  refine mx_value hE (fun f1 f2 f3 f4 f5 a5 a6 a7 a8 a9 a10 a11 a12 a13 a14 => ?_)
  dsimp only
  have P : wL_law_343 post L xs lo hi (nI z) (mx_b (mx_rd K V M T z).isSome) (mx_qr (mx_rd K V M T z)) (mx_qp (mx_rd K V M T z)) (mx_qv (mx_rd K V M T z)) kc ks f0 f1 f2 f3 f4 f5 a1 a2 a3 a4 a5 a6 a7 a8 a9 a10 a11 a12 a13 a14 g0 g1 g2 g3 g4 g5 b1 b2 b3 b4 b5 b6 b7 b8 b9 b10 b11 b12 b13 b14 := mx_343 hE hpk hG hf H
  cases hr : mx_rd K V M T z with
  | none =>
    rw [hr] at P
    exact br_t rfl (br_t rfl (br_t rfl (br_t rfl (br_t rfl P))))
  | some A =>
    obtain ⟨x, s⟩ := A
    have h5 := (hf x s hr).1
    rw [hr] at P
    have hq : ¬ mx_qs (some (x, s)) = -4 := by
      intro q
      have q : nI x.1 = -4 := q
      exact absurd (show nI x.1 < 0 by rw [q]; decide) (nI_pos (by omega))
    exact br_f hq (br_t rfl (br_f (show ¬ mx_b true = 0 by decide) P))
end
end
section
/-! the law's loop -/
theorem mx_pk_lo {T : Nat → Nat} {z t : Nat} {lo hi : Int64} (h : mx_pk T z lo hi) (hz : z < 8) (ht : t < 32) :
    mx_pk (mx_ug T z t) (z + 1) ((lo &&& (((31 : Int64) <<< ((5 * nI z).toInt64 &&& 63)) ^^^ (-1))) ||| ((nI t).toInt64 <<< ((5 * nI z).toInt64 &&& 63))) hi := by
  rw [show (5 : Int32) * nI z = nI (5 * z) from pk_mul 5 z]
  intro i hi'
  rw [if_pos (show i < 8 by omega), mx_wr lo hz ht (show i % 8 < 8 by omega)]
  by_cases e : i = z
  · subst e
    rw [if_pos (by omega), mx_ug_s]
  · rw [if_neg (by omega), mx_ug_n e]
    have := h i (by omega)
    rw [if_pos (show i < 8 by omega)] at this
    exact this
theorem mx_pk_hi {T : Nat → Nat} {z t : Nat} {lo hi : Int64} (h : mx_pk T z lo hi) (hz : 8 ≤ z) (hz2 : z < 15) (ht : t < 32) :
    mx_pk (mx_ug T z t) (z + 1) lo ((hi &&& (((31 : Int64) <<< ((5 * (nI z - 8)).toInt64 &&& 63)) ^^^ (-1))) ||| ((nI t).toInt64 <<< ((5 * (nI z - 8)).toInt64 &&& 63))) := by
  rw [show nI z - 8 = nI (z - 8) from pk_sub (a := z) (b := 8) hz, show (5 : Int32) * nI (z - 8) = nI (5 * (z - 8)) from pk_mul 5 (z - 8)]
  intro i hi'
  by_cases c : i < 8
  · rw [if_pos c, mx_ug_n (by omega)]
    have := h i (by omega)
    rw [if_pos c] at this
    exact this
  · rw [if_neg c, mx_wr hi (show z - 8 < 8 by omega) ht (show i % 8 < 8 by omega)]
    by_cases e : i = z
    · subst e
      rw [if_pos (by omega), mx_ug_s]
    · rw [if_neg (by omega), mx_ug_n e]
      have := h i (by omega)
      rw [if_neg c] at this
      exact this
theorem mx_En0 {K V M T T' : Nat → Nat} {g0 : Int32} {b1 b2 b3 b4 : Nat → Int32} (h : mx_En K V M T 0 g0 b1 b2 b3 b4) : mx_En K V M T' 0 g0 b1 b2 b3 b4 := by
  obtain ⟨e0, ec, e1, e2, e3, e4⟩ := h
  exact ⟨e0, ec, e1, e2, e3, fun j hj => absurd hj (by omega)⟩
theorem mx_loop {L kc ks : Nat} {xs : Nat → Int32} {post : Int32 → Prop} (hL : L ≤ 260) (H : post 1) :
    ∀ (n k : Nat) (K V M T : Nat → Nat) (z : Nat) (lo hi : Int64) (f0 f1 f2 f3 f4 f5 : Int32) (a1 a2 a3 a4 a5 a6 a7 a8 a9 a10 a11 a12 a13 a14 : Nat → Int32) (g0 g1 g2 g3 g4 g5 : Int32) (b1 b2 b3 b4 b5 b6 b7 b8 b9 b10 b11 b12 b13 b14 : Nat → Int32), L ≤ k + n → mx_En K V M T z f0 a1 a2 a3 a4 → mx_En K V M T 0 g0 b1 b2 b3 b4 → mx_pk T z lo hi → k ≤ 300 →
      wL_law_27 post L xs kc ks (n + 1) lo hi (nI z) (nI k) f0 f1 f2 f3 f4 f5 a1 a2 a3 a4 a5 a6 a7 a8 a9 a10 a11 a12 a13 a14 g0 g1 g2 g3 g4 g5 b1 b2 b3 b4 b5 b6 b7 b8 b9 b10 b11 b12 b13 b14 := by
  intro n
  induction n with
  | zero =>
    intro k K V M T z lo hi f0 f1 f2 f3 f4 f5 a1 a2 a3 a4 a5 a6 a7 a8 a9 a10 a11 a12 a13 a14 g0 g1 g2 g3 g4 g5 b1 b2 b3 b4 b5 b6 b7 b8 b9 b10 b11 b12 b13 b14 hn hE hG hpk hk
    exact mx_end hE hpk hG H (by rw [nI_1]; exact nI_le (by omega) (by omega))
  | succ n ih =>
    intro k K V M T z lo hi f0 f1 f2 f3 f4 f5 a1 a2 a3 a4 a5 a6 a7 a8 a9 a10 a11 a12 a13 a14 g0 g1 g2 g3 g4 g5 b1 b2 b3 b4 b5 b6 b7 b8 b9 b10 b11 b12 b13 b14 hn hE hG hpk hk
    by_cases hx : L ≤ k + 1
    · exact mx_end hE hpk hG H (by rw [nI_1]; exact nI_le hx (by omega))
    · have hz := hE.2.1
      have hT := hE.2.2.2.2.2
      obtain ⟨o, ho', ho⟩ := pk_andE (xs k) (m := 31) 5 (by decide)
      obtain ⟨t, ht, hl⟩ := mx_tokL (xs (k + 1))
      obtain ⟨j1, h1', h1⟩ := pk_andE (xs (k + 1)) (m := 7) 3 (by decide)
      obtain ⟨j2, h2', h2⟩ := pk_andE (xs (k + 1) >>> ((3 : Int32) &&& 31)) (m := 7) 3 (by decide)
      obtain ⟨j3, h3', h3⟩ := pk_andE (xs (k + 1) >>> ((6 : Int32) &&& 31)) (m := 3) 2 (by decide)
      have ho' : o < 32 := ho'
      have h1' : j1 < 8 := h1'
      have h2' : j2 < 8 := h2'
      have h3' : j3 < 4 := h3'
      have k2 : nI k + 2 = nI (k + 2) := nI_add k 2
      have vk : vp_in (nI k) L := pk_in k L (by omega)
      have vk1 : vp_in (nI (k + 1)) L := pk_in (k + 1) L (by omega)
      refine br_f (by rw [nI_1]; exact nI_ge (b := L) (by omega) (by omega)) ?_
      rw [nI_1 k, nI_clamp (show k < 2 ^ 31 by omega), nI_clamp (show k + 1 < 2 ^ 31 by omega), ho]
      refine ⟨vk, nm_e ⟨vk1, hl _ ⟨vk, vk1, mx_turn hE ho ho' ht hl h1 h1' h2 h2' h3 h3' ?_ ?_ ?_ ?_ ?_ ?_ ?_ ?_⟩⟩⟩
      · intro c1 c2
        dsimp only
        refine br_f (nI_ge (b := 24) c1 (by decide)) (br_t (by decide) ?_)
        refine br_t (nI_le (b := 25) (by omega) (by decide)) (br_f (nI_ge (b := 24) c1 (by decide)) (br_t (by decide) (br_t (nI_le (b := 23) (by omega) (by decide)) ?_)))
        refine pk_eq o 31 (fun q => absurd q (by omega)) (fun _ => nm_r k2 (ih (k + 2) K V M T z lo hi f0 f1 f2 f3 f4 f5 a1 a2 a3 a4 a5 a6 a7 a8 a9 a10 a11 a12 a13 a14 g0 g1 g2 g3 g4 g5 b1 b2 b3 b4 b5 b6 b7 b8 b9 b10 b11 b12 b13 b14 (by omega) hE hG hpk (by omega)))
      · intro c1 c2 hE'
        dsimp only
        have fin : ∀ lo' hi' : Int64, mx_pk (mx_ug T z t) (z + 1) lo' hi' → wL_law_166 post L xs (wL_law_27 post L xs kc ks (n + 1)) lo' hi' (nI z) (nI k) (nI o) (nI (z + 1)) kc ks (nI (z + 1)) f1 f2 f3 f4 f5 a1 a2 a3 (upd a4 z (nI t)) a5 a6 a7 a8 a9 a10 a11 a12 a13 a14 g0 g1 g2 g3 g4 g5 b1 b2 b3 b4 b5 b6 b7 b8 b9 b10 b11 b12 b13 b14 := by
          intro lo' hi' hpk'
          refine br_t (nI_le (b := 25) (by omega) (by decide)) (br_f (nI_ge (b := 24) c1 (by decide)) (br_f (nI_nle (by omega) (by omega)) ?_))
          rw [nI_1 z]
          refine pk_eq o 31 (fun q => absurd q (by omega)) (fun _ => nm_r k2 (ih (k + 2) K V M _ (z + 1) lo' hi' _ f1 f2 f3 f4 f5 a1 a2 a3 _ a5 a6 a7 a8 a9 a10 a11 a12 a13 a14 g0 g1 g2 g3 g4 g5 b1 b2 b3 b4 b5 b6 b7 b8 b9 b10 b11 b12 b13 b14 (by omega) hE' (mx_En0 hG) hpk' (by omega)))
        refine br_f (nI_ge (b := 24) c1 (by decide)) (br_f (nI_nle (by omega) (by omega)) (pk_le 8 z (fun c3 => ?_) (fun c3 => ?_)))
        · exact br_f (nI_ge (a := 7) (b := z) (by omega) (by omega)) (fin _ _ (mx_pk_hi hpk c3 c2 (by omega)))
        · exact br_t (nI_le (a := z) (b := 7) (by omega) (by decide)) (fin _ _ (mx_pk_lo hpk c3 (by omega)))
      · intro c1 c2 c3
        dsimp only
        refine br_t (nI_le (a := 24) c1 (by omega)) (br_t (nI_le (b := 25) (by omega) (by decide)) (br_t (nI_le (a := 24) c1 (by omega)) (br_f (nI_ge (a := 23) (b := o) (by omega) (by omega)) (br_f (nI_ge (b := 26) c2 (by decide)) (br_t (by decide) ?_)))))
        refine pk_eq o 31 (fun q => absurd q (by omega)) (fun _ => nm_r k2 (ih (k + 2) K V M T z lo hi f0 f1 f2 f3 f4 f5 a1 a2 a3 a4 a5 a6 a7 a8 a9 a10 a11 a12 a13 a14 g0 g1 g2 g3 g4 g5 b1 b2 b3 b4 b5 b6 b7 b8 b9 b10 b11 b12 b13 b14 (by omega) hE hG hpk (by omega)))
      · intro c1 c2 d c3 hE'
        subst c3
        have hTd := (hT d (by omega)).1
        dsimp only
        refine br_t (nI_le (a := 24) c1 (by omega)) (br_t (nI_le (b := 25) (by omega) (by decide)) (br_t (nI_le (a := 24) c1 (by omega)) (br_f (nI_ge (a := 23) (b := o) (by omega) (by omega)) (br_f (nI_ge (b := 26) c2 (by decide)) (br_f (nI_pos (by omega)) ?_)))))
        rw [nI_pred d]
        refine pk_eq o 31 (fun q => absurd q (by omega)) (fun _ => nm_r k2 (ih (k + 2) K V M T d lo hi _ f1 f2 f3 f4 f5 a1 a2 a3 a4 a5 a6 a7 a8 a9 a10 a11 a12 a13 a14 g0 g1 g2 g3 g4 g5 b1 b2 b3 b4 b5 b6 b7 b8 b9 b10 b11 b12 b13 b14 (by omega) hE' hG (fun i hi' => hpk i (by omega)) (by omega)))
      · intro c1 c2 r hE'
        dsimp only
        refine br_t (nI_le (a := 24) (by omega) (by omega)) (br_f (nI_ge (a := 25) (b := o) (by omega) (by omega)) (br_f (nI_ge (b := 31) (by omega) (by decide)) ?_))
        rw [nI_1 k, nI_clamp (show k < 2 ^ 31 by omega), nI_clamp (show k + 1 < 2 ^ 31 by omega)]
        refine ⟨vk, vk1, mx_turn hG ho ho' ht hl h1 h1' h2 h2' h3 h3' (fun q => absurd q (by omega)) (fun q => absurd q (by omega)) (fun _ q => absurd q (by omega)) (fun _ q => absurd q (by omega)) ?_ (fun q => absurd q (by omega)) (fun q => absurd q (by omega)) (fun q => absurd q (by omega))⟩
        intro _ _ r' hG'
        dsimp only
        refine br_t (nI_le (a := 24) (by omega) (by omega)) (br_f (nI_ge (a := 23) (b := o) (by omega) (by omega)) (br_t (nI_le (a := 26) c1 (by omega)) ?_))
        exact pk_eq o 31 (fun q => absurd q (by omega)) (fun _ => nm_r k2 (ih (k + 2) _ V M T z lo hi f0 f1 f2 f3 f4 f5 _ a2 a3 a4 a5 a6 a7 a8 a9 a10 a11 a12 a13 a14 g0 g1 g2 g3 g4 g5 _ b2 b3 b4 b5 b6 b7 b8 b9 b10 b11 b12 b13 b14 (by omega) hE' hG' hpk (by omega)))
      · intro c1 c2 r hE'
        dsimp only
        refine br_t (nI_le (a := 24) (by omega) (by omega)) (br_f (nI_ge (a := 25) (b := o) (by omega) (by omega)) (br_f (nI_ge (b := 31) (by omega) (by decide)) ?_))
        rw [nI_1 k, nI_clamp (show k < 2 ^ 31 by omega), nI_clamp (show k + 1 < 2 ^ 31 by omega)]
        refine ⟨vk, vk1, mx_turn hG ho ho' ht hl h1 h1' h2 h2' h3 h3' (fun q => absurd q (by omega)) (fun q => absurd q (by omega)) (fun _ q => absurd q (by omega)) (fun _ q => absurd q (by omega)) (fun _ q => absurd q (by omega)) ?_ (fun q => absurd q (by omega)) (fun q => absurd q (by omega))⟩
        intro _ _ r' hG'
        dsimp only
        refine br_t (nI_le (a := 24) (by omega) (by omega)) (br_f (nI_ge (a := 23) (b := o) (by omega) (by omega)) (br_t (nI_le (a := 26) (by omega) (by omega)) ?_))
        exact pk_eq o 31 (fun q => absurd q (by omega)) (fun _ => nm_r k2 (ih (k + 2) K _ _ T z lo hi f0 f1 f2 f3 f4 f5 a1 _ _ a4 a5 a6 a7 a8 a9 a10 a11 a12 a13 a14 g0 g1 g2 g3 g4 g5 b1 _ _ b4 b5 b6 b7 b8 b9 b10 b11 b12 b13 b14 (by omega) hE' hG' hpk (by omega)))
      · intro c1 c2 hE'
        dsimp only
        refine br_t (nI_le (a := 24) (by omega) (by omega)) (br_f (nI_ge (a := 25) (b := o) (by omega) (by omega)) (br_t (nI_le (a := 31) (by omega) (by omega)) (br_t (nI_le (a := 24) (by omega) (by omega)) (br_f (nI_ge (a := 23) (b := o) (by omega) (by omega)) (br_t (nI_le (a := 26) (by omega) (by omega)) ?_)))))
        unfold wL_law_240 wL_law_242
        rw [nI_1 k, nI_clamp (show k + 1 < 2 ^ 31 by omega), h1]
        refine br_t (by rw [c1]; rfl) ⟨vk1, br_t (by rw [c2]; rfl) (nm_r k2 (ih (k + 2) K V M T 0 lo hi 0 f1 f2 f3 f4 f5 a1 a2 a3 a4 a5 a6 a7 a8 a9 a10 a11 a12 a13 a14 g0 g1 g2 g3 g4 g5 b1 b2 b3 b4 b5 b6 b7 b8 b9 b10 b11 b12 b13 b14 (by omega) hE' hG (fun i hi' => absurd hi' (by omega)) (by omega)))⟩
      · intro c1 c2
        dsimp only
        refine br_t (nI_le (a := 24) (by omega) (by omega)) (br_f (nI_ge (a := 25) (b := o) (by omega) (by omega)) (br_t (nI_le (a := 31) (by omega) (by omega)) (br_t (nI_le (a := 24) (by omega) (by omega)) (br_f (nI_ge (a := 23) (b := o) (by omega) (by omega)) (br_t (nI_le (a := 26) (by omega) (by omega)) ?_)))))
        unfold wL_law_240 wL_law_242
        rw [nI_1 k, nI_clamp (show k + 1 < 2 ^ 31 by omega), h1]
        refine br_t (by rw [c1]; rfl) ⟨vk1, br_f (nI_ne0 (by omega) (by omega)) (nm_r k2 (ih (k + 2) K V M T z lo hi f0 f1 f2 f3 f4 f5 a1 a2 a3 a4 a5 a6 a7 a8 a9 a10 a11 a12 a13 a14 g0 g1 g2 g3 g4 g5 b1 b2 b3 b4 b5 b6 b7 b8 b9 b10 b11 b12 b13 b14 (by omega) hE hG hpk (by omega)))⟩
end
section
/-! the owed statement -/
theorem mx_start {L kc ks : Nat} {xs : Nat → Int32} (hL : L ≤ 260) (a2 a3 b2 b3 : Nat → Int32) (hE : mx_En mx_K0 mx_V0 mx_M0 mx_K0 0 0 (fun _ => 0) a2 a3 (fun _ => 0)) (hG : mx_En mx_K0 mx_V0 mx_M0 mx_K0 0 0 (fun _ => 0) b2 b3 (fun _ => 0)) :
    ∃ fu : Nat, wL_law_27 (fun r => r = 1) L xs kc ks fu 0 0 0 0 0 0 0 0 0 0 (fun _ => 0) a2 a3 (fun _ => 0) (fun _ => 0) (fun _ => 0) (fun _ => 0) (fun _ => 0) (fun _ => 0) (fun _ => 0) (fun _ => 0) (fun _ => 0) (fun _ => 0) (fun _ => 0) 0 0 0 0 0 0 (fun _ => 0) b2 b3 (fun _ => 0) (fun _ => 0) (fun _ => 0) (fun _ => 0) (fun _ => 0) (fun _ => 0) (fun _ => 0) (fun _ => 0) (fun _ => 0) (fun _ => 0) (fun _ => 0) := by
  refine ⟨L + 1, ?_⟩
  have h := mx_loop (kc := kc) (ks := ks) (xs := xs) (post := fun r => r = 1) hL rfl L 0 mx_K0 mx_V0 mx_M0 mx_K0 0 0 0 0 0 0 0 0 0 (fun _ => 0) a2 a3 (fun _ => 0) (fun _ => 0) (fun _ => 0) (fun _ => 0) (fun _ => 0) (fun _ => 0) (fun _ => 0) (fun _ => 0) (fun _ => 0) (fun _ => 0) (fun _ => 0) 0 0 0 0 0 0 (fun _ => 0) b2 b3 (fun _ => 0) (fun _ => 0) (fun _ => 0) (fun _ => 0) (fun _ => 0) (fun _ => 0) (fun _ => 0) (fun _ => 0) (fun _ => 0) (fun _ => 0) (fun _ => 0) (by omega) hE hG (fun i hi' => absurd hi' (by omega)) (by omega)
  rw [nI_0] at h
  exact h
theorem i_vc (xs : Nat → Int32) (L : Nat) (hL : L ≤ 260) : wpL_law (fun r => r = 1) L xs := by
  unfold wpL_law
  refine ⟨14, 197, by omega, by omega, ?_⟩
  refine mx_init (fun a2 a3 hE => ?_)
  dsimp only
  refine ⟨by omega, by omega, 14, 197, by omega, by omega, ?_⟩
  refine mx_init (fun b2 b3 hG => ?_)
  dsimp only
  exact mx_start hL a2 a3 b2 b3 hE hG
end
