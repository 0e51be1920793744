section
/-- one of the eight directions -/
def jp_dir (dx dy : Int) : Prop := (-1 ≤ dx ∧ dx ≤ 1) ∧ (-1 ≤ dy ∧ dy ≤ 1) ∧ ¬ (dx = 0 ∧ dy = 0)
/-- what a step costs -/
def jp_cost (dx dy : Int) : Nat := if dx = 0 ∨ dy = 0 then 10 else 14
/-- 1 for a diagonal step -/
def jp_dg (dx dy : Int) : Nat := if dx = 0 ∨ dy = 0 then 0 else 1
/-- a list of steps leads from x y to tx ty over free cells (the first cell isn't asked) -/
def jp_W (F : Int → Int → Prop) : List (Int × Int) → Int → Int → Int → Int → Prop
  | [], x, y, tx, ty => x = tx ∧ y = ty
  | d :: l, x, y, tx, ty => jp_dir d.1 d.2 ∧ F (x + d.1) (y + d.2) ∧ jp_W F l (x + d.1) (y + d.2) tx ty
/-- its cost -/
def jp_C : List (Int × Int) → Nat
  | [] => 0
  | d :: l => jp_cost d.1 d.2 + jp_C l
/-- its number of diagonal steps -/
def jp_N : List (Int × Int) → Nat
  | [] => 0
  | d :: l => jp_dg d.1 d.2 + jp_N l
/-- how late its diagonal steps come -/
def jp_S : List (Int × Int) → Nat
  | [] => 0
  | _ :: l => jp_N l + jp_S l
theorem jp_cg {F : Int → Int → Prop} {a b a' b' : Int} (h : F a b) (ha : a = a') (hb : b = b') : F a' b' := by
  rw [← ha, ← hb]
  exact h
theorem jp_sm (k : Nat) (a : Int) : ((k + 1 : Nat) : Int) * a = k * a + a := by
  rw [Int.natCast_add, Int.add_mul]
  show (k : Int) * a + 1 * a = k * a + a
  rw [Int.one_mul]
theorem jp_cost_lo (dx dy : Int) : 10 ≤ jp_cost dx dy ∧ jp_cost dx dy ≤ 14 := by
  unfold jp_cost
  split <;> omega
theorem jp_Wapp {F : Int → Int → Prop} : ∀ (l m : List (Int × Int)) (x y u v tx ty : Int), jp_W F l x y u v → jp_W F m u v tx ty → jp_W F (l ++ m) x y tx ty := by
  intro l
  induction l with
  | nil =>
    intro m x y u v tx ty h hm
    obtain ⟨rfl, rfl⟩ := h
    exact hm
  | cons d l ih =>
    intro m x y u v tx ty h hm
    exact ⟨h.1, h.2.1, ih m _ _ u v tx ty h.2.2 hm⟩
theorem jp_Wspl {F : Int → Int → Prop} : ∀ (l m : List (Int × Int)) (x y tx ty : Int), jp_W F (l ++ m) x y tx ty → ∃ u v, jp_W F l x y u v ∧ jp_W F m u v tx ty := by
  intro l
  induction l with
  | nil =>
    intro m x y tx ty h
    exact ⟨x, y, ⟨rfl, rfl⟩, h⟩
  | cons d l ih =>
    intro m x y tx ty h
    obtain ⟨u, v, h1, h2⟩ := ih m _ _ tx ty h.2.2
    exact ⟨u, v, ⟨h.1, h.2.1, h1⟩, h2⟩
theorem jp_Capp (l m : List (Int × Int)) : jp_C (l ++ m) = jp_C l + jp_C m := by
  induction l with
  | nil => exact (Nat.zero_add _).symm
  | cons d l ih =>
    show jp_cost d.1 d.2 + jp_C (l ++ m) = jp_cost d.1 d.2 + jp_C l + jp_C m
    rw [ih, Nat.add_assoc]
theorem jp_Napp (l m : List (Int × Int)) : jp_N (l ++ m) = jp_N l + jp_N m := by
  induction l with
  | nil => exact (Nat.zero_add _).symm
  | cons d l ih =>
    show jp_dg d.1 d.2 + jp_N (l ++ m) = jp_dg d.1 d.2 + jp_N l + jp_N m
    rw [ih, Nat.add_assoc]
theorem jp_Sapp {m m' : List (Int × Int)} (hn : jp_N m' = jp_N m) (hs : jp_S m' < jp_S m) (l : List (Int × Int)) : jp_S (l ++ m') < jp_S (l ++ m) := by
  induction l with
  | nil => exact hs
  | cons d l ih =>
    show jp_N (l ++ m') + jp_S (l ++ m') < jp_N (l ++ m) + jp_S (l ++ m)
    rw [jp_Napp, jp_Napp, hn]
    omega
/-- natural directions behind a step -/
def jp_nat (dx dy ex ey : Int) : Prop := (ex = dx ∧ ey = dy) ∨ (dx ≠ 0 ∧ dy ≠ 0 ∧ ((ex = dx ∧ ey = 0) ∨ (ex = 0 ∧ ey = dy)))
/-- forced directions behind a step dx dy that came to x y -/
def jp_fo (F : Int → Int → Prop) (x y dx dy ex ey : Int) : Prop :=
  (dx ≠ 0 ∧ dy ≠ 0 ∧ ((ex = -dx ∧ ey = dy ∧ ¬ F (x + -dx) (y + 0) ∧ F (x + -dx) (y + dy)) ∨ (ex = dx ∧ ey = -dy ∧ ¬ F (x + 0) (y + -dy) ∧ F (x + dx) (y + -dy)))) ∨
  (dx = 0 ∧ ∃ s : Int, (s = -1 ∨ s = 1) ∧ ex = s ∧ ey = dy ∧ ¬ F (x + s) (y + 0) ∧ F (x + s) (y + dy)) ∨
  (dy = 0 ∧ ∃ s : Int, (s = -1 ∨ s = 1) ∧ ex = dx ∧ ey = s ∧ ¬ F (x + 0) (y + s) ∧ F (x + dx) (y + s))
def jp_nf (F : Int → Int → Prop) (x y dx dy ex ey : Int) : Prop := jp_nat dx dy ex ey ∨ jp_fo F x y dx dy ex ey
theorem jp_dir0 {dx dy : Int} (h : jp_dir dx dy) : (dx = -1 ∨ dx = 0 ∨ dx = 1) ∧ (dy = -1 ∨ dy = 0 ∨ dy = 1) := by
  unfold jp_dir at h
  omega
/-- two steps that are neither natural nor forced: there is a better way -/
theorem jp_ex {F : Int → Int → Prop} {x y dx dy ex ey : Int} (h1 : jp_dir dx dy) (h2 : jp_dir ex ey) (f2 : F (x + dx + ex) (y + dy + ey)) (f1 : F (x + dx) (y + dy)) (hn : ¬ jp_nf F (x + dx) (y + dy) dx dy ex ey) :
    ∃ l, jp_W F l x y (x + dx + ex) (y + dy + ey) ∧ (jp_C l < jp_cost dx dy + jp_cost ex ey ∨ (jp_C l = jp_cost dx dy + jp_cost ex ey ∧ l = [(ex, ey), (dx, dy)] ∧ jp_dg dx dy = 0 ∧ jp_dg ex ey = 1)) := by
  have c1 := jp_cost_lo dx dy
  have c2 := jp_cost_lo ex ey
  have d1 := jp_dir0 h1
  have d2 := jp_dir0 h2
  have n1 : ¬ jp_nat dx dy ex ey := fun z => hn (Or.inl z)
  have n2 : ¬ jp_fo F (x + dx) (y + dy) dx dy ex ey := fun z => hn (Or.inr z)
  by_cases hA : dx + ex = 0 ∧ dy + ey = 0
  · refine ⟨[], ⟨by omega, by omega⟩, Or.inl ?_⟩
    show 0 < _
    omega
  by_cases hB : (-1 ≤ dx + ex ∧ dx + ex ≤ 1) ∧ (-1 ≤ dy + ey ∧ dy + ey ≤ 1)
  · have c3 := jp_cost_lo (dx + ex) (dy + ey)
    refine ⟨[(dx + ex, dy + ey)], ⟨⟨hB.1, hB.2, hA⟩, jp_cg f2 (by omega) (by omega), ⟨by omega, by omega⟩⟩, Or.inl ?_⟩
    show jp_cost (dx + ex) (dy + ey) + 0 < _
    omega
  by_cases hC : dx = ex ∧ dx ≠ 0
  · obtain ⟨e, h0⟩ := hC
    subst e
    by_cases g1 : ey = dy
    · exact absurd (Or.inl ⟨rfl, g1⟩) n1
    by_cases g2 : dy = 0
    · subst g2
      have g3 : ey = -1 ∨ ey = 1 := by omega
      have g4 : F (x + dx) (y + ey) := Classical.byContradiction (fun z => n2 (Or.inr (Or.inr ⟨rfl, ey, g3, rfl, rfl, fun w => z (jp_cg w (by omega) (by omega)), jp_cg f2 (by omega) (by omega)⟩)))
      have k1 : jp_cost dx 0 = 10 := if_pos (Or.inr rfl)
      have k2 : jp_cost dx ey = 14 := if_neg (by omega)
      refine ⟨[(dx, ey), (dx, 0)], ⟨h2, g4, h1, jp_cg f2 (by omega) (by omega), ⟨by omega, by omega⟩⟩, Or.inr ⟨?_, rfl, if_pos (Or.inr rfl), if_neg (by omega)⟩⟩
      show jp_cost dx ey + (jp_cost dx 0 + 0) = _
      omega
    by_cases g5 : ey = 0
    · exact absurd (Or.inr ⟨h0, g2, Or.inl ⟨rfl, g5⟩⟩) n1
    have g6 : ey = -dy := by omega
    subst g6
    have g4 : F (x + dx) y := Classical.byContradiction (fun z => n2 (Or.inl ⟨h0, g2, Or.inr ⟨rfl, rfl, fun w => z (jp_cg w (by omega) (by omega)), jp_cg f2 (by omega) (by omega)⟩⟩))
    have k1 : jp_cost dx dy = 14 := if_neg (by omega)
    have k2 : jp_cost dx 0 = 10 := if_pos (Or.inr rfl)
    have hd : jp_dir dx 0 := by
      unfold jp_dir at h1 ⊢
      omega
    refine ⟨[(dx, 0), (dx, 0)], ⟨hd, jp_cg g4 (by omega) (by omega), hd, jp_cg f2 (by omega) (by omega), ⟨by omega, by omega⟩⟩, Or.inl ?_⟩
    show jp_cost dx 0 + (jp_cost dx 0 + 0) < _
    omega
  · have hD : dy = ey ∧ dy ≠ 0 := by omega
    obtain ⟨e, h0⟩ := hD
    subst e
    by_cases g1 : ex = dx
    · exact absurd (Or.inl ⟨g1, rfl⟩) n1
    by_cases g2 : dx = 0
    · subst g2
      have g3 : ex = -1 ∨ ex = 1 := by omega
      have g4 : F (x + ex) (y + dy) := Classical.byContradiction (fun z => n2 (Or.inr (Or.inl ⟨rfl, ex, g3, rfl, rfl, fun w => z (jp_cg w (by omega) (by omega)), jp_cg f2 (by omega) (by omega)⟩)))
      have k1 : jp_cost 0 dy = 10 := if_pos (Or.inl rfl)
      have k2 : jp_cost ex dy = 14 := if_neg (by omega)
      refine ⟨[(ex, dy), (0, dy)], ⟨h2, g4, h1, jp_cg f2 (by omega) (by omega), ⟨by omega, by omega⟩⟩, Or.inr ⟨?_, rfl, if_pos (Or.inl rfl), if_neg (by omega)⟩⟩
      show jp_cost ex dy + (jp_cost 0 dy + 0) = _
      omega
    by_cases g5 : ex = 0
    · exact absurd (Or.inr ⟨g2, h0, Or.inr ⟨g5, rfl⟩⟩) n1
    have g6 : ex = -dx := by omega
    subst g6
    have g4 : F x (y + dy) := Classical.byContradiction (fun z => n2 (Or.inl ⟨g2, h0, Or.inl ⟨rfl, rfl, fun w => z (jp_cg w (by omega) (by omega)), jp_cg f2 (by omega) (by omega)⟩⟩))
    have k1 : jp_cost dx dy = 14 := if_neg (by omega)
    have k2 : jp_cost 0 dy = 10 := if_pos (Or.inl rfl)
    have hd : jp_dir 0 dy := by
      unfold jp_dir at h1 ⊢
      omega
    refine ⟨[(0, dy), (0, dy)], ⟨hd, jp_cg g4 (by omega) (by omega), hd, jp_cg f2 (by omega) (by omega), ⟨by omega, by omega⟩⟩, Or.inl ?_⟩
    show jp_cost 0 dy + (jp_cost 0 dy + 0) < _
    omega
/-- a best walk: the least cost, and then its diagonal steps as early as can be -/
def jp_best (F : Int → Int → Prop) (l : List (Int × Int)) (sx sy tx ty : Int) : Prop := jp_W F l sx sy tx ty ∧ ∀ m, jp_W F m sx sy tx ty → jp_C l < jp_C m ∨ (jp_C l = jp_C m ∧ jp_S l ≤ jp_S m)
theorem jp_bestE {F : Int → Int → Prop} {w : List (Int × Int)} {sx sy tx ty : Int} (hw : jp_W F w sx sy tx ty) : ∃ l, jp_best F l sx sy tx ty := by
  obtain ⟨c, ⟨l0, hl0, hc⟩, hmin⟩ := pk_least (fun c => ∃ l, jp_W F l sx sy tx ty ∧ jp_C l = c) ⟨_, w, hw, rfl⟩
  obtain ⟨q, ⟨l, hl, hlc, hq⟩, hmin2⟩ := pk_least (fun q => ∃ l, jp_W F l sx sy tx ty ∧ jp_C l = c ∧ jp_S l = q) ⟨_, l0, hl0, hc, rfl⟩
  refine ⟨l, hl, fun m hm => ?_⟩
  have h1 : ¬ jp_C m < c := fun z => hmin _ z ⟨m, hm, rfl⟩
  rcases Nat.lt_or_ge c (jp_C m) with h | h
  · left
    omega
  · have e : jp_C m = c := by omega
    have h2 : ¬ jp_S m < q := fun z => hmin2 _ z ⟨m, hm, e, rfl⟩
    right
    omega
theorem jp_b1 {F : Int → Int → Prop} {l p q p' : List (Int × Int)} {sx sy tx ty u v : Int} (hb : jp_best F l sx sy tx ty) (hl : l = p ++ q) (hq : jp_W F q u v tx ty) (hp' : jp_W F p' sx sy u v) : jp_C p ≤ jp_C p' := by
  have h := hb.2 (p' ++ q) (jp_Wapp p' q _ _ u v _ _ hp' hq)
  rw [hl, jp_Capp, jp_Capp] at h
  omega
theorem jp_b2 {F : Int → Int → Prop} {l p q : List (Int × Int)} {d e : Int × Int} {sx sy tx ty x y : Int} (hb : jp_best F l sx sy tx ty) (hl : l = p ++ d :: e :: q) (hp : jp_W F p sx sy x y) (hq : jp_W F (d :: e :: q) x y tx ty) : jp_nf F (x + d.1) (y + d.2) d.1 d.2 e.1 e.2 := by
  refine Classical.byContradiction (fun hn => ?_)
  obtain ⟨h1, f1, h2, f2, h3⟩ := hq
  obtain ⟨m, hm, hc⟩ := jp_ex h1 h2 f2 f1 hn
  have h := hb.2 (p ++ (m ++ q)) (jp_Wapp p _ _ _ x y _ _ hp (jp_Wapp m q _ _ _ _ _ _ hm h3))
  rw [hl, jp_Capp, jp_Capp, jp_Capp] at h
  have ec : jp_C (d :: e :: q) = jp_cost d.1 d.2 + (jp_cost e.1 e.2 + jp_C q) := rfl
  rcases hc with hc | ⟨hc, em, g1, g2⟩
  · omega
  · have hs : jp_S (m ++ q) < jp_S (d :: e :: q) := by
      rw [em]
      show (jp_dg d.1 d.2 + jp_N q) + (jp_N q + jp_S q) < (jp_dg e.1 e.2 + jp_N q) + (jp_N q + jp_S q)
      omega
    have hN : jp_N (m ++ q) = jp_N (d :: e :: q) := by
      rw [em]
      show jp_dg e.1 e.2 + (jp_dg d.1 d.2 + jp_N q) = jp_dg d.1 d.2 + (jp_dg e.1 e.2 + jp_N q)
      omega
    have := jp_Sapp hN hs p
    omega
end
section
/-- k free steps one behind another -/
def jp_run (F : Int → Int → Prop) (x y dx dy : Int) (k : Nat) : Prop := ∀ i : Nat, 1 ≤ i → i ≤ k → F (x + i * dx) (y + i * dy)
/-- a straight jump stops here -/
def jp_stS (F : Int → Int → Prop) (tx ty x y dx dy : Int) : Prop := (x = tx ∧ y = ty) ∨ ∃ ex ey, jp_fo F x y dx dy ex ey
/-- a straight jump from here stops somewhere -/
def jp_rs (F : Int → Int → Prop) (tx ty x y dx dy : Int) : Prop := ∃ m : Nat, 1 ≤ m ∧ jp_run F x y dx dy m ∧ jp_stS F tx ty (x + m * dx) (y + m * dy) dx dy
/-- a jump stops here -/
def jp_st (F : Int → Int → Prop) (tx ty x y dx dy : Int) : Prop := jp_stS F tx ty x y dx dy ∨ (dx ≠ 0 ∧ dy ≠ 0 ∧ (jp_rs F tx ty x y dx 0 ∨ jp_rs F tx ty x y 0 dy))
/-- the jump from x y by dx dy has been made, and what it found was offered -/
def jp_cl (F : Int → Int → Prop) (tx ty : Int) (M : Int → Int → Prop) (ln : Int → Int → Nat) (Dr : Int → Int → Int → Int → Prop) (x y dx dy : Int) : Prop :=
  ∀ k : Nat, 1 ≤ k → jp_run F x y dx dy k → jp_st F tx ty (x + k * dx) (y + k * dy) dx dy →
    ∃ j : Nat, 1 ≤ j ∧ j ≤ k ∧ M (x + j * dx) (y + j * dy) ∧ (ln (x + j * dx) (y + j * dy) < ln x y + j * jp_cost dx dy ∨
      (ln (x + j * dx) (y + j * dy) = ln x y + j * jp_cost dx dy ∧ ∀ ex ey, jp_dir ex ey → jp_nf F (x + j * dx) (y + j * dy) dx dy ex ey → Dr (x + j * dx) (y + j * dy) ex ey))
theorem jp_run0 {F : Int → Int → Prop} {x y dx dy : Int} : jp_run F x y dx dy 0 := fun i h1 h2 => absurd h1 (by omega)
theorem jp_runS {F : Int → Int → Prop} {x y dx dy : Int} {k : Nat} (h : jp_run F x y dx dy k) (f : F (x + k * dx + dx) (y + k * dy + dy)) : jp_run F x y dx dy (k + 1) := by
  intro i h1 h2
  by_cases e : i = k + 1
  · rw [e, jp_sm, jp_sm]
    exact jp_cg f (by omega) (by omega)
  · exact h i h1 (by omega)
theorem jp_runC {F : Int → Int → Prop} {x y dx dy : Int} {k : Nat} (f : F (x + dx) (y + dy)) (h : jp_run F (x + dx) (y + dy) dx dy k) : jp_run F x y dx dy (k + 1) := by
  intro i h1 h2
  obtain ⟨j, rfl⟩ : ∃ j, i = j + 1 := ⟨i - 1, by omega⟩
  rw [jp_sm, jp_sm]
  by_cases e : j = 0
  · subst e
    exact jp_cg f (by omega) (by omega)
  · exact jp_cg (h j (by omega) (by omega)) (by omega) (by omega)
theorem jp_runL {F : Int → Int → Prop} {x y dx dy : Int} {k j : Nat} (h : jp_run F x y dx dy k) (hj : j ≤ k) : jp_run F x y dx dy j := fun i h1 h2 => h i h1 (by omega)
theorem jp_Wrep {F : Int → Int → Prop} (d : Int × Int) : ∀ (k : Nat) (r : List (Int × Int)) (x y tx ty : Int), jp_W F (List.replicate k d ++ r) x y tx ty → jp_run F x y d.1 d.2 k ∧ jp_W F r (x + k * d.1) (y + k * d.2) tx ty ∧ (1 ≤ k → jp_dir d.1 d.2) := by
  intro k
  induction k with
  | zero =>
    intro r x y tx ty h
    refine ⟨jp_run0, ?_, fun z => absurd z (by omega)⟩
    have e1 : x + ((0 : Nat) : Int) * d.1 = x := by
      rw [show ((0 : Nat) : Int) = 0 from rfl, Int.zero_mul, Int.add_zero]
    have e2 : y + ((0 : Nat) : Int) * d.2 = y := by
      rw [show ((0 : Nat) : Int) = 0 from rfl, Int.zero_mul, Int.add_zero]
    rw [e1, e2]
    exact h
  | succ k ih =>
    intro r x y tx ty h
    have h' : jp_dir d.1 d.2 ∧ F (x + d.1) (y + d.2) ∧ jp_W F (List.replicate k d ++ r) (x + d.1) (y + d.2) tx ty := h
    obtain ⟨g1, g2, g3⟩ := ih r _ _ tx ty h'.2.2
    refine ⟨jp_runC h'.2.1 g1, ?_, fun _ => h'.1⟩
    have e1 : x + ((k + 1 : Nat) : Int) * d.1 = x + d.1 + k * d.1 := by
      rw [jp_sm]
      omega
    have e2 : y + ((k + 1 : Nat) : Int) * d.2 = y + d.2 + k * d.2 := by
      rw [jp_sm]
      omega
    rw [e1, e2]
    exact g2
theorem jp_repW {F : Int → Int → Prop} (d : Int × Int) (hd : jp_dir d.1 d.2) : ∀ (k : Nat) (x y : Int), jp_run F x y d.1 d.2 k → jp_W F (List.replicate k d) x y (x + k * d.1) (y + k * d.2) := by
  intro k
  induction k with
  | zero =>
    intro x y h
    exact ⟨by rw [show ((0 : Nat) : Int) = 0 from rfl, Int.zero_mul, Int.add_zero], by rw [show ((0 : Nat) : Int) = 0 from rfl, Int.zero_mul, Int.add_zero]⟩
  | succ k ih =>
    intro x y h
    have f1 : F (x + d.1) (y + d.2) := by
      have := h 1 (by omega) (by omega)
      rw [show ((1 : Nat) : Int) = 1 from rfl, Int.one_mul, Int.one_mul] at this
      exact this
    have h2 : jp_run F (x + d.1) (y + d.2) d.1 d.2 k := by
      intro i i1 i2
      have := h (i + 1) (by omega) (by omega)
      rw [jp_sm, jp_sm] at this
      exact jp_cg this (by omega) (by omega)
    have g := ih _ _ h2
    have e1 : x + ((k + 1 : Nat) : Int) * d.1 = x + d.1 + k * d.1 := by
      rw [jp_sm]
      omega
    have e2 : y + ((k + 1 : Nat) : Int) * d.2 = y + d.2 + k * d.2 := by
      rw [jp_sm]
      omega
    rw [e1, e2]
    exact ⟨hd, f1, g⟩
theorem jp_Crep (d : Int × Int) (k : Nat) : jp_C (List.replicate k d) = k * jp_cost d.1 d.2 := by
  induction k with
  | zero => exact (Nat.zero_mul _).symm
  | succ k ih =>
    show jp_cost d.1 d.2 + jp_C (List.replicate k d) = _
    rw [ih, Nat.succ_mul]
    omega
theorem jp_dec (d : Int × Int) (q : List (Int × Int)) : ∃ k r, q = List.replicate k d ++ r ∧ ∀ e r', r = e :: r' → e ≠ d := by
  induction q with
  | nil => exact ⟨0, [], rfl, fun e r' h => absurd h (by simp)⟩
  | cons a q ih =>
    by_cases e : a = d
    · obtain ⟨k, r, h1, h2⟩ := ih
      refine ⟨k + 1, r, ?_, h2⟩
      rw [e, h1]
      rfl
    · refine ⟨0, a :: q, rfl, fun b r' h => ?_⟩
      have : a = b := (List.cons.inj h).1
      rw [← this]
      exact e
/-- a best walk turns by natural and forced directions alone -/
theorem jp_tn {F : Int → Int → Prop} {l p r : List (Int × Int)} {d : Int × Int} {k : Nat} {sx sy tx ty x y : Int} (hb : jp_best F l sx sy tx ty) (hl : l = p ++ (List.replicate (k + 1) d ++ r)) (hp : jp_W F p sx sy x y) (hq : jp_W F (List.replicate (k + 1) d ++ r) x y tx ty) :
    ∀ e r', r = e :: r' → jp_nf F (x + ((k + 1 : Nat) : Int) * d.1) (y + ((k + 1 : Nat) : Int) * d.2) d.1 d.2 e.1 e.2 := by
  intro e r' hr
  have e0 : List.replicate (k + 1) d ++ r = List.replicate k d ++ (d :: e :: r') := by
    rw [List.replicate_succ', hr, List.append_assoc]
    rfl
  rw [e0] at hl hq
  obtain ⟨h1, h2, _⟩ := jp_Wrep d k _ _ _ _ _ hq
  have hd : jp_dir d.1 d.2 := h2.1
  have h3 := jp_b2 hb (p := p ++ List.replicate k d) (by rw [hl, List.append_assoc]) (jp_Wapp _ _ _ _ _ _ _ _ hp (jp_repW d hd k x y h1)) h2
  rw [jp_sm, jp_sm, ← Int.add_assoc, ← Int.add_assoc]
  exact h3
/-- the plain law of the search -/
theorem jp_main {F : Int → Int → Prop} {M O : Int → Int → Prop} {ln : Int → Int → Nat} {Dr : Int → Int → Int → Int → Prop} {sx sy tx ty : Int}
    (h0 : M sx sy ∧ ln sx sy = 0 ∧ ∀ ex ey, jp_dir ex ey → Dr sx sy ex ey)
    (h1 : ∀ x y, M x y → ∃ l, jp_W F l sx sy x y ∧ jp_C l = ln x y)
    (h2 : ∀ x y dx dy, M x y → ¬ O x y → jp_dir dx dy → Dr x y dx dy → jp_cl F tx ty M ln Dr x y dx dy)
    (w : List (Int × Int)) (hw : jp_W F w sx sy tx ty) :
    ∃ x y l, M x y ∧ (O x y ∨ (x = tx ∧ y = ty)) ∧ jp_W F l x y tx ty ∧ ln x y + jp_C l ≤ jp_C w := by
  obtain ⟨l, hl⟩ := jp_bestE hw
  have hlw : jp_C l ≤ jp_C w := by
    have := hl.2 w hw
    omega
  have main : ∀ (n : Nat) (p q : List (Int × Int)) (x y : Int), q.length ≤ n → l = p ++ q → jp_W F p sx sy x y → jp_W F q x y tx ty → M x y → ln x y = jp_C p → (∀ d q', q = d :: q' → Dr x y d.1 d.2) →
      ∃ x y l, M x y ∧ (O x y ∨ (x = tx ∧ y = ty)) ∧ jp_W F l x y tx ty ∧ ln x y + jp_C l ≤ jp_C w := by
    intro n
    induction n with
    | zero =>
      intro p q x y hn hpq hp hq hM hln _
      have e : q = [] := List.eq_nil_of_length_eq_zero (by omega)
      subst e
      refine ⟨x, y, [], hM, Or.inr hq, hq, ?_⟩
      show ln x y + 0 ≤ _
      rw [hpq, jp_Capp] at hlw
      omega
    | succ n ih =>
      intro p q x y hn hpq hp hq hM hln hDr
      rcases q with _ | ⟨d, q'⟩
      · refine ⟨x, y, [], hM, Or.inr hq, hq, ?_⟩
        show ln x y + 0 ≤ _
        rw [hpq, jp_Capp] at hlw
        omega
      by_cases hO : O x y
      · refine ⟨x, y, d :: q', hM, Or.inl hO, hq, ?_⟩
        rw [hpq, jp_Capp] at hlw
        omega
      have hd : jp_dir d.1 d.2 := hq.1
      have hcl := h2 x y d.1 d.2 hM hO hd (hDr d q' rfl)
      obtain ⟨k, r, hk, hr⟩ := jp_dec d q'
      have eq : d :: q' = List.replicate (k + 1) d ++ r := by
        rw [hk]
        rfl
      rw [eq] at hpq hq
      have hlen : (List.replicate (k + 1) d ++ r).length ≤ n + 1 := by
        rw [← eq]
        exact hn
      obtain ⟨hrun, hWr, _⟩ := jp_Wrep d (k + 1) r x y tx ty hq
      have hnf := jp_tn hl hpq hp hq
      have hst : jp_st F tx ty (x + ((k + 1 : Nat) : Int) * d.1) (y + ((k + 1 : Nat) : Int) * d.2) d.1 d.2 := by
        rcases r with _ | ⟨e, r'⟩
        · exact Or.inl (Or.inl hWr)
        · have hne := hr e r' rfl
          have ha := hnf e r' rfl
          rcases ha with ha | ha
          · rcases ha with ha | ⟨n1, n2, ha⟩
            · exact absurd (Prod.ext ha.1 ha.2) hne
            · refine Or.inr ⟨n1, n2, ?_⟩
              obtain ⟨k2, r2, hk2, hr2⟩ := jp_dec e r'
              have eq2 : e :: r' = List.replicate (k2 + 1) e ++ r2 := by
                rw [hk2]
                rfl
              rw [eq2] at hWr
              obtain ⟨hrun2, hWr2, _⟩ := jp_Wrep e (k2 + 1) r2 _ _ tx ty hWr
              have hnf2 := jp_tn (p := p ++ List.replicate (k + 1) d) hl (by rw [hpq, eq2, List.append_assoc]) (jp_Wapp _ _ _ _ _ _ _ _ hp (jp_repW d hd (k + 1) x y hrun)) hWr
              have hs2 : jp_stS F tx ty (x + ((k + 1 : Nat) : Int) * d.1 + ((k2 + 1 : Nat) : Int) * e.1) (y + ((k + 1 : Nat) : Int) * d.2 + ((k2 + 1 : Nat) : Int) * e.2) e.1 e.2 := by
                rcases r2 with _ | ⟨f, r3⟩
                · exact Or.inl hWr2
                · have hne2 := hr2 f r3 rfl
                  rcases hnf2 f r3 rfl with hb | hb
                  · rcases hb with hb | ⟨m1, m2, hb⟩
                    · exact absurd (Prod.ext hb.1 hb.2) hne2
                    · rcases ha with ha | ha
                      · exact absurd ha.2 m2
                      · exact absurd ha.1 m1
                  · exact Or.inr ⟨_, _, hb⟩
              rcases ha with ha | ha
              · left
                rw [ha.1, ha.2] at hs2 hrun2
                exact ⟨k2 + 1, by omega, hrun2, hs2⟩
              · right
                rw [ha.1, ha.2] at hs2 hrun2
                exact ⟨k2 + 1, by omega, hrun2, hs2⟩
          · exact Or.inl (Or.inr ⟨_, _, ha⟩)
      obtain ⟨j, j1, j2, hMj, hj⟩ := hcl (k + 1) (by omega) hrun hst
      have hpj : jp_W F (p ++ List.replicate j d) sx sy (x + j * d.1) (y + j * d.2) := jp_Wapp _ _ _ _ _ _ _ _ hp (jp_repW d hd j x y (jp_runL hrun j2))
      have esp : List.replicate (k + 1) d ++ r = List.replicate j d ++ (List.replicate (k + 1 - j) d ++ r) := by
        rw [← List.append_assoc, List.replicate_append_replicate, show j + (k + 1 - j) = k + 1 by omega]
      have hpq2 : l = (p ++ List.replicate j d) ++ (List.replicate (k + 1 - j) d ++ r) := by
        rw [hpq, esp, List.append_assoc]
      have hq2 : jp_W F (List.replicate (k + 1 - j) d ++ r) (x + j * d.1) (y + j * d.2) tx ty := by
        rw [esp] at hq
        exact (jp_Wrep d j _ _ _ _ _ hq).2.1
      have hC : jp_C (p ++ List.replicate j d) = ln x y + j * jp_cost d.1 d.2 := by
        rw [jp_Capp, jp_Crep, hln]
      rcases hj with hj | ⟨hj, hdr⟩
      · obtain ⟨l1, hl1, hc1⟩ := h1 _ _ hMj
        have := jp_b1 hl hpq2 hq2 hl1
        omega
      · refine ih (p ++ List.replicate j d) (List.replicate (k + 1 - j) d ++ r) _ _ ?_ hpq2 hpj hq2 hMj (by omega) ?_
        · rw [List.length_append, List.length_replicate] at hlen ⊢
          omega
        · intro a q2 ha
          by_cases ej : j = k + 1
          · subst ej
            rw [Nat.sub_self] at ha hq2
            have ha' : r = a :: q2 := ha
            have hq3 : jp_W F r (x + ((k + 1 : Nat) : Int) * d.1) (y + ((k + 1 : Nat) : Int) * d.2) tx ty := hq2
            rw [ha'] at hq3
            exact hdr _ _ hq3.1 (hnf a q2 ha')
          · obtain ⟨i, hi⟩ : ∃ i, k + 1 - j = i + 1 := ⟨k - j, by omega⟩
            rw [hi] at ha
            have ha' : d :: (List.replicate i d ++ r) = a :: q2 := ha
            have : d = a := (List.cons.inj ha').1
            rw [← this]
            exact hdr _ _ hd (Or.inl (Or.inl ⟨rfl, rfl⟩))
  exact main l.length [] l sx sy (Nat.le_refl _) rfl ⟨rfl, rfl⟩ hl.1 h0.1 h0.2.1 (fun d q' hq => by
    have hW := hl.1
    rw [hq] at hW
    exact h0.2.2 _ _ hW.1)
/-- the guess, and that it is no more than any walk -/
def jp_h (u v : Int) : Nat := if v.natAbs ≤ u.natAbs then 4 * v.natAbs + 10 * u.natAbs else 4 * u.natAbs + 10 * v.natAbs
theorem jp_h1 (u v dx dy : Int) (h : jp_dir dx dy) : jp_h u v ≤ jp_cost dx dy + jp_h (u + dx) (v + dy) := by
  unfold jp_dir at h
  unfold jp_h jp_cost
  split <;> split <;> split <;> omega
theorem jp_hW {F : Int → Int → Prop} : ∀ (l : List (Int × Int)) (x y tx ty : Int), jp_W F l x y tx ty → jp_h (x - tx) (y - ty) ≤ jp_C l := by
  intro l
  induction l with
  | nil =>
    intro x y tx ty h
    obtain ⟨rfl, rfl⟩ := h
    rw [Int.sub_self, Int.sub_self]
    exact Nat.le_refl 0
  | cons d l ih =>
    intro x y tx ty h
    have g := ih _ _ _ _ h.2.2
    have g1 := jp_h1 (x - tx) (y - ty) d.1 d.2 h.1
    rw [show x - tx + d.1 = x + d.1 - tx by omega, show y - ty + d.2 = y + d.2 - ty by omega] at g1
    show _ ≤ jp_cost d.1 d.2 + jp_C l
    omega
/-- walks backwards -/
theorem jp_dirN {dx dy : Int} (h : jp_dir dx dy) : jp_dir (-dx) (-dy) ∧ jp_cost (-dx) (-dy) = jp_cost dx dy := by
  constructor
  · unfold jp_dir at h ⊢
    omega
  · unfold jp_cost
    split <;> split <;> omega
theorem jp_rev {F : Int → Int → Prop} : ∀ (l : List (Int × Int)) (x y tx ty : Int), F x y → jp_W F l x y tx ty → ∃ m, jp_W F m tx ty x y ∧ jp_C m = jp_C l := by
  intro l
  induction l with
  | nil =>
    intro x y tx ty _ h
    exact ⟨[], ⟨h.1.symm, h.2.symm⟩, rfl⟩
  | cons d l ih =>
    intro x y tx ty hf h
    obtain ⟨m, hm, hc⟩ := ih _ _ tx ty h.2.1 h.2.2
    have hd := jp_dirN h.1
    refine ⟨m ++ [(-d.1, -d.2)], jp_Wapp _ _ _ _ _ _ _ _ hm ⟨hd.1, jp_cg hf (by show x = _; omega) (by show y = _; omega), ⟨by show _ + -d.1 = x; omega, by show _ + -d.2 = y; omega⟩⟩, ?_⟩
    rw [jp_Capp, hc]
    show jp_C l + (jp_cost (-d.1) (-d.2) + 0) = jp_cost d.1 d.2 + jp_C l
    rw [hd.2]
    omega
theorem jp_mono {F G : Int → Int → Prop} (hFG : ∀ x y, F x y → G x y) : ∀ (l : List (Int × Int)) (x y tx ty : Int), jp_W F l x y tx ty → jp_W G l x y tx ty := by
  intro l
  induction l with
  | nil =>
    intro x y tx ty h
    exact h
  | cons d l ih =>
    intro x y tx ty h
    exact ⟨h.1, hFG _ _ h.2.1, ih _ _ _ _ h.2.2⟩
end
section
/-- an Int as an Int32 -/
def jp_i (z : Int) : Int32 := Int32.ofInt z
theorem jp_iN (n : Nat) : jp_i (n : Int) = nI n := Int32.ofInt_eq_ofNat
theorem jp_ia (a b : Int) : jp_i a + jp_i b = jp_i (a + b) := (Int32.ofInt_add a b).symm
theorem jp_im (a b : Int) : jp_i a * jp_i b = jp_i (a * b) := (Int32.ofInt_mul a b).symm
theorem jp_is (a b : Int) : jp_i a - jp_i b = jp_i (a - b) := (Int32.ofInt_sub a b).symm
theorem jp_in (a : Int) : -jp_i a = jp_i (-a) := (Int32.ofInt_neg a).symm
theorem jp_it {a : Int} (h1 : -1000000 ≤ a) (h2 : a ≤ 1000000) : (jp_i a).toInt = a := Int32.toInt_ofInt_of_le (by omega) (by omega)
theorem jp_ilt {a b : Int} (ha : -1000000 ≤ a ∧ a ≤ 1000000) (hb : -1000000 ≤ b ∧ b ≤ 1000000) : jp_i a < jp_i b ↔ a < b := by
  rw [Int32.lt_iff_toInt_lt, jp_it ha.1 ha.2, jp_it hb.1 hb.2]
theorem jp_ile {a b : Int} (ha : -1000000 ≤ a ∧ a ≤ 1000000) (hb : -1000000 ≤ b ∧ b ≤ 1000000) : jp_i a ≤ jp_i b ↔ a ≤ b := by
  rw [Int32.le_iff_toInt_le, jp_it ha.1 ha.2, jp_it hb.1 hb.2]
theorem jp_ieq {a b : Int} (ha : -1000000 ≤ a ∧ a ≤ 1000000) (hb : -1000000 ≤ b ∧ b ≤ 1000000) : jp_i a = jp_i b ↔ a = b := by
  rw [← Int32.toInt_inj, jp_it ha.1 ha.2, jp_it hb.1 hb.2]
theorem jp_l0 : (0 : Int32) = jp_i 0 := by decide +kernel
theorem jp_l1 : (1 : Int32) = jp_i 1 := by decide +kernel
theorem jp_l2 : (2 : Int32) = jp_i 2 := by decide +kernel
theorem jp_l3 : (3 : Int32) = jp_i 3 := by decide +kernel
theorem jp_l4 : (4 : Int32) = jp_i 4 := by decide +kernel
theorem jp_l10 : (10 : Int32) = jp_i 10 := by decide +kernel
theorem jp_l12 : (12 : Int32) = jp_i 12 := by decide +kernel
theorem jp_lm1 : (-1 : Int32) = jp_i (-1) := by decide +kernel
theorem jp_lt0 {a : Int} (ha : -1000000 ≤ a ∧ a ≤ 1000000) : jp_i a < 0 ↔ a < 0 := by
  rw [jp_l0]
  exact jp_ilt ha (by omega)
theorem jp_ge0 {a : Int} (ha : -1000000 ≤ a ∧ a ≤ 1000000) : 0 ≤ jp_i a ↔ 0 ≤ a := by
  rw [jp_l0]
  exact jp_ile (by omega) ha
theorem jp_eq0 {a : Int} (ha : -1000000 ≤ a ∧ a ≤ 1000000) : jp_i a = 0 ↔ a = 0 := by
  rw [jp_l0]
  exact jp_ieq ha (by omega)
theorem jp_ge12 {a : Int} (ha : -1000000 ≤ a ∧ a ≤ 1000000) : 12 ≤ jp_i a ↔ 12 ≤ a := by
  rw [jp_l12]
  exact jp_ile (by omega) ha
/-- a cell's column and row, and back -/
def jp_x (c : Nat) : Int := ((c % 12 : Nat) : Int)
def jp_y (c : Nat) : Int := ((c / 12 : Nat) : Int)
def jp_ix (x y : Int) : Nat := (12 * y + x).toNat
def jp_in12 (x y : Int) : Prop := 0 ≤ x ∧ x < 12 ∧ 0 ≤ y ∧ y < 12
theorem jp_xy {c : Nat} (h : c < 144) : jp_in12 (jp_x c) (jp_y c) := by
  unfold jp_in12 jp_x jp_y
  omega
theorem jp_ixc (c : Nat) : jp_ix (jp_x c) (jp_y c) = c := by
  unfold jp_ix jp_x jp_y
  omega
theorem jp_ix1 {x y : Int} (h : jp_in12 x y) : jp_ix x y < 144 := by
  unfold jp_in12 at h
  unfold jp_ix
  omega
theorem jp_ix2 {x y : Int} (h : jp_in12 x y) : jp_x (jp_ix x y) = x := by
  unfold jp_in12 at h
  unfold jp_ix jp_x
  omega
theorem jp_ix3 {x y : Int} (h : jp_in12 x y) : jp_y (jp_ix x y) = y := by
  unfold jp_in12 at h
  unfold jp_ix jp_y
  omega
theorem jp_ix0 {x y : Int} (h : jp_in12 x y) : ((jp_ix x y : Nat) : Int) = 12 * y + x := by
  unfold jp_in12 at h
  unfold jp_ix
  omega
theorem jp_ixI {x y x' y' : Int} (h : jp_in12 x y) (h' : jp_in12 x' y') (e : jp_ix x y = jp_ix x' y') : x = x' ∧ y = y' := by
  have h1 := jp_ix0 h
  have h2 := jp_ix0 h'
  unfold jp_in12 at h h'
  omega
theorem jp_cI {c c' : Nat} (ex : jp_x c = jp_x c') (ey : jp_y c = jp_y c') : c = c' := by
  unfold jp_x at ex
  unfold jp_y at ey
  omega
theorem jp_div12 {c : Nat} (h : c < 144) : nI c / 12 = nI (c / 12) := pk_div (d := 12) (by omega) (by omega) (by omega)
theorem jp_rem12 {c : Nat} (h : c < 144) : nI c - nI c / 12 * 12 = nI (c % 12) := pk_rem (d := 12) (by omega) (by omega) (by omega)
/-- one step of a cell -/
theorem jp_stp {x y dx dy : Int} (h : jp_in12 x y) (h' : jp_in12 (x + dx) (y + dy)) : nI (jp_ix x y) + ((12 * jp_i dy) + jp_i dx) = nI (jp_ix (x + dx) (y + dy)) := by
  rw [jp_l12, jp_im, jp_ia, ← jp_iN, ← jp_iN, jp_ia, jp_ix0 h, jp_ix0 h']
  congr 1
  omega
theorem jp_cell {x y : Int} (h : jp_in12 x y) : (12 * jp_i y) + jp_i x = nI (jp_ix x y) := by
  rw [jp_l12, jp_im, jp_ia, ← jp_iN, jp_ix0 h]
/-- bits -/
theorem jp_or (a b : Nat) : nI a ||| nI b = nI (a ||| b) := by
  apply Int32.toBitVec_inj.1
  show BitVec.ofNat 32 a ||| BitVec.ofNat 32 b = BitVec.ofNat 32 (a ||| b)
  apply BitVec.eq_of_getLsbD_eq
  intro i hi
  simp [hi]
theorem jp_and (a b : Nat) : nI a &&& nI b = nI (a &&& b) := by
  apply Int32.toBitVec_inj.1
  show BitVec.ofNat 32 a &&& BitVec.ofNat 32 b = BitVec.ofNat 32 (a &&& b)
  apply BitVec.eq_of_getLsbD_eq
  intro i hi
  simp [hi]
theorem jp_xor (a b : Nat) : nI a ^^^ nI b = nI (a ^^^ b) := by
  apply Int32.toBitVec_inj.1
  show BitVec.ofNat 32 a ^^^ BitVec.ofNat 32 b = BitVec.ofNat 32 (a ^^^ b)
  apply BitVec.eq_of_getLsbD_eq
  intro i hi
  simp [hi]
theorem jp_smod : ∀ n, n < 32 → ((nI n &&& 31).toBitVec.smod 32).toNat = n := by decide +kernel
theorem jp_sh {v d : Nat} (hv : v < 512) (hd : d < 9) : ((nI v >>> (nI d &&& 31)) &&& 1) = 0 ↔ v.testBit d = false := by
  have hle : v / 2 ^ d ≤ v := Nat.div_le_self _ _
  rw [pk_shrN (by omega) _ d (jp_smod d (by omega)), pk_andN (by omega) 1 (by decide), ← nI_0, nI_eq (by omega) (by omega), Nat.testBit_eq_decide_div_mod_eq, decide_eq_false_iff_not]
  generalize v / 2 ^ d = z
  omega
theorem jp_m1N : (-1 : Int32) = nI 4294967295 := by decide +kernel
theorem jp_hi {v i : Nat} (hv : v < 512) (hi : v.testBit i = true) : i < 9 := by
  rcases Nat.lt_or_ge i 9 with h | h
  · exact h
  · have : v.testBit i = false := Nat.testBit_lt_two_pow (Nat.lt_of_lt_of_le hv (Nat.pow_le_pow_right (by omega) h : 2 ^ 9 ≤ 2 ^ i))
    rw [this] at hi
    exact absurd hi (by decide)
theorem jp_sub {v w : Nat} (hv : v < 512) : (nI v &&& (nI w ^^^ (-1))) = 0 ↔ ∀ i, v.testBit i = true → w.testBit i = true := by
  have hle : v &&& (w ^^^ 4294967295) ≤ v := Nat.and_le_left
  rw [jp_m1N, jp_xor, jp_and, ← nI_0, nI_eq (by omega) (by omega)]
  constructor
  · intro h i hi
    have h9 := jp_hi hv hi
    have hb : (v &&& (w ^^^ 4294967295)).testBit i = false := by
      rw [h]
      exact Nat.zero_testBit i
    have hm : (4294967295 : Nat).testBit i = true := by
      rw [show (4294967295 : Nat) = 2 ^ 32 - 1 from rfl, Nat.testBit_two_pow_sub_one]
      exact decide_eq_true (by omega)
    rw [Nat.testBit_and, Nat.testBit_xor, hi, hm] at hb
    cases hw : w.testBit i
    · rw [hw] at hb
      exact absurd hb (by decide)
    · rfl
  · intro h
    apply Nat.eq_of_testBit_eq
    intro i
    rw [Nat.zero_testBit, Nat.testBit_and, Nat.testBit_xor]
    cases hi : v.testBit i
    · rfl
    · have h9 := jp_hi hv hi
      have hm : (4294967295 : Nat).testBit i = true := by
        rw [show (4294967295 : Nat) = 2 ^ 32 - 1 from rfl, Nat.testBit_two_pow_sub_one]
        exact decide_eq_true (by omega)
      rw [h i hi, hm]
      rfl
theorem jp_orlt {v w : Nat} (hv : v < 512) (hw : w < 512) : v ||| w < 512 := Nat.or_lt_two_pow (n := 9) hv hw
theorem jp_orL {v w i : Nat} (h : v.testBit i = true) : (v ||| w).testBit i = true := by
  rw [Nat.testBit_or, h]
  rfl
theorem jp_orR {v w i : Nat} (h : w.testBit i = true) : (v ||| w).testBit i = true := by
  rw [Nat.testBit_or, h, Bool.or_true]
theorem jp_orgt {v w : Nat} (h : ¬ ∀ i, v.testBit i = true → w.testBit i = true) : w < w ||| v := by
  have h1 : w ≤ w ||| v := Nat.left_le_or
  rcases Nat.lt_or_ge w (w ||| v) with g | g
  · exact g
  · have e : w ||| v = w := Nat.le_antisymm g h1
    refine absurd (fun i hi => ?_) h
    rw [← e]
    exact jp_orR hi
theorem jp_511 {v i : Nat} (hv : v < 512) (hi : v.testBit i = true) : (511 : Nat).testBit i = true := by
  rw [show (511 : Nat) = 2 ^ 9 - 1 from rfl, Nat.testBit_two_pow_sub_one]
  exact decide_eq_true (jp_hi hv hi)
theorem jp_511' {i : Nat} (hi : i < 9) : (511 : Nat).testBit i = true := by
  rw [show (511 : Nat) = 2 ^ 9 - 1 from rfl, Nat.testBit_two_pow_sub_one]
  exact decide_eq_true hi
/-- a direction's number -/
def jp_k (dx dy : Int) : Nat := (3 * (dy + 1) + dx + 1).toNat
theorem jp_k9 {dx dy : Int} (h : jp_dir dx dy) : jp_k dx dy < 9 ∧ jp_k dx dy ≠ 4 := by
  unfold jp_dir at h
  unfold jp_k
  omega
theorem jp_bit : ∀ {dx dy : Int}, (-1 ≤ dx ∧ dx ≤ 1) → (-1 ≤ dy ∧ dy ≤ 1) → (1 : Int32) <<< ((((3 * (jp_i dy + 1)) + jp_i dx) + 1) &&& 31) = nI (2 ^ jp_k dx dy) := by
  intro dx dy h1 h2
  have e1 : dx = -1 ∨ dx = 0 ∨ dx = 1 := by omega
  have e2 : dy = -1 ∨ dy = 0 ∨ dy = 1 := by omega
  rcases e1 with rfl | rfl | rfl <;> rcases e2 with rfl | rfl | rfl <;> decide +kernel
theorem jp_b512 {dx dy : Int} (h1 : -1 ≤ dx ∧ dx ≤ 1) (h2 : -1 ≤ dy ∧ dy ≤ 1) : 2 ^ jp_k dx dy < 512 := by
  have h : jp_k dx dy < 9 := by
    unfold jp_k
    omega
  exact (Nat.pow_lt_pow_right (by omega) h : 2 ^ jp_k dx dy < 2 ^ 9)
/-- narrowing -/
theorem jp_s16 {n : Nat} (h : n < 32768) : (nI n).toInt16.toInt32 = nI n := by
  apply Int32.toInt.inj
  rw [Int16.toInt_toInt32, Int32.toInt_toInt16, nI_toInt (by omega)]
  exact Int.bmod_eq_of_le (by omega) (by omega)
theorem jp_v16 {n : Nat} (h : n < 32768) : vp_nar .short (nI n) = nI n := by
  rw [vp_nar_short]
  exact jp_s16 h
/-- sums -/
def jp_sum (f : Nat → Nat) : Nat → Nat
  | 0 => 0
  | n + 1 => jp_sum f n + f n
theorem jp_sumE {f g : Nat → Nat} : ∀ (n : Nat), (∀ c, c < n → f c = g c) → jp_sum f n = jp_sum g n := by
  intro n
  induction n with
  | zero => intro _; rfl
  | succ n ih =>
    intro h
    show jp_sum f n + f n = jp_sum g n + g n
    rw [ih (fun c hc => h c (by omega)), h n (by omega)]
theorem jp_sum1 {f g : Nat → Nat} {c : Nat} : ∀ (n : Nat), c < n → (∀ j, j ≠ c → g j = f j) → jp_sum g n + f c = jp_sum f n + g c := by
  intro n
  induction n with
  | zero =>
    intro h _
    exact absurd h (by omega)
  | succ n ih =>
    intro hc h
    show jp_sum g n + g n + f c = jp_sum f n + f n + g c
    by_cases e : c = n
    · rw [jp_sumE (f := g) (g := f) n (fun j hj => h j (by omega)), e]
      omega
    · have := ih (by omega) h
      rw [h n (fun z => e z.symm)]
      omega
theorem jp_sumB {f : Nat → Nat} : ∀ (n : Nat), (∀ c, f c ≤ 1) → jp_sum f n ≤ n := by
  intro n
  induction n with
  | zero =>
    intro _
    exact Nat.le_refl 0
  | succ n ih =>
    intro h
    show jp_sum f n + f n ≤ n + 1
    have h1 := ih h
    have h2 := h n
    omega
/-- one place of a picture changed -/
def jp_up (f : Nat → Nat) (k v : Nat) : Nat → Nat := fun j => if j = k then v else f j
theorem jp_us {f : Nat → Nat} {k v : Nat} : jp_up f k v k = v := if_pos rfl
theorem jp_un {f : Nat → Nat} {k v j : Nat} (h : j ≠ k) : jp_up f k v j = f j := if_neg h
theorem jp_sumB1 {f : Nat → Nat} {n c : Nat} (hf : ∀ c, f c ≤ 1) (hc : c < n) (h0 : f c = 0) : jp_sum f n < n := by
  have h1 := jp_sum1 (f := f) (g := jp_up f c 1) n hc (fun j hj => jp_un hj)
  have h2 : jp_sum (jp_up f c 1) n ≤ n := jp_sumB n (fun j => by
    by_cases e : j = c
    · rw [e, jp_us]
      omega
    · rw [jp_un e]
      exact hf j)
  rw [jp_us, h0] at h1
  omega
end
section
/-- a free cell of the grid a1 -/
def jp_F (a1 : Nat → Int32) (x y : Int) : Prop := jp_in12 x y ∧ a1 (jp_ix x y) = 0
section
variable {oc gl ld : Int32} {a1 a2 a3 a4 a5 : Nat → Int32}
theorem jp_fb {post : Int32 → Prop} {c : Nat} (hc : c < 144) {p1 p2 : Int32} (dx dy : Int) (e1 : p1 = jp_i dx) (e2 : p2 = jp_i dy) (hx : -1 ≤ dx ∧ dx ≤ 1) (hy : -1 ≤ dy ∧ dy ≤ 1)
    (h1 : jp_F a1 (jp_x c + dx) (jp_y c + dy) → post 1) (h0 : ¬ jp_F a1 (jp_x c + dx) (jp_y c + dy) → post 0) :
    wpX_freeBeside post (oc, gl, ld, a1, a2, a3, a4, a5) (nI c) p1 p2 := by
  subst e1 e2
  unfold wpX_freeBeside
  dsimp only
  have g := jp_xy hc
  unfold jp_in12 at g
  generalize hX : jp_x c + dx = X at h1 h0
  generalize hY : jp_y c + dy = Y at h1 h0
  have eX : (nI c - nI c / 12 * 12) + jp_i dx = jp_i X := by
    rw [jp_rem12 hc, ← jp_iN, jp_ia, ← hX]
    rfl
  have eY : (nI c / 12) + jp_i dy = jp_i Y := by
    rw [jp_div12 hc, ← jp_iN, jp_ia, ← hY]
    rfl
  have bX : -1000000 ≤ X ∧ X ≤ 1000000 := by omega
  have bY : -1000000 ≤ Y ∧ Y ≤ 1000000 := by omega
  refine ⟨by decide, nm_r eX ⟨by decide, nm_r eY ?_⟩⟩
  refine br_c (fun g1 => h0 (fun z => ?_)) (fun g1 => br_c (fun g2 => h0 (fun z => ?_)) (fun g2 => br_c (fun g3 => h0 (fun z => ?_)) (fun g3 => br_c (fun g4 => h0 (fun z => ?_)) (fun g4 => ?_))))
  · have := (jp_lt0 bX).mp g1
    have := z.1.1
    omega
  · have := (jp_ge12 bX).mp g2
    have := z.1.2.1
    omega
  · have := (jp_lt0 bY).mp g3
    have := z.1.2.2.1
    omega
  · have := (jp_ge12 bY).mp g4
    have := z.1.2.2.2
    omega
  · rw [jp_lt0 bX] at g1
    rw [jp_ge12 bX] at g2
    rw [jp_lt0 bY] at g3
    rw [jp_ge12 bY] at g4
    have hin : jp_in12 X Y := ⟨by omega, by omega, by omega, by omega⟩
    have hlt := jp_ix1 hin
    rw [jp_cell hin, nI_clamp (by omega)]
    exact ⟨vp_in_nI hlt (by omega), br_c (fun z => h1 ⟨hin, z⟩) (fun z => h0 (fun w => z w.2))⟩
theorem jp_wb {post : Int32 → Prop} {c : Nat} (hc : c < 144) {p1 p2 : Int32} (dx dy : Int) (e1 : p1 = jp_i dx) (e2 : p2 = jp_i dy) (hx : -1 ≤ dx ∧ dx ≤ 1) (hy : -1 ≤ dy ∧ dy ≤ 1)
    (h1 : ¬ jp_F a1 (jp_x c + dx) (jp_y c + dy) → post 1) (h0 : jp_F a1 (jp_x c + dx) (jp_y c + dy) → post 0) :
    wpX_wallBeside post (oc, gl, ld, a1, a2, a3, a4, a5) (nI c) p1 p2 := by
  unfold wpX_wallBeside
  exact jp_fb hc dx dy e1 e2 hx hy (fun z => br_f (by decide) (h0 z)) (fun z => br_t rfl (h1 z))
theorem jp_bo {post : Int32 → Prop} {p1 p2 : Int32} (dx dy : Int) (e1 : p1 = jp_i dx) (e2 : p2 = jp_i dy) (hx : -1 ≤ dx ∧ dx ≤ 1) (hy : -1 ≤ dy ∧ dy ≤ 1)
    (h : post (nI (2 ^ jp_k dx dy))) : wpX_bitOf post (oc, gl, ld, a1, a2, a3, a4, a5) p1 p2 := by
  subst e1 e2
  unfold wpX_bitOf
  dsimp only
  rw [jp_bit hx hy]
  exact h
theorem jp_f45 {post : Int32 → Prop} {c : Nat} (hc : c < 144) {dx dy : Int} (hx : -1 ≤ dx ∧ dx ≤ 1) (hy : -1 ≤ dy ∧ dy ≤ 1) {v : Nat} (hv : v < 512)
    (H : ∀ w, w < 512 → (∀ i, v.testBit i = true → w.testBit i = true) → (¬ jp_F a1 (jp_x c + 0) (jp_y c + -dy) → jp_F a1 (jp_x c + dx) (jp_y c + -dy) → w.testBit (jp_k dx (-dy)) = true) → post (nI w)) :
    wX_forced_45 post (nI c) (jp_i dx) (jp_i dy) (nI v) oc gl ld a1 a2 a3 a4 a5 := by
  have hy' : -1 ≤ -dy ∧ -dy ≤ 1 := by omega
  unfold wX_forced_45
  refine jp_wb hc 0 (-dy) jp_l0 (jp_in dy) (by omega) hy' (fun z => br_f (by decide) ?_) (fun z => br_t rfl (H v hv (fun _ h => h) (fun z1 => absurd z z1)))
  refine jp_fb hc dx (-dy) rfl (jp_in dy) hx hy' (fun z2 => br_f (by decide) ?_) (fun z2 => br_t rfl (H v hv (fun _ h => h) (fun _ z3 => absurd z3 z2)))
  refine jp_bo dx (-dy) rfl (jp_in dy) hx hy' (nm_r (jp_or _ _) (H _ (jp_orlt hv (jp_b512 hx hy')) (fun i h => jp_orL h) (fun _ _ => jp_orR Nat.testBit_two_pow_self)))
theorem jp_f113 {post : Int32 → Prop} {J : Int32 → Int32 → Prop} {c : Nat} (hc : c < 144) {dx dy : Int} (sx sy : Int) (hx : -1 ≤ sx ∧ sx ≤ 1) (hy : -1 ≤ sy ∧ sy ≤ 1) (hx2 : -1 ≤ dx + sx ∧ dx + sx ≤ 1) (hy2 : -1 ≤ dy + sy ∧ dy + sy ≤ 1)
    {x5 x5' x6 z0 : Int32} (e6 : x6 = jp_i sx) (ez : z0 = jp_i sy) (e5 : x5 + 2 = x5') {v : Nat} (hv : v < 512)
    (H : ∀ w, w < 512 → (∀ i, v.testBit i = true → w.testBit i = true) → (¬ jp_F a1 (jp_x c + sx) (jp_y c + sy) → jp_F a1 (jp_x c + (dx + sx)) (jp_y c + (dy + sy)) → w.testBit (jp_k (dx + sx) (dy + sy)) = true) → J (nI w) x5') :
    wX_forced_113 post J (nI c) (jp_i dx) (jp_i dy) (nI v) x5 x6 z0 oc gl ld a1 a2 a3 a4 a5 := by
  subst e6 ez
  unfold wX_forced_113
  refine jp_wb hc sx sy rfl rfl hx hy (fun z => br_f (by decide) ?_) (fun z => br_t rfl (nm_r e5 (H v hv (fun _ h => h) (fun z1 => absurd z z1))))
  refine jp_fb hc (dx + sx) (dy + sy) (jp_ia dx sx) (jp_ia dy sy) hx2 hy2 (fun z2 => br_f (by decide) ?_) (fun z2 => br_t rfl (nm_r e5 (H v hv (fun _ h => h) (fun _ z3 => absurd z3 z2))))
  exact jp_bo (dx + sx) (dy + sy) (jp_ia dx sx) (jp_ia dy sy) hx2 hy2 (nm_r (jp_or _ _) (nm_r e5 (H _ (jp_orlt hv (jp_b512 hx2 hy2)) (fun i h => jp_orL h) (fun _ _ => jp_orR Nat.testBit_two_pow_self))))
/-- one side's forced direction of a straight step -/
def jp_fo1 (F : Int → Int → Prop) (x y dx dy s ex ey : Int) : Prop :=
  (dx = 0 ∧ ex = s ∧ ey = dy ∧ ¬ F (x + s) (y + 0) ∧ F (x + s) (y + dy)) ∨ (dy = 0 ∧ ex = dx ∧ ey = s ∧ ¬ F (x + 0) (y + s) ∧ F (x + dx) (y + s))
theorem jp_f85 {post : Int32 → Prop} {c n : Nat} (hc : c < 144) {dx dy : Int} (hd : jp_dir dx dy) (h0 : dx = 0 ∨ dy = 0) (s : Int) (hs : s = -1 ∨ s = 1) {x5 x5' : Int32} (e5 : x5 = jp_i s) (e5' : x5 + 2 = x5') {v : Nat} (hv : v < 512)
    (H : ∀ w, w < 512 → (∀ i, v.testBit i = true → w.testBit i = true) → (∀ ex ey, jp_fo1 (jp_F a1) (jp_x c) (jp_y c) dx dy s ex ey → w.testBit (jp_k ex ey) = true) → wX_forced_85 post (nI c) (jp_i dx) (jp_i dy) oc gl ld a1 a2 a3 a4 a5 n (nI w) x5') :
    wX_forced_85 post (nI c) (jp_i dx) (jp_i dy) oc gl ld a1 a2 a3 a4 a5 (n + 1) (nI v) x5 := by
  have hd0 := hd
  unfold jp_dir at hd0
  unfold wX_forced_85
  have g1 : ¬ (1 : Int32) < x5 := by
    rw [e5, jp_l1, jp_ilt (by omega) (by omega)]
    omega
  refine br_f g1 ?_
  by_cases hx : dx = 0
  · have hy : dy ≠ 0 := by omega
    refine br_t ((jp_eq0 (by omega)).mpr hx) ?_
    unfold wX_forced_101
    refine br_f (fun z => hy ((jp_eq0 (by omega)).mp z)) ?_
    refine jp_f113 hc s 0 (by omega) (by omega) (by omega) (by omega) e5 jp_l0 e5' hv (fun w hw hvw hf => H w hw hvw (fun ex ey he => ?_))
    rcases he with ⟨_, rfl, rfl, b1, b2⟩ | ⟨z, _⟩
    · have := hf b1 (jp_cg b2 (by omega) (by omega))
      rw [hx, Int.zero_add, Int.add_zero] at this
      exact this
    · exact absurd z hy
  · have hy : dy = 0 := by omega
    refine br_f (fun z => hx ((jp_eq0 (by omega)).mp z)) ?_
    unfold wX_forced_101
    refine br_t ((jp_eq0 (by omega)).mpr hy) ?_
    refine jp_f113 hc 0 s (by omega) (by omega) (by omega) (by omega) jp_l0 e5 e5' hv (fun w hw hvw hf => H w hw hvw (fun ex ey he => ?_))
    rcases he with ⟨z, _⟩ | ⟨_, rfl, rfl, b1, b2⟩
    · exact absurd z hx
    · have := hf b1 (jp_cg b2 (by omega) (by omega))
      rw [hy, Int.zero_add, Int.add_zero] at this
      exact this
theorem jp_f85s {post : Int32 → Prop} {c : Nat} (hc : c < 144) {dx dy : Int} (hd : jp_dir dx dy) (h0 : dx = 0 ∨ dy = 0)
    (H : ∀ v, v < 512 → (∀ ex ey, jp_fo (jp_F a1) (jp_x c) (jp_y c) dx dy ex ey → v.testBit (jp_k ex ey) = true) → post (nI v)) :
    ∃ n, wX_forced_85 post (nI c) (jp_i dx) (jp_i dy) oc gl ld a1 a2 a3 a4 a5 n 0 (-1) := by
  refine ⟨3, ?_⟩
  refine jp_f85 (v := 0) hc hd h0 (-1) (Or.inl rfl) jp_lm1 (x5' := 1) (by decide) (by omega) (fun w hw _ hf => ?_)
  refine jp_f85 hc hd h0 1 (Or.inr rfl) jp_l1 (x5' := 3) (by decide) hw (fun w2 hw2 h2 hf2 => ?_)
  unfold wX_forced_85
  refine br_t (by decide) (H w2 hw2 (fun ex ey he => ?_))
  rcases he with ⟨n1, n2, _⟩ | ⟨z, s, hs, rfl, rfl, b1, b2⟩ | ⟨z, s, hs, rfl, rfl, b1, b2⟩
  · omega
  · rcases hs with rfl | rfl
    · exact h2 _ (hf _ _ (Or.inl ⟨z, rfl, rfl, b1, b2⟩))
    · exact hf2 _ _ (Or.inl ⟨z, rfl, rfl, b1, b2⟩)
  · rcases hs with rfl | rfl
    · exact h2 _ (hf _ _ (Or.inr ⟨z, rfl, rfl, b1, b2⟩))
    · exact hf2 _ _ (Or.inr ⟨z, rfl, rfl, b1, b2⟩)
theorem jp_fd {post : Int32 → Prop} {c : Nat} (hc : c < 144) {dx dy : Int} (hd : jp_dir dx dy) {p1 p2 : Int32} (e1 : p1 = jp_i dx) (e2 : p2 = jp_i dy)
    (H : ∀ v, v < 512 → (∀ ex ey, jp_fo (jp_F a1) (jp_x c) (jp_y c) dx dy ex ey → v.testBit (jp_k ex ey) = true) → post (nI v)) :
    wpX_forced post (oc, gl, ld, a1, a2, a3, a4, a5) (nI c) p1 p2 := by
  subst e1 e2
  have hd0 := hd
  unfold jp_dir at hd0
  unfold wpX_forced
  dsimp only
  refine br_c (fun z => jp_f85s hc hd (Or.inl ((jp_eq0 (by omega)).mp z)) H) (fun z => br_c (fun z2 => jp_f85s hc hd (Or.inr ((jp_eq0 (by omega)).mp z2)) H) (fun z2 => ?_))
  rw [jp_eq0 (by omega)] at z z2
  have hx' : -1 ≤ -dx ∧ -dx ≤ 1 := by omega
  have fin : ∀ v, v < 512 → (¬ jp_F a1 (jp_x c + -dx) (jp_y c + 0) → jp_F a1 (jp_x c + -dx) (jp_y c + dy) → v.testBit (jp_k (-dx) dy) = true) → wX_forced_45 post (nI c) (jp_i dx) (jp_i dy) (nI v) oc gl ld a1 a2 a3 a4 a5 := by
    intro v hv hf
    refine jp_f45 hc hd0.1 hd0.2.1 hv (fun w hw hvw hf2 => H w hw (fun ex ey he => ?_))
    rcases he with ⟨_, _, ⟨rfl, rfl, b1, b2⟩ | ⟨rfl, rfl, b1, b2⟩⟩ | ⟨y, _⟩ | ⟨y, _⟩
    · exact hvw _ (hf b1 b2)
    · exact hf2 b1 b2
    · exact absurd y z
    · exact absurd y z2
  refine jp_wb hc (-dx) 0 (jp_in dx) jp_l0 hx' (by omega) (fun z3 => br_f (by decide) ?_) (fun z3 => br_t rfl (fin 0 (by omega) (fun y => absurd z3 y)))
  refine jp_fb hc (-dx) dy (jp_in dx) rfl hx' hd0.2.1 (fun z4 => br_f (by decide) ?_) (fun z4 => br_t rfl (fin 0 (by omega) (fun _ y => absurd y z4)))
  refine jp_bo (-dx) dy (jp_in dx) rfl hx' hd0.2.1 (nm_r (jp_or 0 _) (fin _ (jp_orlt (by omega) (jp_b512 hx' hd0.2.1)) (fun _ _ => jp_orR Nat.testBit_two_pow_self)))
end
end
section
section
variable {oc gl ld : Int32} {a1 a2 a3 a4 a5 : Nat → Int32}
theorem jp_rb {x y dx dy : Int} {k : Nat} (hin : jp_in12 x y) (hd : jp_dir dx dy) (h : jp_run (jp_F a1) x y dx dy k) : k ≤ 11 := by
  rcases Nat.lt_or_ge 11 k with g | g
  · have f := (h 12 (by omega) (by omega)).1
    unfold jp_in12 at hin f
    unfold jp_dir at hd
    omega
  · exact g
theorem jp_at0 (x d : Int) : x + ((0 : Nat) : Int) * d = x := by
  rw [show ((0 : Nat) : Int) = 0 from rfl, Int.zero_mul, Int.add_zero]
theorem jp_rin {x y dx dy : Int} {k : Nat} (hin : jp_in12 x y) (h : jp_run (jp_F a1) x y dx dy k) : jp_in12 (x + k * dx) (y + k * dy) := by
  by_cases e : k = 0
  · subst e
    rw [jp_at0, jp_at0]
    exact hin
  · exact (h k (by omega) (Nat.le_refl _)).1
theorem jp_js {post : Int32 → St1 → Prop} {c t : Nat} (hc : c < 144) (ht : t < 144) {dx dy : Int} (hd : jp_dir dx dy) {p1 p2 : Int32} (e1 : p1 = jp_i dx) (e2 : p2 = jp_i dy)
    (H0 : (∀ k : Nat, 1 ≤ k → jp_run (jp_F a1) (jp_x c) (jp_y c) dx dy k → ¬ jp_stS (jp_F a1) (jp_x t) (jp_y t) (jp_x c + k * dx) (jp_y c + k * dy) dx dy) → post 0 (oc, nI t, -1, a1, a2, a3, a4, a5))
    (H1 : ∀ r : Nat, 1 ≤ r → r ≤ 11 → jp_run (jp_F a1) (jp_x c) (jp_y c) dx dy r → (∀ k : Nat, 1 ≤ k → jp_run (jp_F a1) (jp_x c) (jp_y c) dx dy k → jp_stS (jp_F a1) (jp_x t) (jp_y t) (jp_x c + k * dx) (jp_y c + k * dy) dx dy → r ≤ k) → post (nI r) (oc, nI t, nI (jp_ix (jp_x c + r * dx) (jp_y c + r * dy)), a1, a2, a3, a4, a5)) :
    wpX_jumpStraight post (oc, nI t, ld, a1, a2, a3, a4, a5) (nI c) p1 p2 := by
  subst e1 e2
  unfold wpX_jumpStraight
  dsimp only
  have hin := jp_xy hc
  obtain ⟨n, hn⟩ : ∃ n, wX_jumpStraight_11 post (jp_i dx) (jp_i dy) oc (nI t) (-1) a1 a2 a3 a4 a5 n (nI (jp_ix (jp_x c + ((0 : Nat) : Int) * dx) (jp_y c + ((0 : Nat) : Int) * dy))) (nI 0) := by
    refine pk_loop (σ := Unit) (fun n i _ => wX_jumpStraight_11 post (jp_i dx) (jp_i dy) oc (nI t) (-1) a1 a2 a3 a4 a5 n (nI (jp_ix (jp_x c + (i : Int) * dx) (jp_y c + (i : Int) * dy))) (nI i))
      (fun i _ => jp_run (jp_F a1) (jp_x c) (jp_y c) dx dy i ∧ ∀ k : Nat, 1 ≤ k → k ≤ i → ¬ jp_stS (jp_F a1) (jp_x t) (jp_y t) (jp_x c + k * dx) (jp_y c + k * dy) dx dy) 12 0 () (by omega) ⟨jp_run0, fun k h1 h2 => absurd h1 (by omega)⟩ ?_ ?_
    · intro n s hI
      exact absurd (jp_rb hin hd hI.1) (by omega)
    · intro n i s hi hI hw
      obtain ⟨hrun, hno⟩ := hI
      have hin2 := jp_rin hin hrun
      show wX_jumpStraight_11 post (jp_i dx) (jp_i dy) oc (nI t) (-1) a1 a2 a3 a4 a5 (n + 1) (nI (jp_ix (jp_x c + (i : Int) * dx) (jp_y c + (i : Int) * dy))) (nI i)
      unfold wX_jumpStraight_11
      refine jp_fb (jp_ix1 hin2) dx dy rfl rfl hd.1 hd.2.1 (fun f => br_f (by decide) ?_) (fun f => br_t rfl (H0 ?_))
      · rw [jp_ix2 hin2, jp_ix3 hin2] at f
        have hr' := jp_runS hrun f
        have hin3 := jp_rin hin hr'
        have ec : nI (jp_ix (jp_x c + (i : Int) * dx) (jp_y c + (i : Int) * dy)) + ((12 * jp_i dy) + jp_i dx) = nI (jp_ix (jp_x c + ((i + 1 : Nat) : Int) * dx) (jp_y c + ((i + 1 : Nat) : Int) * dy)) := by
          rw [jp_stp hin2 f.1, jp_sm, jp_sm, ← Int.add_assoc, ← Int.add_assoc]
        have h144 := jp_ix1 hin3
        have h11 := jp_rb hin hd hr'
        have hit : post (nI (i + 1)) (oc, nI t, nI (jp_ix (jp_x c + ((i + 1 : Nat) : Int) * dx) (jp_y c + ((i + 1 : Nat) : Int) * dy)), a1, a2, a3, a4, a5) := H1 (i + 1) (by omega) h11 hr' (fun k k1 k2 k3 => by
          rcases Nat.lt_or_ge i k with g | g
          · exact g
          · exact absurd k3 (hno k k1 g))
        refine nm_r ec (nm_r (nI_1 i) ?_)
        refine pk_eq (jp_ix (jp_x c + ((i + 1 : Nat) : Int) * dx) (jp_y c + ((i + 1 : Nat) : Int) * dy)) t (fun e => hit) (fun ne => ?_) rfl rfl (by omega) (by omega)
        refine jp_fd h144 hd rfl rfl (fun v hv hf => ?_)
        rw [jp_ix2 hin3, jp_ix3 hin3] at hf
        refine pk_eq v 0 (fun e => ?_) (fun ne2 => hit) rfl rfl (by omega) (by omega)
        refine hw () ⟨hr', fun k k1 k2 => ?_⟩
        by_cases ek : k = i + 1
        · intro hst
          rw [ek] at hst
          rcases hst with hst | ⟨ex, ey, hfo⟩
          · refine ne ?_
            rw [hst.1, hst.2]
            exact jp_ixc t
          · have := hf ex ey hfo
            rw [e, Nat.zero_testBit] at this
            exact absurd this (by decide)
        · exact hno k k1 (by omega)
      · rw [jp_ix2 hin2, jp_ix3 hin2] at f
        intro k k1 k2
        rcases Nat.lt_or_ge i k with g | g
        · refine absurd ?_ f
          have := k2 (i + 1) (by omega) (by omega)
          rw [jp_sm, jp_sm] at this
          exact jp_cg this (by omega) (by omega)
        · exact hno k k1 g
  rw [jp_at0, jp_at0, jp_ixc] at hn
  exact ⟨n, hn⟩
theorem jp_jd {post : Int32 → St1 → Prop} {c t : Nat} (hc : c < 144) (ht : t < 144) {dx dy : Int} (hd : jp_dir dx dy) (hx0 : dx ≠ 0) (hy0 : dy ≠ 0) {p1 p2 : Int32} (e1 : p1 = jp_i dx) (e2 : p2 = jp_i dy)
    (H0 : (∀ k : Nat, 1 ≤ k → jp_run (jp_F a1) (jp_x c) (jp_y c) dx dy k → ¬ jp_st (jp_F a1) (jp_x t) (jp_y t) (jp_x c + k * dx) (jp_y c + k * dy) dx dy) → post 0 (oc, nI t, -1, a1, a2, a3, a4, a5))
    (H1 : ∀ r : Nat, 1 ≤ r → r ≤ 11 → jp_run (jp_F a1) (jp_x c) (jp_y c) dx dy r → (∀ k : Nat, 1 ≤ k → jp_run (jp_F a1) (jp_x c) (jp_y c) dx dy k → jp_st (jp_F a1) (jp_x t) (jp_y t) (jp_x c + k * dx) (jp_y c + k * dy) dx dy → r ≤ k) → post (nI r) (oc, nI t, nI (jp_ix (jp_x c + r * dx) (jp_y c + r * dy)), a1, a2, a3, a4, a5)) :
    wpX_jumpDiagonal post (oc, nI t, ld, a1, a2, a3, a4, a5) (nI c) p1 p2 := by
  subst e1 e2
  have hdx : jp_dir dx 0 := by
    unfold jp_dir at hd ⊢
    omega
  have hdy : jp_dir 0 dy := by
    unfold jp_dir at hd ⊢
    omega
  unfold wpX_jumpDiagonal
  dsimp only
  have hin := jp_xy hc
  obtain ⟨n, hn⟩ : ∃ n, wX_jumpDiagonal_6 post (jp_i dx) (jp_i dy) n (nI (jp_ix (jp_x c + ((0 : Nat) : Int) * dx) (jp_y c + ((0 : Nat) : Int) * dy))) (nI 0) oc (nI t) ld a1 a2 a3 a4 a5 := by
    refine pk_loop (σ := Int32) (fun n i s => wX_jumpDiagonal_6 post (jp_i dx) (jp_i dy) n (nI (jp_ix (jp_x c + (i : Int) * dx) (jp_y c + (i : Int) * dy))) (nI i) oc (nI t) s a1 a2 a3 a4 a5)
      (fun i _ => jp_run (jp_F a1) (jp_x c) (jp_y c) dx dy i ∧ ∀ k : Nat, 1 ≤ k → k ≤ i → ¬ jp_st (jp_F a1) (jp_x t) (jp_y t) (jp_x c + k * dx) (jp_y c + k * dy) dx dy) 12 0 ld (by omega) ⟨jp_run0, fun k h1 h2 => absurd h1 (by omega)⟩ ?_ ?_
    · intro n s hI
      exact absurd (jp_rb hin hd hI.1) (by omega)
    · intro n i s hi hI hw
      obtain ⟨hrun, hno⟩ := hI
      have hin2 := jp_rin hin hrun
      show wX_jumpDiagonal_6 post (jp_i dx) (jp_i dy) (n + 1) (nI (jp_ix (jp_x c + (i : Int) * dx) (jp_y c + (i : Int) * dy))) (nI i) oc (nI t) s a1 a2 a3 a4 a5
      unfold wX_jumpDiagonal_6
      refine jp_fb (jp_ix1 hin2) dx dy rfl rfl hd.1 hd.2.1 (fun f => br_f (by decide) ?_) (fun f => br_t rfl (H0 ?_))
      · rw [jp_ix2 hin2, jp_ix3 hin2] at f
        have hr' := jp_runS hrun f
        have hin3 := jp_rin hin hr'
        have ec : nI (jp_ix (jp_x c + (i : Int) * dx) (jp_y c + (i : Int) * dy)) + ((12 * jp_i dy) + jp_i dx) = nI (jp_ix (jp_x c + ((i + 1 : Nat) : Int) * dx) (jp_y c + ((i + 1 : Nat) : Int) * dy)) := by
          rw [jp_stp hin2 f.1, jp_sm, jp_sm, ← Int.add_assoc, ← Int.add_assoc]
        have h144 := jp_ix1 hin3
        have h11 := jp_rb hin hd hr'
        have hit : post (nI (i + 1)) (oc, nI t, nI (jp_ix (jp_x c + ((i + 1 : Nat) : Int) * dx) (jp_y c + ((i + 1 : Nat) : Int) * dy)), a1, a2, a3, a4, a5) := H1 (i + 1) (by omega) h11 hr' (fun k k1 k2 k3 => by
          rcases Nat.lt_or_ge i k with g | g
          · exact g
          · exact absurd k3 (hno k k1 g))
        have s92 : ∀ ld', wX_jumpDiagonal_92 post (wX_jumpDiagonal_6 post (jp_i dx) (jp_i dy) n) (jp_i dx) (jp_i dy) (nI (jp_ix (jp_x c + ((i + 1 : Nat) : Int) * dx) (jp_y c + ((i + 1 : Nat) : Int) * dy))) (nI (i + 1)) 1 oc (nI t) ld' a1 a2 a3 a4 a5 := by
          intro ld'
          unfold wX_jumpDiagonal_92
          exact br_f (by decide) hit
        have s85 : ∀ ld', wX_jumpDiagonal_85 post (wX_jumpDiagonal_6 post (jp_i dx) (jp_i dy) n) (jp_i dx) (jp_i dy) (nI (jp_ix (jp_x c + ((i + 1 : Nat) : Int) * dx) (jp_y c + ((i + 1 : Nat) : Int) * dy))) (nI (i + 1)) oc (nI t) ld' a1 a2 a3 a4 a5 := by
          intro ld'
          unfold wX_jumpDiagonal_85 wX_jumpDiagonal_90
          exact s92 ld'
        have s51 : wX_jumpDiagonal_51 post (wX_jumpDiagonal_6 post (jp_i dx) (jp_i dy) n) (jp_i dx) (jp_i dy) (nI (jp_ix (jp_x c + ((i + 1 : Nat) : Int) * dx) (jp_y c + ((i + 1 : Nat) : Int) * dy))) (nI (i + 1)) oc (nI t) s a1 a2 a3 a4 a5 := by
          unfold wX_jumpDiagonal_51 wX_jumpDiagonal_56
          exact br_f (by decide) (s92 s)
        refine nm_r ec (nm_r (nI_1 i) ?_)
        refine pk_eq (jp_ix (jp_x c + ((i + 1 : Nat) : Int) * dx) (jp_y c + ((i + 1 : Nat) : Int) * dy)) t (fun e => s51) (fun ne => ?_) rfl rfl (by omega) (by omega)
        refine jp_fd h144 hd rfl rfl (fun v hv hf => ?_)
        rw [jp_ix2 hin3, jp_ix3 hin3] at hf
        refine pk_eq v 0 (fun e => ?_) (fun ne2 => s51) rfl rfl (by omega) (by omega)
        unfold wX_jumpDiagonal_56
        refine br_t rfl ?_
        refine jp_js h144 ht hdx rfl jp_l0 (fun hno1 => ?_) (fun r r1 r2 _ _ => ?_)
        · dsimp only
          refine br_f (by decide) ?_
          refine jp_js h144 ht hdy jp_l0 rfl (fun hno2 => ?_) (fun r r1 r2 _ _ => ?_)
          · dsimp only
            refine br_t (by decide) ?_
            unfold wX_jumpDiagonal_90 wX_jumpDiagonal_92
            refine br_t rfl ?_
            rw [jp_ix2 hin3, jp_ix3 hin3] at hno1 hno2
            refine hw (-1) ⟨hr', fun k k1 k2 => ?_⟩
            by_cases ek : k = i + 1
            · intro hst
              rw [ek] at hst
              rcases hst with (hst | ⟨ex, ey, hfo⟩) | ⟨_, _, ⟨m, m1, m2, m3⟩ | ⟨m, m1, m2, m3⟩⟩
              · refine ne ?_
                rw [hst.1, hst.2]
                exact jp_ixc t
              · have := hf ex ey hfo
                rw [e, Nat.zero_testBit] at this
                exact absurd this (by decide)
              · exact hno1 m m1 m2 m3
              · exact hno2 m m1 m2 m3
            · exact hno k k1 (by omega)
          · dsimp only
            exact br_f (nI_nle (by omega) (by omega)) (s85 _)
        · dsimp only
          exact br_t (nI_lt (a := 0) (by omega) (by omega)) (s85 _)
      · rw [jp_ix2 hin2, jp_ix3 hin2] at f
        intro k k1 k2
        rcases Nat.lt_or_ge i k with g | g
        · refine absurd ?_ f
          have := k2 (i + 1) (by omega) (by omega)
          rw [jp_sm, jp_sm] at this
          exact jp_cg this (by omega) (by omega)
        · exact hno k k1 g
  rw [jp_at0, jp_at0, jp_ixc] at hn
  exact ⟨n, hn⟩
end
end
section
/-- the picture: m cells are listed in op; mk: 0 unseen, 1 listed, 2 done; ln lengths, dr sets of directions -/
def jp_R (m : Nat) (mk ln dr op : Nat → Nat) (oc : Int32) (a2 a3 a4 a5 : Nat → Int32) : Prop :=
  oc = nI m ∧ (∀ c, c < 144 → a4 c = nI (mk c)) ∧ (∀ c, c < 144 → mk c ≠ 0 → a2 c = nI (ln c) ∧ a3 c = nI (dr c)) ∧ (∀ j, j < m → a5 j = nI (op j))
def jp_c1 (mk : Nat → Nat) : Nat → Nat := fun c => if mk c = 1 then 1 else 0
def jp_cm (mk : Nat → Nat) : Nat → Nat := fun c => if mk c = 0 then 0 else 1
def jp_B (m : Nat) (mk ln dr op : Nat → Nat) : Prop :=
  (∀ c, c < 144 → mk c ≤ 2) ∧ (∀ c, c < 144 → mk c ≠ 0 → ln c + 154 ≤ 154 * jp_sum (jp_cm mk) 144 ∧ dr c < 512) ∧
  (∀ j, j < m → op j < 144 ∧ mk (op j) = 1) ∧ (∀ i j, i < m → j < m → op i = op j → i = j) ∧ (∀ c, c < 144 → mk c = 1 → ∃ j, j < m ∧ op j = c) ∧ m = jp_sum (jp_c1 mk) 144
theorem jp_c1b (mk : Nat → Nat) (c : Nat) : jp_c1 mk c ≤ 1 := by
  unfold jp_c1
  split <;> omega
theorem jp_cmb (mk : Nat → Nat) (c : Nat) : jp_cm mk c ≤ 1 := by
  unfold jp_cm
  split <;> omega
theorem jp_Bm {m : Nat} {mk ln dr op : Nat → Nat} (h : jp_B m mk ln dr op) {c : Nat} (hc : c < 144) (h1 : mk c ≠ 1) : m < 144 := by
  rw [h.2.2.2.2.2]
  exact jp_sumB1 (jp_c1b mk) hc (if_neg h1)
theorem jp_Bm' {m : Nat} {mk ln dr op : Nat → Nat} (h : jp_B m mk ln dr op) : m ≤ 144 := by
  rw [h.2.2.2.2.2]
  exact jp_sumB 144 (jp_c1b mk)
theorem jp_Bl {m : Nat} {mk ln dr op : Nat → Nat} (h : jp_B m mk ln dr op) {c : Nat} (hc : c < 144) (h1 : mk c ≠ 0) : ln c ≤ 22022 ∧ dr c < 512 := by
  have h2 := h.2.1 c hc h1
  have h3 := jp_sumB 144 (jp_cmb mk)
  omega
section
variable {oc gl ld : Int32} {a1 a2 a3 a4 a5 : Nat → Int32}
theorem jp_o83 {post : St1 → Prop} {m : Nat} {mk ln dr op : Nat → Nat} {c n w : Nat} (hc : c < 144) (hoc : oc = nI m) (h4 : ∀ j, j < 144 → a4 j = nI (mk j)) (h5 : ∀ j, j < m → a5 j = nI (op j)) (hm : mk c ≠ 1 → m < 144) (hk : mk c ≤ 2)
    (h23 : ∀ j, j < 144 → jp_up mk c 1 j ≠ 0 → a2 j = nI (jp_up ln c n j) ∧ a3 j = nI (jp_up dr c w j))
    (H : ∀ m' op' oc' a4' a5', ((mk c = 1 ∧ m' = m ∧ op' = op) ∨ (mk c ≠ 1 ∧ m' = m + 1 ∧ op' = jp_up op m c)) → jp_R m' (jp_up mk c 1) (jp_up ln c n) (jp_up dr c w) op' oc' a2 a3 a4' a5' → post (oc', gl, ld, a1, a2, a3, a4', a5')) :
    wX_offer_83 post (nI c) oc gl ld a1 a2 a3 a4 a5 := by
  unfold wX_offer_83
  rw [nI_clamp (show c < 2 ^ 31 by omega), h4 c hc]
  refine ⟨pk_in c 144 hc, pk_eq (mk c) 1 (fun e => H m op oc a4 a5 (Or.inl ⟨e, rfl, rfl⟩) ⟨hoc, fun j hj => ?_, h23, h5⟩) (fun ne => ?_)⟩
  · by_cases ej : j = c
    · rw [ej, jp_us, h4 c hc, e]
    · rw [jp_un ej, h4 j hj]
  · have hm' := hm ne
    refine ⟨pk_in c 144 hc, nm_e ⟨?_, ?_⟩⟩
    · rw [hoc]
      exact pk_in m 144 hm'
    · rw [hoc, nI_clamp (show m < 2 ^ 31 by omega), jp_s16 (show c < 32768 by omega)]
      refine nm_e (nm_r (nI_1 m) (H (m + 1) (jp_up op m c) _ _ _ (Or.inr ⟨ne, rfl, rfl⟩) ⟨rfl, fun j hj => ?_, h23, fun j hj => ?_⟩))
      · by_cases ej : j = c
        · rw [ej, jp_us, pk_us]
          rfl
        · rw [jp_un ej, pk_un ej, h4 j hj]
      · by_cases ej : j = m
        · rw [ej, jp_us, pk_us]
        · rw [jp_un ej, pk_un ej, h5 j (by omega)]
theorem jp_o67 {post : St1 → Prop} {m : Nat} {mk ln dr op : Nat → Nat} {c n w : Nat} (hc : c < 144) (hn : n < 32768) (hw : w < 512) (hR : jp_R m mk ln dr op oc a2 a3 a4 a5) (hm : mk c ≠ 1 → m < 144) (hk : mk c ≤ 2)
    (H : ∀ m' op' oc' a2' a3' a4' a5', ((mk c = 1 ∧ m' = m ∧ op' = op) ∨ (mk c ≠ 1 ∧ m' = m + 1 ∧ op' = jp_up op m c)) → jp_R m' (jp_up mk c 1) (jp_up ln c n) (jp_up dr c w) op' oc' a2' a3' a4' a5' → post (oc', gl, ld, a1, a2', a3', a4', a5')) :
    wX_offer_67 post (nI c) (nI n) (nI w) oc gl ld a1 a2 a3 a4 a5 := by
  unfold wX_offer_67
  rw [nI_clamp (show c < 2 ^ 31 by omega), jp_s16 hn, jp_s16 (show w < 32768 by omega)]
  refine ⟨pk_in c 144 hc, nm_e ⟨pk_in c 144 hc, nm_e ?_⟩⟩
  refine jp_o83 hc hR.1 hR.2.1 hR.2.2.2 hm hk (fun j hj hj0 => ?_) (fun m' op' oc' a4' a5' h1 h2 => H m' op' oc' _ _ a4' a5' h1 h2)
  by_cases ej : j = c
  · rw [ej, jp_us, jp_us, pk_us, pk_us]
    exact ⟨rfl, rfl⟩
  · rw [jp_un ej] at hj0
    rw [jp_un ej, jp_un ej, pk_un ej, pk_un ej]
    exact hR.2.2.1 j hj hj0
theorem jp_off {post : St1 → Prop} {m : Nat} {mk ln dr op : Nat → Nat} {c n v : Nat} (hc : c < 144) (hn : n < 32768) (hv : v < 512) (hR : jp_R m mk ln dr op oc a2 a3 a4 a5) (hB : jp_B m mk ln dr op)
    (H0 : mk c ≠ 0 → (ln c < n ∨ (ln c = n ∧ ∀ i, v.testBit i = true → (dr c).testBit i = true)) → post (oc, gl, ld, a1, a2, a3, a4, a5))
    (H1 : ∀ w m' op' oc' a2' a3' a4' a5', w < 512 → ((w = v ∧ (mk c = 0 ∨ n < ln c)) ∨ (mk c ≠ 0 ∧ ln c = n ∧ w = dr c ||| v ∧ ¬ ∀ i, v.testBit i = true → (dr c).testBit i = true)) →
      ((mk c = 1 ∧ m' = m ∧ op' = op) ∨ (mk c ≠ 1 ∧ m' = m + 1 ∧ op' = jp_up op m c)) → jp_R m' (jp_up mk c 1) (jp_up ln c n) (jp_up dr c w) op' oc' a2' a3' a4' a5' → post (oc', gl, ld, a1, a2', a3', a4', a5')) :
    wpX_offer post (oc, gl, ld, a1, a2, a3, a4, a5) (nI c) (nI n) (nI v) := by
  have hm := jp_Bm hB hc
  have hk := hB.1 c hc
  have h23 := hR.2.2.1 c hc
  have hl := fun h => jp_Bl hB hc h
  have h67 : (mk c = 0 ∨ n < ln c) → wX_offer_67 post (nI c) (nI n) (nI v) oc gl ld a1 a2 a3 a4 a5 := fun h => jp_o67 hc hn hv hR hm hk (fun m' op' oc' a2' a3' a4' a5' => H1 v m' op' oc' a2' a3' a4' a5' hv (Or.inl ⟨rfl, h⟩))
  have h20 : (mk c = 0 ∨ n ≤ ln c) → wX_offer_20 post (nI c) (nI n) (nI v) oc gl ld a1 a2 a3 a4 a5 := by
    intro h
    unfold wX_offer_20
    rw [nI_clamp (show c < 2 ^ 31 by omega), hR.2.1 c hc]
    refine ⟨pk_in c 144 hc, pk_eq (mk c) 0 (fun e => h67 (Or.inl e)) (fun ne => ⟨pk_in c 144 hc, ?_⟩)⟩
    obtain ⟨q1, q2⟩ := hl ne
    obtain ⟨e2, e3⟩ := h23 ne
    rw [e2, e3]
    refine pk_eq (ln c) n (fun e => ⟨pk_in c 144 hc, ?_⟩) (fun ne2 => h67 (Or.inr (by omega)))
    refine br_c (fun z => H0 ne (Or.inr ⟨e, (jp_sub hv).mp z⟩)) (fun z => ⟨pk_in c 144 hc, pk_in c 144 hc, ?_⟩)
    have z' : ¬ ∀ i, v.testBit i = true → (dr c).testBit i = true := fun y => z ((jp_sub hv).mpr y)
    have ho := jp_orlt q2 hv
    rw [jp_or, jp_s16 (show dr c ||| v < 32768 by omega)]
    refine nm_e ?_
    refine jp_o83 (n := n) (w := dr c ||| v) hc hR.1 hR.2.1 hR.2.2.2 hm hk (fun j hj hj0 => ?_) (fun m' op' oc' a4' a5' h1 h2 => H1 (dr c ||| v) m' op' oc' _ _ a4' a5' ho (Or.inr ⟨ne, e, rfl, z'⟩) h1 h2)
    by_cases ej : j = c
    · rw [ej, jp_us, jp_us, pk_us, e2, e]
      exact ⟨rfl, rfl⟩
    · rw [jp_un ej] at hj0
      rw [jp_un ej, jp_un ej, pk_un ej]
      exact hR.2.2.1 j hj hj0
  unfold wpX_offer
  dsimp only
  rw [nI_clamp (show c < 2 ^ 31 by omega), hR.2.1 c hc]
  refine ⟨pk_in c 144 hc, pk_eq (mk c) 0 (fun e => h20 (Or.inl e)) (fun ne => ⟨pk_in c 144 hc, ?_⟩)⟩
  obtain ⟨q1, q2⟩ := hl ne
  rw [(h23 ne).1]
  exact pk_le n (ln c) (fun z => h20 (Or.inr z)) (fun z => H0 ne (Or.inl z))
theorem jp_al38 {post : Int32 → Prop} {u v : Nat} (hu : u ≤ 12) (hv : v ≤ 12) {x3 x4 : Int32} (e3 : x3 = nI u) (e4 : x4 = nI v) (h : post (nI (if v ≤ u then 4 * v + 10 * u else 4 * u + 10 * v))) :
    wX_atLeast_38 post x3 x4 oc gl ld a1 a2 a3 a4 a5 := by
  subst e3 e4
  unfold wX_atLeast_38
  refine pk_le v u (fun z => ?_) (fun z => ?_)
  · rw [if_pos z] at h
    have e : (4 : Int32) * nI v + 10 * nI u = nI (4 * v + 10 * u) := by
      rw [show (4 : Int32) = nI 4 from rfl, show (10 : Int32) = nI 10 from rfl, pk_mul, pk_mul, nI_add]
    rw [e]
    exact h
  · rw [if_neg (by omega)] at h
    have e : (4 : Int32) * nI u + 10 * nI v = nI (4 * u + 10 * v) := by
      rw [show (4 : Int32) = nI 4 from rfl, show (10 : Int32) = nI 10 from rfl, pk_mul, pk_mul, nI_add]
    rw [e]
    exact h
theorem jp_abs {X : Int} (h : -12 ≤ X ∧ X ≤ 12) : (0 ≤ X → jp_i X = nI X.natAbs) ∧ (X < 0 → -jp_i X = nI X.natAbs) := by
  constructor
  · intro z
    rw [← jp_iN]
    congr 1
    omega
  · intro z
    rw [← jp_iN, jp_in]
    congr 1
    omega
theorem jp_al {post : Int32 → Prop} {c t : Nat} (hc : c < 144) (ht : t < 144) (h : post (nI (jp_h (jp_x c - jp_x t) (jp_y c - jp_y t)))) : wpX_atLeast post (oc, gl, ld, a1, a2, a3, a4, a5) (nI c) (nI t) := by
  unfold wpX_atLeast
  dsimp only
  have g1 := jp_xy hc
  have g2 := jp_xy ht
  unfold jp_in12 at g1 g2
  generalize hX : jp_x c - jp_x t = X at h
  generalize hY : jp_y c - jp_y t = Y at h
  have bX : -12 ≤ X ∧ X ≤ 12 := by omega
  have bY : -12 ≤ Y ∧ Y ≤ 12 := by omega
  have eX : (nI c - nI c / 12 * 12) - (nI t - nI t / 12 * 12) = jp_i X := by
    rw [jp_rem12 hc, jp_rem12 ht, ← jp_iN, ← jp_iN, jp_is, ← hX]
    rfl
  have eY : (nI c / 12) - (nI t / 12) = jp_i Y := by
    rw [jp_div12 hc, jp_div12 ht, ← jp_iN, ← jp_iN, jp_is, ← hY]
    rfl
  have h28 : ∀ x3, x3 = nI X.natAbs → wX_atLeast_28 post x3 (jp_i Y) oc gl ld a1 a2 a3 a4 a5 := by
    intro x3 e3
    unfold wX_atLeast_28
    refine br_c (fun z => jp_al38 (u := X.natAbs) (v := Y.natAbs) (by omega) (by omega) e3 ((jp_abs bY).1 ((jp_ge0 (by omega)).mp z)) h) (fun z => nm_e (jp_al38 (u := X.natAbs) (v := Y.natAbs) (by omega) (by omega) e3 ((jp_abs bY).2 ?_) h))
    rw [jp_ge0 (by omega)] at z
    omega
  refine ⟨by decide, by decide, nm_r eX ⟨by decide, by decide, nm_r eY (br_c (fun z => h28 _ ((jp_abs bX).1 ((jp_ge0 (by omega)).mp z))) (fun z => nm_e (h28 _ ((jp_abs bX).2 ?_))))⟩⟩
  rw [jp_ge0 (by omega)] at z
  omega
/-- what a listed cell is chosen by -/
def jp_f (ln : Nat → Nat) (t c : Nat) : Nat := ln c + jp_h (jp_x c - jp_x t) (jp_y c - jp_y t)
theorem jp_hb {c t : Nat} (hc : c < 144) (ht : t < 144) : jp_h (jp_x c - jp_x t) (jp_y c - jp_y t) ≤ 200 := by
  have g1 := jp_xy hc
  have g2 := jp_xy ht
  unfold jp_in12 at g1 g2
  unfold jp_h
  split <;> omega
theorem jp_take {m : Nat} {mk ln dr op : Nat → Nat} (hB : jp_B (m + 1) mk ln dr op) {b : Nat} (hb : b < m + 1) : jp_B m (jp_up mk (op b) 2) ln dr (jp_up op b (op m)) := by
  obtain ⟨h1, h2, h3, h4, h5, h6⟩ := hB
  have hob := h3 b hb
  have hs : jp_sum (jp_cm (jp_up mk (op b) 2)) 144 = jp_sum (jp_cm mk) 144 := by
    refine jp_sumE 144 (fun j hj => ?_)
    unfold jp_cm
    by_cases e : j = op b
    · rw [e, jp_us, hob.2]
      rfl
    · rw [jp_un e]
  have hs1 : jp_sum (jp_c1 (jp_up mk (op b) 2)) 144 + jp_c1 mk (op b) = jp_sum (jp_c1 mk) 144 + jp_c1 (jp_up mk (op b) 2) (op b) := by
    refine jp_sum1 144 hob.1 (fun j hj => ?_)
    unfold jp_c1
    rw [jp_un hj]
  have e1 : jp_c1 mk (op b) = 1 := if_pos hob.2
  have e2 : jp_c1 (jp_up mk (op b) 2) (op b) = 0 := by
    unfold jp_c1
    rw [jp_us]
    rfl
  refine ⟨fun c hc => ?_, fun c hc h0 => ?_, fun j hj => ?_, fun i j hi hj e => ?_, fun c hc e => ?_, by omega⟩
  · by_cases e : c = op b
    · rw [e, jp_us]
      omega
    · rw [jp_un e]
      exact h1 c hc
  · rw [hs]
    by_cases e : c = op b
    · exact h2 c hc (by rw [e, hob.2]; omega)
    · rw [jp_un e] at h0
      exact h2 c hc h0
  · by_cases e : j = b
    · rw [e, jp_us]
      have hne : op m ≠ op b := fun z => by
        have := h4 m b (by omega) hb z
        omega
      rw [jp_un hne]
      exact h3 m (by omega)
    · rw [jp_un e]
      have hne : op j ≠ op b := fun z => e (h4 j b (by omega) hb z)
      rw [jp_un hne]
      exact h3 j (by omega)
  · by_cases ei : i = b
    · by_cases ej : j = b
      · rw [ei, ej]
      · rw [ei, jp_us, jp_un ej] at e
        have := h4 m j (by omega) (by omega) e
        omega
    · by_cases ej : j = b
      · rw [ej, jp_us, jp_un ei] at e
        have := h4 i m (by omega) (by omega) e
        omega
      · rw [jp_un ei, jp_un ej] at e
        exact h4 i j (by omega) (by omega) e
  · by_cases ec : c = op b
    · rw [ec, jp_us] at e
      exact absurd e (by omega)
    · rw [jp_un ec] at e
      obtain ⟨j, hj, ej⟩ := h5 c hc e
      have hjb : j ≠ b := fun z => ec (by rw [← ej, z])
      by_cases ejm : j = m
      · refine ⟨b, by omega, ?_⟩
        rw [jp_us, ← ejm]
        exact ej
      · refine ⟨j, by omega, ?_⟩
        rw [jp_un hjb]
        exact ej
theorem jp_tb {post : Int32 → St1 → Prop} {m t : Nat} {mk ln dr op : Nat → Nat} (ht : t < 144) (hm : 1 ≤ m) (hR : jp_R m mk ln dr op oc a2 a3 a4 a5) (hB : jp_B m mk ln dr op)
    (H : ∀ c op' oc' a4' a5', c < 144 → mk c = 1 → (∀ d, d < 144 → mk d = 1 → jp_f ln t c ≤ jp_f ln t d) → jp_R (m - 1) (jp_up mk c 2) ln dr op' oc' a2 a3 a4' a5' → jp_B (m - 1) (jp_up mk c 2) ln dr op' → post (nI c) (oc', nI t, ld, a1, a2, a3, a4', a5')) :
    wpX_takeBest post (oc, nI t, ld, a1, a2, a3, a4, a5) := by
  obtain ⟨k, rfl⟩ : ∃ k, m = k + 1 := ⟨m - 1, by omega⟩
  have hm144 := jp_Bm' hB
  have hop := hB.2.2.1
  have hfb : ∀ j, j < k + 1 → jp_f ln t (op j) ≤ 30000 := by
    intro j hj
    have q := hop j hj
    have q1 := jp_Bl hB q.1 (by omega)
    have q2 := jp_hb q.1 ht
    unfold jp_f
    omega
  obtain ⟨hoc, h4, h23, h5⟩ := hR
  subst hoc
  unfold wpX_takeBest
  dsimp only
  refine pk_loop (σ := Nat) (fun n i b => wX_takeBest_4 post (nI (k + 1)) (nI t) ld a1 a2 a3 a4 a5 n (nI b) (nI i)) (fun i b => b < i ∧ ∀ j, j < i → jp_f ln t (op b) ≤ jp_f ln t (op j)) (k + 1) 1 0 (by omega) ⟨by omega, fun j hj => by rw [show j = 0 by omega]; exact Nat.le_refl _⟩ ?_ ?_
  · intro n b hI
    have hb := hI.1
    have q := hop b hb
    have qk := hop k (by omega)
    show wX_takeBest_4 post (nI (k + 1)) (nI t) ld a1 a2 a3 a4 a5 (n + 1) (nI b) (nI (k + 1))
    unfold wX_takeBest_4
    refine pk_le (k + 1) (k + 1) (fun _ => ?_) (fun z => absurd z (by omega))
    rw [nI_clamp (show b < 2 ^ 31 by omega), h5 b hb]
    refine ⟨pk_in b 144 (by omega), nm_e (nm_r (nI_pred k) ⟨pk_in k 144 (by omega), pk_in b 144 (by omega), ?_⟩)⟩
    rw [nI_clamp (show k < 2 ^ 31 by omega), h5 k (by omega), jp_v16 (by omega), nI_clamp (show op b < 2 ^ 31 by omega)]
    refine nm_e ⟨pk_in (op b) 144 q.1, nm_e (H (op b) (jp_up op b (op k)) _ _ _ q.1 q.2 (fun d hd hd1 => ?_) ⟨rfl, fun c hc => ?_, fun c hc h0 => ?_, fun j hj => ?_⟩ (jp_take hB hb))⟩
    · obtain ⟨j, hj, ej⟩ := hB.2.2.2.2.1 d hd hd1
      rw [← ej]
      exact hI.2 j hj
    · by_cases e : c = op b
      · rw [e, pk_us, jp_us]
        rfl
      · rw [pk_un e, jp_un e, h4 c hc]
    · by_cases e : c = op b
      · exact h23 c hc (by rw [e, q.2]; omega)
      · rw [jp_un e] at h0
        exact h23 c hc h0
    · have hj' : j < k := hj
      by_cases e : j = b
      · rw [e, pk_us, jp_us]
      · rw [pk_un e, jp_un e, h5 j (by omega)]
  · intro n i b hi hI hw
    have hb : b < k + 1 := by omega
    have q := hop b hb
    have qi := hop i hi
    have lb := jp_Bl hB q.1 (by omega)
    have li := jp_Bl hB qi.1 (by omega)
    have fb := hfb b hb
    have fi := hfb i hi
    show wX_takeBest_4 post (nI (k + 1)) (nI t) ld a1 a2 a3 a4 a5 (n + 1) (nI b) (nI i)
    unfold wX_takeBest_4
    refine pk_le (k + 1) i (fun z => absurd z (by omega)) (fun _ => ?_)
    rw [nI_clamp (show b < 2 ^ 31 by omega), nI_clamp (show i < 2 ^ 31 by omega), h5 b hb, h5 i hi, nI_clamp (show op b < 2 ^ 31 by omega), nI_clamp (show op i < 2 ^ 31 by omega), (h23 (op b) q.1 (by omega)).1, (h23 (op i) qi.1 (by omega)).1]
    refine ⟨pk_in i 144 (by omega), pk_in (op i) 144 qi.1, pk_in i 144 (by omega), jp_al qi.1 ht (nm_r (nI_add _ _) ⟨pk_in b 144 (by omega), pk_in (op b) 144 q.1, pk_in b 144 (by omega), jp_al q.1 ht (nm_r (nI_add _ _) ?_)⟩)⟩
    refine pk_le (jp_f ln t (op b)) (jp_f ln t (op i)) (fun z => nm_r (nI_1 i) (hw b ⟨by omega, fun j hj => ?_⟩)) (fun z => nm_r (nI_1 i) (hw i ⟨by omega, fun j hj => ?_⟩))
    · by_cases e : j = i
      · rw [e]
        exact z
      · exact hI.2 j (by omega)
    · by_cases e : j = i
      · rw [e]
        exact Nat.le_refl _
      · have := hI.2 j (by omega)
        omega
end
end
section
def jp_M (mk : Nat → Nat) (x y : Int) : Prop := jp_in12 x y ∧ mk (jp_ix x y) ≠ 0
def jp_L (ln : Nat → Nat) (x y : Int) : Nat := ln (jp_ix x y)
def jp_Dr (dr : Nat → Nat) (x y ex ey : Int) : Prop := (dr (jp_ix x y)).testBit (jp_k ex ey) = true
/-- the jump from cell c by dx dy has been made -/
def jp_CL (a1 : Nat → Int32) (t : Nat) (mk ln dr : Nat → Nat) (c : Nat) (dx dy : Int) : Prop := jp_cl (jp_F a1) (jp_x t) (jp_y t) (jp_M mk) (jp_L ln) (jp_Dr dr) (jp_x c) (jp_y c) dx dy
/-- the search's invariant; E: the jumps that are still to be made -/
def jp_I (a1 : Nat → Int32) (s t : Nat) (E : Nat → Nat → Prop) (m : Nat) (mk ln dr op : Nat → Nat) : Prop :=
  jp_B m mk ln dr op ∧ (mk s ≠ 0 ∧ ln s = 0 ∧ dr s = 511) ∧
  (∀ c, c < 144 → mk c ≠ 0 → ∃ l, jp_W (jp_F a1) l (jp_x s) (jp_y s) (jp_x c) (jp_y c) ∧ jp_C l = ln c) ∧
  (∀ c dx dy, c < 144 → mk c = 2 → jp_dir dx dy → (dr c).testBit (jp_k dx dy) = true → ¬ E c (jp_k dx dy) → jp_CL a1 t mk ln dr c dx dy)
/-- one picture is at least as good as another -/
def jp_imp (mk ln dr mk' ln' dr' : Nat → Nat) : Prop := ∀ c, mk c ≠ 0 → mk' c ≠ 0 ∧ (ln' c < ln c ∨ (ln' c = ln c ∧ ∀ i, (dr c).testBit i = true → (dr' c).testBit i = true))
theorem jp_CLm {a1 : Nat → Int32} {t c : Nat} {mk ln dr mk' ln' dr' : Nat → Nat} {dx dy : Int} (hi : jp_imp mk ln dr mk' ln' dr') (hl : ln' c = ln c) (h : jp_CL a1 t mk ln dr c dx dy) : jp_CL a1 t mk' ln' dr' c dx dy := by
  intro k k1 hr hs
  obtain ⟨j, j1, j2, hM, hj⟩ := h k k1 hr hs
  obtain ⟨g1, g2⟩ := hi _ hM.2
  refine ⟨j, j1, j2, ⟨hM.1, g1⟩, ?_⟩
  have e : jp_L ln' (jp_x c) (jp_y c) = jp_L ln (jp_x c) (jp_y c) := by
    unfold jp_L
    rw [jp_ixc, hl]
  rw [e]
  unfold jp_L at hj ⊢
  rcases hj with hj | ⟨hj, hd⟩
  · left
    omega
  · rcases g2 with g2 | ⟨g2, g3⟩
    · left
      omega
    · right
      exact ⟨by omega, fun ex ey he hn => g3 _ (hd ex ey he hn)⟩
/-- how much is left to do -/
def jp_phi (mk ln dr : Nat → Nat) : Nat → Nat := fun c => if mk c = 0 then 100000000 else 2 * (ln c * 512 + (511 - dr c)) + jp_c1 mk c
def jp_mu (mk ln dr : Nat → Nat) : Nat := jp_sum (jp_phi mk ln dr) 144
theorem jp_offI {a1 : Nat → Int32} {s t : Nat} {E : Nat → Nat → Prop} {m m' : Nat} {mk ln dr op op' : Nat → Nat} {c n v w : Nat} (h : jp_I a1 s t E m mk ln dr op) (hc : c < 144)
    (hwk : ∃ l, jp_W (jp_F a1) l (jp_x s) (jp_y s) (jp_x c) (jp_y c) ∧ jp_C l = n) (hn : n ≤ 154 * jp_sum (jp_cm mk) 144) (hv : v < 512) (hw : w < 512)
    (ho : (w = v ∧ (mk c = 0 ∨ n < ln c)) ∨ (mk c ≠ 0 ∧ ln c = n ∧ w = dr c ||| v ∧ ¬ ∀ i, v.testBit i = true → (dr c).testBit i = true))
    (hp : (mk c = 1 ∧ m' = m ∧ op' = op) ∨ (mk c ≠ 1 ∧ m' = m + 1 ∧ op' = jp_up op m c)) :
    jp_I a1 s t E m' (jp_up mk c 1) (jp_up ln c n) (jp_up dr c w) op' ∧ jp_mu (jp_up mk c 1) (jp_up ln c n) (jp_up dr c w) < jp_mu mk ln dr := by
  obtain ⟨hB, hS, hW, hC⟩ := h
  obtain ⟨b1, b2, b3, b4, b5, b6⟩ := hB
  have hBl := fun h => jp_Bl (show jp_B m mk ln dr op from ⟨b1, b2, b3, b4, b5, b6⟩) hc h
  have sM := jp_sumB 144 (jp_cmb mk)
  have hsc : s ≠ c := by
    intro e
    subst e
    rcases ho with ⟨_, z | z⟩ | ⟨_, _, _, z⟩
    · exact hS.1 z
    · rw [hS.2.1] at z
      exact absurd z (by omega)
    · refine z (fun i hi => ?_)
      rw [hS.2.2]
      exact jp_511 hv hi
  have sm := jp_sum1 (f := jp_cm mk) (g := jp_cm (jp_up mk c 1)) 144 hc (fun j hj => by unfold jp_cm; rw [jp_un hj])
  have s1 := jp_sum1 (f := jp_c1 mk) (g := jp_c1 (jp_up mk c 1)) 144 hc (fun j hj => by unfold jp_c1; rw [jp_un hj])
  have em : jp_cm (jp_up mk c 1) c = 1 := by
    unfold jp_cm
    rw [jp_us]
    rfl
  have e1 : jp_c1 (jp_up mk c 1) c = 1 := by
    unfold jp_c1
    rw [jp_us]
    rfl
  have cmb := jp_cmb mk c
  have hmk1 : ∀ j, j < m → jp_up mk c 1 (op j) = 1 := by
    intro j hj
    by_cases e : op j = c
    · rw [e, jp_us]
    · rw [jp_un e]
      exact (b3 j hj).2
  have himp : jp_imp mk ln dr (jp_up mk c 1) (jp_up ln c n) (jp_up dr c w) := by
    intro j hj
    by_cases e : j = c
    · subst e
      rw [jp_us, jp_us, jp_us]
      refine ⟨by omega, ?_⟩
      rcases ho with ⟨_, z | z⟩ | ⟨_, z, ew, _⟩
      · exact absurd z hj
      · exact Or.inl z
      · exact Or.inr ⟨z.symm, fun i hi => by rw [ew]; exact jp_orL hi⟩
    · rw [jp_un e, jp_un e, jp_un e]
      exact ⟨hj, Or.inr ⟨rfl, fun i hi => hi⟩⟩
  refine ⟨⟨⟨fun j hj => ?_, fun j hj h0 => ?_, fun j hj => ?_, fun i j hi hj e => ?_, fun j hj h0 => ?_, ?_⟩, ?_, fun j hj h0 => ?_, fun j dx dy hj h2 hd hb hE => ?_⟩, ?_⟩
  · by_cases e : j = c
    · rw [e, jp_us]
      omega
    · rw [jp_un e]
      exact b1 j hj
  · by_cases e : j = c
    · subst e
      rw [jp_us, jp_us]
      refine ⟨?_, hw⟩
      by_cases z : mk j = 0
      · have : jp_cm mk j = 0 := if_pos z
        omega
      · have z1 : jp_cm mk j = 1 := if_neg z
        have z2 := (b2 j hj z).1
        have z3 : n ≤ ln j := by
          rcases ho with ⟨_, y | y⟩ | ⟨_, y, _, _⟩
          · exact absurd y z
          · omega
          · omega
        omega
    · rw [jp_un e] at h0
      rw [jp_un e, jp_un e]
      have := b2 j hj h0
      omega
  · rcases hp with ⟨_, rfl, rfl⟩ | ⟨_, rfl, rfl⟩
    · exact ⟨(b3 j hj).1, hmk1 j hj⟩
    · by_cases e : j = m
      · rw [e, jp_us, jp_us]
        exact ⟨hc, rfl⟩
      · rw [jp_un e]
        exact ⟨(b3 j (by omega)).1, hmk1 j (by omega)⟩
  · rcases hp with ⟨_, rfl, rfl⟩ | ⟨z, rfl, rfl⟩
    · exact b4 i j hi hj e
    · by_cases ei : i = m
      · by_cases ej : j = m
        · rw [ei, ej]
        · rw [ei, jp_us, jp_un ej] at e
          exact absurd (by rw [e]; exact (b3 j (by omega)).2) z
      · by_cases ej : j = m
        · rw [ej, jp_us, jp_un ei] at e
          exact absurd (by rw [← e]; exact (b3 i (by omega)).2) z
        · rw [jp_un ei, jp_un ej] at e
          exact b4 i j (by omega) (by omega) e
  · rcases hp with ⟨z, rfl, rfl⟩ | ⟨z, rfl, rfl⟩
    · by_cases e : j = c
      · rw [e]
        exact b5 c hc z
      · rw [jp_un e] at h0
        exact b5 j hj h0
    · by_cases e : j = c
      · refine ⟨m, by omega, ?_⟩
        rw [jp_us, e]
      · rw [jp_un e] at h0
        obtain ⟨i, hi, ei⟩ := b5 j hj h0
        refine ⟨i, by omega, ?_⟩
        rw [jp_un (by omega)]
        exact ei
  · rcases hp with ⟨z, rfl, rfl⟩ | ⟨z, rfl, rfl⟩
    · have : jp_c1 mk c = 1 := if_pos z
      omega
    · have : jp_c1 mk c = 0 := if_neg z
      omega
  · rw [jp_un hsc, jp_un hsc, jp_un hsc]
    exact hS
  · by_cases e : j = c
    · subst e
      rw [jp_us]
      exact hwk
    · rw [jp_un e] at h0
      rw [jp_un e]
      exact hW j hj h0
  · have e : j ≠ c := by
      intro e
      rw [e, jp_us] at h2
      exact absurd h2 (by omega)
    rw [jp_un e] at h2 hb
    exact jp_CLm himp (jp_un e) (hC j dx dy hj h2 hd hb hE)
  · have sp := jp_sum1 (f := jp_phi mk ln dr) (g := jp_phi (jp_up mk c 1) (jp_up ln c n) (jp_up dr c w)) 144 hc (fun j hj => by unfold jp_phi jp_c1; rw [jp_un hj, jp_un hj, jp_un hj])
    have p1 : jp_phi (jp_up mk c 1) (jp_up ln c n) (jp_up dr c w) c = 2 * (n * 512 + (511 - w)) + 1 := by
      unfold jp_phi
      rw [jp_us, jp_us, jp_us, e1]
      rfl
    have p2 : 2 * (n * 512 + (511 - w)) + 1 < jp_phi mk ln dr c := by
      unfold jp_phi
      by_cases z : mk c = 0
      · rw [if_pos z]
        omega
      · rw [if_neg z]
        rcases ho with ⟨_, y | y⟩ | ⟨_, y, ew, y2⟩
        · exact absurd y z
        · omega
        · have := jp_orgt y2
          have := (hBl z).2
          omega
    unfold jp_mu
    omega
/-- a jump that found nothing, and one that found a cell -/
theorem jp_CL0 {a1 : Nat → Int32} {t c : Nat} {mk ln dr : Nat → Nat} {dx dy : Int} (h : ∀ k : Nat, 1 ≤ k → jp_run (jp_F a1) (jp_x c) (jp_y c) dx dy k → ¬ jp_st (jp_F a1) (jp_x t) (jp_y t) (jp_x c + k * dx) (jp_y c + k * dy) dx dy) : jp_CL a1 t mk ln dr c dx dy :=
  fun k k1 hr hs => absurd hs (h k k1 hr)
theorem jp_CLr {a1 : Nat → Int32} {t c : Nat} {mk ln dr : Nat → Nat} {dx dy : Int} {r v L : Nat} (r1 : 1 ≤ r) (hin : jp_in12 (jp_x c + r * dx) (jp_y c + r * dy))
    (hmin : ∀ k : Nat, 1 ≤ k → jp_run (jp_F a1) (jp_x c) (jp_y c) dx dy k → jp_st (jp_F a1) (jp_x t) (jp_y t) (jp_x c + k * dx) (jp_y c + k * dy) dx dy → r ≤ k)
    (hM : mk (jp_ix (jp_x c + r * dx) (jp_y c + r * dy)) ≠ 0) (hL : ln c = L)
    (hq : ln (jp_ix (jp_x c + r * dx) (jp_y c + r * dy)) < L + r * jp_cost dx dy ∨ (ln (jp_ix (jp_x c + r * dx) (jp_y c + r * dy)) = L + r * jp_cost dx dy ∧ ∀ i, v.testBit i = true → (dr (jp_ix (jp_x c + r * dx) (jp_y c + r * dy))).testBit i = true))
    (hv : ∀ ex ey, jp_dir ex ey → jp_nf (jp_F a1) (jp_x c + r * dx) (jp_y c + r * dy) dx dy ex ey → v.testBit (jp_k ex ey) = true) : jp_CL a1 t mk ln dr c dx dy := by
  intro k k1 hr hs
  have e : jp_L ln (jp_x c) (jp_y c) = L := by
    unfold jp_L
    rw [jp_ixc, hL]
  refine ⟨r, r1, hmin k k1 hr hs, ⟨hin, hM⟩, ?_⟩
  rw [e]
  rcases hq with hq | ⟨hq, hd⟩
  · exact Or.inl hq
  · exact Or.inr ⟨hq, fun ex ey he hn => hd _ (hv ex ey he hn)⟩
theorem jp_qne {c r : Nat} {dx dy : Int} (hc : c < 144) (r1 : 1 ≤ r) (hd : jp_dir dx dy) (hin : jp_in12 (jp_x c + r * dx) (jp_y c + r * dy)) : jp_ix (jp_x c + r * dx) (jp_y c + r * dy) ≠ c := by
  intro e
  have e2 : jp_ix (jp_x c + r * dx) (jp_y c + r * dy) = jp_ix (jp_x c) (jp_y c) := by rw [e, jp_ixc]
  obtain ⟨g1, g2⟩ := jp_ixI hin (jp_xy hc) e2
  have z1 : (r : Int) * dx = 0 := by omega
  have z2 : (r : Int) * dy = 0 := by omega
  rcases Int.mul_eq_zero.mp z1 with y1 | y1
  · omega
  · rcases Int.mul_eq_zero.mp z2 with y2 | y2
    · omega
    · exact hd.2.2 ⟨y1, y2⟩
/-- one more jump of a cell is made -/
theorem jp_Enext {a1 : Nat → Int32} {s t cell i m : Nat} {mk ln dr op : Nat → Nat} (h : jp_I a1 s t (fun c k => c = cell ∧ i ≤ k) m mk ln dr op)
    (hn : ∀ dx dy, jp_dir dx dy → jp_k dx dy = i → (dr cell).testBit i = true → jp_CL a1 t mk ln dr cell dx dy) : jp_I a1 s t (fun c k => c = cell ∧ i + 1 ≤ k) m mk ln dr op := by
  refine ⟨h.1, h.2.1, h.2.2.1, fun c dx dy hc h2 hd hb hE => ?_⟩
  by_cases e : c = cell ∧ jp_k dx dy = i
  · obtain ⟨rfl, ek⟩ := e
    rw [ek] at hb
    exact hn dx dy hd ek hb
  · refine h.2.2.2 c dx dy hc h2 hd hb (fun z => ?_)
    dsimp only at z hE
    omega
end
section
/-- goOn's loop: directions below i have been gone -/
def jp_G (a1 : Nat → Int32) (s t cell : Nat) (mk0 : Nat → Nat) (mu0 L D i : Nat) (oc : Int32) (a2 a3 a4 a5 : Nat → Int32) : Prop :=
  ∃ m mk ln dr op, jp_R m mk ln dr op oc a2 a3 a4 a5 ∧ jp_I a1 s t (fun c k => c = cell ∧ i ≤ k) m mk ln dr op ∧ jp_mu mk ln dr ≤ mu0 ∧ mk cell = 2 ∧ ln cell = L ∧ dr cell = D ∧ ∀ c, c < 144 → mk c = 2 → mk0 c = 2
section
variable {oc gl ld : Int32} {a1 a2 a3 a4 a5 : Nat → Int32}
theorem jp_rc {r : Nat} (h : r ≤ 11) (dx dy : Int) : r * jp_cost dx dy ≤ 154 := by
  have h1 := (jp_cost_lo dx dy).2
  have : r * jp_cost dx dy ≤ 11 * 14 := Nat.mul_le_mul h h1
  omega
/-- what is offered -/
theorem jp_g88 {post : St1 → Prop} {J : Int32 → Int32 → Int32 → Int32 → (Nat → Int32) → (Nat → Int32) → (Nat → Int32) → (Nat → Int32) → (Nat → Int32) → Prop} {cell q r L : Nat} {x2 x3 x6 : Int32} {dx dy : Int} (hc : cell < 144) (hq : q < 144) (hd : jp_dir dx dy)
    (h6 : (x6 = 0 ∧ (dx = 0 ∨ dy = 0)) ∨ (x6 = 1 ∧ dx ≠ 0 ∧ dy ≠ 0)) (r1 : 1 ≤ r) (r2 : r ≤ 11) (hL : a2 cell = nI L)
    (H : ∀ v z0, v < 512 → z0 = nI (jp_cost dx dy) → (∀ ex ey, jp_dir ex ey → jp_nf (jp_F a1) (jp_x q) (jp_y q) dx dy ex ey → v.testBit (jp_k ex ey) = true) →
      wX_goOn_173 post J (nI cell) x2 x3 (nI v) z0 (nI r) (nI L) (nI q) oc gl (nI q) a1 a2 a3 a4 a5) :
    wX_goOn_88 post J (nI cell) x2 x3 (jp_i dx) (jp_i dy) x6 (nI r) oc gl (nI q) a1 a2 a3 a4 a5 := by
  unfold wX_goOn_88
  refine br_f (nI_ne0 (by omega) (by omega)) ?_
  refine jp_bo dx dy rfl rfl hd.1 hd.2.1 ?_
  refine jp_fd hq hd rfl rfl (fun f hf hfo => ?_)
  refine nm_r (jp_or _ _) ?_
  have hb := jp_b512 hd.1 hd.2.1
  have hbf := jp_orlt hb hf
  rcases h6 with ⟨rfl, h0⟩ | ⟨rfl, hx, hy⟩
  · refine br_t rfl ?_
    unfold wX_goOn_150
    rw [nI_clamp (show cell < 2 ^ 31 by omega), hL]
    refine ⟨pk_in cell 144 hc, br_t rfl (H _ _ hbf ?_ (fun ex ey he hn => ?_))⟩
    · unfold jp_cost
      rw [if_pos h0]
      rfl
    · rcases hn with hn | hn
      · rcases hn with ⟨rfl, rfl⟩ | ⟨g1, g2, _⟩
        · exact jp_orL Nat.testBit_two_pow_self
        · omega
      · exact jp_orR (hfo ex ey hn)
  · have hx0 : -1 ≤ (0 : Int) ∧ (0 : Int) ≤ 1 := by omega
    refine br_f (by decide) ?_
    refine jp_bo dx 0 rfl jp_l0 hd.1 hx0 ?_
    refine jp_bo 0 dy jp_l0 rfl hx0 hd.2.1 ?_
    have e : nI (2 ^ jp_k dx dy ||| f) ||| (nI (2 ^ jp_k dx 0) ||| nI (2 ^ jp_k 0 dy)) = nI ((2 ^ jp_k dx dy ||| f) ||| (2 ^ jp_k dx 0 ||| 2 ^ jp_k 0 dy)) := by
      rw [jp_or, jp_or]
    refine nm_r e ?_
    unfold wX_goOn_150
    rw [nI_clamp (show cell < 2 ^ 31 by omega), hL]
    refine ⟨pk_in cell 144 hc, br_f (by decide) (H _ _ (jp_orlt hbf (jp_orlt (jp_b512 hd.1 hx0) (jp_b512 hx0 hd.2.1))) ?_ (fun ex ey he hn => ?_))⟩
    · unfold jp_cost
      rw [if_neg (by omega)]
      rfl
    · rcases hn with hn | hn
      · rcases hn with ⟨rfl, rfl⟩ | ⟨_, _, ⟨rfl, rfl⟩ | ⟨rfl, rfl⟩⟩
        · exact jp_orL (jp_orL Nat.testBit_two_pow_self)
        · exact jp_orR (jp_orL Nat.testBit_two_pow_self)
        · exact jp_orR (jp_orR Nat.testBit_two_pow_self)
      · exact jp_orL (jp_orR (hfo ex ey hn))
theorem jp_gr {post : St1 → Prop} {J : Int32 → Int32 → Int32 → Int32 → (Nat → Int32) → (Nat → Int32) → (Nat → Int32) → (Nat → Int32) → (Nat → Int32) → Prop} {s t cell mu0 L D i r : Nat} {mk0 : Nat → Nat} {x2 x6 : Int32} {dx dy : Int} (ht : t < 144) (hc : cell < 144) (hd : jp_dir dx dy) (hk : jp_k dx dy = i)
    (h6 : (x6 = 0 ∧ (dx = 0 ∨ dy = 0)) ∨ (x6 = 1 ∧ dx ≠ 0 ∧ dy ≠ 0)) (r1 : 1 ≤ r) (r2 : r ≤ 11) (hrun : jp_run (jp_F a1) (jp_x cell) (jp_y cell) dx dy r)
    (hmin : ∀ k : Nat, 1 ≤ k → jp_run (jp_F a1) (jp_x cell) (jp_y cell) dx dy k → jp_st (jp_F a1) (jp_x t) (jp_y t) (jp_x cell + k * dx) (jp_y cell + k * dy) dx dy → r ≤ k)
    (hG : jp_G a1 s t cell mk0 mu0 L D i oc a2 a3 a4 a5)
    (hw : ∀ oc' ld' a2' a3' a4' a5', jp_G a1 s t cell mk0 mu0 L D (i + 1) oc' a2' a3' a4' a5' → J (nI (i + 1)) oc' (nI t) ld' a1 a2' a3' a4' a5') :
    wX_goOn_88 post J (nI cell) x2 (nI i) (jp_i dx) (jp_i dy) x6 (nI r) oc (nI t) (nI (jp_ix (jp_x cell + r * dx) (jp_y cell + r * dy))) a1 a2 a3 a4 a5 := by
  obtain ⟨m, mk, ln, dr, op, hR, hI, hmu, hk2, hL, hD, h2⟩ := hG
  have hin := jp_rin (jp_xy hc) hrun
  have hq := jp_ix1 hin
  have hqc := jp_qne hc r1 hd hin
  have hxq := jp_ix2 hin
  have hyq := jp_ix3 hin
  have hrc := jp_rc r2 dx dy
  have hB := hI.1
  have hc0 : mk cell ≠ 0 := by omega
  have hb := hB.2.1 cell hc hc0
  have hbl := jp_Bl hB hc hc0
  have hwk : ∃ l, jp_W (jp_F a1) l (jp_x s) (jp_y s) (jp_x (jp_ix (jp_x cell + r * dx) (jp_y cell + r * dy))) (jp_y (jp_ix (jp_x cell + r * dx) (jp_y cell + r * dy))) ∧ jp_C l = L + r * jp_cost dx dy := by
    obtain ⟨l, hl, hlc⟩ := hI.2.2.1 cell hc hc0
    refine ⟨l ++ List.replicate r (dx, dy), ?_, ?_⟩
    · rw [hxq, hyq]
      exact jp_Wapp _ _ _ _ _ _ _ _ hl (jp_repW (dx, dy) hd r _ _ hrun)
    · rw [jp_Capp, jp_Crep, hlc, hL]
  refine jp_g88 hc hq hd h6 r1 r2 (by rw [(hR.2.2.1 cell hc hc0).1, hL]) (fun v z0 hv hz hnf => ?_)
  rw [hxq, hyq] at hnf
  subst hz
  unfold wX_goOn_173
  have en : nI L + nI r * nI (jp_cost dx dy) = nI (L + r * jp_cost dx dy) := by rw [pk_mul, nI_add]
  rw [en]
  refine jp_off hq (by omega) hv hR hB (fun hm hl => ?_) (fun w m' op' oc' a2' a3' a4' a5' hw5 ho hp hR' => ?_)
  · dsimp only
    refine nm_r (nI_1 i) (hw _ _ _ _ _ _ ⟨m, mk, ln, dr, op, hR, jp_Enext hI (fun ex ey he hke hbt => ?_), hmu, hk2, hL, hD, h2⟩)
    have ed : ex = dx ∧ ey = dy := by
      unfold jp_k at hk hke
      unfold jp_dir at hd he
      omega
    rw [ed.1, ed.2]
    exact jp_CLr r1 hin hmin hm hL hl hnf
  · dsimp only
    obtain ⟨hI', hmu'⟩ := jp_offI hI hq hwk (by omega) hv hw5 ho hp
    have hcq : cell ≠ jp_ix (jp_x cell + r * dx) (jp_y cell + r * dy) := fun z => hqc z.symm
    refine nm_r (nI_1 i) (hw _ _ _ _ _ _ ⟨m', _, _, _, op', hR', jp_Enext hI' (fun ex ey he hke hbt => ?_), by omega, ?_, ?_, ?_, fun c hc' hc2 => ?_⟩)
    · have ed : ex = dx ∧ ey = dy := by
        unfold jp_k at hk hke
        unfold jp_dir at hd he
        omega
      rw [ed.1, ed.2]
      refine jp_CLr (v := v) (L := L) r1 hin hmin ?_ ?_ ?_ hnf
      · rw [jp_us]
        omega
      · rw [jp_un hcq]
        exact hL
      · rw [jp_us, jp_us]
        refine Or.inr ⟨rfl, fun i hi => ?_⟩
        rcases ho with ⟨rfl, _⟩ | ⟨_, _, rfl, _⟩
        · exact hi
        · exact jp_orR hi
    · rw [jp_un hcq]
      exact hk2
    · rw [jp_un hcq]
      exact hL
    · rw [jp_un hcq]
      exact hD
    · by_cases e : c = jp_ix (jp_x cell + r * dx) (jp_y cell + r * dy)
      · rw [e, jp_us] at hc2
        exact absurd hc2 (by omega)
      · rw [jp_un e] at hc2
        exact h2 c hc' hc2
theorem jp_gz {post : St1 → Prop} {J : Int32 → Int32 → Int32 → Int32 → (Nat → Int32) → (Nat → Int32) → (Nat → Int32) → (Nat → Int32) → (Nat → Int32) → Prop} {s t cell mu0 L D i : Nat} {mk0 : Nat → Nat} {x2 x4 x5 x6 : Int32} {dx dy : Int} (hd : jp_dir dx dy) (hk : jp_k dx dy = i)
    (hno : ∀ k : Nat, 1 ≤ k → jp_run (jp_F a1) (jp_x cell) (jp_y cell) dx dy k → ¬ jp_st (jp_F a1) (jp_x t) (jp_y t) (jp_x cell + k * dx) (jp_y cell + k * dy) dx dy)
    (hG : jp_G a1 s t cell mk0 mu0 L D i oc a2 a3 a4 a5)
    (hw : ∀ oc' ld' a2' a3' a4' a5', jp_G a1 s t cell mk0 mu0 L D (i + 1) oc' a2' a3' a4' a5' → J (nI (i + 1)) oc' (nI t) ld' a1 a2' a3' a4' a5') :
    wX_goOn_88 post J (nI cell) x2 (nI i) x4 x5 x6 0 oc (nI t) (-1) a1 a2 a3 a4 a5 := by
  obtain ⟨m, mk, ln, dr, op, hR, hI, hmu, hk2, hL, hD, h2⟩ := hG
  unfold wX_goOn_88
  refine br_t rfl (nm_r (nI_1 i) (hw _ _ _ _ _ _ ⟨m, mk, ln, dr, op, hR, jp_Enext hI (fun ex ey he hke hbt => ?_), hmu, hk2, hL, hD, h2⟩))
  have ed : ex = dx ∧ ey = dy := by
    unfold jp_k at hk hke
    unfold jp_dir at hd he
    omega
  rw [ed.1, ed.2]
  exact jp_CL0 hno
theorem jp_stD {F : Int → Int → Prop} {tx ty x y dx dy : Int} (h : dx = 0 ∨ dy = 0) (hs : jp_st F tx ty x y dx dy) : jp_stS F tx ty x y dx dy := by
  rcases hs with hs | ⟨h1, h2, _⟩
  · exact hs
  · omega
theorem jp_go {post : St1 → Prop} {s t cell m : Nat} {mk ln dr op : Nat → Nat} (ht : t < 144) (hc : cell < 144) (hR : jp_R m mk ln dr op oc a2 a3 a4 a5) (hI : jp_I a1 s t (fun c _ => c = cell) m mk ln dr op) (hk : mk cell = 2)
    (H : ∀ m' mk' ln' dr' op' oc' ld' a2' a3' a4' a5', jp_R m' mk' ln' dr' op' oc' a2' a3' a4' a5' → jp_I a1 s t (fun _ _ => False) m' mk' ln' dr' op' → jp_mu mk' ln' dr' ≤ jp_mu mk ln dr → (∀ c, c < 144 → mk' c = 2 → mk c = 2) → post (oc', nI t, ld', a1, a2', a3', a4', a5')) :
    wpX_goOn post (oc, nI t, ld, a1, a2, a3, a4, a5) (nI cell) := by
  have hc0 : mk cell ≠ 0 := by omega
  have hbl := jp_Bl hI.1 hc hc0
  unfold wpX_goOn
  dsimp only
  rw [nI_clamp (show cell < 2 ^ 31 by omega), (hR.2.2.1 cell hc hc0).2]
  refine ⟨pk_in cell 144 hc, nm_e ?_⟩
  have h0 : jp_G a1 s t cell mk (jp_mu mk ln dr) (ln cell) (dr cell) 0 oc a2 a3 a4 a5 := by
    refine ⟨m, mk, ln, dr, op, hR, ⟨hI.1, hI.2.1, hI.2.2.1, fun c dx dy hc' h2 hd hb hE => hI.2.2.2 c dx dy hc' h2 hd hb (fun z => hE ⟨z, Nat.zero_le _⟩)⟩, Nat.le_refl _, hk, rfl, rfl, fun c _ z => z⟩
  refine pk_loop (σ := Int32 × Int32 × (Nat → Int32) × (Nat → Int32) × (Nat → Int32) × (Nat → Int32)) (fun n i u => wX_goOn_9 post (nI cell) (nI (dr cell)) n (nI i) u.1 (nI t) u.2.1 a1 u.2.2.1 u.2.2.2.1 u.2.2.2.2.1 u.2.2.2.2.2)
    (fun i u => jp_G a1 s t cell mk (jp_mu mk ln dr) (ln cell) (dr cell) i u.1 u.2.2.1 u.2.2.2.1 u.2.2.2.2.1 u.2.2.2.2.2) 9 0 (oc, ld, a2, a3, a4, a5) (by omega) h0 ?_ ?_
  · intro n u hG
    obtain ⟨oc', ld', b2, b3, b4, b5⟩ := u
    show wX_goOn_9 post (nI cell) (nI (dr cell)) (n + 1) (nI 9) oc' (nI t) ld' a1 b2 b3 b4 b5
    unfold wX_goOn_9
    obtain ⟨m', mk', ln', dr', op', hR', hI', hmu, _, _, _, h2⟩ := hG
    refine pk_le 9 9 (fun _ => H m' mk' ln' dr' op' _ _ _ _ _ _ hR' ⟨hI'.1, hI'.2.1, hI'.2.2.1, fun c dx dy hc' g2 hd hb _ => hI'.2.2.2 c dx dy hc' g2 hd hb (fun z => ?_)⟩ hmu h2) (fun z => absurd z (by omega))
    have := (jp_k9 hd).1
    dsimp only at z
    omega
  · intro n i u hi hG hw0
    obtain ⟨oc', ld', b2, b3, b4, b5⟩ := u
    have hG' : jp_G a1 s t cell mk (jp_mu mk ln dr) (ln cell) (dr cell) i oc' b2 b3 b4 b5 := hG
    have hw : ∀ oc' ld' a2' a3' a4' a5', jp_G a1 s t cell mk (jp_mu mk ln dr) (ln cell) (dr cell) (i + 1) oc' a2' a3' a4' a5' → wX_goOn_9 post (nI cell) (nI (dr cell)) n (nI (i + 1)) oc' (nI t) ld' a1 a2' a3' a4' a5' :=
      fun oc' ld' a2' a3' a4' a5' h => hw0 (oc', ld', a2', a3', a4', a5') h
    clear hG hw0
    have skip : (∀ dx dy, jp_dir dx dy → jp_k dx dy = i → (dr cell).testBit i = true → False) → wX_goOn_9 post (nI cell) (nI (dr cell)) n (nI (i + 1)) oc' (nI t) ld' a1 b2 b3 b4 b5 := by
      intro hno
      obtain ⟨m', mk', ln', dr', op', hR', hI', hmu, q1, q2, q3, h2⟩ := hG'
      exact hw _ _ _ _ _ _ ⟨m', mk', ln', dr', op', hR', jp_Enext hI' (fun dx dy hd hk hb => (hno dx dy hd hk (by rw [← q3]; exact hb)).elim), hmu, q1, q2, q3, h2⟩
    show wX_goOn_9 post (nI cell) (nI (dr cell)) (n + 1) (nI i) oc' (nI t) ld' a1 b2 b3 b4 b5
    unfold wX_goOn_9
    refine pk_le 9 i (fun z => absurd z (by omega)) (fun _ => ?_)
    refine br_c (fun z => nm_r (nI_1 i) (skip (fun dx dy _ _ hb => ?_))) (fun z => ?_)
    · rw [jp_sh hbl.2 hi] at z
      rw [z] at hb
      exact absurd hb (by decide)
    refine pk_eq i 4 (fun e => nm_r (nI_1 i) (skip (fun dx dy hd hk _ => (jp_k9 hd).2 (by omega)))) (fun ne => ?_)
    have er : nI i - nI i / 3 * 3 = nI (i % 3) := pk_rem (d := 3) (by omega) (by omega) (by omega)
    have ed : nI i / 3 = nI (i / 3) := pk_div (d := 3) (by omega) (by omega) (by omega)
    obtain ⟨dx, hdx⟩ : ∃ dx : Int, dx = ((i % 3 : Nat) : Int) - 1 := ⟨_, rfl⟩
    obtain ⟨dy, hdy⟩ : ∃ dy : Int, dy = ((i / 3 : Nat) : Int) - 1 := ⟨_, rfl⟩
    have e4 : (nI i - nI i / 3 * 3) - 1 = jp_i dx := by
      rw [er, ← jp_iN, jp_l1, jp_is, hdx]
    have e5 : (nI i / 3) - 1 = jp_i dy := by
      rw [ed, ← jp_iN, jp_l1, jp_is, hdy]
    have hd : jp_dir dx dy := by
      unfold jp_dir
      omega
    have hk : jp_k dx dy = i := by
      unfold jp_k
      omega
    have h59 : (dx = 0 ∨ dy = 0) → wX_goOn_59 post (wX_goOn_9 post (nI cell) (nI (dr cell)) n) (nI cell) (nI (dr cell)) (nI i) (jp_i dx) (jp_i dy) oc' (nI t) ld' a1 b2 b3 b4 b5 := by
      intro hz
      unfold wX_goOn_59 wX_goOn_60
      refine br_t rfl (jp_js hc ht hd rfl rfl (fun hno => ?_) (fun r r1 r2 hrun hmin => ?_))
      · exact jp_gz hd hk (fun k k1 k2 k3 => hno k k1 k2 (jp_stD hz k3)) hG' hw
      · exact jp_gr ht hc hd hk (Or.inl ⟨rfl, hz⟩) r1 r2 hrun (fun k k1 k2 k3 => hmin k k1 k2 (jp_stD hz k3)) hG' hw
    refine ⟨by decide, nm_r e4 ⟨by decide, nm_r e5 (br_c (fun z1 => h59 (Or.inl ((jp_eq0 (by omega)).mp z1))) (fun z1 => br_c (fun z2 => h59 (Or.inr ((jp_eq0 (by omega)).mp z2))) (fun z2 => ?_)))⟩⟩
    rw [jp_eq0 (by omega)] at z1 z2
    unfold wX_goOn_60
    refine br_f (by decide) (jp_jd hc ht hd z1 z2 rfl rfl (fun hno => ?_) (fun r r1 r2 hrun hmin => ?_))
    · exact jp_gz hd hk hno hG' hw
    · exact jp_gr ht hc hd hk (Or.inr ⟨rfl, z1, z2⟩) r1 r2 hrun hmin hG' hw
end
end
section
theorem jp_h0 : jp_h 0 0 = 0 := by decide
theorem jp_ft (ln : Nat → Nat) (t : Nat) : jp_f ln t t = ln t := by
  unfold jp_f
  rw [Int.sub_self, Int.sub_self, jp_h0]
  rfl
/-- while the goal isn't done, a listed cell bounds every walk from below -/
theorem jp_fin {a1 : Nat → Int32} {s t m : Nat} {mk ln dr op : Nat → Nat} (hI : jp_I a1 s t (fun _ _ => False) m mk ln dr op) (hs : s < 144) (ht2 : mk t ≠ 2)
    (w : List (Int × Int)) (hw : jp_W (jp_F a1) w (jp_x s) (jp_y s) (jp_x t) (jp_y t)) : ∃ c, c < 144 ∧ mk c = 1 ∧ jp_f ln t c ≤ jp_C w := by
  obtain ⟨hB, hS, hW, hC⟩ := hI
  obtain ⟨x, y, l, hM, hO, hl, hc⟩ := jp_main (M := jp_M mk) (O := fun x y => mk (jp_ix x y) = 1) (ln := jp_L ln) (Dr := jp_Dr dr)
    (by
      refine ⟨⟨jp_xy hs, ?_⟩, ?_, fun ex ey he => ?_⟩
      · rw [jp_ixc]
        exact hS.1
      · unfold jp_L
        rw [jp_ixc]
        exact hS.2.1
      · unfold jp_Dr
        rw [jp_ixc, hS.2.2]
        exact jp_511' (jp_k9 he).1)
    (by
      intro x y hM
      obtain ⟨l, h1, h2⟩ := hW _ (jp_ix1 hM.1) hM.2
      rw [jp_ix2 hM.1, jp_ix3 hM.1] at h1
      exact ⟨l, h1, h2⟩)
    (by
      intro x y dx dy hM hO hd hDr
      have hlt := jp_ix1 hM.1
      have h2 : mk (jp_ix x y) = 2 := by
        have g1 := hB.1 _ hlt
        have g2 := hM.2
        have g3 : ¬ mk (jp_ix x y) = 1 := hO
        omega
      have := hC _ dx dy hlt h2 hd hDr (fun z => z)
      unfold jp_CL at this
      rw [jp_ix2 hM.1, jp_ix3 hM.1] at this
      exact this)
    w hw
  have hlt := jp_ix1 hM.1
  refine ⟨jp_ix x y, hlt, ?_, ?_⟩
  · rcases hO with hO | ⟨rfl, rfl⟩
    · exact hO
    · have g := hM.2
      have g1 := hB.1 _ hlt
      rw [jp_ixc] at g g1 ⊢
      omega
  · have g := jp_hW l _ _ _ _ hl
    unfold jp_f
    rw [jp_ix2 hM.1, jp_ix3 hM.1]
    unfold jp_L at hc
    omega
/-- the search's answer -/
def jp_ans (F : Int → Int → Prop) (s t : Nat) (r : Int32) : Prop :=
  (∃ n, n ≤ 22022 ∧ r = nI n ∧ (∃ l, jp_W F l (jp_x s) (jp_y s) (jp_x t) (jp_y t) ∧ jp_C l = n) ∧ ∀ l, jp_W F l (jp_x s) (jp_y s) (jp_x t) (jp_y t) → n ≤ jp_C l) ∨ (r = -2 ∧ ∀ l, ¬ jp_W F l (jp_x s) (jp_y s) (jp_x t) (jp_y t))
theorem jp_done {a1 : Nat → Int32} {s t m c : Nat} {mk ln dr op op' : Nat → Nat} {m' : Nat} (hI : jp_I a1 s t (fun _ _ => False) m mk ln dr op) (hc : c < 144) (h1 : mk c = 1) (hB' : jp_B m' (jp_up mk c 2) ln dr op') :
    jp_I a1 s t (fun d _ => d = c) m' (jp_up mk c 2) ln dr op' ∧ jp_mu (jp_up mk c 2) ln dr < jp_mu mk ln dr := by
  obtain ⟨hB, hS, hW, hC⟩ := hI
  have himp : jp_imp mk ln dr (jp_up mk c 2) ln dr := by
    intro j hj
    refine ⟨?_, Or.inr ⟨rfl, fun i hi => hi⟩⟩
    by_cases e : j = c
    · rw [e, jp_us]
      omega
    · rw [jp_un e]
      exact hj
  refine ⟨⟨hB', ⟨(himp s hS.1).1, hS.2⟩, fun j hj h0 => hW j hj ?_, fun j dx dy hj h2 hd hb hE => ?_⟩, ?_⟩
  · by_cases e : j = c
    · rw [e, h1]
      omega
    · rw [jp_un e] at h0
      exact h0
  · have e : j ≠ c := hE
    rw [jp_un e] at h2
    exact jp_CLm himp rfl (hC j dx dy hj h2 hd hb (fun z => z))
  · have sp := jp_sum1 (f := jp_phi mk ln dr) (g := jp_phi (jp_up mk c 2) ln dr) 144 hc (fun j hj => by unfold jp_phi jp_c1; rw [jp_un hj])
    have p1 : jp_phi (jp_up mk c 2) ln dr c = 2 * (ln c * 512 + (511 - dr c)) := by
      unfold jp_phi jp_c1
      rw [jp_us]
      rfl
    have p2 : jp_phi mk ln dr c = 2 * (ln c * 512 + (511 - dr c)) + 1 := by
      unfold jp_phi jp_c1
      rw [h1]
      rfl
    unfold jp_mu
    omega
theorem jp_sum0 {f : Nat → Nat} (h : ∀ c, f c = 0) : ∀ n, jp_sum f n = 0 := by
  intro n
  induction n with
  | zero => rfl
  | succ n ih =>
    show jp_sum f n + f n = 0
    rw [ih, h n]
/-- the first picture: the start alone is listed -/
theorem jp_first (a1 : Nat → Int32) {s : Nat} (t : Nat) (hs : s < 144) : jp_I a1 s t (fun _ _ => False) 1 (jp_up (fun _ => 0) s 1) (jp_up (fun _ => 0) s 0) (jp_up (fun _ => 0) s 511) (jp_up (fun _ => 0) 0 s) := by
  have sm := jp_sum1 (f := jp_cm (fun _ => 0)) (g := jp_cm (jp_up (fun _ => 0) s 1)) 144 hs (fun j hj => by unfold jp_cm; rw [jp_un hj])
  have s1 := jp_sum1 (f := jp_c1 (fun _ => 0)) (g := jp_c1 (jp_up (fun _ => 0) s 1)) 144 hs (fun j hj => by unfold jp_c1; rw [jp_un hj])
  have em : jp_cm (jp_up (fun _ => 0) s 1) s = 1 := by
    unfold jp_cm
    rw [jp_us]
    rfl
  have e1 : jp_c1 (jp_up (fun _ => 0) s 1) s = 1 := by
    unfold jp_c1
    rw [jp_us]
    rfl
  rw [jp_sum0 (f := jp_cm (fun _ => 0)) (fun c => rfl) 144, em, show jp_cm (fun _ => 0) s = 0 from rfl] at sm
  rw [jp_sum0 (f := jp_c1 (fun _ => 0)) (fun c => rfl) 144, e1, show jp_c1 (fun _ => 0) s = 0 from rfl] at s1
  have only : ∀ c, jp_up (fun _ => 0) s 1 c ≠ 0 → c = s := by
    intro c hc
    refine Classical.byContradiction (fun z => ?_)
    rw [jp_un z] at hc
    exact hc rfl
  refine ⟨⟨fun c hc => ?_, fun c hc h0 => ?_, fun j hj => ?_, fun i j hi hj _ => by omega, fun c hc h0 => ⟨0, by omega, ?_⟩, by omega⟩, ?_, fun c hc h0 => ?_, fun c dx dy hc h2 _ _ _ => ?_⟩
  · by_cases e : c = s
    · rw [e, jp_us]
      omega
    · rw [jp_un e]
      omega
  · rw [only c h0, jp_us, jp_us]
    omega
  · rw [show j = 0 by omega, jp_us, jp_us]
    exact ⟨hs, rfl⟩
  · rw [jp_us]
    exact (only c (by omega)).symm
  · rw [jp_us, jp_us, jp_us]
    exact ⟨by omega, rfl, rfl⟩
  · rw [only c h0, jp_us]
    exact ⟨[], ⟨rfl, rfl⟩, rfl⟩
  · have e := only c (by omega)
    rw [e, jp_us] at h2
    exact absurd h2 (by omega)
section
variable {oc gl ld : Int32} {a1 a2 a3 a4 a5 : Nat → Int32}
theorem jp_s41 {post : Int32 → St1 → Prop} {s t : Nat} (hs : s < 144) (ht : t < 144)
    (H : ∀ r oc' gl' ld' a2' a3' a4' a5', jp_ans (jp_F a1) s t r → post r (oc', gl', ld', a1, a2', a3', a4', a5')) :
    ∀ (n m : Nat) (mk ln dr op : Nat → Nat) (oc ld : Int32) (a2 a3 a4 a5 : Nat → Int32), jp_R m mk ln dr op oc a2 a3 a4 a5 → jp_I a1 s t (fun _ _ => False) m mk ln dr op → mk t ≠ 2 → jp_mu mk ln dr < n → wX_search_41 post (nI t) n oc (nI t) ld a1 a2 a3 a4 a5 := by
  intro n
  induction n with
  | zero =>
    intro m mk ln dr op oc ld a2 a3 a4 a5 hR hI ht2 hmu
    exact absurd hmu (by omega)
  | succ n ih =>
    intro m mk ln dr op oc ld a2 a3 a4 a5 hR hI ht2 hmu
    have hfin := jp_fin hI hs ht2
    have hm := jp_Bm' hI.1
    unfold wX_search_41
    refine pk_le m 0 (fun z => H _ _ _ _ _ _ _ _ (Or.inr ⟨rfl, fun l hl => ?_⟩)) (fun z => ?_) hR.1
    · obtain ⟨c, hc, h1, _⟩ := hfin l hl
      obtain ⟨j, hj, _⟩ := hI.1.2.2.2.2.1 c hc h1
      omega
    · refine jp_tb ht z hR hI.1 (fun c op' oc' a4' a5' hc h1 hmin hR' hB' => ?_)
      dsimp only
      refine pk_eq c t (fun e => ?_) (fun ne => ?_)
      · subst e
        have h0 : mk c ≠ 0 := by omega
        rw [nI_clamp (show c < 2 ^ 31 by omega), (hR.2.2.1 c hc h0).1]
        refine ⟨pk_in c 144 hc, H _ _ _ _ _ _ _ _ (Or.inl ⟨ln c, (jp_Bl hI.1 hc h0).1, rfl, hI.2.2.1 c hc h0, fun l hl => ?_⟩)⟩
        obtain ⟨d, hd, hd1, hdc⟩ := hfin l hl
        have := hmin d hd hd1
        rw [jp_ft] at this
        omega
      · obtain ⟨hI', hmu'⟩ := jp_done hI hc h1 hB'
        refine jp_go ht hc hR' hI' jp_us (fun m2 mk2 ln2 dr2 op2 oc2 ld2 b2 b3 b4 b5 hR2 hI2 hmu2 h2 => ?_)
        dsimp only
        refine ih m2 mk2 ln2 dr2 op2 oc2 ld2 b2 b3 b4 b5 hR2 hI2 (fun e => ht2 ?_) (by omega)
        have := h2 t ht e
        rw [jp_un (fun z => ne z.symm)] at this
        exact this
theorem jp_se {post : Int32 → St1 → Prop} {s t : Nat} (hs : s < 144) (ht : t < 144)
    (H : ∀ r oc' gl' ld' a2' a3' a4' a5', jp_ans (jp_F a1) s t r → post r (oc', gl', ld', a1, a2', a3', a4', a5')) :
    wpX_search post (oc, gl, ld, a1, a2, a3, a4, a5) (nI s) (nI t) := by
  unfold wpX_search
  dsimp only
  refine pk_loop (fun n i b4 => wX_search_2 post (nI s) (nI t) oc gl ld n (nI i) a1 a2 a3 b4 a5) (fun i b4 => ∀ j, j < i → b4 j = 0) 144 0 a4 (by omega) (fun j hj => absurd hj (by omega)) ?_ ?_
  · intro n b4 h4
    show wX_search_2 post (nI s) (nI t) oc gl ld (n + 1) (nI 144) a1 a2 a3 b4 a5
    unfold wX_search_2
    refine pk_le 144 144 (fun _ => ?_) (fun z => absurd z (by omega))
    have hR : jp_R 0 (fun _ => 0) (fun _ => 0) (fun _ => 0) (fun _ => 0) 0 a2 a3 b4 a5 := ⟨rfl, fun c hc => h4 c hc, fun c hc h0 => absurd rfl h0, fun j hj => absurd hj (by omega)⟩
    have hB : jp_B 0 (fun _ => 0) (fun _ => 0) (fun _ => 0) (fun _ => 0) := ⟨fun c hc => Nat.zero_le 2, fun c hc h0 => absurd rfl h0, fun j hj => absurd hj (by omega), fun i j hi => absurd hi (by omega), fun c hc h0 => absurd (show (0 : Nat) = 1 from h0) (by decide), (jp_sum0 (f := jp_c1 (fun _ => 0)) (fun c => rfl) 144).symm⟩
    refine jp_off (n := 0) (v := 511) hs (by omega) (by omega) hR hB (fun h0 => absurd rfl h0) (fun w m' op' oc' a2' a3' a4' a5' hw ho hp hR' => ?_)
    have ew : w = 511 := by
      rcases ho with ⟨e, _⟩ | ⟨e, _⟩
      · exact e
      · exact absurd rfl e
    subst ew
    rcases hp with ⟨e, _⟩ | ⟨_, rfl, rfl⟩
    · exact absurd e (by decide)
    dsimp only
    refine ⟨_, jp_s41 hs ht H _ _ _ _ _ _ _ _ _ _ _ _ hR' (jp_first a1 t hs) ?_ (Nat.lt_succ_self _)⟩
    by_cases e : t = s
    · rw [e, jp_us]
      omega
    · rw [jp_un e]
      omega
  · intro n i b4 hi h4 hw
    show wX_search_2 post (nI s) (nI t) oc gl ld (n + 1) (nI i) a1 a2 a3 b4 a5
    unfold wX_search_2
    refine pk_le 144 i (fun z => absurd z (by omega)) (fun _ => ⟨pk_in i 144 hi, ?_⟩)
    rw [nI_clamp (show i < 2 ^ 31 by omega)]
    refine nm_e (nm_r (nI_1 i) (hw _ (fun j hj => ?_)))
    by_cases e : j = i
    · rw [e, pk_us]
    · rw [pk_un e]
      exact h4 j (by omega)
/-- distance's answer -/
def jp_dist (a1 : Nat → Int32) (a b : Nat) (r : Int32) : Prop :=
  (jp_F a1 (jp_x a) (jp_y a) ∧ jp_F a1 (jp_x b) (jp_y b) ∧ jp_ans (jp_F a1) a b r) ∨ (¬ (jp_F a1 (jp_x a) (jp_y a) ∧ jp_F a1 (jp_x b) (jp_y b)) ∧ r = -1)
theorem jp_fr {post : Int32 → Prop} {c : Nat} (hc : c < 144) (h1 : jp_F a1 (jp_x c) (jp_y c) → post 1) (h0 : ¬ jp_F a1 (jp_x c) (jp_y c) → post 0) : wpX_isFree post (oc, gl, ld, a1, a2, a3, a4, a5) (nI c) := by
  unfold wpX_isFree
  dsimp only
  rw [nI_clamp (show c < 2 ^ 31 by omega)]
  refine br_f (nI_pos (by omega)) (pk_le 144 c (fun z => absurd z (by omega)) (fun _ => ⟨pk_in c 144 hc, br_c (fun z => h1 ⟨jp_xy hc, ?_⟩) (fun z => h0 (fun w => z ?_))⟩))
  · rw [jp_ixc]
    exact z
  · have := w.2
    rw [jp_ixc] at this
    exact this
theorem jp_di {post : Int32 → St1 → Prop} {a b : Nat} (ha : a < 144) (hb : b < 144)
    (H : ∀ r oc' gl' ld' a2' a3' a4' a5', jp_dist a1 a b r → post r (oc', gl', ld', a1, a2', a3', a4', a5')) :
    wpX_distance post (oc, gl, ld, a1, a2, a3, a4, a5) (nI a) (nI b) := by
  unfold wpX_distance
  dsimp only
  refine jp_fr ha (fun f1 => br_f (by decide) ?_) (fun f1 => br_t rfl (H _ _ _ _ _ _ _ _ (Or.inr ⟨fun z => f1 z.1, rfl⟩)))
  refine jp_fr hb (fun f2 => br_f (by decide) ?_) (fun f2 => br_t rfl (H _ _ _ _ _ _ _ _ (Or.inr ⟨fun z => f2 z.2, rfl⟩)))
  exact jp_se ha hb (fun r oc' gl' ld' a2' a3' a4' a5' h => H _ _ _ _ _ _ _ _ (Or.inl ⟨f1, f2, h⟩))
end
end
section
section
variable {oc gl ld : Int32} {a1 a2 a3 a4 a5 : Nat → Int32}
theorem jp_wa {post : Int32 → St1 → Prop} {c : Nat} {p1 : Int32} (hc : c < 144) (H : post 1 (oc, gl, ld, upd a1 c (vp_nar .boolean p1), a2, a3, a4, a5)) : wpX_wall post (oc, gl, ld, a1, a2, a3, a4, a5) (nI c) p1 := by
  unfold wpX_wall
  dsimp only
  rw [nI_clamp (show c < 2 ^ 31 by omega)]
  exact br_f (nI_pos (by omega)) (pk_lt c 144 (fun _ => ⟨pk_in c 144 hc, nm_e H⟩) (fun z => absurd z (by omega)))
theorem jp_b80 {post : Int32 → St1 → Prop} {J : Int32 → Int32 → (Nat → Int32) → (Nat → Int32) → (Nat → Int32) → (Nat → Int32) → (Nat → Int32) → Prop} {x2 x7 : Int32} {l r y hi : Nat} (hr : r ≤ 11) (hl : l ≤ r) (hy : y ≤ 11)
    (hw : ∀ x7' a1', J x7' (nI (y + 1)) a1' a2 a3 a4 a5) : ∃ n, wX_block_80 post J x2 (nI l) (nI r) (nI hi) (nI y) oc gl ld n x7 (nI l) a1 a2 a3 a4 a5 := by
  refine pk_loop (σ := Int32 × (Nat → Int32)) (fun n i u => wX_block_80 post J x2 (nI l) (nI r) (nI hi) (nI y) oc gl ld n u.1 (nI i) u.2 a2 a3 a4 a5) (fun _ _ => True) (r + 1) l (x7, a1) (by omega) trivial ?_ ?_
  · intro n u _
    show wX_block_80 post J x2 (nI l) (nI r) (nI hi) (nI y) oc gl ld (n + 1) u.1 (nI (r + 1)) u.2 a2 a3 a4 a5
    unfold wX_block_80
    exact pk_lt r (r + 1) (fun _ => nm_r (nI_1 y) (hw _ _)) (fun z => absurd z (by omega))
  · intro n i u hi' _ hn
    show wX_block_80 post J x2 (nI l) (nI r) (nI hi) (nI y) oc gl ld (n + 1) u.1 (nI i) u.2 a2 a3 a4 a5
    have e : (12 * nI y) + nI i = nI (12 * y + i) := by
      rw [show (12 : Int32) = nI 12 from rfl, pk_mul, nI_add]
    have h107 : ∀ x7', wX_block_107 post J (wX_block_80 post J x2 (nI l) (nI r) (nI hi) (nI y) oc gl ld n) x2 (nI l) (nI r) (nI hi) x7' (nI y) (nI i) oc gl ld u.2 a2 a3 a4 a5 := by
      intro x7'
      unfold wX_block_107
      rw [e]
      exact ⟨pk_in (12 * y + i) 144 (by omega), nm_e (nm_r (nI_1 i) (hn (x7', _) trivial))⟩
    unfold wX_block_80
    refine pk_lt r i (fun z => absurd z (by omega)) (fun _ => ?_)
    rw [e]
    exact ⟨pk_in (12 * y + i) 144 (by omega), br_c (fun _ => h107 _) (fun _ => nm_e (h107 _))⟩
theorem jp_b70 {post : Int32 → St1 → Prop} {x2 x7 : Int32} {l r lo hi : Nat} (hr : r ≤ 11) (hl : l ≤ r) (hh : hi ≤ 11) (hlo : lo ≤ hi)
    (H : ∀ q a1', post q (oc, gl, ld, a1', a2, a3, a4, a5)) : ∃ n, wX_block_70 post x2 (nI l) (nI r) (nI hi) oc gl ld n x7 (nI lo) a1 a2 a3 a4 a5 := by
  refine pk_loop (σ := Int32 × (Nat → Int32)) (fun n i u => wX_block_70 post x2 (nI l) (nI r) (nI hi) oc gl ld n u.1 (nI i) u.2 a2 a3 a4 a5) (fun _ _ => True) (hi + 1) lo (x7, a1) (by omega) trivial ?_ ?_
  · intro n u _
    show wX_block_70 post x2 (nI l) (nI r) (nI hi) oc gl ld (n + 1) u.1 (nI (hi + 1)) u.2 a2 a3 a4 a5
    unfold wX_block_70
    exact pk_lt hi (hi + 1) (fun _ => H _ _) (fun z => absurd z (by omega))
  · intro n i u hi' _ hn
    show wX_block_70 post x2 (nI l) (nI r) (nI hi) oc gl ld (n + 1) u.1 (nI i) u.2 a2 a3 a4 a5
    unfold wX_block_70
    exact pk_lt hi i (fun z => absurd z (by omega)) (fun _ => jp_b80 hr hl (by omega) (fun x7' a1' => hn (x7', a1') trivial))
theorem jp_bl {post : Int32 → St1 → Prop} {p0 p1 : Int32} (H : ∀ q a1', post q (oc, gl, ld, a1', a2, a3, a4, a5)) : wpX_block post (oc, gl, ld, a1, a2, a3, a4, a5) p0 p1 := by
  unfold wpX_block
  dsimp only
  refine br_c (fun h0 => ?_) (fun _ => H _ _)
  have h0' : ¬ p0 < 0 := by
    rw [Int32.lt_iff_toInt_lt]
    rw [Int32.le_iff_toInt_le] at h0
    omega
  obtain ⟨P, hP, rfl⟩ := nI_of h0'
  have e3 : nI P >>> ((12 : Int32) &&& 31) = nI (P / 2 ^ 12) := pk_shrN hP _ 12 (by decide)
  obtain ⟨j4, g4, e4⟩ := pk_andE (nI P >>> ((8 : Int32) &&& 31)) (m := 15) 4 (by decide)
  obtain ⟨j5, g5, e5⟩ := pk_andE (nI P >>> ((4 : Int32) &&& 31)) (m := 15) 4 (by decide)
  obtain ⟨j6, g6, e6⟩ := pk_andE (nI P) (m := 15) 4 (by decide)
  have hPd : P / 2 ^ 12 ≤ P := Nat.div_le_self _ _
  generalize P / 2 ^ 12 = j3 at e3 hPd
  refine nm_r e3 (nm_r e4 (nm_r e5 (nm_r e6 ?_)))
  refine pk_lt j4 j3 (fun _ => H _ _) (fun z1 => pk_lt 11 j4 (fun _ => H _ _) (fun z2 => pk_lt j6 j5 (fun _ => H _ _) (fun z3 => pk_le j6 11 (fun z4 => ?_) (fun _ => H _ _))))
  exact jp_b70 (by omega) z1 z4 z3 H
end
/-- what distances know of each other -/
theorem jp_neg2 : (-2 : Int32) < 0 := by decide
theorem jp_neg1 : (-1 : Int32) < 0 := by decide
/-- an answer that isn't negative -/
theorem jp_dpos {a1 : Nat → Int32} {a b : Nat} {r : Int32} (h : jp_dist a1 a b r) (hr : ¬ r < 0) : jp_F a1 (jp_x a) (jp_y a) ∧ jp_F a1 (jp_x b) (jp_y b) ∧ ∃ n, n ≤ 22022 ∧ r = nI n ∧ (∃ l, jp_W (jp_F a1) l (jp_x a) (jp_y a) (jp_x b) (jp_y b) ∧ jp_C l = n) ∧ ∀ l, jp_W (jp_F a1) l (jp_x a) (jp_y a) (jp_x b) (jp_y b) → n ≤ jp_C l := by
  rcases h with ⟨f1, f2, h | ⟨e, _⟩⟩ | ⟨_, e⟩
  · exact ⟨f1, f2, h⟩
  · rw [e] at hr
    exact absurd jp_neg2 hr
  · rw [e] at hr
    exact absurd jp_neg1 hr
/-- a walk bounds the answer -/
theorem jp_dle {a1 : Nat → Int32} {a b : Nat} {r : Int32} (h : jp_dist a1 a b r) (f1 : jp_F a1 (jp_x a) (jp_y a)) (f2 : jp_F a1 (jp_x b) (jp_y b)) {l : List (Int × Int)} (hl : jp_W (jp_F a1) l (jp_x a) (jp_y a) (jp_x b) (jp_y b)) : ∃ n, n ≤ 22022 ∧ r = nI n ∧ n ≤ jp_C l := by
  rcases h with ⟨_, _, ⟨n, h1, h2, _, h3⟩ | ⟨_, h⟩⟩ | ⟨h, _⟩
  · exact ⟨n, h1, h2, h3 l hl⟩
  · exact absurd hl (h l)
  · exact absurd ⟨f1, f2⟩ h
theorem jp_dsym {a1 : Nat → Int32} {a b : Nat} {r : Int32} (h : jp_dist a1 a b r) : jp_dist a1 b a r := by
  rcases h with ⟨f1, f2, h⟩ | ⟨h, e⟩
  · refine Or.inl ⟨f2, f1, ?_⟩
    rcases h with ⟨n, h1, h2, ⟨l, hl, hc⟩, h3⟩ | ⟨e, h⟩
    · left
      obtain ⟨l', hl', hc'⟩ := jp_rev l _ _ _ _ f1 hl
      refine ⟨n, h1, h2, ⟨l', hl', by omega⟩, fun k hk => ?_⟩
      obtain ⟨k', hk', hkc⟩ := jp_rev k _ _ _ _ f2 hk
      have := h3 k' hk'
      omega
    · refine Or.inr ⟨e, fun l hl => ?_⟩
      obtain ⟨l', hl', _⟩ := jp_rev l _ _ _ _ f2 hl
      exact h l' hl'
  · exact Or.inr ⟨fun z => h ⟨z.2, z.1⟩, e⟩
theorem jp_duni {a1 : Nat → Int32} {a b : Nat} {r r' : Int32} (h : jp_dist a1 a b r) (h' : jp_dist a1 a b r') : r = r' := by
  rcases h with ⟨f1, f2, h⟩ | ⟨h, e⟩
  · rcases h' with ⟨_, _, h'⟩ | ⟨h', _⟩
    · rcases h with ⟨n, _, e, ⟨l, hl, hc⟩, h3⟩ | ⟨e, h⟩
      · rcases h' with ⟨n', _, e', ⟨l', hl', hc'⟩, h3'⟩ | ⟨e', h'⟩
        · have g1 := h3 l' hl'
          have g2 := h3' l hl
          rw [e, e', show n = n' by omega]
        · exact absurd hl (h' l)
      · rcases h' with ⟨n', _, e', ⟨l', hl', hc'⟩, h3'⟩ | ⟨e', h'⟩
        · exact absurd hl' (h l')
        · rw [e, e']
    · exact absurd ⟨f1, f2⟩ h'
  · rcases h' with ⟨f1, f2, _⟩ | ⟨_, e'⟩
    · exact absurd ⟨f1, f2⟩ h
    · rw [e, e']
theorem jp_dtri {a1 : Nat → Int32} {a b c : Nat} {ab bc ac : Int32} (h1 : jp_dist a1 a b ab) (h2 : jp_dist a1 b c bc) (h3 : jp_dist a1 a c ac) (n1 : ¬ ab < 0) (n2 : ¬ bc < 0) : ¬ ac < 0 ∧ ac ≤ ab + bc := by
  obtain ⟨f1, _, n, hn, en, ⟨l, hl, hc⟩, _⟩ := jp_dpos h1 n1
  obtain ⟨_, f3, k, hk, ek, ⟨q, hq, hqc⟩, _⟩ := jp_dpos h2 n2
  obtain ⟨p, hp, ep, hpc⟩ := jp_dle h3 f1 f3 (jp_Wapp l q _ _ _ _ _ _ hl hq)
  rw [jp_Capp] at hpc
  rw [ep, en, ek, nI_add]
  exact ⟨nI_pos (by omega), nI_le (by omega) (by omega)⟩
theorem jp_dmono {a1 b1 : Nat → Int32} {a b : Nat} {r r' : Int32} (hF : ∀ x y, jp_F b1 x y → jp_F a1 x y) (h : jp_dist a1 a b r) (h' : jp_dist b1 a b r') (n' : ¬ r' < 0) : ¬ r < 0 ∧ r ≤ r' := by
  obtain ⟨f1, f2, n, hn, en, ⟨l, hl, hc⟩, _⟩ := jp_dpos h' n'
  obtain ⟨p, hp, ep, hpc⟩ := jp_dle h (hF _ _ f1) (hF _ _ f2) (jp_mono hF l _ _ _ _ hl)
  rw [ep, en]
  exact ⟨nI_pos (by omega), nI_le (by omega) (by omega)⟩
theorem jp_nlt {r r' : Int32} (h : r ≤ r') : ¬ r' < r := by
  rw [Int32.le_iff_toInt_le] at h
  rw [Int32.lt_iff_toInt_lt]
  omega
theorem jp_wF {a1 : Nat → Int32} {c : Nat} {x y : Int} (h : jp_F (upd a1 c (vp_nar .boolean 1)) x y) : jp_F a1 x y := by
  refine ⟨h.1, ?_⟩
  have h2 := h.2
  by_cases e : jp_ix x y = c
  · rw [e, pk_us] at h2
    exact absurd h2 (by decide)
  · rw [pk_un e] at h2
    exact h2
end
section
section
variable {oc gl ld : Int32} {a1 a2 a3 a4 a5 : Nat → Int32}
theorem jp_ho {post : Int32 → St1 → Prop} {a b c : Nat} (ha : a < 144) (hb : b < 144) (hc : c < 144)
    (H : ∀ oc' gl' ld' a2' a3' a4' a5', post 1 (oc', gl', ld', a1, a2', a3', a4', a5')) : wpL_holds post (oc, gl, ld, a1, a2, a3, a4, a5) (nI a) (nI b) (nI c) := by
  unfold wpL_holds
  dsimp only
  refine jp_di ha hb (fun ab oc1 gl1 ld1 b12 b13 b14 b15 h1 => ?_)
  dsimp only
  refine jp_di hb hc (fun bc oc2 gl2 ld2 b22 b23 b24 b25 h2 => ?_)
  dsimp only
  refine jp_di ha hc (fun ac oc3 gl3 ld3 b32 b33 b34 b35 h3 => ?_)
  dsimp only
  refine jp_di hb ha (fun ba oc4 gl4 ld4 b42 b43 b44 b45 h4 => ?_)
  dsimp only
  refine br_t (jp_duni h1 (jp_dsym h4)) ?_
  refine jp_di hc hb (fun cb oc5 gl5 ld5 b52 b53 b54 b55 h5 => ?_)
  dsimp only
  refine br_t (jp_duni h2 (jp_dsym h5)) ?_
  refine jp_di hc ha (fun ca oc6 gl6 ld6 b62 b63 b64 b65 h6 => ?_)
  dsimp only
  refine br_t (jp_duni h3 (jp_dsym h6)) ?_
  have h86 : wL_holds_86 post ab bc ac oc6 gl6 ld6 a1 b62 b63 b64 b65 := by
    unfold wL_holds_86
    refine br_c (fun _ => H _ _ _ _ _ _ _) (fun n1 => br_c (fun _ => H _ _ _ _ _ _ _) (fun n3 => ?_))
    obtain ⟨q1, q2⟩ := jp_dtri (jp_dsym h1) h3 h2 n1 n3
    exact br_f q1 (br_f (jp_nlt q2) (H _ _ _ _ _ _ _))
  refine br_c (fun _ => h86) (fun n1 => br_c (fun _ => h86) (fun n2 => ?_))
  obtain ⟨q1, q2⟩ := jp_dtri h1 h2 h3 n1 n2
  exact br_f q1 (br_t q2 h86)
section
variable {post : Int32 → Prop} {L : Nat} {xs : Nat → Int32} {J : Int32 → Int32 → Int32 → Int32 → (Nat → Int32) → (Nat → Int32) → (Nat → Int32) → (Nat → Int32) → (Nat → Int32) → Prop} {x2 x2' : Int32} {a b c kc ks : Nat}
theorem jp_l332 (ha : a < 144) (hb : b < 144) (hc : c < 144) (e2 : x2 + 3 = x2') (hw : ∀ oc' gl' ld' b1 b2 b3 b4 b5, J x2' oc' gl' ld' b1 b2 b3 b4 b5) : wL_law_332 post L xs J x2 (nI a) (nI b) (nI c) kc ks oc gl ld a1 a2 a3 a4 a5 := by
  unfold wL_law_332
  refine jp_ho ha hb hc (fun oc' gl' ld' a2' a3' a4' a5' => ?_)
  dsimp only
  exact br_f (by decide) (nm_r e2 (hw _ _ _ _ _ _ _ _))
theorem jp_l241 (ha : a < 144) (hb : b < 144) (hc : c < 144) (e2 : x2 + 3 = x2') (hw : ∀ oc' gl' ld' b1 b2 b3 b4 b5, J x2' oc' gl' ld' b1 b2 b3 b4 b5) (z0 z1 : Int32) : wL_law_241 post L xs J x2 (nI a) (nI b) (nI c) z0 z1 kc ks oc gl ld a1 a2 a3 a4 a5 := by
  unfold wL_law_241
  refine jp_bl (fun q a1' => ?_)
  dsimp only
  exact jp_l332 ha hb hc e2 hw
theorem jp_l201 (ha : a < 144) (hb : b < 144) (hc : c < 144) (hv : vp_in x2 L) (e2 : x2 + 3 = x2') (hw : ∀ oc' gl' ld' b1 b2 b3 b4 b5, J x2' oc' gl' ld' b1 b2 b3 b4 b5) (x8 x9 x10 z0 : Int32) : wL_law_201 post L xs J x2 (nI a) (nI b) (nI c) x8 x9 x10 z0 kc ks oc gl ld a1 a2 a3 a4 a5 := by
  unfold wL_law_201
  exact ⟨hv, br_c (fun _ => jp_l241 ha hb hc e2 hw _ _) (fun _ => jp_l241 ha hb hc e2 hw _ _)⟩
theorem jp_l169 (ha : a < 144) (hb : b < 144) (hc : c < 144) (hv : vp_in x2 L) (e2 : x2 + 3 = x2') (hw : ∀ oc' gl' ld' b1 b2 b3 b4 b5, J x2' oc' gl' ld' b1 b2 b3 b4 b5) (x8 x9 z0 : Int32) : wL_law_169 post L xs J x2 (nI a) (nI b) (nI c) x8 x9 z0 kc ks oc gl ld a1 a2 a3 a4 a5 := by
  unfold wL_law_169
  exact ⟨hv, br_c (fun _ => ⟨hv, jp_l201 ha hb hc hv e2 hw _ _ _ _⟩) (fun _ => jp_l201 ha hb hc hv e2 hw _ _ _ _)⟩
theorem jp_l313 (ha : a < 144) (hb : b < 144) (hc : c < 144) (e2 : x2 + 3 = x2') (hw : ∀ oc' gl' ld' b1 b2 b3 b4 b5, J x2' oc' gl' ld' b1 b2 b3 b4 b5) {x7 x14 : Int32} (hm : ¬ x14 < 0 → ¬ x7 < 0 ∧ x7 ≤ x14) : wL_law_313 post L xs J x2 (nI a) (nI b) (nI c) x7 x14 kc ks oc gl ld a1 a2 a3 a4 a5 := by
  unfold wL_law_313
  refine br_c (fun _ => jp_l332 ha hb hc e2 hw) (fun z => br_f (hm z).1 (br_t (hm z).2 (jp_l332 ha hb hc e2 hw)))
end
theorem jp_m144 (x : Int32) : ∃ a, a < 144 ∧ (x &&& 255) - (x &&& 255) / 144 * 144 = nI a := by
  obtain ⟨j, hj, e⟩ := pk_andE x (m := 255) 8 (by decide)
  refine ⟨j % 144, Nat.mod_lt _ (by omega), ?_⟩
  rw [e]
  exact pk_rem (d := 144) (by omega) (by omega) (by omega)
theorem jp_law10 {post : Int32 → Prop} (hp : post 1) {L : Nat} (hL : L ≤ 260) (xs : Nat → Int32) (kc ks : Nat) : ∃ n, wL_law_10 post L xs kc ks n 0 oc gl ld a1 a2 a3 a4 a5 := by
  refine lp9 (wL_law_10 post L xs kc ks) (fun x2 _ _ _ _ _ _ _ _ => ∃ i, i ≤ 263 ∧ x2 = nI i) (fun x2 _ _ _ _ _ _ _ _ => 300 - x2.toNatClampNeg) ?_ 0 oc gl ld a1 a2 a3 a4 a5 ⟨0, by omega, rfl⟩
  intro n x2 oc gl ld a1 a2 a3 a4 a5 hI hw
  obtain ⟨i, hi, e⟩ := hI
  subst e
  have hcond : (Int32.ofNat L - 3 < nI i) ↔ ((L : Int) - 3 < (i : Int)) := by
    have eL : Int32.ofNat L - 3 = jp_i ((L : Int) - 3) := by
      show nI L - 3 = _
      rw [← jp_iN, jp_l3, jp_is]
    rw [eL, ← jp_iN i]
    exact jp_ilt (by omega) (by omega)
  unfold wL_law_10
  refine ek_if hcond (fun _ => ?_) (fun z => ?_)
  · exact jp_ho (a := 0) (b := 143) (c := 66) (by omega) (by omega) (by omega) (fun _ _ _ _ _ _ _ => hp)
  have hi2 : i + 2 < L := by omega
  have e1 : nI i + 1 = nI (i + 1) := nI_1 i
  have e2 : nI i + 2 = nI (i + 2) := nI_add i 2
  have e3 : nI i + 3 = nI (i + 3) := nI_add i 3
  have hw' : ∀ oc' gl' ld' b1 b2 b3 b4 b5, wL_law_10 post L xs kc ks n (nI (i + 3)) oc' gl' ld' b1 b2 b3 b4 b5 := by
    intro oc' gl' ld' b1 b2 b3 b4 b5
    refine hw _ _ _ _ _ _ _ _ _ ⟨i + 3, by omega, rfl⟩ ?_
    rw [nI_clamp (by omega), nI_clamp (by omega)]
    omega
  have v0 : vp_in (nI i) L := vp_in_nI (by omega) (by omega)
  have v1 : vp_in (nI (i + 1)) L := vp_in_nI (by omega) (by omega)
  have v2 : vp_in (nI (i + 2)) L := vp_in_nI (by omega) (by omega)
  rw [e1, e2, nI_clamp (show i + 1 < 2 ^ 31 by omega), nI_clamp (show i + 2 < 2 ^ 31 by omega)]
  obtain ⟨a, ha, ea⟩ := jp_m144 (xs (i + 1))
  obtain ⟨b, hb, eb⟩ := jp_m144 (xs (i + 2))
  obtain ⟨c, hc, ec⟩ := jp_m144 (xs (i + 1) >>> ((8 : Int32) &&& 31))
  obtain ⟨d, hd, ed⟩ := jp_m144 (xs (i + 2) >>> ((8 : Int32) &&& 31))
  refine ⟨v1, by decide, nm_r ea ⟨v2, by decide, nm_r eb ⟨v1, by decide, nm_r ec ?_⟩⟩⟩
  refine jp_di ha hb (fun ab oc1 gl1 ld1 b12 b13 b14 b15 h1 => ?_)
  dsimp only
  refine jp_di ha hc (fun ac oc2 gl2 ld2 b22 b23 b24 b25 h2 => ?_)
  dsimp only
  refine ⟨v0, nm_e ?_⟩
  refine br_c (fun _ => ?_) (fun _ => br_c (fun _ => ?_) (fun _ => ?_))
  · refine jp_wa ha ?_
    dsimp only
    exact jp_l332 ha hb hc e3 hw'
  · exact ⟨by decide, nm_e ⟨by decide, nm_e ⟨v0, br_c (fun _ => ⟨v0, jp_l169 ha hb hc v0 e3 hw' _ _ _⟩) (fun _ => jp_l169 ha hb hc v0 e3 hw' _ _ _)⟩⟩⟩
  · refine ⟨v2, by decide, nm_r ed ?_⟩
    refine jp_wa hd ?_
    dsimp only
    refine br_f (by decide) ?_
    refine jp_di ha hb (fun now oc3 gl3 ld3 b32 b33 b34 b35 h3 => ?_)
    dsimp only
    refine jp_di ha hc (fun oth oc4 gl4 ld4 b42 b43 b44 b45 h4 => ?_)
    dsimp only
    have mono : ∀ x y, jp_F (upd a1 d (vp_nar .boolean 1)) x y → jp_F a1 x y := fun x y h => jp_wF h
    have h313 : wL_law_313 post L xs (wL_law_10 post L xs kc ks n) (nI i) (nI a) (nI b) (nI c) ac oth kc ks oc4 gl4 ld4 (upd a1 d (vp_nar .boolean 1)) b42 b43 b44 b45 := jp_l313 ha hb hc e3 hw' (fun n4 => jp_dmono mono h2 h4 n4)
    refine br_c (fun _ => h313) (fun n3 => ?_)
    obtain ⟨q1, q2⟩ := jp_dmono mono h1 h3 n3
    exact br_f q1 (br_f (jp_nlt q2) h313)
end
end
section
theorem i_vc (xs : Nat → Int32) (L : Nat) (hL : L ≤ 260) : wpL_law (fun r => r = 1) L xs := by
  unfold wpL_law
  refine ⟨5, 720, by omega, by omega, ?_⟩
  unfold wpX_init
  dsimp only
  exact ⟨by omega, by omega, by omega, by omega, by omega, by omega, by omega, by omega, by omega, by omega, jp_law10 (post := fun r => r = 1) rfl hL xs _ _⟩
end
