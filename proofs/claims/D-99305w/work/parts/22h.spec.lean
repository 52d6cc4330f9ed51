set_option maxRecDepth 100000
/-! what the reader makes of a line -/
def sp_line (T : Nat → Int32) (n : Nat) (s : sT) (w : Nat) (cnt most : Int32) : sF ⊕ (Int32 × sT) := if sp_is T s w = true then (if cnt = most then .inl (3, s.2.1) else .inr (1, tk T n s.1)) else .inr (0, s)
def sp_b {α β : Type} (x : sF ⊕ α) (f : α → sF ⊕ β) : sF ⊕ β := match x with
  | .inl e => .inl e
  | .inr a => f a
theorem sp_b_l {α β : Type} {x : sF ⊕ α} {f : α → sF ⊕ β} {e : sF} (h : x = .inl e) : sp_b x f = .inl e := by rw [h]; rfl
theorem sp_b_r {α β : Type} {x : sF ⊕ α} {f : α → sF ⊕ β} {a : α} (h : x = .inr a) : sp_b x f = f a := by rw [h]; rfl
def sp_first (T : Nat → Int32) (n : Nat) (s : sT) : sF ⊕ (Int32 × Int32 × Int32 × sT) :=
  sp_b (sp_asks T n s 0) fun s1 => sp_b (sp_numw T n s1 1 0 60) fun a => sp_b (sp_numw T n a.2 2 0 10) fun b => sp_b (sp_numw T n b.2 3 1 9) fun c => .inr (a.1, b.1, c.1, c.2)
def sp_to (T : Nat → Int32) (n : Nat) (s : sT) : sF ⊕ (Int32 × sT) := if sp_is T s 8 = true then .inr (-1, tk T n s.1) else sp_num T n s 0 9
def sp_reach (T : Nat → Int32) (n : Nat) (s : sT) : sF ⊕ (Int32 × Int32 × Int32 × sT) :=
  sp_b (sp_asks T n s 7) fun s1 => sp_b (sp_to T n s1) fun a => sp_b (sp_numw T n a.2 9 1 5) fun b => sp_b (sp_numw T n b.2 10 0 20) fun c => .inr (a.1, b.1, c.1, c.2)
def sp_join (T : Nat → Int32) (n : Nat) (s : sT) (n0 : Int32) : sF ⊕ (Int32 × Int32 × Int32 × Int32 × sT) :=
  sp_b (sp_num T n s 0 (n0 - 1)) fun a => sp_b (sp_asks T n a.2 7) fun s1 => sp_b (sp_num T n s1 0 (n0 - 1)) fun b => sp_b (sp_numw T n b.2 11 1 9) fun c => sp_b (sp_numw T n c.2 12 0 (c.1 - 1)) fun d => .inr (a.1, b.1, c.1, d.1, d.2)
def sp_rain (T : Nat → Int32) (n : Nat) (s : sT) : sF ⊕ (Int32 × Int32 × sT) :=
  sp_b (sp_num T n s 1 30) fun a => sp_b (sp_numw T n a.2 12 0 60) fun b => .inr (a.1, b.1, b.2)
