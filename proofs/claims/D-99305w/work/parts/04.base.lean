set_option maxRecDepth 100000
/-! pure words of the methods' functions: a loop with fuel, binds, lets, guards -/
def pu_it {S T : Type} (body : S → Option (S ⊕ T)) : Nat → S → Option T
  | 0, _ => none
  | n + 1, z => match body z with
    | none => none
    | some (.inl z2) => pu_it body n z2
    | some (.inr e) => some e
/-- fuel enough for every loop -/
def pu_F0 (n : Nat) : Nat := if h : n = 0 then 65536 else pu_F0 (n - 1)
termination_by n
decreasing_by omega
def pu_F : Nat := pu_F0 0
theorem pu_F_eq : pu_F = 65536 := by
  unfold pu_F
  rw [pu_F0]
  rfl
theorem pu_it_w {S T : Type} {body : S → Option (S ⊕ T)} {Wd : S → Prop} {Wx : T → Prop} (h : ∀ z x, body z = some x → (∀ z2, x = .inl z2 → Wd z2) → (∀ e, x = .inr e → Wx e) → Wd z) : ∀ {n : Nat} {z : S} {e : T}, pu_it body n z = some e → Wx e → Wd z := by
  intro n
  induction n with
  | zero => intro z e hi; cases hi
  | succ n ih =>
    intro z e hi hx
    rw [pu_it] at hi
    cases hb : body z with
    | none => rw [hb] at hi; cases hi
    | some x =>
      rw [hb] at hi
      refine h z x hb (fun z2 e2 => ?_) (fun e2 e3 => ?_)
      · subst e2
        exact ih hi hx
      · subst e3
        cases hi
        exact hx
theorem pu_pos {α : Sort _} {c : Prop} {d : Decidable c} {A B r : α} (hc : c) (h : @ite _ c d A B = r) : A = r := by rw [if_pos hc] at h; exact h
theorem pu_neg {α : Sort _} {c : Prop} {d : Decidable c} {A B r : α} (hc : ¬ c) (h : @ite _ c d A B = r) : B = r := by rw [if_neg hc] at h; exact h
def pu_max (x y : Int32) : Int32 := if x < y then y else x
def pu_min (x y : Int32) : Int32 := if y < x then y else x
/-- an index in its array -/
def pu_g {α : Type} (i : Int32) (n : Nat) (x : Option α) : Option α := if 0 ≤ i.toInt ∧ i.toInt < n then x else none
theorem pu_g_w {α : Type} {i : Int32} {n : Nat} {x : Option α} {r : α} (h : pu_g i n x = some r) : vp_in i n ∧ x = some r := by
  unfold pu_g at h
  by_cases q : 0 ≤ i.toInt ∧ i.toInt < n
  · rw [if_pos q] at h
    exact ⟨vp_in_iff.mpr q, h⟩
  · rw [if_neg q] at h
    cases h
theorem pu_g_eq {α : Type} {i : Int32} {n : Nat} {x : Option α} (h : 0 ≤ i.toInt ∧ i.toInt < n) : pu_g i n x = x := if_pos h
/-- a divisor that isn't 0 -/
def pu_z {α : Type} (i : Int32) (x : Option α) : Option α := if i = 0 then none else x
theorem pu_z_w {α : Type} {i : Int32} {x : Option α} {r : α} (h : pu_z i x = some r) : ¬ i = 0 ∧ x = some r := by
  unfold pu_z at h
  by_cases q : i = 0
  · rw [if_pos q] at h
    cases h
  · rw [if_neg q] at h
    exact ⟨q, h⟩
def pu_zl {α : Type} (i : Int64) (x : Option α) : Option α := if i = 0 then none else x
theorem pu_zl_w {α : Type} {i : Int64} {x : Option α} {r : α} (h : pu_zl i x = some r) : ¬ i = 0 ∧ x = some r := by
  unfold pu_zl at h
  by_cases q : i = 0
  · rw [if_pos q] at h
    cases h
  · rw [if_neg q] at h
    exact ⟨q, h⟩
def pu_b0 {β : Type} (x : Option Unit) (f : Option β) : Option β := match x with
  | none => none
  | some _ => f
theorem pu_b0_w {β : Type} {x : Option Unit} {f : Option β} {r : β} (h : pu_b0 x f = some r) : x = some () ∧ f = some r := by
  cases x with
  | none => cases h
  | some a => exact ⟨rfl, h⟩
theorem pu_b0_e {β : Type} {f : Option β} : pu_b0 (some ()) f = f := rfl
/-- what a part of a method gives: it goes on (inl), or the method has returned (inr) -/
def pu_s {α β : Type} (x : Option (α ⊕ β)) (f : α → Option β) : Option β := match x with
  | none => none
  | some (.inl a) => f a
  | some (.inr r) => some r
theorem pu_s_w {α β : Type} {x : Option (α ⊕ β)} {f : α → Option β} {r : β} (h : pu_s x f = some r) : ∃ y, x = some y ∧ (∀ a, y = .inl a → f a = some r) ∧ ∀ q, y = .inr q → q = r := by
  cases x with
  | none => cases h
  | some y =>
    refine ⟨y, rfl, fun a e => ?_, fun q e => ?_⟩
    · subst e; exact h
    · subst e; exact Option.some.inj h

def pu_b1 {α1 β : Type} (x : Option (α1)) (f : α1 → Option β) : Option β := match x with
  | none => none
  | some a1 => f a1
theorem pu_b1_w {α1 β : Type} {x : Option (α1)} {f : α1 → Option β} {r : β} (h : pu_b1 x f = some r) : ∃ a1, x = some a1 ∧ f a1 = some r := by
  cases x with
  | none => cases h
  | some a => exact ⟨a, rfl, h⟩
theorem pu_b1_e {α1 β : Type} {a1} {f : α1 → Option β} : pu_b1 (some (a1)) f = f a1 := rfl
def pu_l1 {α1 β : Type} (x : α1) (f : α1 → β) : β := match x with
  | a1 => f a1
theorem pu_l1_w {α1 β : Type} {x : α1} {f : α1 → β} {r : β} (h : pu_l1 x f = r) : ∃ a1, x = a1 ∧ f a1 = r := ⟨x, rfl, h⟩
theorem pu_l1_e {α1 β : Type} {a1} {f : α1 → β} : pu_l1 (a1) f = f a1 := rfl
def pu_b2 {α1 α2 β : Type} (x : Option (α1 × α2)) (f : α1 → α2 → Option β) : Option β := match x with
  | none => none
  | some (a1, a2) => f a1 a2
theorem pu_b2_w {α1 α2 β : Type} {x : Option (α1 × α2)} {f : α1 → α2 → Option β} {r : β} (h : pu_b2 x f = some r) : ∃ a1 a2, x = some (a1, a2) ∧ f a1 a2 = some r := by
  cases x with
  | none => cases h
  | some a => exact ⟨a.1, a.2, rfl, h⟩
theorem pu_b2_e {α1 α2 β : Type} {a1 a2} {f : α1 → α2 → Option β} : pu_b2 (some (a1, a2)) f = f a1 a2 := rfl
def pu_l2 {α1 α2 β : Type} (x : α1 × α2) (f : α1 → α2 → β) : β := match x with
  | (a1, a2) => f a1 a2
theorem pu_l2_w {α1 α2 β : Type} {x : α1 × α2} {f : α1 → α2 → β} {r : β} (h : pu_l2 x f = r) : ∃ a1 a2, x = (a1, a2) ∧ f a1 a2 = r := ⟨x.1, x.2, rfl, h⟩
theorem pu_l2_e {α1 α2 β : Type} {a1 a2} {f : α1 → α2 → β} : pu_l2 (a1, a2) f = f a1 a2 := rfl
def pu_b3 {α1 α2 α3 β : Type} (x : Option (α1 × α2 × α3)) (f : α1 → α2 → α3 → Option β) : Option β := match x with
  | none => none
  | some (a1, a2, a3) => f a1 a2 a3
theorem pu_b3_w {α1 α2 α3 β : Type} {x : Option (α1 × α2 × α3)} {f : α1 → α2 → α3 → Option β} {r : β} (h : pu_b3 x f = some r) : ∃ a1 a2 a3, x = some (a1, a2, a3) ∧ f a1 a2 a3 = some r := by
  cases x with
  | none => cases h
  | some a => exact ⟨a.1, a.2.1, a.2.2, rfl, h⟩
theorem pu_b3_e {α1 α2 α3 β : Type} {a1 a2 a3} {f : α1 → α2 → α3 → Option β} : pu_b3 (some (a1, a2, a3)) f = f a1 a2 a3 := rfl
def pu_l3 {α1 α2 α3 β : Type} (x : α1 × α2 × α3) (f : α1 → α2 → α3 → β) : β := match x with
  | (a1, a2, a3) => f a1 a2 a3
theorem pu_l3_w {α1 α2 α3 β : Type} {x : α1 × α2 × α3} {f : α1 → α2 → α3 → β} {r : β} (h : pu_l3 x f = r) : ∃ a1 a2 a3, x = (a1, a2, a3) ∧ f a1 a2 a3 = r := ⟨x.1, x.2.1, x.2.2, rfl, h⟩
theorem pu_l3_e {α1 α2 α3 β : Type} {a1 a2 a3} {f : α1 → α2 → α3 → β} : pu_l3 (a1, a2, a3) f = f a1 a2 a3 := rfl
def pu_b4 {α1 α2 α3 α4 β : Type} (x : Option (α1 × α2 × α3 × α4)) (f : α1 → α2 → α3 → α4 → Option β) : Option β := match x with
  | none => none
  | some (a1, a2, a3, a4) => f a1 a2 a3 a4
theorem pu_b4_w {α1 α2 α3 α4 β : Type} {x : Option (α1 × α2 × α3 × α4)} {f : α1 → α2 → α3 → α4 → Option β} {r : β} (h : pu_b4 x f = some r) : ∃ a1 a2 a3 a4, x = some (a1, a2, a3, a4) ∧ f a1 a2 a3 a4 = some r := by
  cases x with
  | none => cases h
  | some a => exact ⟨a.1, a.2.1, a.2.2.1, a.2.2.2, rfl, h⟩
theorem pu_b4_e {α1 α2 α3 α4 β : Type} {a1 a2 a3 a4} {f : α1 → α2 → α3 → α4 → Option β} : pu_b4 (some (a1, a2, a3, a4)) f = f a1 a2 a3 a4 := rfl
def pu_l4 {α1 α2 α3 α4 β : Type} (x : α1 × α2 × α3 × α4) (f : α1 → α2 → α3 → α4 → β) : β := match x with
  | (a1, a2, a3, a4) => f a1 a2 a3 a4
theorem pu_l4_w {α1 α2 α3 α4 β : Type} {x : α1 × α2 × α3 × α4} {f : α1 → α2 → α3 → α4 → β} {r : β} (h : pu_l4 x f = r) : ∃ a1 a2 a3 a4, x = (a1, a2, a3, a4) ∧ f a1 a2 a3 a4 = r := ⟨x.1, x.2.1, x.2.2.1, x.2.2.2, rfl, h⟩
theorem pu_l4_e {α1 α2 α3 α4 β : Type} {a1 a2 a3 a4} {f : α1 → α2 → α3 → α4 → β} : pu_l4 (a1, a2, a3, a4) f = f a1 a2 a3 a4 := rfl
def pu_b5 {α1 α2 α3 α4 α5 β : Type} (x : Option (α1 × α2 × α3 × α4 × α5)) (f : α1 → α2 → α3 → α4 → α5 → Option β) : Option β := match x with
  | none => none
  | some (a1, a2, a3, a4, a5) => f a1 a2 a3 a4 a5
theorem pu_b5_w {α1 α2 α3 α4 α5 β : Type} {x : Option (α1 × α2 × α3 × α4 × α5)} {f : α1 → α2 → α3 → α4 → α5 → Option β} {r : β} (h : pu_b5 x f = some r) : ∃ a1 a2 a3 a4 a5, x = some (a1, a2, a3, a4, a5) ∧ f a1 a2 a3 a4 a5 = some r := by
  cases x with
  | none => cases h
  | some a => exact ⟨a.1, a.2.1, a.2.2.1, a.2.2.2.1, a.2.2.2.2, rfl, h⟩
theorem pu_b5_e {α1 α2 α3 α4 α5 β : Type} {a1 a2 a3 a4 a5} {f : α1 → α2 → α3 → α4 → α5 → Option β} : pu_b5 (some (a1, a2, a3, a4, a5)) f = f a1 a2 a3 a4 a5 := rfl
def pu_l5 {α1 α2 α3 α4 α5 β : Type} (x : α1 × α2 × α3 × α4 × α5) (f : α1 → α2 → α3 → α4 → α5 → β) : β := match x with
  | (a1, a2, a3, a4, a5) => f a1 a2 a3 a4 a5
theorem pu_l5_w {α1 α2 α3 α4 α5 β : Type} {x : α1 × α2 × α3 × α4 × α5} {f : α1 → α2 → α3 → α4 → α5 → β} {r : β} (h : pu_l5 x f = r) : ∃ a1 a2 a3 a4 a5, x = (a1, a2, a3, a4, a5) ∧ f a1 a2 a3 a4 a5 = r := ⟨x.1, x.2.1, x.2.2.1, x.2.2.2.1, x.2.2.2.2, rfl, h⟩
theorem pu_l5_e {α1 α2 α3 α4 α5 β : Type} {a1 a2 a3 a4 a5} {f : α1 → α2 → α3 → α4 → α5 → β} : pu_l5 (a1, a2, a3, a4, a5) f = f a1 a2 a3 a4 a5 := rfl
def pu_b6 {α1 α2 α3 α4 α5 α6 β : Type} (x : Option (α1 × α2 × α3 × α4 × α5 × α6)) (f : α1 → α2 → α3 → α4 → α5 → α6 → Option β) : Option β := match x with
  | none => none
  | some (a1, a2, a3, a4, a5, a6) => f a1 a2 a3 a4 a5 a6
theorem pu_b6_w {α1 α2 α3 α4 α5 α6 β : Type} {x : Option (α1 × α2 × α3 × α4 × α5 × α6)} {f : α1 → α2 → α3 → α4 → α5 → α6 → Option β} {r : β} (h : pu_b6 x f = some r) : ∃ a1 a2 a3 a4 a5 a6, x = some (a1, a2, a3, a4, a5, a6) ∧ f a1 a2 a3 a4 a5 a6 = some r := by
  cases x with
  | none => cases h
  | some a => exact ⟨a.1, a.2.1, a.2.2.1, a.2.2.2.1, a.2.2.2.2.1, a.2.2.2.2.2, rfl, h⟩
theorem pu_b6_e {α1 α2 α3 α4 α5 α6 β : Type} {a1 a2 a3 a4 a5 a6} {f : α1 → α2 → α3 → α4 → α5 → α6 → Option β} : pu_b6 (some (a1, a2, a3, a4, a5, a6)) f = f a1 a2 a3 a4 a5 a6 := rfl
def pu_l6 {α1 α2 α3 α4 α5 α6 β : Type} (x : α1 × α2 × α3 × α4 × α5 × α6) (f : α1 → α2 → α3 → α4 → α5 → α6 → β) : β := match x with
  | (a1, a2, a3, a4, a5, a6) => f a1 a2 a3 a4 a5 a6
theorem pu_l6_w {α1 α2 α3 α4 α5 α6 β : Type} {x : α1 × α2 × α3 × α4 × α5 × α6} {f : α1 → α2 → α3 → α4 → α5 → α6 → β} {r : β} (h : pu_l6 x f = r) : ∃ a1 a2 a3 a4 a5 a6, x = (a1, a2, a3, a4, a5, a6) ∧ f a1 a2 a3 a4 a5 a6 = r := ⟨x.1, x.2.1, x.2.2.1, x.2.2.2.1, x.2.2.2.2.1, x.2.2.2.2.2, rfl, h⟩
theorem pu_l6_e {α1 α2 α3 α4 α5 α6 β : Type} {a1 a2 a3 a4 a5 a6} {f : α1 → α2 → α3 → α4 → α5 → α6 → β} : pu_l6 (a1, a2, a3, a4, a5, a6) f = f a1 a2 a3 a4 a5 a6 := rfl
def pu_b7 {α1 α2 α3 α4 α5 α6 α7 β : Type} (x : Option (α1 × α2 × α3 × α4 × α5 × α6 × α7)) (f : α1 → α2 → α3 → α4 → α5 → α6 → α7 → Option β) : Option β := match x with
  | none => none
  | some (a1, a2, a3, a4, a5, a6, a7) => f a1 a2 a3 a4 a5 a6 a7
theorem pu_b7_w {α1 α2 α3 α4 α5 α6 α7 β : Type} {x : Option (α1 × α2 × α3 × α4 × α5 × α6 × α7)} {f : α1 → α2 → α3 → α4 → α5 → α6 → α7 → Option β} {r : β} (h : pu_b7 x f = some r) : ∃ a1 a2 a3 a4 a5 a6 a7, x = some (a1, a2, a3, a4, a5, a6, a7) ∧ f a1 a2 a3 a4 a5 a6 a7 = some r := by
  cases x with
  | none => cases h
  | some a => exact ⟨a.1, a.2.1, a.2.2.1, a.2.2.2.1, a.2.2.2.2.1, a.2.2.2.2.2.1, a.2.2.2.2.2.2, rfl, h⟩
theorem pu_b7_e {α1 α2 α3 α4 α5 α6 α7 β : Type} {a1 a2 a3 a4 a5 a6 a7} {f : α1 → α2 → α3 → α4 → α5 → α6 → α7 → Option β} : pu_b7 (some (a1, a2, a3, a4, a5, a6, a7)) f = f a1 a2 a3 a4 a5 a6 a7 := rfl
def pu_l7 {α1 α2 α3 α4 α5 α6 α7 β : Type} (x : α1 × α2 × α3 × α4 × α5 × α6 × α7) (f : α1 → α2 → α3 → α4 → α5 → α6 → α7 → β) : β := match x with
  | (a1, a2, a3, a4, a5, a6, a7) => f a1 a2 a3 a4 a5 a6 a7
theorem pu_l7_w {α1 α2 α3 α4 α5 α6 α7 β : Type} {x : α1 × α2 × α3 × α4 × α5 × α6 × α7} {f : α1 → α2 → α3 → α4 → α5 → α6 → α7 → β} {r : β} (h : pu_l7 x f = r) : ∃ a1 a2 a3 a4 a5 a6 a7, x = (a1, a2, a3, a4, a5, a6, a7) ∧ f a1 a2 a3 a4 a5 a6 a7 = r := ⟨x.1, x.2.1, x.2.2.1, x.2.2.2.1, x.2.2.2.2.1, x.2.2.2.2.2.1, x.2.2.2.2.2.2, rfl, h⟩
theorem pu_l7_e {α1 α2 α3 α4 α5 α6 α7 β : Type} {a1 a2 a3 a4 a5 a6 a7} {f : α1 → α2 → α3 → α4 → α5 → α6 → α7 → β} : pu_l7 (a1, a2, a3, a4, a5, a6, a7) f = f a1 a2 a3 a4 a5 a6 a7 := rfl
def pu_b8 {α1 α2 α3 α4 α5 α6 α7 α8 β : Type} (x : Option (α1 × α2 × α3 × α4 × α5 × α6 × α7 × α8)) (f : α1 → α2 → α3 → α4 → α5 → α6 → α7 → α8 → Option β) : Option β := match x with
  | none => none
  | some (a1, a2, a3, a4, a5, a6, a7, a8) => f a1 a2 a3 a4 a5 a6 a7 a8
theorem pu_b8_w {α1 α2 α3 α4 α5 α6 α7 α8 β : Type} {x : Option (α1 × α2 × α3 × α4 × α5 × α6 × α7 × α8)} {f : α1 → α2 → α3 → α4 → α5 → α6 → α7 → α8 → Option β} {r : β} (h : pu_b8 x f = some r) : ∃ a1 a2 a3 a4 a5 a6 a7 a8, x = some (a1, a2, a3, a4, a5, a6, a7, a8) ∧ f a1 a2 a3 a4 a5 a6 a7 a8 = some r := by
  cases x with
  | none => cases h
  | some a => exact ⟨a.1, a.2.1, a.2.2.1, a.2.2.2.1, a.2.2.2.2.1, a.2.2.2.2.2.1, a.2.2.2.2.2.2.1, a.2.2.2.2.2.2.2, rfl, h⟩
theorem pu_b8_e {α1 α2 α3 α4 α5 α6 α7 α8 β : Type} {a1 a2 a3 a4 a5 a6 a7 a8} {f : α1 → α2 → α3 → α4 → α5 → α6 → α7 → α8 → Option β} : pu_b8 (some (a1, a2, a3, a4, a5, a6, a7, a8)) f = f a1 a2 a3 a4 a5 a6 a7 a8 := rfl
def pu_l8 {α1 α2 α3 α4 α5 α6 α7 α8 β : Type} (x : α1 × α2 × α3 × α4 × α5 × α6 × α7 × α8) (f : α1 → α2 → α3 → α4 → α5 → α6 → α7 → α8 → β) : β := match x with
  | (a1, a2, a3, a4, a5, a6, a7, a8) => f a1 a2 a3 a4 a5 a6 a7 a8
theorem pu_l8_w {α1 α2 α3 α4 α5 α6 α7 α8 β : Type} {x : α1 × α2 × α3 × α4 × α5 × α6 × α7 × α8} {f : α1 → α2 → α3 → α4 → α5 → α6 → α7 → α8 → β} {r : β} (h : pu_l8 x f = r) : ∃ a1 a2 a3 a4 a5 a6 a7 a8, x = (a1, a2, a3, a4, a5, a6, a7, a8) ∧ f a1 a2 a3 a4 a5 a6 a7 a8 = r := ⟨x.1, x.2.1, x.2.2.1, x.2.2.2.1, x.2.2.2.2.1, x.2.2.2.2.2.1, x.2.2.2.2.2.2.1, x.2.2.2.2.2.2.2, rfl, h⟩
theorem pu_l8_e {α1 α2 α3 α4 α5 α6 α7 α8 β : Type} {a1 a2 a3 a4 a5 a6 a7 a8} {f : α1 → α2 → α3 → α4 → α5 → α6 → α7 → α8 → β} : pu_l8 (a1, a2, a3, a4, a5, a6, a7, a8) f = f a1 a2 a3 a4 a5 a6 a7 a8 := rfl
/-! generic rows: the kit's judgement W with what stays fixed in one tuple E; the heap's picture as a predicate I; the locals as a list of options -/
abbrev gE : Type := Program × Launch × Env × Room × State × MethodId × Array Value × List Frame × Method × Code × (State → Prop)
abbrev eP (E : gE) : Program := E.1
abbrev eL (E : gE) : Launch := E.2.1
abbrev eV (E : gE) : Env := E.2.2.1
abbrev eR (E : gE) : Room := E.2.2.2.1
abbrev eS (E : gE) : State := E.2.2.2.2.1
abbrev eM (E : gE) : MethodId := E.2.2.2.2.2.1
abbrev eA (E : gE) : Array Value := E.2.2.2.2.2.2.1
abbrev eB (E : gE) : List Frame := E.2.2.2.2.2.2.2.1
abbrev eT (E : gE) : Method := E.2.2.2.2.2.2.2.2.1
abbrev eC (E : gE) : Code := E.2.2.2.2.2.2.2.2.2.1
abbrev eQ (E : gE) : State → Prop := E.2.2.2.2.2.2.2.2.2.2
/-- the locals: the listed values are held at their places -/
def ga_L (ls : Array Slot) (nL : Nat) (lo : List (Option Value)) : Prop := ls.size = nL ∧ lv_wf ls ∧ ∀ (i : Nat) (v : Value), lo[i]? = some (some v) → ls[i]? = some (.val v)
def ga_W (E : gE) (nL : Nat) (I : Heap → List Loc → Prop) (k n : Nat) (pc : Nat) (lo : List (Option Value)) (st : List Value) : Prop :=
  ∀ (H : Heap) (locs : List Loc) (ls : Array Slot), I H locs → ga_L ls nL lo → W (eP E) (eL E) (eV E) (eR E) (eS E) (eM E) (eA E) (eB E) (eT E) (eC E) H locs k n (eQ E) (F0 (eM E) pc ls st)
def ga_C (E : gE) (cc : ByteArray) : Prop := (eP E).tables.exec = Jvm.exec ∧ (eC E).code = cc
/-- fewer locals -/
def ga_le : List (Option Value) → List (Option Value) → Prop
  | [], _ => True
  | none :: a, [] => ga_le a []
  | none :: a, _ :: b => ga_le a b
  | some _ :: _, [] => False
  | some v :: a, w :: b => w = some v ∧ ga_le a b
theorem ga_le_at : ∀ (a b : List (Option Value)), ga_le a b → ∀ (i : Nat) (v : Value), a[i]? = some (some v) → b[i]? = some (some v) := by
  intro a
  induction a with
  | nil => intro b _ i v h; simp at h
  | cons x a ih =>
    intro b h i v hi
    cases x with
    | none =>
      cases b with
      | nil =>
        cases i with
        | zero => simp at hi
        | succ i =>
          have := ih [] (by simpa [ga_le] using h) i v (by simpa using hi)
          simp at this
      | cons y b =>
        cases i with
        | zero => simp at hi
        | succ i => simpa using ih b (by simpa [ga_le] using h) i v (by simpa using hi)
    | some x =>
      cases b with
      | nil => simp [ga_le] at h
      | cons y b =>
        have h : y = some x ∧ ga_le a b := by simpa [ga_le] using h
        cases i with
        | zero => simp at hi; subst hi; simp [h.1]
        | succ i => simpa using ih b h.2 i v (by simpa using hi)
theorem ga_L.sub {ls : Array Slot} {nL : Nat} {lo lo' : List (Option Value)} (h : ga_L ls nL lo) (hl : ga_le lo' lo) : ga_L ls nL lo' := ⟨h.1, h.2.1, fun i v q => h.2.2 i v (ga_le_at _ _ hl i v q)⟩
theorem ga_W.sub {E : gE} {nL : Nat} {I : Heap → List Loc → Prop} {k n pc : Nat} {lo lo' : List (Option Value)} {st : List Value} (h : ga_W E nL I k n pc lo' st) (hl : ga_le lo' lo) : ga_W E nL I k n pc lo st := fun H locs ls hI hL => h H locs ls hI (hL.sub hl)
/-- the listed pairs of the kit -/
def ga_ps (i : Nat) : List (Option Value) → List (Nat × Value)
  | [] => []
  | none :: a => ga_ps (i + 1) a
  | some v :: a => (i, v) :: ga_ps (i + 1) a
theorem ga_ps_mem : ∀ (lo : List (Option Value)) (o j : Nat) (v : Value), (j, v) ∈ ga_ps o lo ↔ ∃ i, j = o + i ∧ lo[i]? = some (some v) := by
  intro lo
  induction lo with
  | nil => intro o j v; simp [ga_ps]
  | cons x a ih =>
    intro o j v
    cases x with
    | none =>
      rw [ga_ps, ih]
      constructor
      · rintro ⟨i, rfl, h⟩
        exact ⟨i + 1, by omega, by simpa using h⟩
      · rintro ⟨i, rfl, h⟩
        cases i with
        | zero => simp at h
        | succ i => exact ⟨i, by omega, by simpa using h⟩
    | some x =>
      rw [ga_ps, List.mem_cons, ih]
      constructor
      · rintro (h | ⟨i, rfl, h⟩)
        · cases h
          exact ⟨0, by omega, by simp⟩
        · exact ⟨i + 1, by omega, by simpa using h⟩
      · rintro ⟨i, rfl, h⟩
        cases i with
        | zero =>
          have h : x = v := by simpa using h
          subst h
          exact Or.inl (by simp)
        | succ i => exact Or.inr ⟨i, by omega, by simpa using h⟩
theorem ga_L.has {ls : Array Slot} {nL : Nat} {lo : List (Option Value)} (h : ga_L ls nL lo) : lv_has ls nL (ga_ps 0 lo) := ⟨h.1, h.2.1, fun q hq => by
  obtain ⟨i, e, hi⟩ := (ga_ps_mem lo 0 q.1 q.2).mp hq
  rw [e, Nat.zero_add]
  exact h.2.2 i q.2 hi⟩
/-- no long stands just ahead of place i -/
def ga_ok (lo : List (Option Value)) : Nat → Bool
  | 0 => true
  | i + 1 => match lo[i]? with
    | some (some v) => v.category == 1
    | _ => true
theorem ga_L.put1 {ls : Array Slot} {nL i : Nat} {lo : List (Option Value)} {v : Value} (hok : ga_ok lo i = true)
    (h : lv_has ls nL ((i, v) :: (ga_ps 0 lo).filter (fun q => !(q.1 == i) && !(q.1 + 1 == i && q.2.category == 2)))) : ga_L ls nL (lo.set i (some v)) := by
  refine ⟨h.1, h.2.1, fun j w hj => ?_⟩
  by_cases e : j = i
  · subst e
    rw [List.getElem?_set] at hj
    simp at hj
    obtain ⟨-, rfl⟩ := hj
    exact h.2.2 (j, v) List.mem_cons_self
  · rw [List.getElem?_set, if_neg (Ne.symm e)] at hj
    refine h.2.2 (j, w) (List.mem_cons_of_mem _ (List.mem_filter.mpr ⟨(ga_ps_mem lo 0 j w).mpr ⟨j, by omega, hj⟩, ?_⟩))
    have h1 : (j == i) = false := by simpa using e
    have h2 : (j + 1 == i && w.category == 2) = false := by
      by_cases q : j + 1 = i
      · subst q
        simp only [ga_ok, hj] at hok
        have h3 : w.category = 1 := by simpa using hok
        simp [h3]
      · simp [q]
    simp [h1, h2]
theorem ga_L.put2 {ls : Array Slot} {nL i : Nat} {lo : List (Option Value)} {v : Value} (hok : ga_ok lo i = true)
    (h : lv_has ls nL ((i, v) :: (ga_ps 0 lo).filter (fun q => !(q.1 == i) && (!(q.1 == i + 1) && !(q.1 + 1 == i && q.2.category == 2))))) : ga_L ls nL ((lo.set i (some v)).set (i + 1) none) := by
  refine ⟨h.1, h.2.1, fun j w hj => ?_⟩
  by_cases e2 : j = i + 1
  · subst e2
    rw [List.getElem?_set] at hj
    simp at hj
  · rw [List.getElem?_set, if_neg (Ne.symm e2)] at hj
    by_cases e : j = i
    · subst e
      rw [List.getElem?_set] at hj
      simp at hj
      obtain ⟨-, rfl⟩ := hj
      exact h.2.2 (j, v) List.mem_cons_self
    · rw [List.getElem?_set, if_neg (Ne.symm e)] at hj
      refine h.2.2 (j, w) (List.mem_cons_of_mem _ (List.mem_filter.mpr ⟨(ga_ps_mem lo 0 j w).mpr ⟨j, by omega, hj⟩, ?_⟩))
      have h1 : (j == i) = false := by simpa using e
      have h0 : (j == i + 1) = false := by simpa using e2
      have h2 : (j + 1 == i && w.category == 2) = false := by
        by_cases q : j + 1 = i
        · subst q
          simp only [ga_ok, hj] at hok
          have h3 : w.category = 1 := by simpa using hok
          simp [h3]
        · simp [q]
      simp [h1, h0, h2]
section GA
variable {E : gE} {cc : ByteArray} {nL : Nat} {I : Heap → List Loc → Prop} {ka na pc : Nat} {lo : List (Option Value)} {st : List Value}
theorem ga_iconst (pc2 : Nat) (C : ga_C E cc) {n : Int} {v : Int32} (hv : Int32.ofInt n = v) (hd : decode cc pc = .ok (.iconst n, 1)) (e : pc + 1 = pc2) (kk : ga_W E nL I ka na pc2 lo (.int v :: st)) : ga_W E nL I ka na pc lo (st) := by
  subst e
  exact fun H locs ls hI hL => lv_iconst C.1 C.2 hd hv (kk H locs ls hI hL)
theorem ga_bipush (pc2 : Nat) (C : ga_C E cc) {n : Int} {v : Int32} (hv : (Int8.ofInt n).toInt32 = v) (hd : decode cc pc = .ok (.bipush n, 2)) (e : pc + 2 = pc2) (kk : ga_W E nL I ka na pc2 lo (.int v :: st)) : ga_W E nL I ka na pc lo (st) := by
  subst e
  exact fun H locs ls hI hL => lv_bipush C.1 C.2 hd hv (kk H locs ls hI hL)
theorem ga_sipush (pc2 : Nat) (C : ga_C E cc) {n : Int} {v : Int32} (hv : (Int16.ofInt n).toInt32 = v) (hd : decode cc pc = .ok (.sipush n, 3)) (e : pc + 3 = pc2) (kk : ga_W E nL I ka na pc2 lo (.int v :: st)) : ga_W E nL I ka na pc lo (st) := by
  subst e
  exact fun H locs ls hI hL => lv_sipush C.1 C.2 hd hv (kk H locs ls hI hL)
theorem ga_lconst (pc2 : Nat) (C : ga_C E cc) {n : Fin 2} {v : Int64} (hv : Int64.ofNat (n : Nat) = v) (hd : decode cc pc = .ok (.lconst n, 1)) (e : pc + 1 = pc2) (kk : ga_W E nL I ka na pc2 lo (.long v :: st)) : ga_W E nL I ka na pc lo (st) := by
  subst e
  exact fun H locs ls hI hL => lv_lconst C.1 C.2 hd hv (kk H locs ls hI hL)
theorem ga_iload_n (pc2 : Nat) (C : ga_C E cc) {k : Fin 4} (i : Nat) {x : Int32} (hi : (k : Nat) = i) (hl : lo[i]? = some (some (.int x))) (hd : decode cc pc = .ok (.iload_n k, 1)) (e : pc + 1 = pc2) (kk : ga_W E nL I ka na pc2 lo (.int x :: st)) : ga_W E nL I ka na pc lo (st) := by
  subst e
  exact fun H locs ls hI hL => lv_iload_n C.1 C.2 hd hi (hL.2.2 i _ hl) (kk H locs ls hI hL)
theorem ga_iload (pc2 : Nat) (C : ga_C E cc) {i : Nat} {x : Int32} (hl : lo[i]? = some (some (.int x))) (hd : decode cc pc = .ok (.iload i, 2)) (e : pc + 2 = pc2) (kk : ga_W E nL I ka na pc2 lo (.int x :: st)) : ga_W E nL I ka na pc lo (st) := by
  subst e
  exact fun H locs ls hI hL => lv_iload C.1 C.2 hd (hL.2.2 i _ hl) (kk H locs ls hI hL)
theorem ga_istore_n (pc2 : Nat) (C : ga_C E cc) {k : Fin 4} (i : Nat) {x : Int32} (hi : (k : Nat) = i) (hn : i < nL) (hok : ga_ok lo i = true) (hd : decode cc pc = .ok (.istore_n k, 1)) (e : pc + 1 = pc2) (kk : ga_W E nL I ka na pc2 (lo.set i (some (.int x))) (st)) : ga_W E nL I ka na pc lo (.int x :: st) := by
  subst e
  exact fun H locs ls hI hL => lv_istore_n C.1 C.2 hd hi hL.has hn rfl (fun ls2 h2 => kk H locs ls2 hI (ga_L.put1 hok h2))
theorem ga_istore (pc2 : Nat) (C : ga_C E cc) (i : Nat) {x : Int32} (hn : i < nL) (hok : ga_ok lo i = true) (hd : decode cc pc = .ok (.istore i, 2)) (e : pc + 2 = pc2) (kk : ga_W E nL I ka na pc2 (lo.set i (some (.int x))) (st)) : ga_W E nL I ka na pc lo (.int x :: st) := by
  subst e
  exact fun H locs ls hI hL => lv_istore C.1 C.2 hd hL.has hn rfl (fun ls2 h2 => kk H locs ls2 hI (ga_L.put1 hok h2))
theorem ga_lload_n (pc2 : Nat) (C : ga_C E cc) {k : Fin 4} (i : Nat) {x : Int64} (hi : (k : Nat) = i) (hl : lo[i]? = some (some (.long x))) (hd : decode cc pc = .ok (.lload_n k, 1)) (e : pc + 1 = pc2) (kk : ga_W E nL I ka na pc2 lo (.long x :: st)) : ga_W E nL I ka na pc lo (st) := by
  subst e
  exact fun H locs ls hI hL => lv_lload_n C.1 C.2 hd hi (hL.2.2 i _ hl) (kk H locs ls hI hL)
theorem ga_lload (pc2 : Nat) (C : ga_C E cc) {i : Nat} {x : Int64} (hl : lo[i]? = some (some (.long x))) (hd : decode cc pc = .ok (.lload i, 2)) (e : pc + 2 = pc2) (kk : ga_W E nL I ka na pc2 lo (.long x :: st)) : ga_W E nL I ka na pc lo (st) := by
  subst e
  exact fun H locs ls hI hL => lv_lload C.1 C.2 hd (hL.2.2 i _ hl) (kk H locs ls hI hL)
theorem ga_lstore_n (pc2 : Nat) (C : ga_C E cc) {k : Fin 4} (i : Nat) {x : Int64} (hi : (k : Nat) = i) (hn : i + 1 < nL) (hok : ga_ok lo i = true) (hd : decode cc pc = .ok (.lstore_n k, 1)) (e : pc + 1 = pc2) (kk : ga_W E nL I ka na pc2 ((lo.set i (some (.long x))).set (i + 1) none) (st)) : ga_W E nL I ka na pc lo (.long x :: st) := by
  subst e
  exact fun H locs ls hI hL => lv_lstore_n C.1 C.2 hd hi hL.has hn rfl (fun ls2 h2 => kk H locs ls2 hI (ga_L.put2 hok h2))
theorem ga_lstore (pc2 : Nat) (C : ga_C E cc) (i : Nat) {x : Int64} (hn : i + 1 < nL) (hok : ga_ok lo i = true) (hd : decode cc pc = .ok (.lstore i, 2)) (e : pc + 2 = pc2) (kk : ga_W E nL I ka na pc2 ((lo.set i (some (.long x))).set (i + 1) none) (st)) : ga_W E nL I ka na pc lo (.long x :: st) := by
  subst e
  exact fun H locs ls hI hL => lv_lstore C.1 C.2 hd hL.has hn rfl (fun ls2 h2 => kk H locs ls2 hI (ga_L.put2 hok h2))
theorem ga_aload_n (pc2 : Nat) (C : ga_C E cc) {k : Fin 4} (i : Nat) {x : Nat} (hi : (k : Nat) = i) (hl : lo[i]? = some (some (.ref x))) (hd : decode cc pc = .ok (.aload_n k, 1)) (e : pc + 1 = pc2) (kk : ga_W E nL I ka na pc2 lo (.ref x :: st)) : ga_W E nL I ka na pc lo (st) := by
  subst e
  exact fun H locs ls hI hL => lv_aload_n C.1 C.2 hd hi (hL.2.2 i _ hl) (kk H locs ls hI hL)
theorem ga_aload (pc2 : Nat) (C : ga_C E cc) {i : Nat} {x : Nat} (hl : lo[i]? = some (some (.ref x))) (hd : decode cc pc = .ok (.aload i, 2)) (e : pc + 2 = pc2) (kk : ga_W E nL I ka na pc2 lo (.ref x :: st)) : ga_W E nL I ka na pc lo (st) := by
  subst e
  exact fun H locs ls hI hL => lv_aload C.1 C.2 hd (hL.2.2 i _ hl) (kk H locs ls hI hL)
theorem ga_astore_n (pc2 : Nat) (C : ga_C E cc) {k : Fin 4} (i : Nat) {x : Nat} (hi : (k : Nat) = i) (hn : i < nL) (hok : ga_ok lo i = true) (hd : decode cc pc = .ok (.astore_n k, 1)) (e : pc + 1 = pc2) (kk : ga_W E nL I ka na pc2 (lo.set i (some (.ref x))) (st)) : ga_W E nL I ka na pc lo (.ref x :: st) := by
  subst e
  exact fun H locs ls hI hL => lv_astore_n C.1 C.2 hd hi hL.has hn rfl (fun ls2 h2 => kk H locs ls2 hI (ga_L.put1 hok h2))
theorem ga_astore (pc2 : Nat) (C : ga_C E cc) (i : Nat) {x : Nat} (hn : i < nL) (hok : ga_ok lo i = true) (hd : decode cc pc = .ok (.astore i, 2)) (e : pc + 2 = pc2) (kk : ga_W E nL I ka na pc2 (lo.set i (some (.ref x))) (st)) : ga_W E nL I ka na pc lo (.ref x :: st) := by
  subst e
  exact fun H locs ls hI hL => lv_astore C.1 C.2 hd hL.has hn rfl (fun ls2 h2 => kk H locs ls2 hI (ga_L.put1 hok h2))
theorem ga_iinc (pc2 : Nat) (C : ga_C E cc) {i : Nat} {n : Int} {x v : Int32} (hl : lo[i]? = some (some (.int x))) (hv : x + Int32.ofInt n = v) (hn : i < nL) (hok : ga_ok lo i = true) (hd : decode cc pc = .ok (.iinc i n, 3)) (e : pc + 3 = pc2) (kk : ga_W E nL I ka na pc2 (lo.set i (some (.int v))) st) : ga_W E nL I ka na pc lo st := by
  subst e
  intro H locs ls hI hL
  obtain ⟨k, hk⟩ := List.getElem?_of_mem ((ga_ps_mem lo 0 i (.int x)).mpr ⟨i, by omega, hl⟩)
  exact lv_iinc C.1 C.2 hd hL.has hk hv hn rfl (fun ls2 h2 => kk H locs ls2 hI (ga_L.put1 hok h2))
theorem ga_iadd (pc2 : Nat) (C : ga_C E cc) {x y : Int32} (hd : decode cc pc = .ok (.iadd, 1)) (e : pc + 1 = pc2) (kk : ga_W E nL I ka na pc2 lo (.int (x + y) :: st)) : ga_W E nL I ka na pc lo (.int y :: .int x :: st) := by
  subst e
  exact fun H locs ls hI hL => lv_iadd C.1 C.2 hd  (kk H locs ls hI hL)
theorem ga_ladd (pc2 : Nat) (C : ga_C E cc) {x y : Int64} (hd : decode cc pc = .ok (.ladd, 1)) (e : pc + 1 = pc2) (kk : ga_W E nL I ka na pc2 lo (.long (x + y) :: st)) : ga_W E nL I ka na pc lo (.long y :: .long x :: st) := by
  subst e
  exact fun H locs ls hI hL => lv_ladd C.1 C.2 hd  (kk H locs ls hI hL)
theorem ga_isub (pc2 : Nat) (C : ga_C E cc) {x y : Int32} (hd : decode cc pc = .ok (.isub, 1)) (e : pc + 1 = pc2) (kk : ga_W E nL I ka na pc2 lo (.int (x - y) :: st)) : ga_W E nL I ka na pc lo (.int y :: .int x :: st) := by
  subst e
  exact fun H locs ls hI hL => lv_isub C.1 C.2 hd  (kk H locs ls hI hL)
theorem ga_lsub (pc2 : Nat) (C : ga_C E cc) {x y : Int64} (hd : decode cc pc = .ok (.lsub, 1)) (e : pc + 1 = pc2) (kk : ga_W E nL I ka na pc2 lo (.long (x - y) :: st)) : ga_W E nL I ka na pc lo (.long y :: .long x :: st) := by
  subst e
  exact fun H locs ls hI hL => lv_lsub C.1 C.2 hd  (kk H locs ls hI hL)
theorem ga_imul (pc2 : Nat) (C : ga_C E cc) {x y : Int32} (hd : decode cc pc = .ok (.imul, 1)) (e : pc + 1 = pc2) (kk : ga_W E nL I ka na pc2 lo (.int (x * y) :: st)) : ga_W E nL I ka na pc lo (.int y :: .int x :: st) := by
  subst e
  exact fun H locs ls hI hL => lv_imul C.1 C.2 hd  (kk H locs ls hI hL)
theorem ga_lmul (pc2 : Nat) (C : ga_C E cc) {x y : Int64} (hd : decode cc pc = .ok (.lmul, 1)) (e : pc + 1 = pc2) (kk : ga_W E nL I ka na pc2 lo (.long (x * y) :: st)) : ga_W E nL I ka na pc lo (.long y :: .long x :: st) := by
  subst e
  exact fun H locs ls hI hL => lv_lmul C.1 C.2 hd  (kk H locs ls hI hL)
theorem ga_iand (pc2 : Nat) (C : ga_C E cc) {x y : Int32} (hd : decode cc pc = .ok (.iand, 1)) (e : pc + 1 = pc2) (kk : ga_W E nL I ka na pc2 lo (.int (x &&& y) :: st)) : ga_W E nL I ka na pc lo (.int y :: .int x :: st) := by
  subst e
  exact fun H locs ls hI hL => lv_iand C.1 C.2 hd  (kk H locs ls hI hL)
theorem ga_land (pc2 : Nat) (C : ga_C E cc) {x y : Int64} (hd : decode cc pc = .ok (.land, 1)) (e : pc + 1 = pc2) (kk : ga_W E nL I ka na pc2 lo (.long (x &&& y) :: st)) : ga_W E nL I ka na pc lo (.long y :: .long x :: st) := by
  subst e
  exact fun H locs ls hI hL => lv_land C.1 C.2 hd  (kk H locs ls hI hL)
theorem ga_ior (pc2 : Nat) (C : ga_C E cc) {x y : Int32} (hd : decode cc pc = .ok (.ior, 1)) (e : pc + 1 = pc2) (kk : ga_W E nL I ka na pc2 lo (.int (x ||| y) :: st)) : ga_W E nL I ka na pc lo (.int y :: .int x :: st) := by
  subst e
  exact fun H locs ls hI hL => lv_ior C.1 C.2 hd  (kk H locs ls hI hL)
theorem ga_lor (pc2 : Nat) (C : ga_C E cc) {x y : Int64} (hd : decode cc pc = .ok (.lor, 1)) (e : pc + 1 = pc2) (kk : ga_W E nL I ka na pc2 lo (.long (x ||| y) :: st)) : ga_W E nL I ka na pc lo (.long y :: .long x :: st) := by
  subst e
  exact fun H locs ls hI hL => lv_lor C.1 C.2 hd  (kk H locs ls hI hL)
theorem ga_ixor (pc2 : Nat) (C : ga_C E cc) {x y : Int32} (hd : decode cc pc = .ok (.ixor, 1)) (e : pc + 1 = pc2) (kk : ga_W E nL I ka na pc2 lo (.int (x ^^^ y) :: st)) : ga_W E nL I ka na pc lo (.int y :: .int x :: st) := by
  subst e
  exact fun H locs ls hI hL => lv_ixor C.1 C.2 hd  (kk H locs ls hI hL)
theorem ga_lxor (pc2 : Nat) (C : ga_C E cc) {x y : Int64} (hd : decode cc pc = .ok (.lxor, 1)) (e : pc + 1 = pc2) (kk : ga_W E nL I ka na pc2 lo (.long (x ^^^ y) :: st)) : ga_W E nL I ka na pc lo (.long y :: .long x :: st) := by
  subst e
  exact fun H locs ls hI hL => lv_lxor C.1 C.2 hd  (kk H locs ls hI hL)
theorem ga_idiv (pc2 : Nat) (C : ga_C E cc) {x y : Int32} (hne : ¬ y = 0) (hd : decode cc pc = .ok (.idiv, 1)) (e : pc + 1 = pc2) (kk : ga_W E nL I ka na pc2 lo (.int (x / y) :: st)) : ga_W E nL I ka na pc lo (.int y :: .int x :: st) := by
  subst e
  exact fun H locs ls hI hL => lv_idiv C.1 C.2 hd hne (kk H locs ls hI hL)
theorem ga_irem (pc2 : Nat) (C : ga_C E cc) {x y : Int32} (hne : ¬ y = 0) (hd : decode cc pc = .ok (.irem, 1)) (e : pc + 1 = pc2) (kk : ga_W E nL I ka na pc2 lo (.int (x - x / y * y) :: st)) : ga_W E nL I ka na pc lo (.int y :: .int x :: st) := by
  subst e
  exact fun H locs ls hI hL => lv_irem C.1 C.2 hd hne (kk H locs ls hI hL)
theorem ga_ineg (pc2 : Nat) (C : ga_C E cc) {x : Int32} (hd : decode cc pc = .ok (.ineg, 1)) (e : pc + 1 = pc2) (kk : ga_W E nL I ka na pc2 lo (.int (-x) :: st)) : ga_W E nL I ka na pc lo (.int x :: st) := by
  subst e
  exact fun H locs ls hI hL => lv_ineg C.1 C.2 hd  (kk H locs ls hI hL)
theorem ga_ldiv (pc2 : Nat) (C : ga_C E cc) {x y : Int64} (hne : ¬ y = 0) (hd : decode cc pc = .ok (.ldiv, 1)) (e : pc + 1 = pc2) (kk : ga_W E nL I ka na pc2 lo (.long (x / y) :: st)) : ga_W E nL I ka na pc lo (.long y :: .long x :: st) := by
  subst e
  exact fun H locs ls hI hL => lv_ldiv C.1 C.2 hd hne (kk H locs ls hI hL)
theorem ga_lrem (pc2 : Nat) (C : ga_C E cc) {x y : Int64} (hne : ¬ y = 0) (hd : decode cc pc = .ok (.lrem, 1)) (e : pc + 1 = pc2) (kk : ga_W E nL I ka na pc2 lo (.long (x - x / y * y) :: st)) : ga_W E nL I ka na pc lo (.long y :: .long x :: st) := by
  subst e
  exact fun H locs ls hI hL => lv_lrem C.1 C.2 hd hne (kk H locs ls hI hL)
theorem ga_lneg (pc2 : Nat) (C : ga_C E cc) {x : Int64} (hd : decode cc pc = .ok (.lneg, 1)) (e : pc + 1 = pc2) (kk : ga_W E nL I ka na pc2 lo (.long (-x) :: st)) : ga_W E nL I ka na pc lo (.long x :: st) := by
  subst e
  exact fun H locs ls hI hL => lv_lneg C.1 C.2 hd  (kk H locs ls hI hL)
theorem ga_ishl (pc2 : Nat) (C : ga_C E cc) {x y : Int32} (hd : decode cc pc = .ok (.ishl, 1)) (e : pc + 1 = pc2) (kk : ga_W E nL I ka na pc2 lo (.int (x <<< (y &&& 31)) :: st)) : ga_W E nL I ka na pc lo (.int y :: .int x :: st) := by
  subst e
  exact fun H locs ls hI hL => lv_ishl C.1 C.2 hd  (kk H locs ls hI hL)
theorem ga_ishr (pc2 : Nat) (C : ga_C E cc) {x y : Int32} (hd : decode cc pc = .ok (.ishr, 1)) (e : pc + 1 = pc2) (kk : ga_W E nL I ka na pc2 lo (.int (x >>> (y &&& 31)) :: st)) : ga_W E nL I ka na pc lo (.int y :: .int x :: st) := by
  subst e
  exact fun H locs ls hI hL => lv_ishr C.1 C.2 hd  (kk H locs ls hI hL)
theorem ga_iushr (pc2 : Nat) (C : ga_C E cc) {x y : Int32} (hd : decode cc pc = .ok (.iushr, 1)) (e : pc + 1 = pc2) (kk : ga_W E nL I ka na pc2 lo (.int (x.toUInt32 >>> (y.toUInt32 &&& Int32.toUInt32 31)).toInt32 :: st)) : ga_W E nL I ka na pc lo (.int y :: .int x :: st) := by
  subst e
  exact fun H locs ls hI hL => lv_iushr C.1 C.2 hd rfl (kk H locs ls hI hL)
theorem ga_lshl (pc2 : Nat) (C : ga_C E cc) {x : Int64} {y : Int32} (hd : decode cc pc = .ok (.lshl, 1)) (e : pc + 1 = pc2) (kk : ga_W E nL I ka na pc2 lo (.long (x <<< (y.toInt64 &&& 63)) :: st)) : ga_W E nL I ka na pc lo (.int y :: .long x :: st) := by
  subst e
  exact fun H locs ls hI hL => lv_lshl C.1 C.2 hd rfl (kk H locs ls hI hL)
theorem ga_lshr (pc2 : Nat) (C : ga_C E cc) {x : Int64} {y : Int32} (hd : decode cc pc = .ok (.lshr, 1)) (e : pc + 1 = pc2) (kk : ga_W E nL I ka na pc2 lo (.long (x >>> (y.toInt64 &&& 63)) :: st)) : ga_W E nL I ka na pc lo (.int y :: .long x :: st) := by
  subst e
  exact fun H locs ls hI hL => lv_lshr C.1 C.2 hd rfl (kk H locs ls hI hL)
theorem ga_i2l (pc2 : Nat) (C : ga_C E cc) {x : Int32} (hd : decode cc pc = .ok (.i2l, 1)) (e : pc + 1 = pc2) (kk : ga_W E nL I ka na pc2 lo (.long x.toInt64 :: st)) : ga_W E nL I ka na pc lo (.int x :: st) := by
  subst e
  exact fun H locs ls hI hL => lv_i2l C.1 C.2 hd rfl (kk H locs ls hI hL)
theorem ga_l2i (pc2 : Nat) (C : ga_C E cc) {x : Int64} (hd : decode cc pc = .ok (.l2i, 1)) (e : pc + 1 = pc2) (kk : ga_W E nL I ka na pc2 lo (.int x.toInt32 :: st)) : ga_W E nL I ka na pc lo (.long x :: st) := by
  subst e
  exact fun H locs ls hI hL => lv_l2i C.1 C.2 hd rfl (kk H locs ls hI hL)
theorem ga_i2b (pc2 : Nat) (C : ga_C E cc) {x : Int32} (hd : decode cc pc = .ok (.i2b, 1)) (e : pc + 1 = pc2) (kk : ga_W E nL I ka na pc2 lo (.int x.toInt8.toInt32 :: st)) : ga_W E nL I ka na pc lo (.int x :: st) := by
  subst e
  exact fun H locs ls hI hL => lv_i2b C.1 C.2 hd rfl (kk H locs ls hI hL)
theorem ga_i2s (pc2 : Nat) (C : ga_C E cc) {x : Int32} (hd : decode cc pc = .ok (.i2s, 1)) (e : pc + 1 = pc2) (kk : ga_W E nL I ka na pc2 lo (.int x.toInt16.toInt32 :: st)) : ga_W E nL I ka na pc lo (.int x :: st) := by
  subst e
  exact fun H locs ls hI hL => lv_i2s C.1 C.2 hd rfl (kk H locs ls hI hL)
theorem ga_lcmp (pc2 : Nat) (C : ga_C E cc) {x y : Int64} (hd : decode cc pc = .ok (.lcmp, 1)) (e : pc + 1 = pc2) (kk : ga_W E nL I ka na pc2 lo (.int (lg_cmp x y) :: st)) : ga_W E nL I ka na pc lo (.long y :: .long x :: st) := by
  subst e
  exact fun H locs ls hI hL => W.lcmp C.1 C.2 hd  (kk H locs ls hI hL)
theorem ga_dup (pc2 : Nat) (C : ga_C E cc) {v : Value} (hv : v.category = 1) (hd : decode cc pc = .ok (.dup, 1)) (e : pc + 1 = pc2) (kk : ga_W E nL I ka na pc2 lo (v :: v :: st)) : ga_W E nL I ka na pc lo (v :: st) := by
  subst e
  exact fun H locs ls hI hL => lv_dup C.1 C.2 hd hv (kk H locs ls hI hL)
theorem ga_pop (pc2 : Nat) (C : ga_C E cc) {v : Value} (hv : v.category = 1) (hd : decode cc pc = .ok (.pop, 1)) (e : pc + 1 = pc2) (kk : ga_W E nL I ka na pc2 lo (st)) : ga_W E nL I ka na pc lo (v :: st) := by
  subst e
  exact fun H locs ls hI hL => lv_pop C.1 C.2 hd hv (kk H locs ls hI hL)
theorem ga_dup_x1 (pc2 : Nat) (C : ga_C E cc) {v w : Value} (hv : v.category = 1) (hw : w.category = 1) (hd : decode cc pc = .ok (.dup_x1, 1)) (e : pc + 1 = pc2) (kk : ga_W E nL I ka na pc2 lo (v :: w :: v :: st)) : ga_W E nL I ka na pc lo (v :: w :: st) := by
  subst e
  exact fun H locs ls hI hL => lv_dup_x1 C.1 C.2 hd hv hw (kk H locs ls hI hL)
theorem ga_dup_x2 (pc2 : Nat) (C : ga_C E cc) {v w u : Value} (hv : v.category = 1) (hw : w.category = 1) (hu : u.category = 1) (hd : decode cc pc = .ok (.dup_x2, 1)) (e : pc + 1 = pc2) (kk : ga_W E nL I ka na pc2 lo (v :: w :: u :: v :: st)) : ga_W E nL I ka na pc lo (v :: w :: u :: st) := by
  subst e
  exact fun H locs ls hI hL => lv_dup_x2 C.1 C.2 hd hv hw hu (kk H locs ls hI hL)
theorem ga_dup2 (pc2 : Nat) (C : ga_C E cc) {v w : Value} (hv : v.category = 1) (hw : w.category = 1) (hd : decode cc pc = .ok (.dup2, 1)) (e : pc + 1 = pc2) (kk : ga_W E nL I ka na pc2 lo (v :: w :: v :: w :: st)) : ga_W E nL I ka na pc lo (v :: w :: st) := by
  subst e
  exact fun H locs ls hI hL => lv_dup2_11 C.1 C.2 hd hv hw (kk H locs ls hI hL)
-- branches: the kit prints the conditions of each; they are taken as they stand
theorem ga_if_eq (pt pf : Nat) (C : ga_C E cc) {x : Int32} {off : Int} (hd : decode cc pc = .ok (.ifCond .eq off, 3)) (ht : (pc : Int) + off = (pt : Int)) (e : pc + 3 = pf) (kt : x = 0 → ga_W E nL I ka na pt lo st) (kf : ¬ x = 0 → ga_W E nL I ka na pf lo st) : ga_W E nL I ka na pc lo (.int x :: st) := by
  subst e
  exact fun H locs ls hI hL => lv_if_eq C.1 C.2 hd ht (fun h => kt h H locs ls hI hL) (fun h => kf h H locs ls hI hL)
theorem ga_icmp_eq (pt pf : Nat) (C : ga_C E cc) {x y : Int32} {off : Int} (hd : decode cc pc = .ok (.if_icmp .eq off, 3)) (ht : (pc : Int) + off = (pt : Int)) (e : pc + 3 = pf) (kt : x = y → ga_W E nL I ka na pt lo st) (kf : ¬ x = y → ga_W E nL I ka na pf lo st) : ga_W E nL I ka na pc lo (.int y :: .int x :: st) := by
  subst e
  exact fun H locs ls hI hL => lv_icmp_eq C.1 C.2 hd ht (fun h => kt h H locs ls hI hL) (fun h => kf h H locs ls hI hL)
theorem ga_if_ne (pt pf : Nat) (C : ga_C E cc) {x : Int32} {off : Int} (hd : decode cc pc = .ok (.ifCond .ne off, 3)) (ht : (pc : Int) + off = (pt : Int)) (e : pc + 3 = pf) (kt : ¬ x = 0 → ga_W E nL I ka na pt lo st) (kf : x = 0 → ga_W E nL I ka na pf lo st) : ga_W E nL I ka na pc lo (.int x :: st) := by
  subst e
  exact fun H locs ls hI hL => lv_if_ne C.1 C.2 hd ht (fun h => kt h H locs ls hI hL) (fun h => kf h H locs ls hI hL)
theorem ga_icmp_ne (pt pf : Nat) (C : ga_C E cc) {x y : Int32} {off : Int} (hd : decode cc pc = .ok (.if_icmp .ne off, 3)) (ht : (pc : Int) + off = (pt : Int)) (e : pc + 3 = pf) (kt : ¬ x = y → ga_W E nL I ka na pt lo st) (kf : x = y → ga_W E nL I ka na pf lo st) : ga_W E nL I ka na pc lo (.int y :: .int x :: st) := by
  subst e
  exact fun H locs ls hI hL => lv_icmp_ne C.1 C.2 hd ht (fun h => kt h H locs ls hI hL) (fun h => kf h H locs ls hI hL)
theorem ga_if_lt (pt pf : Nat) (C : ga_C E cc) {x : Int32} {off : Int} (hd : decode cc pc = .ok (.ifCond .lt off, 3)) (ht : (pc : Int) + off = (pt : Int)) (e : pc + 3 = pf) (kt : x < 0 → ga_W E nL I ka na pt lo st) (kf : ¬ x < 0 → ga_W E nL I ka na pf lo st) : ga_W E nL I ka na pc lo (.int x :: st) := by
  subst e
  exact fun H locs ls hI hL => lv_if_lt C.1 C.2 hd ht (fun h => kt h H locs ls hI hL) (fun h => kf h H locs ls hI hL)
theorem ga_icmp_lt (pt pf : Nat) (C : ga_C E cc) {x y : Int32} {off : Int} (hd : decode cc pc = .ok (.if_icmp .lt off, 3)) (ht : (pc : Int) + off = (pt : Int)) (e : pc + 3 = pf) (kt : x < y → ga_W E nL I ka na pt lo st) (kf : ¬ x < y → ga_W E nL I ka na pf lo st) : ga_W E nL I ka na pc lo (.int y :: .int x :: st) := by
  subst e
  exact fun H locs ls hI hL => lv_icmp_lt C.1 C.2 hd ht (fun h => kt h H locs ls hI hL) (fun h => kf h H locs ls hI hL)
theorem ga_if_ge (pt pf : Nat) (C : ga_C E cc) {x : Int32} {off : Int} (hd : decode cc pc = .ok (.ifCond .ge off, 3)) (ht : (pc : Int) + off = (pt : Int)) (e : pc + 3 = pf) (kt : 0 ≤ x → ga_W E nL I ka na pt lo st) (kf : ¬ 0 ≤ x → ga_W E nL I ka na pf lo st) : ga_W E nL I ka na pc lo (.int x :: st) := by
  subst e
  exact fun H locs ls hI hL => lv_if_ge C.1 C.2 hd ht (fun h => kt h H locs ls hI hL) (fun h => kf h H locs ls hI hL)
theorem ga_icmp_ge (pt pf : Nat) (C : ga_C E cc) {x y : Int32} {off : Int} (hd : decode cc pc = .ok (.if_icmp .ge off, 3)) (ht : (pc : Int) + off = (pt : Int)) (e : pc + 3 = pf) (kt : y ≤ x → ga_W E nL I ka na pt lo st) (kf : ¬ y ≤ x → ga_W E nL I ka na pf lo st) : ga_W E nL I ka na pc lo (.int y :: .int x :: st) := by
  subst e
  exact fun H locs ls hI hL => lv_icmp_ge C.1 C.2 hd ht (fun h => kt h H locs ls hI hL) (fun h => kf h H locs ls hI hL)
theorem ga_if_gt (pt pf : Nat) (C : ga_C E cc) {x : Int32} {off : Int} (hd : decode cc pc = .ok (.ifCond .gt off, 3)) (ht : (pc : Int) + off = (pt : Int)) (e : pc + 3 = pf) (kt : 0 < x → ga_W E nL I ka na pt lo st) (kf : ¬ 0 < x → ga_W E nL I ka na pf lo st) : ga_W E nL I ka na pc lo (.int x :: st) := by
  subst e
  exact fun H locs ls hI hL => lv_if_gt C.1 C.2 hd ht (fun h => kt h H locs ls hI hL) (fun h => kf h H locs ls hI hL)
theorem ga_icmp_gt (pt pf : Nat) (C : ga_C E cc) {x y : Int32} {off : Int} (hd : decode cc pc = .ok (.if_icmp .gt off, 3)) (ht : (pc : Int) + off = (pt : Int)) (e : pc + 3 = pf) (kt : y < x → ga_W E nL I ka na pt lo st) (kf : ¬ y < x → ga_W E nL I ka na pf lo st) : ga_W E nL I ka na pc lo (.int y :: .int x :: st) := by
  subst e
  exact fun H locs ls hI hL => lv_icmp_gt C.1 C.2 hd ht (fun h => kt h H locs ls hI hL) (fun h => kf h H locs ls hI hL)
theorem ga_if_le (pt pf : Nat) (C : ga_C E cc) {x : Int32} {off : Int} (hd : decode cc pc = .ok (.ifCond .le off, 3)) (ht : (pc : Int) + off = (pt : Int)) (e : pc + 3 = pf) (kt : x ≤ 0 → ga_W E nL I ka na pt lo st) (kf : ¬ x ≤ 0 → ga_W E nL I ka na pf lo st) : ga_W E nL I ka na pc lo (.int x :: st) := by
  subst e
  exact fun H locs ls hI hL => lv_if_le C.1 C.2 hd ht (fun h => kt h H locs ls hI hL) (fun h => kf h H locs ls hI hL)
theorem ga_icmp_le (pt pf : Nat) (C : ga_C E cc) {x y : Int32} {off : Int} (hd : decode cc pc = .ok (.if_icmp .le off, 3)) (ht : (pc : Int) + off = (pt : Int)) (e : pc + 3 = pf) (kt : x ≤ y → ga_W E nL I ka na pt lo st) (kf : ¬ x ≤ y → ga_W E nL I ka na pf lo st) : ga_W E nL I ka na pc lo (.int y :: .int x :: st) := by
  subst e
  exact fun H locs ls hI hL => lv_icmp_le C.1 C.2 hd ht (fun h => kt h H locs ls hI hL) (fun h => kf h H locs ls hI hL)
theorem ga_goto (pc2 : Nat) (C : ga_C E cc) {off : Int} (hd : decode cc pc = .ok (.goto off, 3)) (ht : (pc : Int) + off = (pc2 : Int)) (kk : ga_W E nL I ka na pc2 lo st) : ga_W E nL I ka na pc lo st := fun H locs ls hI hL => lv_goto C.1 C.2 hd ht (kk H locs ls hI hL)
theorem ga_widen {k2 n2 : Nat} (h1 : ka ≤ k2) (h2 : na ≤ n2) (kk : ga_W E nL I k2 n2 pc lo st) : ga_W E nL I ka na pc lo st := fun H locs ls hI hL => W.widen h1 h2 (kk H locs ls hI hL)
theorem ga_ldc (pc2 : Nat) (C : ga_C E cc) {own : String} {index : Nat} {v : Int32} (hown : (eS E).vm.findClass own = some (eM E).cls) (hc : (Jvm.Cond.constant own index v).before (eA E) (eS E) = true) (hd : decode cc pc = .ok (.ldc index, 2)) (e : pc + 2 = pc2) (kk : ga_W E nL I ka na pc2 lo (.int v :: st)) : ga_W E nL I ka na pc lo st := by
  subst e
  exact fun H locs ls hI hL => lv_ldc C.1 C.2 hown hc hd (kk H locs ls hI hL)
theorem ga_ldc2 (pc2 : Nat) (C : ga_C E cc) {own : String} {index : Nat} {v : Int64} (hown : (eS E).vm.findClass own = some (eM E).cls) (hc : (Jvm.Cond.constantLong own index v).before (eA E) (eS E) = true) (hd : decode cc pc = .ok (.ldc2_w index, 3)) (e : pc + 3 = pc2) (kk : ga_W E nL I ka na pc2 lo (.long v :: st)) : ga_W E nL I ka na pc lo st := by
  subst e
  exact fun H locs ls hI hL => lv_ldc2 C.1 C.2 hown hc hd (kk H locs ls hI hL)
/-- a join: what follows from J on is walked once -/
theorem ga_ldc_w (pc2 : Nat) (C : ga_C E cc) {own : String} {index : Nat} {v : Int32} (hown : (eS E).vm.findClass own = some (eM E).cls) (hc : (Jvm.Cond.constant own index v).before (eA E) (eS E) = true) (hd : decode cc pc = .ok (.ldc_w index, 3)) (e : pc + 3 = pc2) (kk : ga_W E nL I ka na pc2 lo (.int v :: st)) : ga_W E nL I ka na pc lo st := by
  subst e
  exact fun H locs ls hI hL => lv_ldcw C.1 C.2 hown hc hd (kk H locs ls hI hL)
theorem ga_mmax (pc2 : Nat) (C : ga_C E cc) (hml : (eC E).maxLocals = nL) {own : String} {index : Nat} (hown : (eS E).vm.findClass own = some (eM E).cls) (hlink : (Cond.methodLink own index Lib.Math.max.name).before (eA E) (eS E) = true) (hstat : (Cond.static Lib.Math.max.name).before (eA E) (eS E) = true) (hini : (Cond.initialized "java/lang/Math").before (eA E) (eS E) = true) (hcode : (Cond.code Lib.Math.max.name Lib.Math.max.code 2 (some .int)).before (eA E) (eS E) = true)
    (hframes : 1 ≤ (eR E).frames) (hlocals : (st.map fun v => v.category).sum + 13 ≤ (eR E).locals) (hc : ka ≤ (eR E).cells) (hs : na ≤ (eR E).slots) {x y : Int32} (hdg : decode cc pc = .ok (.invokestatic index, 3)) (e : pc + 3 = pc2)
    (kk : ga_W E nL I ka na pc2 lo (.int (pu_max x y) :: st)) : ga_W E nL I ka na pc lo (.int y :: .int x :: st) := by
  subst e
  exact fun H locs ls hI hL => va_mmax C.1 C.2 (hml.trans hL.1.symm) hown hlink hstat hini hcode hframes hlocals hc hs hdg (kk H locs ls hI hL)
theorem ga_mmin (pc2 : Nat) (C : ga_C E cc) (hml : (eC E).maxLocals = nL) {own : String} {index : Nat} (hown : (eS E).vm.findClass own = some (eM E).cls) (hlink : (Cond.methodLink own index Lib.Math.min.name).before (eA E) (eS E) = true) (hstat : (Cond.static Lib.Math.min.name).before (eA E) (eS E) = true) (hini : (Cond.initialized "java/lang/Math").before (eA E) (eS E) = true) (hcode : (Cond.code Lib.Math.min.name Lib.Math.min.code 2 (some .int)).before (eA E) (eS E) = true)
    (hframes : 1 ≤ (eR E).frames) (hlocals : (st.map fun v => v.category).sum + 13 ≤ (eR E).locals) (hc : ka ≤ (eR E).cells) (hs : na ≤ (eR E).slots) {x y : Int32} (hdg : decode cc pc = .ok (.invokestatic index, 3)) (e : pc + 3 = pc2)
    (kk : ga_W E nL I ka na pc2 lo (.int (pu_min x y) :: st)) : ga_W E nL I ka na pc lo (.int y :: .int x :: st) := by
  subst e
  exact fun H locs ls hI hL => va_mmin C.1 C.2 (hml.trans hL.1.symm) hown hlink hstat hini hcode hframes hlocals hc hs hdg (kk H locs ls hI hL)
/-- the end of a method that answers an int, a boolean, a byte ..: narrowed as its descriptor says -/
theorem ga_zret {p : Program} {l : Launch} {e : Env} {R : Room} {s : State} {m : MethodId} {args : Array Value} {below : List Frame} {meth : Method} {c : Code} {H : Heap} {locs : List Loc} {cells slots : Nat} {cc : ByteArray} {Qc : Array Value → State → Outcome → State → Prop} {free : Addr → Prop} {v w : Int32} {ty : ClassFile.FieldType} (hexec : p.tables.exec = Jvm.exec) (hb : c.code = cc) (hr : meth.sig.returnType = some ty) (hn : narrow ty (.int v) = .int w)
    (hq : ∀ t : State, t.heap = H → s.WarmedH t.vm → Qc args s (.returned (some (.int w))) t) (hf : ∀ q ∈ locs, free q.base)
    {pc : Nat} {ls : Array Slot} (hdg : decode cc pc = .ok (.ireturn, 1)) (hlocks : meth.locks = false) : W p l e R s m args below meth c H locs cells slots (MQ below Qc args s cells slots free) (F0 m pc ls [.int v]) := by
  intro T hT X
  obtain ⟨fs, hret, hrun, hended, hW, hframe⟩ := X.leave (v := some (.int w)) (hlocks := hlocks) (fun h => by rw [hr] at h; cases h)
  have hmeth' : T.vm.method? m = some meth := X.method'
  refine ⟨T.setFrames fs, ?_, .returned (some (.int w)), hrun, hended, hq _ hT hW, locs, ⟨⟨_, rfl⟩, hW, hframe⟩, hf⟩
  jvm_step X.here [X.here.top, hexec, hb, hdg, hmeth', hr, hn]
  (try refine ⟨rfl, ?_⟩); (try refine ⟨rfl, ?_⟩)
  first | (intro acts; rw [hret _ acts rfl rfl rfl]) | rw [hret _ _ rfl rfl rfl]
  exact Steps.refl _
theorem ga_cutP {P G : Prop} (h : P) (k : P → G) : G := k h
theorem ga_cut {I2 : Heap → List Loc → Prop} {k2 n2 : Nat} (J : Nat) {lo2 : List (Option Value)} {st2 : List Value} (hj : ga_W E nL I2 k2 n2 J lo2 st2) (k : ga_W E nL I2 k2 n2 J lo2 st2 → ga_W E nL I ka na pc lo st) : ga_W E nL I ka na pc lo st := k hj
end GA
/-! the texts, by their numbers: 0 rivers, 1 level, 2 odds, 3 swell, 4 reach, 5 join, 6 rain, 7 to, 8 sea, 9 takes, 10 low, 11 each, 12 at -/
def tx_len : List Nat := [6, 5, 4, 5, 5, 4, 4, 2, 3, 5, 3, 4, 2]
def tx_byt : List (List Int32) := [[114, 105, 118, 101, 114, 115], [108, 101, 118, 101, 108], [111, 100, 100, 115], [115, 119, 101, 108, 108], [114, 101, 97, 99, 104], [106, 111, 105, 110], [114, 97, 105, 110], [116, 111], [115, 101, 97], [116, 97, 107, 101, 115], [108, 111, 119], [101, 97, 99, 104], [97, 116]]
def tx_refs : List (String × Nat × String × Nat) := [("QuotedRiverModel", 173, "rivers", 0), ("QuotedRiverModel", 175, "level", 1), ("QuotedRiverModel", 181, "odds", 2), ("QuotedRiverModel", 183, "swell", 3), ("QuotedRiverModel", 195, "reach", 4), ("QuotedRiverModel", 197, "join", 5), ("QuotedRiverModel", 199, "rain", 6), ("QuotedRiverModel", 185, "to", 7), ("QuotedRiverModel", 187, "sea", 8), ("QuotedRiverModel", 189, "takes", 9), ("QuotedRiverModel", 190, "low", 10), ("QuotedRiverModel", 192, "each", 11), ("QuotedRiverModel", 194, "at", 12), ("QuotedRiver$Reader", 161, "rivers", 0), ("QuotedRiver$Reader", 163, "level", 1), ("QuotedRiver$Reader", 167, "odds", 2), ("QuotedRiver$Reader", 171, "swell", 3), ("QuotedRiver$Reader", 140, "reach", 4), ("QuotedRiver$Reader", 101, "to", 7), ("QuotedRiver$Reader", 103, "sea", 8), ("QuotedRiver$Reader", 107, "takes", 9), ("QuotedRiver$Reader", 113, "low", 10), ("QuotedRiver$Reader", 148, "join", 5), ("QuotedRiver$Reader", 131, "each", 11), ("QuotedRiver$Reader", 135, "at", 12), ("QuotedRiver$Reader", 153, "rain", 6)]
/-- a text's length; its k-th sign -/
def tx_l (w : Nat) : Int32 := Int32.ofNat (tx_len.getD w 0)
def tx_c (w : Nat) (k : Int32) : Int32 := (tx_byt.getD w []).getD k.toNatClampNeg 0
abbrev tx_G : Type := (Nat → Nat) × (Nat → Nat)
def tx_S (tg : tx_G) (A : Nat → Prop) (U : State) (H : Heap) : Prop := vk_S 13 tx_len tx_byt tg.1 tg.2 A U H ∧ (∀ q ∈ tx_refs, vk_R q.1 q.2.1 q.2.2.1 (tg.1 q.2.2.2) U) ∧ va_Z "java/lang/String" "COMPACT_STRINGS" "Z" (.int 1) A U H ∧ va_Zq "jdk/internal/util/Preconditions" "SIOOBE_FORMATTER" "Ljava/util/function/BiFunction;" A U H
theorem tx_S.moved {tg : tx_G} {A : Nat → Prop} {s U : State} {H : Heap} (h : tx_S tg A s H) (hW : s.WarmedH U.vm) : tx_S tg A U H := ⟨vk_S.moved hW.alike h.1, fun q hq => vk_R.warm hW (h.2.1 q hq), va_Z.moved hW.alike h.2.2.1, va_Zq.moved hW.alike h.2.2.2⟩
theorem tx_S.kept {tg : tx_G} {A : Nat → Prop} {U : State} {H H1 : Heap} (h : tx_S tg A U H) (hq : ∀ a : Nat, a < H.size → ¬ A a → H1[a]? = H[a]?) : tx_S tg A U H1 := ⟨h.1.kept hq, h.2.1, h.2.2.1.kept hq, h.2.2.2.kept hq⟩
theorem tx_S.narrow {tg : tx_G} {A B : Nat → Prop} {U : State} {H : Heap} (h : tx_S tg A U H) (hAB : ∀ q, B q → A q) : tx_S tg B U H := ⟨h.1.narrow hAB, h.2.1, h.2.2.1.narrow hAB, h.2.2.2.narrow hAB⟩
theorem tx_S.calling {tg : tx_G} {A : Nat → Prop} {U : State} {H : Heap} {g : JFrame} {mk : MethodId} {a : Array Value} (h : tx_S tg A U H) : tx_S tg A (U.calling g mk a) H := ⟨vk_S.moved (u := U) (U := U.calling g mk a) (Vm.Alike.refl U.vm) h.1, fun q hq => vk_R.same (u := U) (U := U.calling g mk a) rfl (h.2.1 q hq), va_Z.moved (u := U) (U := U.calling g mk a) (Vm.Alike.refl U.vm) h.2.2.1, va_Zq.moved (u := U) (U := U.calling g mk a) (Vm.Alike.refl U.vm) h.2.2.2⟩
/-- the frame behind a call -/
theorem ga_step {A : Nat → Prop} {H0 H : Heap} {locs L : List Loc} {st t T2 : State} (hS : va_S A H0 H locs) (h0 : st.heap = H) (e1 : T2.heap = t.heap) (hF : va_F A st t) (hL : ∀ q ∈ L, A q.base) : va_S A H0 T2.heap (locs ++ L) := by
  obtain ⟨hz, hk⟩ := hF
  rw [h0] at hz hk
  refine ⟨Nat.le_trans hS.1 (by rw [e1]; exact hz), fun q h1 h2 => ?_, fun q hq => ?_⟩
  · rw [e1, hk q (Nat.lt_of_lt_of_le h1 hS.1) h2]
    exact hS.2.1 q h1 h2
  · rcases List.mem_append.mp hq with h | h
    · exact hS.2.2 q h
    · exact hL q h
/-- a static method that leaves the heap alone -/
def ps_Pc (as : List Value) : Array Value → State → Prop := va_Pc as (fun _ => True)
def ps_Qc (v : Option Value) : Array Value → State → Outcome → State → Prop := fun _ st oc t => oc = .returned v ∧ t.heap = st.heap
def ps_I (E : gE) : Heap → List Loc → Prop := fun H locs => H = (eS E).heap ∧ locs = []
def ps_C (E : gE) (cc : ByteArray) (nL fr lc : Nat) (RX : String) : Prop :=
  ga_C E cc ∧ (eC E).maxLocals = nL ∧ (eS E).vm.findClass RX = some (eM E).cls ∧ (∀ w ∈ lw_all, w.before (eA E) (eS E) = true) ∧ eR E = ({ frames := fr, cells := 0, slots := 0, locals := lc } : Room)
section PS
variable {E : gE} {cc : ByteArray} {nL fr lc : Nat} {RX : String} {ka na pc : Nat} {lo : List (Option Value)} {st : List Value}
theorem ps_C.c (C : ps_C E cc nL fr lc RX) : ga_C E cc := C.1
theorem ps_C.ml (C : ps_C E cc nL fr lc RX) : (eC E).maxLocals = nL := C.2.1
theorem ps_C.ow (C : ps_C E cc nL fr lc RX) : (eS E).vm.findClass RX = some (eM E).cls := C.2.2.1
theorem ps_C.ts (C : ps_C E cc nL fr lc RX) : ∀ w ∈ lw_all, w.before (eA E) (eS E) = true := C.2.2.2.1
theorem ps_C.rm (C : ps_C E cc nL fr lc RX) : eR E = ({ frames := fr, cells := 0, slots := 0, locals := lc } : Room) := C.2.2.2.2
theorem ps_of {l : Launch} {y : MethodName} {cc : ByteArray} {maxL : Nat} {ret : Option FieldType} {fr lc : Nat} {as : List Value} {v : Option Value} (hy : plainName y.cls = true) (hcls : y.cls = RX) (hlen : (lg_sl as).length ≤ maxL) {lo : List (Option Value)} (hlo : ga_ps 0 lo = lv_args 0 as)
    (body : ∀ E : gE, ps_C E cc maxL fr lc RX → (eT E).sig.returnType = ret → (eT E).locks = false → eQ E = MQ (eB E) (ps_Qc v) (eA E) (eS E) 0 0 (fun _ => False) → ga_W E maxL (ps_I E) 0 0 0 lo []) :
    Met l y (ws_ y cc maxL ret) ({ frames := fr, cells := 0, slots := 0, locals := lc } : Room) (ps_Pc as) (ps_Qc v) 0 0 (fun _ => False) := by
  refine Met.ofW (cc := cc) (maxL := maxL) (ret := ret) hy rfl ?_
  intro p e s m args below meth c s₁ B hml hv
  obtain ⟨rfl, -⟩ := hv
  have hts := atoms_spec (ws := ws_ y cc maxL ret) B.pre
  have hts : ∀ w ∈ lw_all, w.before _ s = true := fun w h => hts w (List.mem_cons_of_mem _ h)
  have hown : s.vm.findClass RX = some m.cls := by rw [← hcls]; exact findClass_of_methodNamed B.named
  have hl := lv_entry as (n := maxL) hlen
  rw [lg_entry_eq]
  have K := body (p, l, e, (headSpec (ws_ y cc maxL ret) ({ frames := fr, cells := 0, slots := 0, locals := lc } : Room)).room, s, m, as.toArray, below, meth, c, MQ below (ps_Qc v) as.toArray s 0 0 (fun _ => False)) ⟨⟨B.exec, B.bytes⟩, hml, hown, hts, rfl⟩ B.returns B.notSynchronized rfl
  exact K s.heap [] _ ⟨rfl, rfl⟩ ⟨hl.1, hl.2.1, fun i v h => hl.2.2 (i, v) (by rw [← hlo]; exact (ga_ps_mem lo 0 i v).mpr ⟨i, by omega, h⟩)⟩
theorem ps_iret {v : Int32} {vv : Value} {rt : FieldType} (C : ps_C E cc nL fr lc RX) (hr : (eT E).sig.returnType = some rt) (hlk : (eT E).locks = false) (hq : eQ E = MQ (eB E) (ps_Qc (some vv)) (eA E) (eS E) 0 0 (fun _ => False)) {w : Int32} (hn : narrow rt (.int v) = .int w) (ev : Value.int w = vv) (hd : decode cc pc = .ok (.ireturn, 1)) : ga_W E nL (ps_I E) 0 0 pc lo [.int v] := by
  intro H locs ls hI hL
  subst ev
  obtain ⟨rfl, rfl⟩ := hI
  rw [hq]
  exact ga_zret C.c.1 C.c.2 hr hn (fun t ht hW => ⟨rfl, ht⟩) (fun q h => by cases h) hd hlk
theorem ps_lret {v : Int64} {vv : Value} (C : ps_C E cc nL fr lc RX) (hr : (eT E).sig.returnType = some .long) (hlk : (eT E).locks = false) (hq : eQ E = MQ (eB E) (ps_Qc (some vv)) (eA E) (eS E) 0 0 (fun _ => False)) (ev : Value.long v = vv) (hd : decode cc pc = .ok (.lreturn, 1)) : ga_W E nL (ps_I E) 0 0 pc lo [.long v] := by
  intro H locs ls hI hL
  subst ev
  obtain ⟨rfl, rfl⟩ := hI
  rw [hq]
  exact W.lret C.c.1 C.c.2 hr (fun t ht hW => ⟨rfl, ht⟩) (fun q h => by cases h) hd hlk
theorem ga_callS (pc2 : Nat) {I : Heap → List Loc → Prop} (C : ga_C E cc) (hml : (eC E).maxLocals = nL) (how : (eS E).vm.findClass RX = some (eM E).cls) (hts : ∀ w ∈ lw_all, w.before (eA E) (eS E) = true) {y : MethodName} {bytes : ByteArray} {maxL idx n f2 l2 : Nat} {ret : Option FieldType} {as : List Value} {v : Option Value}
    (hM : Met (eL E) y (ws_ y bytes maxL ret) ({ frames := f2, cells := 0, slots := 0, locals := l2 } : Room) (ps_Pc as) (ps_Qc v) 0 0 (fun _ => False))
    (hw : GoodIn lw_all (va_wsS RX idx y (ws_ y bytes maxL ret))) (hdd : y.cls ≠ "java/lang/invoke/MethodHandle" ∧ y.cls ≠ "java/lang/invoke/VarHandle" ∧ (parseMethodDescriptor y.desc).map (fun d => d.parameters.length) = some n) (hn : as.length = n)
    (hf : f2 + 1 ≤ (eR E).frames) (hlc : 8 + (maxL + 11) + l2 ≤ (eR E).locals) (hka : ka ≤ (eR E).cells) (hna : na ≤ (eR E).slots) (hst : (st.map fun v => v.category).sum ≤ 8) (hd : decode cc pc = .ok (.invokestatic idx, 3)) (e : pc + 3 = pc2)
    (k1 : ga_W E nL I ka na pc2 lo (v.toList ++ st)) : ga_W E nL I ka na pc lo (as.reverse ++ st) := by
  subst e
  intro H locs ls hI hL T hT X
  have cw := va_cwS (R := eR E) (s := eS E) (args := eA E) (own := RX) (index := idx) (y := y) (bytes := bytes) (maxL := maxL) (ret := ret) (rm := ({ frames := f2, cells := 0, slots := 0, locals := l2 } : Room)) (mc := 0) (ms := 0) n hts hw rfl rfl rfl hdd ⟨hf, hlc⟩
  obtain ⟨v2, st0, t, T2, L, h0, X2, hL2, e1, e2, ⟨hv, hP2⟩, stp⟩ := va_runS (S := (⟨C.1, C.2, hml, how, hts⟩ : CallFix (eP E) (eM E) (eC E) cc nL (eS E) (eA E) lw_all RX)) hM cw ⟨fun a U g mk q => ⟨q.1, trivial⟩, fun U hU hW => ⟨rfl, trivial⟩⟩ (g := F0 (eM E) pc ls (as.reverse ++ st)) (rest := st) rfl hn hL.1 rfl (lv_room hst) hd ⟨hka, hna⟩ T hT X
  cases hv
  have hLn : L = [] := by
    cases L with
    | nil => rfl
    | cons q L => exact (hL2 q List.mem_cons_self).elim
  subst hLn
  have hH : T2.heap = H := by rw [e1, hP2, h0]
  obtain ⟨t2, a1, b1⟩ := k1 H locs ls hI hL T2 hH (by simpa using X2)
  exact ⟨t2, stp t2 a1, b1⟩
theorem ps_callS (pc2 : Nat) (C : ps_C E cc nL fr lc RX) {y : MethodName} {bytes : ByteArray} {maxL idx n f2 l2 : Nat} {ret : Option FieldType} {as : List Value} {v : Option Value}
    (hM : Met (eL E) y (ws_ y bytes maxL ret) ({ frames := f2, cells := 0, slots := 0, locals := l2 } : Room) (ps_Pc as) (ps_Qc v) 0 0 (fun _ => False))
    (hw : GoodIn lw_all (va_wsS RX idx y (ws_ y bytes maxL ret))) (hdd : y.cls ≠ "java/lang/invoke/MethodHandle" ∧ y.cls ≠ "java/lang/invoke/VarHandle" ∧ (parseMethodDescriptor y.desc).map (fun d => d.parameters.length) = some n) (hn : as.length = n)
    (hf : f2 + 1 ≤ fr) (hlc : 8 + (maxL + 11) + l2 ≤ lc) (hst : (st.map fun v => v.category).sum ≤ 8) (hd : decode cc pc = .ok (.invokestatic idx, 3)) (e : pc + 3 = pc2)
    (k1 : ga_W E nL (ps_I E) 0 0 pc2 lo (v.toList ++ st)) : ga_W E nL (ps_I E) 0 0 pc lo (as.reverse ++ st) :=
  ga_callS pc2 (RX := RX) C.c C.ml C.ow C.ts hM hw hdd hn (by rw [C.rm]; exact hf) (by rw [C.rm]; exact hlc) (by rw [C.rm]; exact Nat.le_refl _) (by rw [C.rm]; exact Nat.le_refl _) hst hd e k1
end PS
