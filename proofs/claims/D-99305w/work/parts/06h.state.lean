set_option maxRecDepth 100000
/-! the component between two commands: one ghost heap -/
abbrev XI : Type := (Nat → Option Nat) × (Nat → XG) × (Nat → Nat → Int32)
/-- what of two rivers objects may change is apart -/
def hdj (G : XG) (w : Nat → Int32) (G2 : XG) (w2 : Nat → Int32) : Prop :=
  (∀ i k, i < 4 → k < 4 → G.1 7 i ≠ G2.1 7 k) ∧
  (∀ i k, i < 4 → k < 4 → 0 < G.2.1 i → G.1 8 i ≠ G2.1 8 k) ∧
  (∀ i k, i < xr_n w 0 → k < xr_n w2 0 → G.1 0 i ≠ G2.1 0 k)
theorem hdj.l {G : XG} {w : Nat → Int32} {G2 : XG} {w2 : Nat → Int32} (hS : hdj G w G2 w2) : ∀ i k, i < 4 → k < 4 → G.1 7 i ≠ G2.1 7 k := hS.1
theorem hdj.d {G : XG} {w : Nat → Int32} {G2 : XG} {w2 : Nat → Int32} (hS : hdj G w G2 w2) : ∀ i k, i < 4 → k < 4 → 0 < G.2.1 i → G.1 8 i ≠ G2.1 8 k := hS.2.1
theorem hdj.r {G : XG} {w : Nat → Int32} {G2 : XG} {w2 : Nat → Int32} (hS : hdj G w G2 w2) : ∀ i k, i < xr_n w 0 → k < xr_n w2 0 → G.1 0 i ≠ G2.1 0 k := hS.2.2
def XF (kk : Nat → Nat) (dE : Nat → Nat) (h : hG) (g : Nat → Nat) (z : MS) (G : XG) (S : XL) (p : PS) (M : XI) : Prop :=
  (∀ (k : Nat) (q : Nat × va_E), (xw_f g kk z)[k]? = some q → h q.1 = some q.2) ∧
  (hR kk dE h (g 15) G (p.1 0)) ∧
  (∃ fE : Nat → Option Nat, h (dE 0) = some (.inl (kk 5, 0, .inr (.inr (.inr (.inr fE)))))) ∧
  (h (g 13) = some (.inl (kk 4, 4, .inr (.inr (.inr (.inr (fun i => some (S.1 i)))))))) ∧
  (∀ s, s < 4 → h (S.1 s) = some (.inr (2, [xs_held S p s]))) ∧
  (∀ s, s < 4 → pm p s ≠ -1 → (pm p s = Int32.ofNat (pm p s).toNatClampNeg ∧ (pm p s).toNatClampNeg ≤ 60) ∧ ∃ e, xs_arr kk (pm p s).toNatClampNeg (pd p s) (fun i => pn p (60 * s + i)) e ∧ h (S.2 s) = some e) ∧
  (∀ s t, s < 4 → t < 4 → s ≠ t → S.1 s ≠ S.1 t ∧ (pm p s ≠ -1 → pm p t ≠ -1 → S.2 s ≠ S.2 t)) ∧
  (h (g 14) = some (.inl (kk 6, 3, .inr (.inr (.inr (.inr M.1)))))) ∧
  (∀ k a, k < 3 → M.1 k = some a → hR kk dE h a (M.2.1 k) (M.2.2 k) ∧ hdj G (p.1 0) (M.2.1 k) (M.2.2 k)) ∧
  (∀ i j, i < 13 → j < 13 → g i = g j → i = j)
theorem XF.f {kk : Nat → Nat} {dE : Nat → Nat} {h : hG} {g : Nat → Nat} {z : MS} {G : XG} {S : XL} {p : PS} {M : XI} (hS : XF kk dE h g z G S p M) : ∀ (k : Nat) (q : Nat × va_E), (xw_f g kk z)[k]? = some q → h q.1 = some q.2 := hS.1
theorem XF.n {kk : Nat → Nat} {dE : Nat → Nat} {h : hG} {g : Nat → Nat} {z : MS} {G : XG} {S : XL} {p : PS} {M : XI} (hS : XF kk dE h g z G S p M) : hR kk dE h (g 15) G (p.1 0) := hS.2.1
theorem XF.e {kk : Nat → Nat} {dE : Nat → Nat} {h : hG} {g : Nat → Nat} {z : MS} {G : XG} {S : XL} {p : PS} {M : XI} (hS : XF kk dE h g z G S p M) : ∃ fE : Nat → Option Nat, h (dE 0) = some (.inl (kk 5, 0, .inr (.inr (.inr (.inr fE))))) := hS.2.2.1
theorem XF.sl {kk : Nat → Nat} {dE : Nat → Nat} {h : hG} {g : Nat → Nat} {z : MS} {G : XG} {S : XL} {p : PS} {M : XI} (hS : XF kk dE h g z G S p M) : h (g 13) = some (.inl (kk 4, 4, .inr (.inr (.inr (.inr (fun i => some (S.1 i))))))) := hS.2.2.2.1
theorem XF.so {kk : Nat → Nat} {dE : Nat → Nat} {h : hG} {g : Nat → Nat} {z : MS} {G : XG} {S : XL} {p : PS} {M : XI} (hS : XF kk dE h g z G S p M) : ∀ s, s < 4 → h (S.1 s) = some (.inr (2, [xs_held S p s])) := hS.2.2.2.2.1
theorem XF.sh {kk : Nat → Nat} {dE : Nat → Nat} {h : hG} {g : Nat → Nat} {z : MS} {G : XG} {S : XL} {p : PS} {M : XI} (hS : XF kk dE h g z G S p M) : ∀ s, s < 4 → pm p s ≠ -1 → (pm p s = Int32.ofNat (pm p s).toNatClampNeg ∧ (pm p s).toNatClampNeg ≤ 60) ∧ ∃ e, xs_arr kk (pm p s).toNatClampNeg (pd p s) (fun i => pn p (60 * s + i)) e ∧ h (S.2 s) = some e := hS.2.2.2.2.2.1
theorem XF.sd {kk : Nat → Nat} {dE : Nat → Nat} {h : hG} {g : Nat → Nat} {z : MS} {G : XG} {S : XL} {p : PS} {M : XI} (hS : XF kk dE h g z G S p M) : ∀ s t, s < 4 → t < 4 → s ≠ t → S.1 s ≠ S.1 t ∧ (pm p s ≠ -1 → pm p t ≠ -1 → S.2 s ≠ S.2 t) := hS.2.2.2.2.2.2.1
theorem XF.im {kk : Nat → Nat} {dE : Nat → Nat} {h : hG} {g : Nat → Nat} {z : MS} {G : XG} {S : XL} {p : PS} {M : XI} (hS : XF kk dE h g z G S p M) : h (g 14) = some (.inl (kk 6, 3, .inr (.inr (.inr (.inr M.1))))) := hS.2.2.2.2.2.2.2.1
theorem XF.ii {kk : Nat → Nat} {dE : Nat → Nat} {h : hG} {g : Nat → Nat} {z : MS} {G : XG} {S : XL} {p : PS} {M : XI} (hS : XF kk dE h g z G S p M) : ∀ k a, k < 3 → M.1 k = some a → hR kk dE h a (M.2.1 k) (M.2.2 k) ∧ hdj G (p.1 0) (M.2.1 k) (M.2.2 k) := hS.2.2.2.2.2.2.2.2.1
theorem XF.gi {kk : Nat → Nat} {dE : Nat → Nat} {h : hG} {g : Nat → Nat} {z : MS} {G : XG} {S : XL} {p : PS} {M : XI} (hS : XF kk dE h g z G S p M) : ∀ i j, i < 13 → j < 13 → g i = g j → i = j := hS.2.2.2.2.2.2.2.2.2
/-- the fixed cells at z2, else h -/
def hfix (ws : va_W) (h : hG) : hG := fun b => match ws.find? (fun q => q.1 == b) with
  | some q => some q.2
  | none => h b
theorem xw_f_len {g kk : Nat → Nat} {z : MS} : (xw_f g kk z).length = 13 := rfl
theorem xw_f_at {g kk : Nat → Nat} {z : MS} {k : Nat} (hk : k < 13) : ∃ e, (xw_f g kk z)[k]? = some (g k, e) := by
  rcases (show k = 0 ∨ k = 1 ∨ k = 2 ∨ k = 3 ∨ k = 4 ∨ k = 5 ∨ k = 6 ∨ k = 7 ∨ k = 8 ∨ k = 9 ∨ k = 10 ∨ k = 11 ∨ k = 12 by omega) with rfl | rfl | rfl | rfl | rfl | rfl | rfl | rfl | rfl | rfl | rfl | rfl | rfl <;> exact ⟨_, rfl⟩
theorem xw_f_g {g kk : Nat → Nat} {z : MS} {k : Nat} {q : Nat × va_E} (h : (xw_f g kk z)[k]? = some q) : k < 13 ∧ q.1 = g k := by
  have hk : k < 13 := (List.getElem?_eq_some_iff.mp h).1
  obtain ⟨e, he⟩ := xw_f_at (g := g) (kk := kk) (z := z) hk
  rw [h] at he
  cases he
  exact ⟨hk, rfl⟩
theorem xw_D {g kk : Nat → Nat} (gi : ∀ i j, i < 13 → j < 13 → g i = g j → i = j) (z : MS) : va_D (xw_A g) (xw_f g kk z) := by
  refine ⟨fun i j p q hi hj e => ?_, fun k q hk => ⟨k, (xw_f_g hk).1, (xw_f_g hk).2⟩⟩
  have h1 := xw_f_g hi
  have h2 := xw_f_g hj
  exact gi i j h1.1 h2.1 (by rw [← h1.2, ← h2.2]; exact e)
theorem hfix_in {ws : va_W} {h : hG} {A : Nat → Prop} (hD : va_D A ws) {k : Nat} {q : Nat × va_E} (hk : ws[k]? = some q) : hfix ws h q.1 = some q.2 := by
  unfold hfix
  cases c : ws.find? (fun x => x.1 == q.1) with
  | none =>
    have := List.find?_eq_none.mp c q (List.mem_of_getElem? hk)
    simp at this
  | some y =>
    have h1 := List.find?_some c
    obtain ⟨j, hj⟩ := List.getElem?_of_mem (List.mem_of_find?_eq_some c)
    have e : j = k := hD.1 j k y q hj hk (by simpa using h1)
    subst e
    rw [hk] at hj
    cases hj
    rfl
theorem hfix_out {ws : va_W} {h : hG} {b : Nat} (hb : ∀ (k : Nat) (q : Nat × va_E), ws[k]? = some q → q.1 ≠ b) : hfix ws h b = h b := by
  unfold hfix
  have : ws.find? (fun x => x.1 == b) = none := by
    apply List.find?_eq_none.mpr
    intro q hq
    obtain ⟨k, hk⟩ := List.getElem?_of_mem hq
    have := hb k q hk
    simpa using this
  rw [this]
theorem hp.redo {D : va_G} {A : Nat → Prop} {h h2 : hG} {H H2 : Heap} (hh : hp D A h H) (hd : ∀ a e, h a = some e → ∃ e2, h2 a = some e2) (ho : ∀ a e, h2 a = some e → ∃ e1, h a = some e1) (hat : ∀ a e, h2 a = some e → va_at D vwCl (a, e) H2) : hp D A h2 H2 := by
  obtain ⟨ws, hP, hD, hw⟩ := hh
  have at' : ∀ (k : Nat) (q : Nat × va_E), (ws.map fun q => (q.1, (h2 q.1).getD q.2))[k]? = some q → ∃ e1, ws[k]? = some (q.1, e1) ∧ h2 q.1 = some q.2 := by
    intro k q hk
    rw [List.getElem?_map] at hk
    cases c : ws[k]? with
    | none => rw [c] at hk; cases hk
    | some y =>
      rw [c] at hk
      have hk := Option.some.inj hk
      subst hk
      obtain ⟨e2, he2⟩ := hd y.1 y.2 ((hw y.1 y.2).mpr ⟨k, c⟩)
      exact ⟨y.2, rfl, by show h2 y.1 = some ((h2 y.1).getD y.2); rw [he2]; rfl⟩
  refine ⟨ws.map fun q => (q.1, (h2 q.1).getD q.2), fun k q hk => ?_, ⟨fun i j p q hi hj e => ?_, fun k q hk => ?_⟩, fun a e => ⟨fun ha => ?_, ?_⟩⟩
  · obtain ⟨e1, -, h9⟩ := at' k q hk
    exact hat q.1 q.2 h9
  · obtain ⟨e1, h1, -⟩ := at' i p hi
    obtain ⟨e2, h2', -⟩ := at' j q hj
    exact hD.1 i j _ _ h1 h2' e
  · obtain ⟨e1, h1, -⟩ := at' k q hk
    exact hD.2 k (q.1, e1) h1
  · obtain ⟨e1, h1⟩ := ho a e ha
    obtain ⟨k, hk⟩ := (hw a e1).mp h1
    refine ⟨k, ?_⟩
    rw [List.getElem?_map, hk]
    show some (a, (h2 a).getD e1) = _
    rw [ha]
    rfl
  · rintro ⟨k, hk⟩
    obtain ⟨e1, -, h9⟩ := at' k (a, e) hk
    exact h9
/-- no entry of the fixed cells -/
def hkx (kk : Nat → Nat) (e : va_E) : Prop := ∀ (g : Nat → Nat) (z : MS) (k : Nat) (q : Nat × va_E), (xw_f g kk z)[k]? = some q → q.2 ≠ e
theorem hkx_o {kk : Nat → Nat} {ci : Nat} {fs : List Value} (h : ci ≠ 0 ∧ ci ≠ 4 ∧ ci ≠ 5 ∧ ci ≠ 6) : hkx kk (.inr (ci, fs)) := by
  intro g z k q hk c
  have hk13 := (xw_f_g hk).1
  rcases (show k = 0 ∨ k = 1 ∨ k = 2 ∨ k = 3 ∨ k = 4 ∨ k = 5 ∨ k = 6 ∨ k = 7 ∨ k = 8 ∨ k = 9 ∨ k = 10 ∨ k = 11 ∨ k = 12 by omega) with rfl | rfl | rfl | rfl | rfl | rfl | rfl | rfl | rfl | rfl | rfl | rfl | rfl <;> cases hk <;> simp at c <;> omega
theorem hkx_q {kk : Nat → Nat} {c n : Nat} {f : Nat → Option Nat} : hkx kk (.inl (c, n, .inr (.inr (.inr (.inr f))))) := by
  intro g z k q hk c
  have hk13 := (xw_f_g hk).1
  rcases (show k = 0 ∨ k = 1 ∨ k = 2 ∨ k = 3 ∨ k = 4 ∨ k = 5 ∨ k = 6 ∨ k = 7 ∨ k = 8 ∨ k = 9 ∨ k = 10 ∨ k = 11 ∨ k = 12 by omega) with rfl | rfl | rfl | rfl | rfl | rfl | rfl | rfl | rfl | rfl | rfl | rfl | rfl <;> cases hk <;> simp at c
theorem hkx_a {kk : Nat → Nat} {cA : ClassId} {n : Nat} {x : (Nat → Int32) ⊕ _} (hn : n ≤ 60) : hkx kk (.inl (cA, n, x)) := by
  intro g z k q hk c
  have hk13 := (xw_f_g hk).1
  rcases (show k = 0 ∨ k = 1 ∨ k = 2 ∨ k = 3 ∨ k = 4 ∨ k = 5 ∨ k = 6 ∨ k = 7 ∨ k = 8 ∨ k = 9 ∨ k = 10 ∨ k = 11 ∨ k = 12 by omega) with rfl | rfl | rfl | rfl | rfl | rfl | rfl | rfl | rfl | rfl | rfl | rfl | rfl <;> cases hk <;> simp at c <;> omega
theorem hkx.ne {kk : Nat → Nat} {e : va_E} (hx : hkx kk e) {h : hG} {g : Nat → Nat} {z : MS} (hf : ∀ (k : Nat) (q : Nat × va_E), (xw_f g kk z)[k]? = some q → h q.1 = some q.2) {b : Nat} (hb : h b = some e) : ∀ k, k < 13 → b ≠ g k := by
  intro k hk
  obtain ⟨e1, h1⟩ := xw_f_at (g := g) (kk := kk) (z := z) hk
  exact (hne (hf k _ h1) hb (hx g z k _ h1)).symm
theorem hkx.nA {kk : Nat → Nat} {e : va_E} (hx : hkx kk e) {h : hG} {g : Nat → Nat} {z : MS} (hf : ∀ (k : Nat) (q : Nat × va_E), (xw_f g kk z)[k]? = some q → h q.1 = some q.2) {b : Nat} (hb : h b = some e) : ¬ xw_A g b := by
  rintro ⟨k, hk, e⟩
  exact hx.ne hf hb k hk e
theorem xs_arr_n {kk : Nat → Nat} {n : Nat} {d : Int32} {num : Nat → Int64} {e : va_E} (h : xs_arr kk n d num e) (hn : n ≤ 60) : hkx kk e := by
  rcases h with ⟨-, f, rfl, -⟩ | ⟨-, f, rfl, -⟩ | ⟨-, f, rfl, -⟩ | ⟨-, f, rfl, -⟩ <;> exact hkx_a hn
/-- a question's start, out of a command's state -/
theorem XF.J {D : va_G} {kk : Nat → Nat} {dE : Nat → Nat} {A : Nat → Prop} {h : hG} {g : Nat → Nat} {z : MS} {G : XG} {S : XL} {p : PS} {M : XI} {U : State} (X : XF kk dE h g z G S p M) (hh : hp D A h U.heap) (hJ0 : hJ D kk dE A U) : xw_J (D, g, kk, G, S, p) U := by
  have hf := X.f
  obtain ⟨H, hcp0, hsj0⟩ := X.n
  have go : ∀ {b : Nat} {e : va_E}, h b = some e → hkx kk e → xd_at D (xw_A g) U.heap b e := fun hb hx => ⟨hh.at hb, hx.nA hf hb⟩
  have ob : ∀ {b ci : Nat} {fs : List Value}, h b = some (.inr (ci, fs)) → ci ≠ 0 ∧ ci ≠ 4 ∧ ci ≠ 5 ∧ ci ≠ 6 → xd_at D (xw_A g) U.heap b (.inr (ci, fs)) := fun hb hc => go hb (hkx_o hc)
  refine ⟨hJ0.1, xw_D X.gi, ⟨⟨ob H.o (by decide), fun i hi => ob (H.l i hi) (by decide), fun i hi => go (H.d i hi) hkx_q, H.n, fun j hj => ob (H.r j hj) (by decide), fun j hj => ob (H.j j hj) (by decide), fun j hj => ob (H.s j hj) (by decide), fun j hj => ⟨fun c => ⟨ob ((H.a j hj).1 c).1 (by decide), ob ((H.a j hj).1 c).2 (by decide)⟩, fun c => ob ((H.a j hj).2 c) (by decide)⟩⟩, ⟨go X.sl hkx_q, fun s hs => ⟨ob (X.so s hs) (by decide), fun hm => ⟨(X.sh s hs hm).1, ?_⟩⟩⟩⟩, hJ0.2.1, hJ0.2.2.1, hJ0.2.2.2.2.1⟩
  obtain ⟨h60, e, h1, h2⟩ := X.sh s hs hm
  exact ⟨e, h1, go h2 (xs_arr_n h1 h60.2)⟩
/-- what is no fixed cell stays -/
def hkp (kk : Nat → Nat) (h h2 : hG) : Prop := ∀ (b : Nat) (e : va_E), h b = some e → hkx kk e → h2 b = some e
theorem hkp.o {kk : Nat → Nat} {h h2 : hG} (k : hkp kk h h2) {b ci : Nat} {fs : List Value} (hb : h b = some (.inr (ci, fs))) (hc : ci ≠ 0 ∧ ci ≠ 4 ∧ ci ≠ 5 ∧ ci ≠ 6) : h2 b = some (.inr (ci, fs)) := k b _ hb (hkx_o hc)
theorem hkp.q {kk : Nat → Nat} {h h2 : hG} (k : hkp kk h h2) {b : Nat} {c : ClassId} {n : Nat} {f : Nat → Option Nat} (hb : h b = some (.inl (c, n, .inr (.inr (.inr (.inr f)))))) : h2 b = some (.inl (c, n, .inr (.inr (.inr (.inr f))))) := k b _ hb hkx_q
theorem hR.kp {kk : Nat → Nat} {dE : Nat → Nat} {h h2 : hG} {a : Nat} {G : XG} {w : Nat → Int32} (H : hR kk dE h a G w) (k : hkp kk h h2) : hR kk dE h2 a G w := by
  obtain ⟨H, hc, hs⟩ := H
  exact ⟨⟨k.o H.o (by decide), fun i hi => k.o (H.l i hi) (by decide), fun i hi => k.q (H.d i hi), H.n, fun j hj => k.o (H.r j hj) (by decide), fun j hj => k.o (H.j j hj) (by decide), fun j hj => k.o (H.s j hj) (by decide), fun j hj => ⟨fun c => ⟨k.o ((H.a j hj).1 c).1 (by decide), k.o ((H.a j hj).1 c).2 (by decide)⟩, fun c => k.o ((H.a j hj).2 c) (by decide)⟩⟩, hc, hs⟩
theorem XF.kp {kk : Nat → Nat} {dE : Nat → Nat} {h h2 : hG} {g : Nat → Nat} {z z2 : MS} {G : XG} {S : XL} {p : PS} {M : XI} (X : XF kk dE h g z G S p M) (k : hkp kk h h2) (hf : ∀ (k : Nat) (q : Nat × va_E), (xw_f g kk z2)[k]? = some q → h2 q.1 = some q.2) : XF kk dE h2 g z2 G S p M := by
  refine ⟨hf, X.n.kp k, ?_, k.q X.sl, fun s hs => k.o (X.so s hs) (by decide), fun s hs hm => ⟨(X.sh s hs hm).1, ?_⟩, X.sd, k.q X.im, fun i a hi ha => ⟨(X.ii i a hi ha).1.kp k, (X.ii i a hi ha).2⟩, X.gi⟩
  · obtain ⟨fE, he⟩ := X.e
    exact ⟨fE, k.q he⟩
  · obtain ⟨h60, e, h1, h2⟩ := X.sh s hs hm
    exact ⟨e, h1, k _ _ h2 (xs_arr_n h1 h60.2)⟩
theorem hfix_kp {kk : Nat → Nat} {h : hG} {g : Nat → Nat} {z z2 : MS} (hf : ∀ (k : Nat) (q : Nat × va_E), (xw_f g kk z)[k]? = some q → h q.1 = some q.2) : hkp kk h (hfix (xw_f g kk z2) h) := fun b e hb hx => by
  rw [hfix_out (fun k q hk c => hx.ne hf hb k (xw_f_g hk).1 (by rw [← c]; exact (xw_f_g hk).2))]
  exact hb
theorem hfix_same {kk : Nat → Nat} {h : hG} {g : Nat → Nat} {z : MS} (hf : ∀ (k : Nat) (q : Nat × va_E), (xw_f g kk z)[k]? = some q → h q.1 = some q.2) : hfix (xw_f g kk z) h = h := by
  funext b
  unfold hfix
  cases c : (xw_f g kk z).find? (fun q => q.1 == b) with
  | none => rfl
  | some y =>
    have h1 := List.find?_some c
    obtain ⟨j, hj⟩ := List.getElem?_of_mem (List.mem_of_find?_eq_some c)
    have e : y.1 = b := by simpa using h1
    show some y.2 = h b
    rw [← e]
    exact (hf j y hj).symm
theorem hfix_hp {D : va_G} {kk : Nat → Nat} {A : Nat → Prop} {h : hG} {g : Nat → Nat} {z z2 : MS} {H H2 : Heap} (hh : hp D A h H) (gi : ∀ i j, i < 13 → j < 13 → g i = g j → i = j) (hf : ∀ (k : Nat) (q : Nat × va_E), (xw_f g kk z)[k]? = some q → h q.1 = some q.2) (hP : va_P D vwCl (xw_f g kk z2) H2) (hF : ∀ q : Nat, q < H.size → ¬ xw_A g q → H2[q]? = H[q]?) : hp D A (hfix (xw_f g kk z2) h) H2 := by
  have hD := xw_D (kk := kk) gi z2
  have one : ∀ a, xw_A g a → ∃ e, (∃ k : Nat, (xw_f g kk z2)[k]? = some (a, e)) ∧ hfix (xw_f g kk z2) h a = some e := by
    rintro a ⟨k, hk, rfl⟩
    obtain ⟨e, he⟩ := xw_f_at (g := g) (kk := kk) (z := z2) hk
    exact ⟨e, ⟨k, he⟩, hfix_in hD he⟩
  have two : ∀ a, ¬ xw_A g a → hfix (xw_f g kk z2) h a = h a := fun a ha => hfix_out (fun k q hk c => ha ⟨k, (xw_f_g hk).1, by rw [← c]; exact (xw_f_g hk).2⟩)
  refine hh.redo (fun a e ha => ?_) (fun a e ha => ?_) (fun a e ha => ?_)
  · by_cases c : xw_A g a
    · obtain ⟨e2, -, h2⟩ := one a c
      exact ⟨e2, h2⟩
    · exact ⟨e, by rw [two a c]; exact ha⟩
  · by_cases c : xw_A g a
    · obtain ⟨k, hk, rfl⟩ := c
      obtain ⟨e1, h1⟩ := xw_f_at (g := g) (kk := kk) (z := z) hk
      exact ⟨e1, hf k _ h1⟩
    · rw [two a c] at ha
      exact ⟨e, ha⟩
  · by_cases c : xw_A g a
    · obtain ⟨e2, ⟨k, hk⟩, h2⟩ := one a c
      rw [h2] at ha
      cases ha
      exact hP k _ hk
    · rw [two a c] at ha
      exact (hh.at ha).kept (hF a (hh.lt ha) c)
section HQ
variable {E : gE} {cc : ByteArray} {nL fr lc mc ms : Nat} {RX : String} {D : va_G} {kk : Nat → Nat} {dE : Nat → Nat} {A : Nat → Prop} {h : hG} {ka na pc : Nat} {lo : List (Option Value)} {st : List Value} {g : Nat → Nat} {z z2 : MS} {G : XG} {S : XL} {p : PS} {M : XI}
theorem hq_end {n : Nat} {v : Option Value} {rest : List Value} {ls : Array Slot} {H : Heap} {locs : List Loc} {T : State} {gf : JFrame} {a : Array Value} (X : XF kk dE h g z G S p M) (hI : hw_I E D A h H locs) (hL : ga_L ls nL lo) (hg : gf = F0 (eM E) pc ls gf.stack)
    (hr : ∃ (v2 : Option Value) (st0 t T2 : State) (L : List Loc), st0.heap = H ∧ Stand (eP E) (eL E) (eV E) (eR E) (eS E) (eM E) (eA E) (eB E) (eT E) (eC E) T2 (locs ++ L) (ka + 0) (na + 0) ∧ (∀ q ∈ L, xw_A g q.base) ∧ T2.heap = t.heap ∧ T2.vm = t.vm ∧ xw_Qc (D, g, kk, G, S, p) z2 v a st0 (.returned v2) t ∧ Goes (eP E) (eV E) (eB E) T gf T2 { gf with pc := gf.pc + n, stack := v2.toList ++ rest })
    (k1 : ∀ h2, XF kk dE h2 g z2 G S p M → hkp kk h h2 → (z2 = z → h2 = h) → ga_W E nL (hw_I E D A h2) ka na (pc + n) lo (v.toList ++ rest)) : ∃ t, Steps (eP E).tables (eV E) (eB E) (T.setTop gf) t ∧ eQ E t := by
  obtain ⟨v2, st0, t, T2, L, h0, X2, hL2, e1, e2, ⟨⟨hv, hP2⟩, hF⟩, stp⟩ := hr
  cases hv
  have hA : ∀ q, xw_A g q → A q := by
    rintro q ⟨k, hk, rfl⟩
    obtain ⟨e1, h1⟩ := xw_f_at (g := g) (kk := kk) (z := z) hk
    exact hI.1.mem (X.f k _ h1)
  have hh2 : hp D A (hfix (xw_f g kk z2) h) T2.heap := hfix_hp hI.1 X.gi X.f (by rw [e1]; exact hP2) (fun q h1 h2 => by rw [e1, hF.2 q (by rw [h0]; exact h1) h2, h0])
  have hS2 : va_S A (eS E).heap T2.heap (locs ++ L) := ga_step hI.2 h0 e1 ⟨hF.1, fun q h1 h2 => hF.2 q h1 (fun c => h2 (hA q c))⟩ (fun q hq => hA _ (hL2 q hq))
  obtain ⟨t2, a1, b1⟩ := k1 (hfix (xw_f g kk z2) h) (X.kp (hfix_kp X.f) (fun k q hk => hfix_in (xw_D (kk := kk) X.gi z2) hk)) (hfix_kp X.f) (fun e => by rw [e]; exact hfix_same X.f) T2.heap (locs ++ L) ls ⟨hh2, hS2⟩ hL T2 rfl X2
  refine ⟨t2, stp t2 ?_, b1⟩
  rw [hg]
  exact a1
theorem hq_pre {as : List Value} {H : Heap} {locs : List Loc} (C : hC E cc nL fr lc mc ms RX D kk dE A) (X : XF kk dE h g z G S p M) (hI : hw_I E D A h H locs) : FrameBlind (xw_Pc (D, g, kk, G, S, p) z as) ∧ ∀ U : State, U.heap = H → (eS E).WarmedH U.vm → xw_Pc (D, g, kk, G, S, p) z as as.toArray U :=
  ⟨fun a U gg mk q => ⟨q.1, q.2.1, q.2.2.calling⟩, fun U hU hW => ⟨rfl, fun k q hk => by rw [hU]; exact hI.1.at (X.f k q hk), X.J (by rw [hU]; exact hI.1) (C.j.moved hW hU hI.2)⟩⟩
/-- a question, asked within a command -/
theorem hh_callQ (pc2 : Nat) (C : hC E cc nL fr lc mc ms RX D kk dE A) (X : XF kk dE h g z G S p M) {a ci : Nat} {fs : List Value} {Cn : String} {T : u_T} {N : Nat} {y : MethodName} {bytes : ByteArray} {maxL idx n f2 l2 : Nat} {ret : Option FieldType} {as : List Value} {v : Option Value}
    (hM : Met (eL E) y (ws_ y bytes maxL ret) ({ frames := f2, cells := 0, slots := 0, locals := l2 } : Room) (xw_Pc (D, g, kk, G, S, p) z (.ref a :: as)) (xw_Qc (D, g, kk, G, S, p) z2 v) 0 0 (xw_A g))
    (ha : h a = some (.inr (ci, fs))) (hcl : vwCl[ci]? = some (Cn, T, N)) (hw : GoodIn lw_all (wsV RX idx Cn y (ws_ y bytes maxL ret))) (hdd : y.cls = Cn ∧ y.cls ≠ "java/lang/invoke/MethodHandle" ∧ y.cls ≠ "java/lang/invoke/VarHandle" ∧ (parseMethodDescriptor y.desc).map (fun d => d.parameters.length) = some n) (hn : as.length = n)
    (hf : f2 + 1 ≤ fr) (hlc : 8 + (maxL + 11) + l2 ≤ lc) (hka : ka ≤ mc) (hna : na ≤ ms) (hst : (st.map fun v => v.category).sum ≤ 8) (hd : decode cc pc = .ok (.invokevirtual idx, 3)) (e : pc + 3 = pc2)
    (k1 : ∀ h2, XF kk dE h2 g z2 G S p M → hkp kk h h2 → (z2 = z → h2 = h) → ga_W E nL (hw_I E D A h2) ka na pc2 lo (v.toList ++ st)) : ga_W E nL (hw_I E D A h) ka na pc lo (as.reverse ++ .ref a :: st) := by
  subst e
  intro H locs ls hI hL T0 hT S0
  have cw : CallW (eR E) (eS E) (eA E) RX Cn idx y bytes maxL ret (ws_ y bytes maxL ret) ({ frames := f2, cells := 0, slots := 0, locals := l2 } : Room) 0 0 n := cwV n C.ts hw rfl rfl rfl hdd (by rw [C.rm]; exact ⟨hf, hlc⟩)
  have hp := hq_pre (as := .ref a :: as) C X hI
  exact hq_end X hI hL rfl (va_runV (S := (⟨C.c.1, C.c.2, C.ml, C.ow, C.ts⟩ : CallFix (eP E) (eM E) (eC E) cc nL (eS E) (eA E) lw_all RX)) hM cw ⟨hp.1, hw_recv C hI ha hcl, hp.2⟩ (g := F0 (eM E) pc ls (as.reverse ++ .ref a :: st)) (rest := st) rfl hn hL.1 rfl (lv_room hst) hd (by rw [C.rm]; exact ⟨hka, hna⟩) T0 hT S0) k1
theorem hh_callQN (pc2 : Nat) (C : hC E cc nL fr lc mc ms RX D kk dE A) (X : XF kk dE h g z G S p M) {a ci : Nat} {fs : List Value} {Cn host : String} {T : u_T} {N : Nat} {y : MethodName} {bytes : ByteArray} {maxL idx n f2 l2 : Nat} {ret : Option FieldType} {as : List Value} {v : Option Value}
    (hM : Met (eL E) y (ws_ y bytes maxL ret) ({ frames := f2, cells := 0, slots := 0, locals := l2 } : Room) (xw_Pc (D, g, kk, G, S, p) z (.ref a :: as)) (xw_Qc (D, g, kk, G, S, p) z2 v) 0 0 (xw_A g))
    (ha : h a = some (.inr (ci, fs))) (hcl : vwCl[ci]? = some (Cn, T, N)) (hl : Cond.methodLinkNest RX idx y host ∈ lw_tbl) (h2 : Cond.instanceMethod y ∈ lw_all) (h3 : Cond.selects Cn y y ∈ lw_all) (h4 : Cond.initialized y.cls ∈ lw_all) (h5 : Cond.code y bytes maxL ret ∈ lw_all) (hdd : y.cls = Cn ∧ y.cls ≠ "java/lang/invoke/MethodHandle" ∧ y.cls ≠ "java/lang/invoke/VarHandle" ∧ (parseMethodDescriptor y.desc).map (fun d => d.parameters.length) = some n) (hn : as.length = n)
    (hf : f2 + 1 ≤ fr) (hlc : 8 + (maxL + 11) + l2 ≤ lc) (hka : ka ≤ mc) (hna : na ≤ ms) (hst : (st.map fun v => v.category).sum ≤ 8) (hd : decode cc pc = .ok (.invokevirtual idx, 3)) (e : pc + 3 = pc2)
    (k1 : ∀ h2, XF kk dE h2 g z2 G S p M → hkp kk h h2 → (z2 = z → h2 = h) → ga_W E nL (hw_I E D A h2) ka na pc2 lo (v.toList ++ st)) : ga_W E nL (hw_I E D A h) ka na pc lo (as.reverse ++ .ref a :: st) := by
  subst e
  intro H locs ls hI hL T0 hT S0
  have cw : va_CN (eR E) (eS E) (eA E) RX idx y host bytes maxL ret (ws_ y bytes maxL ret) ({ frames := f2, cells := 0, slots := 0, locals := l2 } : Room) 0 0 n := va_cnB n C.ts (lw_meth h5) rfl rfl rfl (C.n _ hl rfl) (C.ts _ h4) hdd.2 (by rw [C.rm]; exact ⟨hf, hlc⟩)
  have hp := hq_pre (as := .ref a :: as) C X hI
  exact hq_end X hI hL rfl (va_runVN (C := Cn) (S := (⟨C.c.1, C.c.2, C.ml, C.ow, C.ts⟩ : CallFix (eP E) (eM E) (eC E) cc nL (eS E) (eA E) lw_all RX)) hM ⟨cw, C.ts _ h2, C.ts _ h3⟩ ⟨hp.1, hw_recv C hI ha hcl, hp.2⟩ (g := F0 (eM E) pc ls (as.reverse ++ .ref a :: st)) (rest := st) rfl hn hL.1 rfl (lv_room hst) hd (by rw [C.rm]; exact ⟨hka, hna⟩) T0 hT S0) k1
end HQ
