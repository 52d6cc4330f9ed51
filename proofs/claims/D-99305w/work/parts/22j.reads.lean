set_option maxRecDepth 100000
/-! the reader's lines, told one behind the other; what they make of a rivers object -/
abbrev sQ : Type := Int32 × Int32 × Int32 × Int32
def sp_told (T : Nat → Int32) (n : Nat) (s : sT) (n0 n1 n2 : Int32) : sF ⊕ (Nat × sQ × sT) :=
  sp_b (sp_line T n s 4 n0 10) fun a => if ¬ a.1 = 0 then sp_b (sp_reach T n a.2) fun r => .inr (0, (r.1, r.2.1, r.2.2.1, 0), r.2.2.2)
  else sp_b (sp_line T n a.2 5 n1 5) fun b => if ¬ b.1 = 0 then sp_b (sp_join T n b.2 n0) fun r => .inr (1, (r.1, r.2.1, r.2.2.1, r.2.2.2.1), r.2.2.2.2)
  else sp_b (sp_line T n b.2 6 n2 5) fun c => if c.1 = 0 then .inl (1, c.2.2.1) else sp_b (sp_rain T n c.2) fun r => .inr (2, (r.1, r.2.1, 0, 0), r.2.2)
theorem sp_line_lt {T : Nat → Int32} {n w a b : Nat} {s s2 : sT} {x : Int32} (h : sp_line T n s w (nI a) (nI b) = .inr (x, s2)) (hx : ¬ x = 0) (hab : a ≤ b) : a < b := by
  unfold sp_line at h
  split at h
  · split at h
    · cases h
    · rename_i c
      rcases Nat.lt_or_ge a b with q | q
      · exact q
      · exact absurd (show nI a = nI b by rw [show a = b by omega]) c
  · cases h
    exact absurd rfl hx
def sp_w0 (w : Nat → Int32) (n : Nat) (a b c : Int32) : Nat → Int32 := upd (upd (upd (upd w (8 + 3 * n) a) (9 + 3 * n) b) (10 + 3 * n) c) 3 (nI (n + 1))
def sp_w1 (w : Nat → Int32) (n : Nat) (a b c d : Int32) : Nat → Int32 := upd (upd (upd (upd (upd w (38 + 4 * n) a) (39 + 4 * n) b) (40 + 4 * n) c) (41 + 4 * n) d) 4 (nI (n + 1))
def sp_w2 (w : Nat → Int32) (n : Nat) (a b : Int32) : Nat → Int32 := upd (upd (upd w (58 + 2 * n) a) (59 + 2 * n) b) 5 (nI (n + 1))
def sp_w (w : Nat → Int32) (i : Nat) (t : sQ) : Nat → Int32 := if i = 0 then sp_w0 w (xr_n w 0) t.1 t.2.1 t.2.2.1 else if i = 1 then sp_w1 w (xr_n w 1) t.1 t.2.1 t.2.2.1 t.2.2.2 else sp_w2 w (xr_n w 2) t.1 t.2.1
def elc (i : Nat) (t : sQ) : va_E := if i = 0 then .inr (9, [.int t.1, .int t.2.1, .int t.2.2.1]) else if i = 1 then .inr (10, [.int t.1, .int t.2.1, .int t.2.2.1, .int t.2.2.2]) else .inr (11, [.int t.1, .int t.2.1])
def sp_one (T : Nat → Int32) (n : Nat) (s : sT) (w : Nat → Int32) : sF ⊕ ((Nat → Int32) × sT) :=
  if w 7 = 0 then sp_b (sp_first T n s) fun r => .inr (upd (upd (upd w 0 r.1) 1 r.2.1) 2 r.2.2.1, r.2.2.2)
  else sp_b (sp_told T n s (w 3) (w 4) (w 5)) fun r => .inr (sp_w w r.1 r.2.1, r.2.2)
def sp_reads (T : Nat → Int32) (n : Nat) : Nat → sT → (Nat → Int32) → Option (sF ⊕ (Nat → Int32))
  | 0, _, _ => none
  | k + 1, s, w => if s.2.2.1 = 0 then some (.inr w) else match sp_one T n s w with
    | .inl f => some (.inl f)
    | .inr r => if r.2.2.2.1 = 3 then sp_reads T n k (tk T n r.2.1) (upd r.1 7 (r.1 7 + 1)) else some (.inl (1, r.2.2.1))
/-- where a reach goes to no reach that there is, it goes to the sea -/
def sp_fix (w : Nat → Int32) : Nat → Nat → Int32
  | 0 => w
  | k + 1 => if w (8 + 3 * k) < w 3 then sp_fix w k else upd (sp_fix w k) (8 + 3 * k) (-1)
theorem sp_fix_lo {w : Nat → Int32} {k q : Nat} (h : q < 8 ∨ 8 + 3 * k ≤ q ∨ q % 3 ≠ 2) : sp_fix w k q = w q := by
  induction k with
  | zero => rfl
  | succ k ih =>
    unfold sp_fix
    split
    · exact ih (by omega)
    · rw [pk_un (by omega)]
      exact ih (by omega)
theorem sp_fix_n {w : Nat → Int32} {k i : Nat} (hi : i < 4) : xr_n (sp_fix w k) i = xr_n w i := by
  unfold xr_n
  rw [sp_fix_lo (by omega)]
def putG (G : XG) (i n x : Nat) (m2 : Int32) : XG := (fun p q => if p = i ∧ q = n then x else G.1 p q, G.2.1, fun p => if p = i then m2 else G.2.2.1 p, fun p => if p = i then va_up (G.2.2.2 i) n (some x) else G.2.2.2 p)
theorem lt3 {i : Nat} (h : i < 3) : i = 0 ∨ i = 1 ∨ i = 2 := by omega
theorem hcp.cap {dE : Nat → Nat} {G : XG} {w : Nat → Int32} (c : hcp dE G w) {i : Nat} (hi : i < 3) : G.2.1 i = f4 10 5 5 0 i := by
  rcases lt3 hi with rfl | rfl | rfl
  · exact c.c0
  · exact c.c1
  · exact c.c2
theorem f4_cap {i : Nat} (hi : i < 3) : 5 ≤ f4 10 5 5 0 i ∧ f4 10 5 5 0 i ≤ 10 := by
  rcases lt3 hi with rfl | rfl | rfl <;> decide
theorem hR.put {kk : Nat → Nat} {dE : Nat → Nat} {h h2 : hG} {a : Nat} {G : XG} {w w2 : Nat → Int32} {i n x : Nat} {m2 : Int32} (HR : hR kk dE h a G w) (hi : i < 3) (en : n = xr_n w i) (hn : n < G.2.1 i) (h3 : xr_n w 3 = 0)
    (k : ∀ (b : Nat) (e : va_E), h b = some e → b ≠ G.1 7 i → b ≠ G.1 8 i → (∀ fs, e ≠ .inr (7, fs)) → h2 b = some e)
    (gl : h2 (G.1 7 i) = some (.inr (13, [.int m2, .ref (G.1 8 i), .int (nI (n + 1))]))) (gd : h2 (G.1 8 i) = some (.inl (kk 5, G.2.1 i, .inr (.inr (.inr (.inr (va_up (G.2.2.2 i) n (some x)))))))) (hx : h x = none)
    (hw : ∀ q, q < 8 → q ≠ 3 + i → w2 q = w q) (hw3 : w2 (3 + i) = nI (n + 1))
    (e0 : ∀ j, j < xr_n w2 0 → h2 ((putG G i n x m2).1 0 j) = some (.inr (9, [.int (w2 (8 + 3 * j)), .int (w2 (9 + 3 * j)), .int (w2 (10 + 3 * j))])))
    (e1 : ∀ j, j < xr_n w2 1 → h2 ((putG G i n x m2).1 1 j) = some (.inr (10, [.int (w2 (38 + 4 * j)), .int (w2 (39 + 4 * j)), .int (w2 (40 + 4 * j)), .int (w2 (41 + 4 * j))])))
    (e2 : ∀ j, j < xr_n w2 2 → h2 ((putG G i n x m2).1 2 j) = some (.inr (11, [.int (w2 (58 + 2 * j)), .int (w2 (59 + 2 * j))]))) : hR kk dE h2 a (putG G i n x m2) w2 := by
  obtain ⟨H, hc, hs⟩ := HR
  have hcap := hc.cap hi
  have hc4 := f4_cap hi
  have i4 : i < 4 := by omega
  have pg : ∀ p q, p ≠ i → (putG G i n x m2).1 p q = G.1 p q := fun p q hp => if_neg (fun c => hp c.1)
  have en2 : xr_n w2 i = n + 1 := by
    unfold xr_n
    rw [hw3, nI_clamp (by omega)]
  have eno : ∀ q, q < 4 → q ≠ i → xr_n w2 q = xr_n w q := fun q hq hne => by
    unfold xr_n
    rw [hw (3 + q) (by omega) (by omega)]
  have h32 : xr_n w2 3 = 0 := (eno 3 (by decide) (by omega)).trans h3
  have hl := H.l i i4
  have hd := H.d i i4
  refine ⟨⟨?_, ?_, ?_, ?_, e0, e1, e2, ?_⟩, ⟨hc.c0, hc.c1, hc.c2, ?_, by rw [h32]; exact Nat.zero_le _⟩, ⟨?_, ?_, ?_⟩⟩
  · rw [pg 7 0 (by omega), pg 7 1 (by omega), pg 7 2 (by omega), pg 7 3 (by omega), hw 0 (by omega) (by omega), hw 1 (by omega) (by omega), hw 2 (by omega) (by omega), hw 7 (by omega) (by omega)]
    exact k _ _ H.o (hne H.o hl (by simp)) (hne H.o hd (by simp)) (by simp)
  · intro q hq
    by_cases c : q = i
    · rw [pg 7 q (by omega), pg 8 q (by omega), c, hw3, show (putG G i n x m2).2.2.1 i = m2 from if_pos rfl]
      exact gl
    · rw [pg 7 q (by omega), pg 8 q (by omega), hw (3 + q) (by omega) (by omega), show (putG G i n x m2).2.2.1 q = G.2.2.1 q from if_neg c]
      exact k _ _ (H.l q hq) (hs.l q i hq i4 c) (hne (H.l q hq) hd (by simp)) (by simp)
  · intro q hq
    by_cases c : q = i
    · rw [pg 8 q (by omega), c, show (putG G i n x m2).2.2.2 i = va_up (G.2.2.2 i) n (some x) from if_pos rfl]
      exact gd
    · rw [pg 8 q (by omega), show (putG G i n x m2).2.2.2 q = G.2.2.2 q from if_neg c]
      exact k _ _ (H.d q hq) (hne (H.d q hq) hl (by simp)) (hs.d i q i4 hq (Ne.symm c) (by omega)).symm (by simp)
  · intro q hq
    by_cases c : q = i
    · subst c
      rw [en2, show (putG G q n x m2).2.2.2 q = va_up (G.2.2.2 q) n (some x) from if_pos rfl]
      refine ⟨hw3, by omega, hn, fun j hj => ?_⟩
      by_cases c2 : j = n
      · rw [c2, va_up_self]
        exact congrArg some (if_pos ⟨rfl, rfl⟩).symm
      · rw [va_up_ne _ _ c2, (H.n q hq).2.2.2 j (by omega)]
        exact congrArg some (if_neg (fun c => c2 c.2)).symm
    · rw [eno q hq c, hw (3 + q) (by omega) (by omega), show (putG G i n x m2).2.2.2 q = G.2.2.2 q from if_neg c]
      refine ⟨(H.n q hq).1, (H.n q hq).2.1, (H.n q hq).2.2.1, fun j hj => ?_⟩
      rw [pg q j c]
      exact (H.n q hq).2.2.2 j hj
  · rw [h32]
    exact fun j hj => absurd hj (by omega)
  · rw [pg 8 3 (by omega)]
    exact hc.c3
  · intro p q hp hq hne
    rw [pg 7 p (by omega), pg 7 q (by omega)]
    exact hs.l p q hp hq hne
  · intro p q hp hq hne hpos
    rw [pg 8 p (by omega), pg 8 q (by omega)]
    exact hs.d p q hp hq hne hpos
  · intro p q hp hq hne
    by_cases c : i = 0
    · subst c
      rw [en2] at hp hq
      have hr : ∀ j, j < n → G.1 0 j ≠ x := fun j hj => hn_ne (H.r j (by omega)) hx
      by_cases c1 : p = n
      · rw [show (putG G 0 n x m2).1 0 p = x from if_pos ⟨rfl, c1⟩, show (putG G 0 n x m2).1 0 q = G.1 0 q from if_neg (fun c => by omega)]
        exact (hr q (by omega)).symm
      · rw [show (putG G 0 n x m2).1 0 p = G.1 0 p from if_neg (fun c => c1 c.2)]
        by_cases c2 : q = n
        · rw [show (putG G 0 n x m2).1 0 q = x from if_pos ⟨rfl, c2⟩]
          exact hr p (by omega)
        · rw [show (putG G 0 n x m2).1 0 q = G.1 0 q from if_neg (fun c => c2 c.2)]
          exact hs.r p q (by omega) (by omega) hne
    · rw [eno 0 (by decide) (Ne.symm c)] at hp hq
      rw [pg 0 p (Ne.symm c), pg 0 q (Ne.symm c)]
      exact hs.r p q hp hq hne
theorem xw_bn {kk : Nat → Nat} {dE : Nat → Nat} {h : hG} {a : Nat} {G : XG} {w : Nat → Int32} (HR : hR kk dE h a G w) : xr_n w 0 ≤ 10 ∧ xr_n w 1 ≤ 5 ∧ xr_n w 2 ≤ 5 := by
  have b0 := (HR.1.n 0 (by decide)).2.2.1
  have b1 := (HR.1.n 1 (by decide)).2.2.1
  have b2 := (HR.1.n 2 (by decide)).2.2.1
  rw [HR.2.1.c0] at b0
  rw [HR.2.1.c1] at b1
  rw [HR.2.1.c2] at b2
  exact ⟨b0, b1, b2⟩
theorem sp_w_lo {w : Nat → Int32} {i q : Nat} {t : sQ} (hi : i < 3) (hq : q < 8) (hne : q ≠ 3 + i) : sp_w w i t q = w q := by
  rcases lt3 hi with rfl | rfl | rfl
  · show sp_w0 w (xr_n w 0) t.1 t.2.1 t.2.2.1 q = w q
    unfold sp_w0
    rw [pk_un (by omega), pk_un (by omega), pk_un (by omega), pk_un (by omega)]
  · show sp_w1 w (xr_n w 1) t.1 t.2.1 t.2.2.1 t.2.2.2 q = w q
    unfold sp_w1
    rw [pk_un (by omega), pk_un (by omega), pk_un (by omega), pk_un (by omega), pk_un (by omega)]
  · show sp_w2 w (xr_n w 2) t.1 t.2.1 q = w q
    unfold sp_w2
    rw [pk_un (by omega), pk_un (by omega), pk_un (by omega)]
theorem sp_w_n {w : Nat → Int32} {i : Nat} {t : sQ} (hi : i < 3) : sp_w w i t (3 + i) = nI (xr_n w i + 1) := by
  rcases lt3 hi with rfl | rfl | rfl
  · show sp_w0 w (xr_n w 0) t.1 t.2.1 t.2.2.1 3 = _
    exact pk_us
  · show sp_w1 w (xr_n w 1) t.1 t.2.1 t.2.2.1 t.2.2.2 4 = _
    exact pk_us
  · show sp_w2 w (xr_n w 2) t.1 t.2.1 5 = _
    exact pk_us
theorem hR.add {kk : Nat → Nat} {dE : Nat → Nat} {h h2 : hG} {a : Nat} {G : XG} {w : Nat → Int32} {i x : Nat} {m2 : Int32} {t : sQ} (HR : hR kk dE h a G w) (hi : i < 3) (hn : xr_n w i < G.2.1 i) (h3 : xr_n w 3 = 0)
    (k : ∀ (b : Nat) (e : va_E), h b = some e → b ≠ G.1 7 i → b ≠ G.1 8 i → (∀ fs, e ≠ .inr (7, fs)) → h2 b = some e)
    (gl : h2 (G.1 7 i) = some (.inr (13, [.int m2, .ref (G.1 8 i), .int (nI (xr_n w i + 1))]))) (gd : h2 (G.1 8 i) = some (.inl (kk 5, G.2.1 i, .inr (.inr (.inr (.inr (va_up (G.2.2.2 i) (xr_n w i) (some x)))))))) (hx : h x = none) (gx : h2 x = some (elc i t)) : hR kk dE h2 a (putG G i (xr_n w i) x m2) (sp_w w i t) := by
  have hb := xw_bn HR
  have H := HR.1
  have hl := H.l i (by omega)
  have hd := H.d i (by omega)
  have kr : ∀ (b ci : Nat) (fs : List Value), h b = some (.inr (ci, fs)) → 9 ≤ ci → ci ≤ 11 → h2 b = some (.inr (ci, fs)) := fun b ci fs hb h9 h11 => k _ _ hb (hne hb hl (by simp; omega)) (hne hb hd (by simp)) (by simp; omega)
  have hcap := HR.2.1.cap hi
  have hc4 := f4_cap hi
  have hn0 : i = 0 → xr_n w 0 < 10 := fun e => by subst e; rw [hcap] at hn; exact hn
  have hn1 : i = 1 → xr_n w 1 < 5 := fun e => by subst e; rw [hcap] at hn; exact hn
  have hn2 : i = 2 → xr_n w 2 < 5 := fun e => by subst e; rw [hcap] at hn; exact hn
  have en2 : xr_n (sp_w w i t) i = xr_n w i + 1 := by
    unfold xr_n
    rw [sp_w_n hi, nI_clamp (by unfold xr_n at *; omega)]
    rfl
  have eno : ∀ q, q < 4 → q ≠ i → xr_n (sp_w w i t) q = xr_n w q := fun q hq hne => by
    unfold xr_n
    rw [sp_w_lo hi (by omega) (by omega)]
  have pg : ∀ p q, ¬ (p = i ∧ q = xr_n w i) → (putG G i (xr_n w i) x m2).1 p q = G.1 p q := fun p q hp => if_neg hp
  have px : (putG G i (xr_n w i) x m2).1 i (xr_n w i) = x := if_pos ⟨rfl, rfl⟩
  have q0 : ∀ q : Nat, (i = 0 → q ≠ 8 + 3 * xr_n w 0 ∧ q ≠ 9 + 3 * xr_n w 0 ∧ q ≠ 10 + 3 * xr_n w 0 ∧ q ≠ 3) → (i = 1 → q ≠ 38 + 4 * xr_n w 1 ∧ q ≠ 39 + 4 * xr_n w 1 ∧ q ≠ 40 + 4 * xr_n w 1 ∧ q ≠ 41 + 4 * xr_n w 1 ∧ q ≠ 4) → (i = 2 → q ≠ 58 + 2 * xr_n w 2 ∧ q ≠ 59 + 2 * xr_n w 2 ∧ q ≠ 5) → sp_w w i t q = w q := by
    intro q h0 h1 h2
    rcases lt3 hi with rfl | rfl | rfl
    · obtain ⟨c1, c2, c3, c4⟩ := h0 rfl
      show sp_w0 w (xr_n w 0) t.1 t.2.1 t.2.2.1 q = w q
      unfold sp_w0
      rw [pk_un c4, pk_un c3, pk_un c2, pk_un c1]
    · obtain ⟨c1, c2, c3, c4, c5⟩ := h1 rfl
      show sp_w1 w (xr_n w 1) t.1 t.2.1 t.2.2.1 t.2.2.2 q = w q
      unfold sp_w1
      rw [pk_un c5, pk_un c4, pk_un c3, pk_un c2, pk_un c1]
    · obtain ⟨c1, c2, c3⟩ := h2 rfl
      show sp_w2 w (xr_n w 2) t.1 t.2.1 q = w q
      unfold sp_w2
      rw [pk_un c3, pk_un c2, pk_un c1]
  refine HR.put hi rfl hn h3 k gl gd hx (fun q hq hne => sp_w_lo hi hq hne) (sp_w_n hi) (fun j hj => ?_) (fun j hj => ?_) (fun j hj => ?_)
  · by_cases c : 0 = i ∧ j = xr_n w i
    · obtain ⟨rfl, rfl⟩ := c
      rw [px]
      refine gx.trans ?_
      show (some (Sum.inr (9, [.int t.1, .int t.2.1, .int t.2.2.1])) : Option va_E) = some (Sum.inr (9, [.int (sp_w0 w (xr_n w 0) t.1 t.2.1 t.2.2.1 (8 + 3 * xr_n w 0)), .int (sp_w0 w (xr_n w 0) t.1 t.2.1 t.2.2.1 (9 + 3 * xr_n w 0)), .int (sp_w0 w (xr_n w 0) t.1 t.2.1 t.2.2.1 (10 + 3 * xr_n w 0))]))
      unfold sp_w0
      rw [pk_un (show 8 + 3 * xr_n w 0 ≠ 3 by omega), pk_un (show 8 + 3 * xr_n w 0 ≠ 10 + 3 * xr_n w 0 by omega), pk_un (show 8 + 3 * xr_n w 0 ≠ 9 + 3 * xr_n w 0 by omega), pk_us, pk_un (show 9 + 3 * xr_n w 0 ≠ 3 by omega), pk_un (show 9 + 3 * xr_n w 0 ≠ 10 + 3 * xr_n w 0 by omega), pk_us, pk_un (show 10 + 3 * xr_n w 0 ≠ 3 by omega), pk_us]
    · have hj2 : j < xr_n w 0 := by
        by_cases c0 : i = 0
        · subst c0
          rw [en2] at hj
          omega
        · rw [eno 0 (by decide) (Ne.symm c0)] at hj
          exact hj
      have c9 : i = 0 → j ≠ xr_n w 0 := fun e q => c ⟨e.symm, by rw [q, e]⟩
      rw [pg 0 j c, q0 (8 + 3 * j) (by omega) (by omega) (by omega), q0 (9 + 3 * j) (by omega) (by omega) (by omega), q0 (10 + 3 * j) (by omega) (by omega) (by omega)]
      exact kr _ _ _ (H.r j hj2) (by decide) (by decide)
  · by_cases c : 1 = i ∧ j = xr_n w i
    · obtain ⟨rfl, rfl⟩ := c
      rw [px]
      refine gx.trans ?_
      show (some (Sum.inr (10, [.int t.1, .int t.2.1, .int t.2.2.1, .int t.2.2.2])) : Option va_E) = some (Sum.inr (10, [.int (sp_w1 w (xr_n w 1) t.1 t.2.1 t.2.2.1 t.2.2.2 (38 + 4 * xr_n w 1)), .int (sp_w1 w (xr_n w 1) t.1 t.2.1 t.2.2.1 t.2.2.2 (39 + 4 * xr_n w 1)), .int (sp_w1 w (xr_n w 1) t.1 t.2.1 t.2.2.1 t.2.2.2 (40 + 4 * xr_n w 1)), .int (sp_w1 w (xr_n w 1) t.1 t.2.1 t.2.2.1 t.2.2.2 (41 + 4 * xr_n w 1))]))
      unfold sp_w1
      rw [pk_un (show 38 + 4 * xr_n w 1 ≠ 4 by omega), pk_un (show 38 + 4 * xr_n w 1 ≠ 41 + 4 * xr_n w 1 by omega), pk_un (show 38 + 4 * xr_n w 1 ≠ 40 + 4 * xr_n w 1 by omega), pk_un (show 38 + 4 * xr_n w 1 ≠ 39 + 4 * xr_n w 1 by omega), pk_us, pk_un (show 39 + 4 * xr_n w 1 ≠ 4 by omega), pk_un (show 39 + 4 * xr_n w 1 ≠ 41 + 4 * xr_n w 1 by omega), pk_un (show 39 + 4 * xr_n w 1 ≠ 40 + 4 * xr_n w 1 by omega), pk_us, pk_un (show 40 + 4 * xr_n w 1 ≠ 4 by omega), pk_un (show 40 + 4 * xr_n w 1 ≠ 41 + 4 * xr_n w 1 by omega), pk_us, pk_un (show 41 + 4 * xr_n w 1 ≠ 4 by omega), pk_us]
    · have hj2 : j < xr_n w 1 := by
        by_cases c0 : i = 1
        · subst c0
          rw [en2] at hj
          omega
        · rw [eno 1 (by decide) (Ne.symm c0)] at hj
          exact hj
      have c9 : i = 1 → j ≠ xr_n w 1 := fun e q => c ⟨e.symm, by rw [q, e]⟩
      rw [pg 1 j c, q0 (38 + 4 * j) (by omega) (by omega) (by omega), q0 (39 + 4 * j) (by omega) (by omega) (by omega), q0 (40 + 4 * j) (by omega) (by omega) (by omega), q0 (41 + 4 * j) (by omega) (by omega) (by omega)]
      exact kr _ _ _ (H.j j hj2) (by decide) (by decide)
  · by_cases c : 2 = i ∧ j = xr_n w i
    · obtain ⟨rfl, rfl⟩ := c
      rw [px]
      refine gx.trans ?_
      show (some (Sum.inr (11, [.int t.1, .int t.2.1])) : Option va_E) = some (Sum.inr (11, [.int (sp_w2 w (xr_n w 2) t.1 t.2.1 (58 + 2 * xr_n w 2)), .int (sp_w2 w (xr_n w 2) t.1 t.2.1 (59 + 2 * xr_n w 2))]))
      unfold sp_w2
      rw [pk_un (show 58 + 2 * xr_n w 2 ≠ 5 by omega), pk_un (show 58 + 2 * xr_n w 2 ≠ 59 + 2 * xr_n w 2 by omega), pk_us, pk_un (show 59 + 2 * xr_n w 2 ≠ 5 by omega), pk_us]
    · have hj2 : j < xr_n w 2 := by
        by_cases c0 : i = 2
        · subst c0
          rw [en2] at hj
          omega
        · rw [eno 2 (by decide) (Ne.symm c0)] at hj
          exact hj
      have c9 : i = 2 → j ≠ xr_n w 2 := fun e q => c ⟨e.symm, by rw [q, e]⟩
      rw [pg 2 j c, q0 (58 + 2 * j) (by omega) (by omega) (by omega), q0 (59 + 2 * j) (by omega) (by omega) (by omega)]
      exact kr _ _ _ (H.s j hj2) (by decide) (by decide)
/-- the object's own ints change -/
theorem hR.own {kk : Nat → Nat} {dE : Nat → Nat} {h h2 : hG} {a : Nat} {G : XG} {w w2 : Nat → Int32} (HR : hR kk dE h a G w) (hw : ∀ q, q ≠ 0 → q ≠ 1 → q ≠ 2 → q ≠ 7 → w2 q = w q) (k : ∀ (b : Nat) (e : va_E), h b = some e → b ≠ a → (∀ fs, e ≠ .inr (7, fs)) → h2 b = some e)
    (go : h2 a = some (.inr (3, [.ref (G.1 7 0), .ref (G.1 7 1), .ref (G.1 7 2), .ref (G.1 7 3), .int (w2 0), .int (w2 1), .int (w2 2), .int (w2 7)]))) : hR kk dE h2 a G w2 := by
  obtain ⟨H, hc, hs⟩ := HR
  have en : ∀ i, i < 4 → xr_n w2 i = xr_n w i := fun i hi => by
    unfold xr_n
    rw [hw (3 + i) (by omega) (by omega) (by omega) (by omega)]
  have n0 := en 0 (by decide)
  have n1 := en 1 (by decide)
  have n2 := en 2 (by decide)
  have n3 := en 3 (by decide)
  have ob : ∀ {b ci : Nat} {fs : List Value}, h b = some (.inr (ci, fs)) → ci ≠ 3 → ci ≠ 7 → h2 b = some (.inr (ci, fs)) := fun hb h3 h7 => k _ _ hb (hne hb H.o (by simp; omega)) (by simp; omega)
  refine ⟨⟨go, fun i hi => ?_, fun i hi => k _ _ (H.d i hi) (hne (H.d i hi) H.o (by simp)) (by simp), fun i hi => ?_, fun j hj => ?_, fun j hj => ?_, fun j hj => ?_, fun j hj => ?_⟩, ⟨hc.c0, hc.c1, hc.c2, hc.c3, by rw [n3]; exact hc.n3⟩, ⟨hs.l, hs.d, fun i k hi hk => hs.r i k (by rw [← n0]; exact hi) (by rw [← n0]; exact hk)⟩⟩
  · rw [hw (3 + i) (by omega) (by omega) (by omega) (by omega)]
    exact ob (H.l i hi) (by decide) (by decide)
  · rw [en i hi, hw (3 + i) (by omega) (by omega) (by omega) (by omega)]
    exact H.n i hi
  · rw [n0] at hj
    rw [hw (8 + 3 * j) (by omega) (by omega) (by omega) (by omega), hw (9 + 3 * j) (by omega) (by omega) (by omega) (by omega), hw (10 + 3 * j) (by omega) (by omega) (by omega) (by omega)]
    exact ob (H.r j hj) (by decide) (by decide)
  · rw [n1] at hj
    rw [hw (38 + 4 * j) (by omega) (by omega) (by omega) (by omega), hw (39 + 4 * j) (by omega) (by omega) (by omega) (by omega), hw (40 + 4 * j) (by omega) (by omega) (by omega) (by omega), hw (41 + 4 * j) (by omega) (by omega) (by omega) (by omega)]
    exact ob (H.j j hj) (by decide) (by decide)
  · rw [n2] at hj
    rw [hw (58 + 2 * j) (by omega) (by omega) (by omega) (by omega), hw (59 + 2 * j) (by omega) (by omega) (by omega) (by omega)]
    exact ob (H.s j hj) (by decide) (by decide)
  · rw [n3] at hj
    rw [hw (68 + j) (by omega) (by omega) (by omega) (by omega)]
    exact ⟨fun c => ⟨ob ((H.a j hj).1 c).1 (by decide) (by decide), ob ((H.a j hj).1 c).2 (by decide) (by decide)⟩, fun c => ob ((H.a j hj).2 c) (by decide) (by decide)⟩
theorem hR.rdr {kk : Nat → Nat} {dE : Nat → Nat} {h h2 : hG} {a : Nat} {G : XG} {w : Nat → Int32} (HR : hR kk dE h a G w) (k : ∀ (b : Nat) (e : va_E), h b = some e → (∀ fs, e ≠ .inr (7, fs)) → h2 b = some e) : hR kk dE h2 a G w := HR.own (fun q _ _ _ _ => rfl) (fun b e hb _ hn => k b e hb hn) (k _ _ HR.1.o (by simp))
/-- where a reach goes to -/
theorem hR.to {kk : Nat → Nat} {dE : Nat → Nat} {h h2 : hG} {a : Nat} {G : XG} {w : Nat → Int32} {r : Nat} {v : Int32} (HR : hR kk dE h a G w) (hr0 : r < xr_n w 0) (k : ∀ (b : Nat) (e : va_E), h b = some e → b ≠ G.1 0 r → (∀ fs, e ≠ .inr (14, fs)) → h2 b = some e)
    (gr : h2 (G.1 0 r) = some (.inr (9, [.int v, .int (w (9 + 3 * r)), .int (w (10 + 3 * r))]))) : hR kk dE h2 a G (upd w (8 + 3 * r) v) := by
  obtain ⟨H, hc, hs⟩ := HR
  have hgr := H.r r hr0
  have hb := xw_bn ⟨H, hc, hs⟩
  have ob : ∀ {b : Nat} {e : va_E}, h b = some e → (∀ fs, e ≠ .inr (9, fs)) → (∀ fs, e ≠ .inr (14, fs)) → h2 b = some e := fun hb hn h14 => k _ _ hb (hne hb hgr (hn _)) h14
  have ev : ∀ i, i ≠ 8 + 3 * r → upd w (8 + 3 * r) v i = w i := fun i hi => pk_un hi
  have en : ∀ i, i < 4 → xr_n (upd w (8 + 3 * r) v) i = xr_n w i := fun i hi => by
    unfold xr_n
    rw [ev (3 + i) (by omega)]
  have n0 := en 0 (by decide)
  have n1 := en 1 (by decide)
  have n2 := en 2 (by decide)
  have n3 := en 3 (by decide)
  refine ⟨⟨?_, fun i hi => ?_, fun i hi => ob (H.d i hi) (by simp) (by simp), fun i hi => ?_, fun j hj => ?_, fun j hj => ?_, fun j hj => ?_, fun j hj => ?_⟩, ⟨hc.c0, hc.c1, hc.c2, hc.c3, by rw [n3]; exact hc.n3⟩, ⟨hs.l, hs.d, fun i k hi hk => hs.r i k (by rw [← n0]; exact hi) (by rw [← n0]; exact hk)⟩⟩
  · rw [ev 0 (by omega), ev 1 (by omega), ev 2 (by omega), ev 7 (by omega)]
    exact ob H.o (by simp) (by simp)
  · rw [ev (3 + i) (by omega)]
    exact ob (H.l i hi) (by simp) (by simp)
  · rw [en i hi, ev (3 + i) (by omega)]
    exact H.n i hi
  · rw [n0] at hj
    rw [ev (9 + 3 * j) (by omega), ev (10 + 3 * j) (by omega)]
    by_cases q : j = r
    · subst q
      rw [pk_us]
      exact gr
    · rw [ev (8 + 3 * j) (by omega)]
      exact k _ _ (H.r j hj) (hs.r j r hj hr0 q) (by simp)
  · rw [n1] at hj
    rw [ev (38 + 4 * j) (by omega), ev (39 + 4 * j) (by omega), ev (40 + 4 * j) (by omega), ev (41 + 4 * j) (by omega)]
    exact ob (H.j j hj) (by simp) (by simp)
  · rw [n2] at hj
    rw [ev (58 + 2 * j) (by omega), ev (59 + 2 * j) (by omega)]
    exact ob (H.s j hj) (by simp) (by simp)
  · rw [n3] at hj
    rw [ev (68 + j) (by omega)]
    exact ⟨fun c => ⟨ob ((H.a j hj).1 c).1 (by simp) (by simp), ob ((H.a j hj).1 c).2 (by simp) (by simp)⟩, fun c => ob ((H.a j hj).2 c) (by simp) (by simp)⟩
theorem hnw.add {h : hG} {a : Nat} {G : XG} {w : Nat → Int32} {i x : Nat} {m2 : Int32} {t : sQ} (N : hnw h a G w) (hi : i < 3) (hx : h x = none) (hb : xr_n w 0 ≤ 10 ∧ xr_n w 1 ≤ 5 ∧ xr_n w 2 ≤ 5) : hnw h a (putG G i (xr_n w i) x m2) (sp_w w i t) := by
  have pg : ∀ p q, p ≠ i → (putG G i (xr_n w i) x m2).1 p q = G.1 p q := fun p q hp => if_neg (fun c => hp c.1)
  refine ⟨N.o, fun q hq => ?_, fun q hq hp => ?_, fun j hj => ?_⟩
  · rw [pg 7 q (by omega)]
    exact N.l q hq
  · rw [pg 8 q (by omega)]
    exact N.d q hq hp
  · by_cases c : i = 0
    · subst c
      have en2 : xr_n (sp_w w 0 t) 0 = xr_n w 0 + 1 := by
        show (sp_w w 0 t (3 + 0)).toNatClampNeg = _
        rw [sp_w_n hi, nI_clamp (by omega)]
      rw [en2] at hj
      by_cases c2 : j = xr_n w 0
      · rw [show (putG G 0 (xr_n w 0) x m2).1 0 j = x from if_pos ⟨rfl, c2⟩]
        exact hx
      · rw [show (putG G 0 (xr_n w 0) x m2).1 0 j = G.1 0 j from if_neg (fun c => c2 c.2)]
        exact N.r j (by omega)
    · rw [pg 0 j (Ne.symm c)]
      have : xr_n (sp_w w i t) 0 = xr_n w 0 := by
        unfold xr_n
        rw [sp_w_lo hi (by omega) (by omega)]
      exact N.r j (by omega)
theorem hnw.row {h : hG} {a : Nat} {G : XG} {w w2 : Nat → Int32} (N : hnw h a G w) (e : xr_n w2 0 = xr_n w 0) : hnw h a G w2 := ⟨N.o, N.l, N.d, fun j hj => N.r j (by omega)⟩
theorem hR.itr {kk : Nat → Nat} {dE : Nat → Nat} {h h2 : hG} {a : Nat} {G : XG} {w : Nat → Int32} (HR : hR kk dE h a G w) (k : ∀ (b : Nat) (e : va_E), h b = some e → (∀ fs, e ≠ .inr (14, fs)) → h2 b = some e) : hR kk dE h2 a G w := by
  refine HR.keep (fun b e hb hx => ?_) (fun i hi => ?_) (fun i hi => ?_) (fun j hj => ?_)
  · obtain ⟨ci, fs, rfl, hx⟩ := hx
    exact k _ _ hb (by simp; omega)
  · exact (k _ _ (HR.1.l i hi) (by simp)).trans (HR.1.l i hi).symm
  · exact (k _ _ (HR.1.d i hi) (by simp)).trans (HR.1.d i hi).symm
  · exact (k _ _ (HR.1.r j hj) (by simp)).trans (HR.1.r j hj).symm
theorem f4_eq {α : Type} {F : Nat → α} {i : Nat} (hi : i < 3) : f4 (F 0) (F 1) (F 2) (F 0) i = F i := by
  rcases lt3 hi with rfl | rfl | rfl <;> rfl
theorem hnw_first {h : hG} {b l0 l1 l2 l3 d0 d1 d2 e : Nat} {m : Nat → Int32} {R J S T V : Nat → Nat} {F : Nat → Nat → Option Nat} (zb : h b = none) (y0 : h l0 = none) (y1 : h l1 = none) (y2 : h l2 = none) (y3 : h l3 = none) (z0 : h d0 = none) (z1 : h d1 = none) (z2 : h d2 = none) : hnw h b (mkG (f4 l0 l1 l2 l3) (f4 d0 d1 d2 e) R J S T V (f4 10 5 5 0) m F) (fun _ => 0) := by
  refine ⟨zb, fun i hi => ?_, fun i hi hp => ?_, fun j hj => absurd hj (Nat.not_lt_zero _)⟩
  · rcases lt4 hi with rfl | rfl | rfl | rfl
    · exact y0
    · exact y1
    · exact y2
    · exact y3
  · rcases lt4 hi with rfl | rfl | rfl | rfl
    · exact z0
    · exact z1
    · exact z2
    · exact absurd (show 0 < 0 from hp) (by decide)
