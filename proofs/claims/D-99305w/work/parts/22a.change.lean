set_option maxRecDepth 100000
/-! what a command changes: an act more, a reach, an image, another `now` -/
theorem hfr.hkp {kk : Nat → Nat} {h h2 : hG} (k : hfr h h2 []) : hkp kk h h2 := fun b e hb _ => k b e List.not_mem_nil hb
theorem XF.fr {kk : Nat → Nat} {dE : Nat → Nat} {h h2 : hG} {g : Nat → Nat} {z : MS} {G : XG} {S : XL} {p : PS} {M : XI} (X : XF kk dE h g z G S p M) (k : hfr h h2 []) : XF kk dE h2 g z G S p M := X.kp k.hkp (fun i q hq => k _ _ List.not_mem_nil (X.f i q hq))
theorem XF.n3 {kk : Nat → Nat} {dE : Nat → Nat} {h : hG} {g : Nat → Nat} {z : MS} {G : XG} {S : XL} {p : PS} {M : XI} (X : XF kk dE h g z G S p M) : p.1 0 6 = nI (xr_n (p.1 0) 3) ∧ xr_n (p.1 0) 3 ≤ 30 ∧ xr_n (p.1 0) 3 ≤ G.2.1 3 := ⟨(X.n.1.n 3 (by decide)).1, X.n.2.1.n3, (X.n.1.n 3 (by decide)).2.2.1⟩
/-- an act object of the number c -/
def hao (h : hG) (y r : Nat) (c : Int32) : Prop :=
  (100 ≤ c → h y = some (.inr (12, [.int (-1), .int (-1), .ref r])) ∧ h r = some (.inr (11, [.int (c - c / 100 * 100), .int (c / 100 - 1)]))) ∧
  (¬ 100 ≤ c → h y = some (.inr (12, [.int (c / 2), .int (c - c / 2 * 2), .null])))
theorem hao.kept {h h2 : hG} {y r : Nat} {c : Int32} (ha : hao h y r c) (k : ∀ (b : Nat) (ci : Nat) (fs : List Value), h b = some (.inr (ci, fs)) → ci = 11 ∨ ci = 12 → h2 b = some (.inr (ci, fs))) : hao h2 y r c :=
  ⟨fun q => ⟨k _ _ _ (ha.1 q).1 (by decide), k _ _ _ (ha.1 q).2 (by decide)⟩, fun q => k _ _ _ (ha.2 q) (by decide)⟩
theorem hao.el {h : hG} {y r : Nat} {c : Int32} (ha : hao h y r c) : hel h y := by
  by_cases q : 100 ≤ c
  · exact ⟨12, _, (ha.1 q).1, by omega, by omega⟩
  · exact ⟨12, _, ha.2 q, by omega, by omega⟩
theorem hao.ne {h : hG} {y r a : Nat} {c : Int32} {e : va_E} (ha : hao h y r c) (hb : h a = some e) (hn : ∀ fs, .inr (12, fs) ≠ e) : y ≠ a := by
  by_cases q : 100 ≤ c
  · exact hne (ha.1 q).1 hb (hn _)
  · exact hne (ha.2 q) hb (hn _)
def cx_add (p : PS) (n : Nat) (c : Int32) : PS := pset p (upd (upd (p.1 0) (68 + n) c) 6 (nI (n + 1)))
theorem XF.addact {kk : Nat → Nat} {dE : Nat → Nat} {h h2 : hG} {g : Nat → Nat} {z : MS} {G : XG} {S : XL} {p : PS} {M : XI} (X : XF kk dE h g z G S p M) (k : hka h h2 G) {n y r : Nat} {c : Int32} (en : n = xr_n (p.1 0) 3) (hy : hao h y r c) {m2 : Int32} {d2 cap2 : Nat} {f2 : Nat → Option Nat}
    (gl : h2 (G.1 7 3) = some (.inr (13, [.int m2, .ref d2, .int (nI (n + 1))]))) (gd : h2 d2 = some (.inl (kk 5, cap2, .inr (.inr (.inr (.inr f2)))))) (hfo : ∀ j, j < n → f2 j = G.2.2.2 3 j) (hfn : f2 n = some y) (hn : n < cap2) (hn30 : n < 30) (hcap : 10 ≤ cap2 ∧ cap2 ≤ 50)
    (hdd : d2 ≠ G.1 8 0 ∧ d2 ≠ G.1 8 1 ∧ d2 ≠ G.1 8 2) (hdi : d2 = G.1 8 3 ∧ 0 < G.2.1 3 ∨ h d2 = none) : ∃ G2, XF kk dE h2 g z G2 S (cx_add p n c) M := by
  have H := X.n.1
  have hl3 := H.l 3 (by decide)
  have hd3 := H.d 3 (by decide)
  have ob : ∀ {b ci : Nat} {fs : List Value}, h b = some (.inr (ci, fs)) → ci ≠ 13 → h2 b = some (.inr (ci, fs)) := fun hb hc => k _ _ (hne hb hl3 (by simp [hc])) (fun e => absurd e (hne hb hd3 (by simp))) hb
  have hn3 := H.n 3 (by decide)
  refine ⟨_, X.acts k (T := fun j => if j = n then y else G.1 3 j) (V := fun j => if j = n then r else G.1 4 j) gl gd (w2 := upd (upd (p.1 0) (68 + n) c) 6 (nI (n + 1))) (fun i h6 h68 => by rw [pk_un h6, pk_un (by omega)]) pk_us (by omega) (by omega) (Or.inr hcap) (fun j hj => ?_) (fun j hj => ?_) (fun _ => hdd) (fun _ => hdi)⟩
  · by_cases q : j = n
    · rw [if_pos q, q]
      exact hfn
    · rw [if_neg q, hfo j (by omega)]
      exact hn3.2.2.2 j (by omega)
  · have e3 : ∀ T V, (mkA G d2 cap2 m2 f2 T V).1 3 j = T j := fun T V => by
      show (if (3 = 8 ∧ j = 3) then d2 else _) = _
      rw [if_neg (by omega)]
      rfl
    have e4 : ∀ T V, (mkA G d2 cap2 m2 f2 T V).1 4 j = V j := fun T V => by
      show (if (4 = 8 ∧ j = 3) then d2 else _) = _
      rw [if_neg (by omega)]
      rfl
    unfold hact
    rw [e3, e4, pk_un (show 68 + j ≠ 6 by omega)]
    by_cases q : j = n
    · rw [if_pos q, if_pos q, q, pk_us]
      exact ⟨fun c9 => ⟨ob (hy.1 c9).1 (by decide), ob (hy.1 c9).2 (by decide)⟩, fun c9 => ob (hy.2 c9) (by decide)⟩
    · rw [if_neg q, if_neg q, pk_un (show 68 + j ≠ 68 + n by omega)]
      have ha := H.a j (by omega)
      exact ⟨fun c9 => ⟨ob (ha.1 c9).1 (by decide), ob (ha.1 c9).2 (by decide)⟩, fun c9 => ob (ha.2 c9) (by decide)⟩
/-- fewer acts: the first n2 of them -/
def cx_cut (p : PS) (n2 : Nat) : PS := pset p (upd (p.1 0) 6 (nI n2))
theorem XF.cutact {kk : Nat → Nat} {dE : Nat → Nat} {h h2 : hG} {g : Nat → Nat} {z : MS} {G : XG} {S : XL} {p : PS} {M : XI} (X : XF kk dE h g z G S p M) (k : hka h h2 G) {n2 : Nat} (en : n2 ≤ xr_n (p.1 0) 3) {m2 : Int32} {f2 : Nat → Option Nat}
    (gl : h2 (G.1 7 3) = some (.inr (13, [.int m2, .ref (G.1 8 3), .int (nI n2)]))) (gd : h2 (G.1 8 3) = some (.inl (kk 5, G.2.1 3, .inr (.inr (.inr (.inr f2)))))) (hfo : ∀ j, j < n2 → f2 j = G.2.2.2 3 j) : ∃ G2, XF kk dE h2 g z G2 S (cx_cut p n2) M := by
  have H := X.n.1
  have hl3 := H.l 3 (by decide)
  have hd3 := H.d 3 (by decide)
  have ob : ∀ {b ci : Nat} {fs : List Value}, h b = some (.inr (ci, fs)) → ci ≠ 13 → h2 b = some (.inr (ci, fs)) := fun hb hc => k _ _ (hne hb hl3 (by simp [hc])) (fun e => absurd e (hne hb hd3 (by simp))) hb
  have hn3 := H.n 3 (by decide)
  have hx3 := X.n3
  have hs := X.n.2.2
  refine ⟨_, X.acts k (T := fun j => G.1 3 j) (V := fun j => G.1 4 j) gl gd (w2 := upd (p.1 0) 6 (nI n2)) (fun i h6 h68 => pk_un h6) pk_us (by omega) (by omega) X.n.2.1.c3 (fun j hj => ?_) (fun j hj => ?_) (fun hp => ⟨hs.d 3 0 (by decide) (by decide) (by decide) hp, hs.d 3 1 (by decide) (by decide) (by decide) hp, hs.d 3 2 (by decide) (by decide) (by decide) hp⟩) (fun hp => Or.inl ⟨rfl, hp⟩)⟩
  · rw [hfo j hj]
    exact hn3.2.2.2 j (by omega)
  · have e3 : ∀ T V, (mkA G (G.1 8 3) (G.2.1 3) m2 f2 T V).1 3 j = T j := fun T V => by
      show (if (3 = 8 ∧ j = 3) then G.1 8 3 else _) = _
      rw [if_neg (by omega)]
      rfl
    have e4 : ∀ T V, (mkA G (G.1 8 3) (G.2.1 3) m2 f2 T V).1 4 j = V j := fun T V => by
      show (if (4 = 8 ∧ j = 3) then G.1 8 3 else _) = _
      rw [if_neg (by omega)]
      rfl
    unfold hact
    rw [e3, e4, pk_un (show 68 + j ≠ 6 by omega)]
    have ha := H.a j (by omega)
    exact ⟨fun c9 => ⟨ob (ha.1 c9).1 (by decide), ob (ha.1 c9).2 (by decide)⟩, fun c9 => ob (ha.2 c9) (by decide)⟩
/-- the list of acts changes, and its array where it holds something -/
theorem hka_1 {h h2 : hG} {G : XG} (k : hfr h h2 [G.1 7 3]) : hka h h2 G := fun b e h1 _ hb => k b e (nm1 h1) hb
theorem hka_2 {h h2 : hG} {G : XG} (hp : 0 < G.2.1 3) (k : hfr h h2 [G.1 7 3, G.1 8 3]) : hka h h2 G := fun b e h1 h2 hb => k b e (nm2 h1 (fun q => h2 q hp)) hb
theorem hka_3 {h h2 : hG} {G : XG} {x : va_E} (h1 : h (G.1 8 3) = some x) (hx : h2 (G.1 8 3) = some x) (k : hfr h h2 [G.1 7 3, G.1 8 3]) : hka h h2 G := fun b e n1 _ hb => by
  by_cases q : b = G.1 8 3
  · rw [q] at hb ⊢
    rw [hx, ← hb, h1]
  · exact k b e (nm2 n1 q) hb
/-- a reach's low -/
theorem XF.low {kk : Nat → Nat} {dE : Nat → Nat} {h h2 : hG} {g : Nat → Nat} {z : MS} {G : XG} {S : XL} {p : PS} {M : XI} (X : XF kk dE h g z G S p M) {r : Nat} {n : Int32} (hr0 : r < xr_n (p.1 0) 0) (k : hfr h h2 [G.1 0 r]) (gr : h2 (G.1 0 r) = some (.inr (9, [.int (p.1 0 (8 + 3 * r)), .int (p.1 0 (9 + 3 * r)), .int n]))) : XF kk dE h2 g z G S (pset p (upd (p.1 0) (10 + 3 * r) n)) M := by
  obtain ⟨H, hc, hs⟩ := X.n
  have hgr := H.r r hr0
  have b0 := (H.n 0 (by decide)).2.2.1
  rw [hc.c0] at b0
  have ob : ∀ {b : Nat} {e : va_E}, h b = some e → (∀ fs, e ≠ .inr (9, fs)) → h2 b = some e := fun hb hn => k _ _ (nm1 (hne hb hgr (hn _))) hb
  have ev : ∀ i, i ≠ 10 + 3 * r → upd (p.1 0) (10 + 3 * r) n i = p.1 0 i := fun i hi => pk_un hi
  have en : ∀ i, i < 4 → xr_n (upd (p.1 0) (10 + 3 * r) n) i = xr_n (p.1 0) i := fun i hi => by
    unfold xr_n
    rw [ev (3 + i) (by omega)]
  have n0 := en 0 (by decide)
  have n1 := en 1 (by decide)
  have n2 := en 2 (by decide)
  have n3 := en 3 (by decide)
  have b1 := (H.n 1 (by decide)).2.2.1
  have b2 := (H.n 2 (by decide)).2.2.1
  refine ⟨fun i q hq => ?_, ⟨⟨?_, fun i hi => ?_, fun i hi => ob (H.d i hi) (by simp), fun i hi => ?_, ?_, ?_, ?_, ?_⟩, ⟨hc.c0, hc.c1, hc.c2, hc.c3, by show xr_n (upd (p.1 0) (10 + 3 * r) n) 3 ≤ 30; rw [n3]; exact hc.n3⟩, ⟨hs.l, hs.d, fun i k h1 h2 => hs.r i k (by rw [← n0]; exact h1) (by rw [← n0]; exact h2)⟩⟩, ?_, ob X.sl (by simp), fun s h4 => ob (X.so s h4) (by simp), fun s h4 hm => ⟨(X.sh s h4 hm).1, ?_⟩, X.sd, ob X.im (by simp), fun i a hi ha => ?_, X.gi⟩
  · have h1 := X.f i q hq
    exact ob h1 (fun fs => hkx_o (kk := kk) (ci := 9) (by decide) g z i q hq)
  · show h2 (g 15) = some (.inr (3, [_, _, _, _, .int (upd (p.1 0) (10 + 3 * r) n 0), .int (upd (p.1 0) (10 + 3 * r) n 1), .int (upd (p.1 0) (10 + 3 * r) n 2), .int (upd (p.1 0) (10 + 3 * r) n 7)]))
    rw [ev 0 (by omega), ev 1 (by omega), ev 2 (by omega), ev 7 (by omega)]
    exact ob H.o (by simp)
  · show h2 (G.1 7 i) = some (.inr (13, [_, _, .int (upd (p.1 0) (10 + 3 * r) n (3 + i))]))
    rw [ev (3 + i) (by omega)]
    exact ob (H.l i hi) (by simp)
  · show upd (p.1 0) (10 + 3 * r) n (3 + i) = Int32.ofNat (xr_n (upd (p.1 0) (10 + 3 * r) n) i) ∧ xr_n (upd (p.1 0) (10 + 3 * r) n) i < _ ∧ xr_n (upd (p.1 0) (10 + 3 * r) n) i ≤ _ ∧ ∀ j, j < xr_n (upd (p.1 0) (10 + 3 * r) n) i → _
    rw [en i hi, ev (3 + i) (by omega)]
    exact H.n i hi
  · show ∀ j, j < xr_n (upd (p.1 0) (10 + 3 * r) n) 0 → h2 (G.1 0 j) = some (.inr (9, [.int (upd (p.1 0) (10 + 3 * r) n (8 + 3 * j)), .int (upd (p.1 0) (10 + 3 * r) n (9 + 3 * j)), .int (upd (p.1 0) (10 + 3 * r) n (10 + 3 * j))]))
    rw [n0]
    intro j hj
    rw [ev (8 + 3 * j) (by omega), ev (9 + 3 * j) (by omega)]
    by_cases q : j = r
    · subst q
      rw [pk_us]
      exact gr
    · rw [ev (10 + 3 * j) (by omega)]
      exact k _ _ (nm1 (hs.r j r hj hr0 q)) (H.r j hj)
  · show ∀ j, j < xr_n (upd (p.1 0) (10 + 3 * r) n) 1 → h2 (G.1 1 j) = some (.inr (10, [.int (upd (p.1 0) (10 + 3 * r) n (38 + 4 * j)), .int (upd (p.1 0) (10 + 3 * r) n (39 + 4 * j)), .int (upd (p.1 0) (10 + 3 * r) n (40 + 4 * j)), .int (upd (p.1 0) (10 + 3 * r) n (41 + 4 * j))]))
    rw [n1]
    intro j hj
    rw [ev (38 + 4 * j) (by omega), ev (39 + 4 * j) (by omega), ev (40 + 4 * j) (by omega), ev (41 + 4 * j) (by omega)]
    exact ob (H.j j hj) (by simp)
  · show ∀ j, j < xr_n (upd (p.1 0) (10 + 3 * r) n) 2 → h2 (G.1 2 j) = some (.inr (11, [.int (upd (p.1 0) (10 + 3 * r) n (58 + 2 * j)), .int (upd (p.1 0) (10 + 3 * r) n (59 + 2 * j))]))
    rw [n2]
    intro j hj
    rw [ev (58 + 2 * j) (by omega), ev (59 + 2 * j) (by omega)]
    exact ob (H.s j hj) (by simp)
  · show ∀ j, j < xr_n (upd (p.1 0) (10 + 3 * r) n) 3 → hact h2 G (upd (p.1 0) (10 + 3 * r) n (68 + j)) j
    rw [n3]
    intro j hj
    rw [ev (68 + j) (by omega)]
    exact ⟨fun c => ⟨ob ((H.a j hj).1 c).1 (by simp), ob ((H.a j hj).1 c).2 (by simp)⟩, fun c => ob ((H.a j hj).2 c) (by simp)⟩
  · obtain ⟨fE, he⟩ := X.e
    exact ⟨fE, ob he (by simp)⟩
  · obtain ⟨h60, e, h1, h3⟩ := X.sh s h4 hm
    refine ⟨e, h1, ob h3 ?_⟩
    rcases h1 with ⟨-, f, rfl, -⟩ | ⟨-, f, rfl, -⟩ | ⟨-, f, rfl, -⟩ | ⟨-, f, rfl, -⟩ <;> simp
  · obtain ⟨HI, hj⟩ := X.ii i a hi ha
    have HI0 := HI.1
    refine ⟨HI.keep (fun b e hb hx => ?_) (fun x hx => ?_) (fun x hx => ?_) (fun x hx => ?_), hj.l, hj.d, ?_⟩
    · obtain ⟨ci, fs, rfl, hx⟩ := hx
      exact ob hb (by simp; omega)
    · rw [HI0.l x hx]
      exact ob (HI0.l x hx) (by simp)
    · rw [HI0.d x hx]
      exact ob (HI0.d x hx) (by simp)
    · rw [HI0.r x hx]
      exact k _ _ (nm1 (hj.r r x hr0 hx).symm) (HI0.r x hx)
    · show ∀ i k, i < xr_n (upd (p.1 0) (10 + 3 * r) n) 0 → _
      rw [n0]
      exact hj.r
/-- an image -/
theorem hnw.dj {kk : Nat → Nat} {dE : Nat → Nat} {h : hG} {a b : Nat} {G G2 : XG} {w w2 : Nat → Int32} (H : hR kk dE h a G w) (N : hnw h b G2 w2) (H2d : ∀ i, i < 4 → G2.2.1 i = 0 → G2.1 8 i = dE 0) (hE : ∃ f : Nat → Option Nat, h (dE 0) = some (.inl (kk 5, 0, .inr (.inr (.inr (.inr f)))))) : hdj G w G2 w2 := by
  refine ⟨fun i k hi hk => hn_ne (H.1.l i hi) (N.l k hk), fun i k hi hk hp => ?_, fun i k hi hk => hn_ne (H.1.r i hi) (N.r k hk)⟩
  rcases Nat.eq_zero_or_pos (G2.2.1 k) with q | q
  · obtain ⟨f, he⟩ := hE
    rw [H2d k hk q]
    exact hne (H.1.d i hi) he (by simp; omega)
  · exact hn_ne (H.1.d i hi) (N.d k hk q)
theorem hcp.z {dE : Nat → Nat} {G : XG} {w : Nat → Int32} (c : hcp dE G w) : ∀ i, i < 4 → G.2.1 i = 0 → G.1 8 i = dE 0 := by
  intro i hi h0
  rcases lt4 hi with rfl | rfl | rfl | rfl
  · rw [c.c0] at h0; omega
  · rw [c.c1] at h0; omega
  · rw [c.c2] at h0; omega
  · rcases c.c3 with q | q
    · exact q.1
    · omega
theorem hdj.symm {G G2 : XG} {w w2 : Nat → Int32} {kk : Nat → Nat} {dE : Nat → Nat} {h : hG} {a : Nat} (H : hR kk dE h a G w) (d : hdj G w G2 w2) (N : ∀ i k, i < 4 → k < 4 → 0 < G2.2.1 i → G2.1 8 i ≠ G.1 8 k) : hdj G2 w2 G w := ⟨fun i k hi hk => (d.l k i hk hi).symm, N, fun i k hi hk => (d.r k i hk hi).symm⟩
theorem XF.image {kk : Nat → Nat} {dE : Nat → Nat} {h h1 h2 : hG} {g : Nat → Nat} {z : MS} {G : XG} {S : XL} {p : PS} {M : XI} (X : XF kk dE h g z G S p M) (k1 : hfr h h1 []) {i b : Nat} {G2 : XG} {w2 : Nat → Int32} (hi : i < 3) (H2 : hR kk dE h1 b G2 w2) (N : hnw h b G2 w2) (k2 : hfr h1 h2 [g 14]) (gi : h2 (g 14) = some (.inl (kk 6, 3, .inr (.inr (.inr (.inr (va_up M.1 i (some b)))))))) : XF kk dE h2 g z G S p (va_up M.1 i (some b), va_up M.2.1 i G2, va_up M.2.2 i w2) := by
  have X1 := X.fr k1
  have him := X1.im
  have ob : ∀ {c : Nat} {e : va_E}, h1 c = some e → (∀ f : Nat → Option Nat, e ≠ .inl (kk 6, 3, .inr (.inr (.inr (.inr f))))) → h2 c = some e := fun hb hn => k2 _ _ (nm1 (hne hb him (hn _))) hb
  have hcap : ∀ {dE : Nat → Nat} {G : XG} {w : Nat → Int32}, hcp dE G w → ∀ x, x < 4 → G.2.1 x ≠ 3 := fun c x hx => by
    rcases lt4 hx with rfl | rfl | rfl | rfl
    · rw [c.c0]; omega
    · rw [c.c1]; omega
    · rw [c.c2]; omega
    · rcases c.c3 with q | q <;> omega
  have hk : ∀ {a : Nat} {G : XG} {w : Nat → Int32}, hR kk dE h1 a G w → hR kk dE h2 a G w := fun H => by
    refine H.keep (fun b e hb hx => ?_) (fun x hx => ?_) (fun x hx => ?_) (fun x hx => ?_)
    · obtain ⟨ci, fs, rfl, hx⟩ := hx
      exact ob hb (by simp)
    · rw [H.1.l x hx]
      exact ob (H.1.l x hx) (by simp)
    · rw [H.1.d x hx]
      exact ob (H.1.d x hx) (fun f q => hcap H.2.1 x hx (by simp at q; exact q.2.1))
    · rw [H.1.r x hx]
      exact ob (H.1.r x hx) (by simp)
  refine ⟨fun j q hq => ob (X1.f j q hq) (fun f => hkx_q g z j q hq), hk X1.n, ?_, ?_, fun s h4 => ob (X1.so s h4) (by simp), fun s h4 hm => ⟨(X1.sh s h4 hm).1, ?_⟩, X1.sd, gi, fun j a hj ha => ?_, X1.gi⟩
  · obtain ⟨fE, he⟩ := X1.e
    exact ⟨fE, ob he (by simp)⟩
  · exact ob X1.sl (by simp)
  · obtain ⟨h60, e, h1', h3⟩ := X1.sh s h4 hm
    refine ⟨e, h1', ob h3 ?_⟩
    rcases h1' with ⟨-, f, rfl, -⟩ | ⟨-, f, rfl, -⟩ | ⟨-, f, rfl, -⟩ | ⟨-, f, rfl, -⟩ <;> simp
  · by_cases q : j = i
    · subst q
      have ha : va_up M.1 j (some b) j = some a := ha
      rw [va_up_self] at ha
      cases ha
      show hR kk dE h2 b (va_up M.2.1 j G2 j) (va_up M.2.2 j w2 j) ∧ hdj G (p.1 0) (va_up M.2.1 j G2 j) (va_up M.2.2 j w2 j)
      rw [va_up_self, va_up_self]
      exact ⟨hk H2, N.dj X.n H2.2.1.z X.e⟩
    · have ha : va_up M.1 i (some b) j = some a := ha
      rw [va_up_ne _ _ q] at ha
      show hR kk dE h2 a (va_up M.2.1 i G2 j) (va_up M.2.2 i w2 j) ∧ hdj G (p.1 0) (va_up M.2.1 i G2 j) (va_up M.2.2 i w2 j)
      rw [va_up_ne _ _ q, va_up_ne _ _ q]
      exact ⟨hk (X1.ii j a hj ha).1, (X1.ii j a hj ha).2⟩
/-- another `now`, all of it new; the component's ints and arrays may change besides -/
theorem XF.now {kk : Nat → Nat} {dE : Nat → Nat} {h h1 h2 : hG} {g : Nat → Nat} {z z2 : MS} {G : XG} {S : XL} {p : PS} {M : XI} (X : XF kk dE h g z G S p M) (k1 : hfr h h1 []) {b : Nat} {G2 : XG} {w2 : Nat → Int32} (H2 : hR kk dE h1 b G2 w2) (N : hnw h b G2 w2) (k2 : hkp kk h1 h2) (hf : ∀ (k : Nat) (q : Nat × va_E), (xw_f (va_up g 15 b) kk z2)[k]? = some q → h2 q.1 = some q.2) : XF kk dE h2 (va_up g 15 b) z2 G2 S (pset p w2) M := by
  have X1 := X.fr k1
  have g14 : va_up g 15 b 14 = g 14 := va_up_ne _ _ (by decide)
  have g13 : va_up g 15 b 13 = g 13 := va_up_ne _ _ (by decide)
  have g15 : va_up g 15 b 15 = b := va_up_self _ _ _
  refine ⟨hf, ?_, ?_, ?_, fun s hs => k2.o (X1.so s hs) (by decide), fun s hs hm => ⟨(X1.sh s hs hm).1, ?_⟩, X1.sd, ?_, fun i a hi ha => ⟨(X1.ii i a hi ha).1.kp k2, ?_⟩, fun i j hi hj e => ?_⟩
  · rw [g15]
    exact H2.kp k2
  · obtain ⟨fE, he⟩ := X1.e
    exact ⟨fE, k2.q he⟩
  · rw [g13]
    exact k2.q X1.sl
  · obtain ⟨h60, e, h1', h3⟩ := X1.sh s hs hm
    exact ⟨e, h1', k2 _ _ h3 (xs_arr_n h1' h60.2)⟩
  · rw [g14]
    exact k2.q X1.im
  · have HI := (X.ii i a hi ha).1
    refine (N.dj HI H2.2.1.z X.e).symm HI (fun x y hx hy hp => ?_)
    exact (hn_ne (HI.1.d y hy) (N.d x hx hp)).symm
  · rw [va_up_ne _ _ (show i ≠ 15 by omega), va_up_ne _ _ (show j ≠ 15 by omega)] at e
    exact X1.gi i j hi hj e
/-- what undo and anew answer, and the row behind them -/
def cx_undo (p : PS) : Int32 × PS := if pw p 7 ≤ 0 then (-2, p) else if pw p 6 = 0 then (-5, p) else (pw p 6 - 1, pset p (upd (p.1 0) 6 (pw p 6 - 1)))
def cx_anew (p : PS) : Int32 × PS := if pw p 7 ≤ 0 then (-2, p) else (pw p 6, pset p (upd (p.1 0) 6 (nI 0)))
theorem hR.el3 {kk : Nat → Nat} {dE : Nat → Nat} {h : hG} {a : Nat} {G : XG} {w : Nat → Int32} (H : hR kk dE h a G w) {i y : Nat} (hi : i < xr_n w 3) (hy : G.2.2.2 3 i = some y) : hel h y ∧ ∀ (b : Nat) (e : va_E), h b = some e → (∀ fs, .inr (12, fs) ≠ e) → y ≠ b := by
  rw [(H.1.n 3 (by decide)).2.2.2 i hi] at hy
  cases hy
  have ha := H.1.a i hi
  by_cases c : 100 ≤ w (68 + i)
  · exact ⟨⟨12, _, (ha.1 c).1, by omega, by omega⟩, fun b e hb hn => hne (ha.1 c).1 hb (hn _)⟩
  · exact ⟨⟨12, _, ha.2 c, by omega, by omega⟩, fun b e hb hn => hne (ha.2 c) hb (hn _)⟩
theorem ls_Gd : ∀ c : Fin 30, 10 ≤ c.1 → ls_G c.1 (c.1 + c.1 / 2) := by unfold ls_G; decide +kernel
theorem ls_Gx {cap : Nat} (h1 : 10 ≤ cap) (h2 : cap < 30) : ls_G cap (cap + cap / 2) := ls_Gd ⟨cap, h2⟩ h1
theorem xw_f_up {g kk : Nat → Nat} {z : MS} {b k : Nat} (hk : 0 < k) : (xw_f (va_up g 15 b) kk z)[k]? = (xw_f g kk z)[k]? := by
  rcases (show k = 1 ∨ k = 2 ∨ k = 3 ∨ k = 4 ∨ k = 5 ∨ k = 6 ∨ k = 7 ∨ k = 8 ∨ k = 9 ∨ k = 10 ∨ k = 11 ∨ k = 12 ∨ 13 ≤ k by omega) with rfl | rfl | rfl | rfl | rfl | rfl | rfl | rfl | rfl | rfl | rfl | rfl | h
  all_goals first | rfl | skip
  rw [List.getElem?_eq_none (by rw [xw_f_len]; exact h), List.getElem?_eq_none (by rw [xw_f_len]; exact h)]
theorem xf_now {kk : Nat → Nat} {h1 h2 : hG} {g : Nat → Nat} {z : MS} {b : Nat} (hf : ∀ (k : Nat) (q : Nat × va_E), (xw_f g kk z)[k]? = some q → h1 q.1 = some q.2) (gi : ∀ i j, i < 13 → j < 13 → g i = g j → i = j) (k2 : hfr h1 h2 [g 0]) (gx : h2 (g 0) = some (.inr (0, [.ref (g 13), .ref b, .ref (g 14), .ref (g 1), .int (mi z 0), .int (mi z 1), .int (mi z 2), .ref (g 2), .ref (g 5), .ref (g 7), .int (mi z 3), .ref (g 9), .int (mi z 4), .ref (g 11), .ref (g 12)]))) : hkp kk h1 h2 ∧ ∀ (k : Nat) (q : Nat × va_E), (xw_f (va_up g 15 b) kk z)[k]? = some q → h2 q.1 = some q.2 := by
  refine ⟨fun c e hc hx => k2 _ _ (nm1 (hx.ne hf hc 0 (by decide))) hc, fun k q hq => ?_⟩
  rcases Nat.eq_zero_or_pos k with c | c
  · subst c
    cases hq
    exact gx
  · rw [xw_f_up c] at hq
    have hg := xw_f_g hq
    refine k2 _ _ (nm1 (fun e => ?_)) (hf k q hq)
    rw [hg.2] at e
    have := gi k 0 hg.1 (by decide) e
    omega
/-- one fixed cell changes -/
theorem XF.set {kk : Nat → Nat} {dE : Nat → Nat} {h h2 : hG} {g : Nat → Nat} {z z2 : MS} {G : XG} {S : XL} {p : PS} {M : XI} (X : XF kk dE h g z G S p M) {q : Nat} {e : va_E} (hq : q < 13) (k : hfr h h2 [g q]) (gq : h2 (g q) = some e) (hs : (xw_f g kk z).set q (g q, e) = xw_f g kk z2) : XF kk dE h2 g z2 G S p M := by
  refine X.kp (fun b e hb hx => k _ _ (nm1 (hx.ne X.f hb q hq)) hb) (fun i y hy => ?_)
  rw [← hs] at hy
  have hl : i < 13 := by
    have := (List.getElem?_eq_some_iff.mp hy).1
    rw [List.length_set, xw_f_len] at this
    exact this
  by_cases c : i = q
  · subst c
    rw [List.getElem?_set_self (by rw [xw_f_len]; exact hl)] at hy
    cases hy
    exact gq
  · rw [List.getElem?_set_ne (Ne.symm c)] at hy
    have hg := xw_f_g hy
    refine k _ _ (nm1 (fun e => c ?_)) (X.f i y hy)
    rw [hg.2] at e
    exact X.gi i q hg.1 hq e
/-- what is fed: the k-th byte of five ints -/
def fd_v (f : Nat → Int32) (k : Nat) : Int32 := (f (nI k / 4).toNatClampNeg >>> ((24 - 8 * (nI k - nI k / 4 * 4)) &&& 31)).toInt8.toInt32
def fd_s (f : Nat → Int32) (z : MS) : Nat → MS
  | 0 => z
  | k + 1 => msa (fd_s f z k) 0 (mi z 0 + nI k) (vp_nar .byte (fd_v f k))
theorem fd_i {f : Nat → Int32} {z : MS} {k j : Nat} : mi (fd_s f z k) j = mi z j := by
  induction k with
  | zero => rfl
  | succ k ih => exact ih
theorem fd_in : ∀ k : Fin 20, vp_in (nI k.1 / 4) 5 := by unfold vp_in; decide
def fd_f (a b c d e : Int32) : Nat → Int32 := upd (upd (upd (upd (upd (fun _ => 0) (0 : Int32).toNatClampNeg a) (1 : Int32).toNatClampNeg b) (2 : Int32).toNatClampNeg c) (3 : Int32).toNatClampNeg d) (4 : Int32).toNatClampNeg e
def gI (l : List Nat) : Nat → Nat := fun k => l.getD k 0
theorem hR_first {kk : Nat → Nat} {dE : Nat → Nat} {h2 : hG} {b l0 l1 l2 l3 d0 d1 d2 : Nat} {w : Nat → Int32} {f0 f1 f2 fE : Nat → Option Nat} (hw : ∀ i, i < 98 → w i = 0) (hE : h2 (dE 0) = some (.inl (kk 5, 0, .inr (.inr (.inr (.inr fE))))))
    (gb : h2 b = some (.inr (3, [.ref l0, .ref l1, .ref l2, .ref l3, .int 0, .int 0, .int 0, .int 0]))) (g0 : h2 l0 = some (.inr (13, [.int 0, .ref d0, .int 0]))) (g1 : h2 l1 = some (.inr (13, [.int 0, .ref d1, .int 0]))) (g2 : h2 l2 = some (.inr (13, [.int 0, .ref d2, .int 0]))) (g3 : h2 l3 = some (.inr (13, [.int 0, .ref (dE 0), .int 0])))
    (e0 : h2 d0 = some (.inl (kk 5, 10, .inr (.inr (.inr (.inr f0)))))) (e1 : h2 d1 = some (.inl (kk 5, 5, .inr (.inr (.inr (.inr f1)))))) (e2 : h2 d2 = some (.inl (kk 5, 5, .inr (.inr (.inr (.inr f2))))))
    (p01 : l0 ≠ l1) (p02 : l0 ≠ l2) (p03 : l0 ≠ l3) (p12 : l1 ≠ l2) (p13 : l1 ≠ l3) (p23 : l2 ≠ l3) (r01 : d0 ≠ d1) (r02 : d0 ≠ d2) (r12 : d1 ≠ d2) (s0 : d0 ≠ dE 0) (s1 : d1 ≠ dE 0) (s2 : d2 ≠ dE 0) :
    hR kk dE h2 b (mkG (f4 l0 l1 l2 l3) (f4 d0 d1 d2 (dE 0)) (fun _ => 0) (fun _ => 0) (fun _ => 0) (fun _ => 0) (fun _ => 0) (f4 10 5 5 0) (fun _ => 0) (f4 f0 f1 f2 fE)) w := by
  have en : ∀ i, i < 4 → xr_n w i = 0 := fun i hi => by
    unfold xr_n
    rw [hw (3 + i) (by omega)]
    rfl
  have n0 := en 0 (by decide)
  have n1 := en 1 (by decide)
  have n2 := en 2 (by decide)
  have n3 := en 3 (by decide)
  refine ⟨⟨?_, ?_, ?_, ?_, ?_, ?_, ?_, ?_⟩, ⟨rfl, rfl, rfl, Or.inl ⟨rfl, rfl⟩, by omega⟩, ⟨?_, ?_, ?_⟩⟩
  · rw [hw 0 (by decide), hw 1 (by decide), hw 2 (by decide), hw 7 (by decide)]
    exact gb
  · intro i hi
    rw [hw (3 + i) (by omega)]
    rcases lt4 hi with rfl | rfl | rfl | rfl
    · exact g0
    · exact g1
    · exact g2
    · exact g3
  · intro i hi
    rcases lt4 hi with rfl | rfl | rfl | rfl
    · exact e0
    · exact e1
    · exact e2
    · exact hE
  · intro i hi
    rw [en i hi, hw (3 + i) (by omega)]
    exact ⟨rfl, by decide, Nat.zero_le _, fun j hj => absurd hj (by omega)⟩
  · rw [n0]; exact fun j hj => absurd hj (by omega)
  · rw [n1]; exact fun j hj => absurd hj (by omega)
  · rw [n2]; exact fun j hj => absurd hj (by omega)
  · rw [n3]; exact fun j hj => absurd hj (by omega)
  · intro i k hi hk hne
    rcases lt4 hi with rfl | rfl | rfl | rfl <;> rcases lt4 hk with rfl | rfl | rfl | rfl
    · exact absurd rfl hne
    · exact p01
    · exact p02
    · exact p03
    · exact p01.symm
    · exact absurd rfl hne
    · exact p12
    · exact p13
    · exact p02.symm
    · exact p12.symm
    · exact absurd rfl hne
    · exact p23
    · exact p03.symm
    · exact p13.symm
    · exact p23.symm
    · exact absurd rfl hne
  · intro i k hi hk hne _
    rcases lt4 hi with rfl | rfl | rfl | rfl <;> rcases lt4 hk with rfl | rfl | rfl | rfl
    · exact absurd rfl hne
    · exact r01
    · exact r02
    · exact s0
    · exact r01.symm
    · exact absurd rfl hne
    · exact r12
    · exact s1
    · exact r02.symm
    · exact r12.symm
    · exact absurd rfl hne
    · exact s2
    · exact s0.symm
    · exact s1.symm
    · exact s2.symm
    · exact absurd rfl hne
  · rw [n0]; exact fun i k hi => absurd hi (by omega)
theorem arrq_eq {cA : ClassId} {n : Nat} {f f2 : Nat → Option Nat} (he : ∀ j, j < n → f j = f2 j) : vp_cell cA (n, .inr (.inr (.inr (.inr f)))) = vp_cell cA (n, .inr (.inr (.inr (.inr f2)))) := by
  rw [vp_cell_q, vp_cell_q]
  unfold arrV
  congr 2
  funext j
  exact congrArg va_rf (he j.1 j.2)
theorem xs_four {t0 t1 t2 t3 : Nat} : ∀ j, j < 4 → (va_up (va_up (va_up (va_up (fun _ => none) (0 : Int32).toNatClampNeg (some t0)) (1 : Int32).toNatClampNeg (some t1)) (2 : Int32).toNatClampNeg (some t2)) (3 : Int32).toNatClampNeg (some t3) : Nat → Option Nat) j = some (f4 t0 t1 t2 t3 j) := by
  intro j hj
  rcases lt4 hj with rfl | rfl | rfl | rfl <;> rfl
theorem hh_same {E : gE} {nL : Nat} {D : va_G} {A : Nat → Prop} {h : hG} {ka na pc : Nat} {lo : List (Option Value)} {st : List Value} {a : Nat} {cA : ClassId} {n : Nat} {f f2 : Nat → Option Nat} (ha : h a = some (.inl (cA, n, .inr (.inr (.inr (.inr f)))))) (he : ∀ j, j < n → f j = f2 j) (k1 : ∀ h2, h2 = hu h a (.inl (cA, n, .inr (.inr (.inr (.inr f2))))) → ga_W E nL (hw_I E D A h2) ka na pc lo st) : ga_W E nL (hw_I E D A h) ka na pc lo st := fun H locs ls hI hL => k1 _ rfl H locs ls ⟨hI.1.redo (fun b e hb => by
  by_cases q : b = a
  · subst q
    exact ⟨_, hu_s⟩
  · exact ⟨e, by rw [hu_n q]; exact hb⟩) (fun b e hb => by
  by_cases q : b = a
  · subst q
    exact ⟨_, ha⟩
  · rw [hu_n q] at hb
    exact ⟨e, hb⟩) (fun b e hb => by
  by_cases q : b = a
  · subst q
    rw [hu_s] at hb
    cases hb
    have h1 := hI.1.at ha
    show H[b]? = some (vp_cell cA (n, .inr (.inr (.inr (.inr f2)))))
    rw [← arrq_eq he]
    exact h1
  · rw [hu_n q] at hb
    exact hI.1.at hb), hI.2⟩ hL
theorem xf_first {kk : Nat → Nat} {dE : Nat → Nat} {h2 : hG} {g : Nat → Nat} {z : MS} {p : PS} {l0 l1 l2 l3 d0 d1 d2 t0 t1 t2 t3 : Nat} {f0 f1 f2 : Nat → Option Nat} (hp0 : ∀ i, i < 98 → p.1 0 i = 0) (hp3 : ∀ s, s < 4 → pm p s = -1) (hf : ∀ (k : Nat) (q : Nat × va_E), (xw_f g kk z)[k]? = some q → h2 q.1 = some q.2) (gi : ∀ i j, i < 13 → j < 13 → g i = g j → i = j) (hE0 : ∃ fE : Nat → Option Nat, h2 (dE 0) = some (.inl (kk 5, 0, .inr (.inr (.inr (.inr fE))))))
    (gb : h2 (g 15) = some (.inr (3, [.ref l0, .ref l1, .ref l2, .ref l3, .int 0, .int 0, .int 0, .int 0]))) (g0 : h2 l0 = some (.inr (13, [.int 0, .ref d0, .int 0]))) (g1 : h2 l1 = some (.inr (13, [.int 0, .ref d1, .int 0]))) (g2 : h2 l2 = some (.inr (13, [.int 0, .ref d2, .int 0]))) (g3 : h2 l3 = some (.inr (13, [.int 0, .ref (dE 0), .int 0])))
    (e0 : h2 d0 = some (.inl (kk 5, 10, .inr (.inr (.inr (.inr f0)))))) (e1 : h2 d1 = some (.inl (kk 5, 5, .inr (.inr (.inr (.inr f1)))))) (e2 : h2 d2 = some (.inl (kk 5, 5, .inr (.inr (.inr (.inr f2))))))
    (p01 : l0 ≠ l1) (p02 : l0 ≠ l2) (p03 : l0 ≠ l3) (p12 : l1 ≠ l2) (p13 : l1 ≠ l3) (p23 : l2 ≠ l3) (r01 : d0 ≠ d1) (r02 : d0 ≠ d2) (r12 : d1 ≠ d2) (s0 : d0 ≠ dE 0) (s1 : d1 ≠ dE 0) (s2 : d2 ≠ dE 0)
    (gs : h2 (g 13) = some (.inl (kk 4, 4, .inr (.inr (.inr (.inr (fun i => some (f4 t0 t1 t2 t3 i)))))))) (gt0 : h2 t0 = some (.inr (2, [.null]))) (gt1 : h2 t1 = some (.inr (2, [.null]))) (gt2 : h2 t2 = some (.inr (2, [.null]))) (gt3 : h2 t3 = some (.inr (2, [.null])))
    (t01 : t0 ≠ t1) (t02 : t0 ≠ t2) (t03 : t0 ≠ t3) (t12 : t1 ≠ t2) (t13 : t1 ≠ t3) (t23 : t2 ≠ t3) (gim : h2 (g 14) = some (.inl (kk 6, 3, .inr (.inr (.inr (.inr (fun _ => none))))))) : ∃ G S, XF kk dE h2 g z G S p (fun _ => none, fun _ => G, fun _ _ => 0) := by
  obtain ⟨fE, hE⟩ := hE0
  refine ⟨_, (f4 t0 t1 t2 t3, fun _ => 0), ⟨hf, hR_first hp0 hE gb g0 g1 g2 g3 e0 e1 e2 p01 p02 p03 p12 p13 p23 r01 r02 r12 s0 s1 s2, ⟨fE, hE⟩, ?_, ?_, ?_, ?_, gim, ?_, gi⟩⟩
  · exact gs
  · intro s hs
    unfold xs_held
    rw [if_pos (hp3 s hs)]
    rcases lt4 hs with rfl | rfl | rfl | rfl
    · exact gt0
    · exact gt1
    · exact gt2
    · exact gt3
  · intro s hs hm
    exact absurd (hp3 s hs) hm
  · intro s t hs ht hne
    refine ⟨?_, fun hm => absurd (hp3 s hs) hm⟩
    rcases lt4 hs with rfl | rfl | rfl | rfl <;> rcases lt4 ht with rfl | rfl | rfl | rfl
    · exact absurd rfl hne
    · exact t01
    · exact t02
    · exact t03
    · exact t01.symm
    · exact absurd rfl hne
    · exact t12
    · exact t13
    · exact t02.symm
    · exact t12.symm
    · exact absurd rfl hne
    · exact t23
    · exact t03.symm
    · exact t13.symm
    · exact t23.symm
    · exact absurd rfl hne
  · intro k a _ ha
    cases ha
