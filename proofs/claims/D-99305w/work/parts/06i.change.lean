set_option maxRecDepth 100000
/-! what a command changes -/
/-- another list of acts -/
def mkA (G : XG) (d2 cap2 : Nat) (m2 : Int32) (f2 : Nat → Option Nat) (T V : Nat → Nat) : XG :=
  (fun i j => if i = 8 ∧ j = 3 then d2 else if i = 3 then T j else if i = 4 then V j else G.1 i j, fun i => if i = 3 then cap2 else G.2.1 i, fun i => if i = 3 then m2 else G.2.2.1 i, fun i => if i = 3 then f2 else G.2.2.2 i)
/-- what stays when the acts change: all but their list and its array -/
def hka (h h2 : hG) (G : XG) : Prop := ∀ (b : Nat) (e : va_E), b ≠ G.1 7 3 → (b = G.1 8 3 → ¬ 0 < G.2.1 3) → h b = some e → h2 b = some e
theorem hR.acts {kk : Nat → Nat} {dE : Nat → Nat} {h h2 : hG} {a : Nat} {G : XG} {w w2 : Nat → Int32} (HR : hR kk dE h a G w) (k : hka h h2 G) {m2 : Int32} {d2 cap2 n2 : Nat} {f2 : Nat → Option Nat} {T V : Nat → Nat}
    (gl : h2 (G.1 7 3) = some (.inr (13, [.int m2, .ref d2, .int (nI n2)]))) (gd : h2 d2 = some (.inl (kk 5, cap2, .inr (.inr (.inr (.inr f2)))))) (hw : ∀ i, i ≠ 6 → i < 68 → w2 i = w i) (hw6 : w2 6 = nI n2) (hn2 : n2 ≤ cap2) (hn30 : n2 ≤ 30) (hcap : (d2 = dE 0 ∧ cap2 = 0) ∨ (10 ≤ cap2 ∧ cap2 ≤ 50))
    (hT : ∀ j, j < n2 → f2 j = some (T j)) (hV : ∀ j, j < n2 → hact h2 (mkA G d2 cap2 m2 f2 T V) (w2 (68 + j)) j) (hdd : 0 < cap2 → d2 ≠ G.1 8 0 ∧ d2 ≠ G.1 8 1 ∧ d2 ≠ G.1 8 2) : hR kk dE h2 a (mkA G d2 cap2 m2 f2 T V) w2 := by
  obtain ⟨H, hc, hs⟩ := HR
  have hn3 := H.l 3 (by decide)
  have hd3 := H.d 3 (by decide)
  have en3 : xr_n w2 3 = n2 := by
    unfold xr_n
    rw [show 3 + 3 = 6 from rfl, hw6, nI_clamp (by omega)]
  have en : ∀ i, i < 3 → xr_n w2 i = xr_n w i := fun i hi => by
    unfold xr_n
    rw [hw (3 + i) (by omega) (by omega)]
  have ob : ∀ {b ci : Nat} {fs : List Value}, h b = some (.inr (ci, fs)) → ci ≠ 13 → h2 b = some (.inr (ci, fs)) := fun hb hc => k _ _ (hne hb hn3 (by simp [hc])) (fun e => absurd e (hne hb hd3 (by simp))) hb
  have n0 := en 0 (by decide)
  have n1 := en 1 (by decide)
  have nn2 := en 2 (by decide)
  have bn0 := (H.n 0 (by decide)).2.2.1
  have bn1 := (H.n 1 (by decide)).2.2.1
  have bn2 := (H.n 2 (by decide)).2.2.1
  rw [hc.c0] at bn0
  rw [hc.c1] at bn1
  rw [hc.c2] at bn2
  refine ⟨⟨?_, ?_, ?_, ?_, ?_, ?_, ?_, ?_⟩, ⟨hc.c0, hc.c1, hc.c2, hcap, by rw [en3]; exact hn30⟩, ⟨hs.l, ?_, ?_⟩⟩
  · rw [hw 0 (by decide) (by decide), hw 1 (by decide) (by decide), hw 2 (by decide) (by decide), hw 7 (by decide) (by decide)]
    exact ob H.o (by decide)
  · intro i hi
    by_cases c : i = 3
    · subst c
      show h2 (G.1 7 3) = some (.inr (13, [.int m2, .ref d2, .int (w2 6)]))
      rw [hw6]
      exact gl
    · have h8 : (mkA G d2 cap2 m2 f2 T V).1 8 i = G.1 8 i := by
        show (if (8 = 8 ∧ i = 3) then d2 else _) = _
        rw [if_neg (by omega)]
        rfl
      have hm : (mkA G d2 cap2 m2 f2 T V).2.2.1 i = G.2.2.1 i := if_neg c
      rw [h8, hm, hw (3 + i) (by omega) (by omega)]
      exact k _ _ (hs.l i 3 hi (by decide) c) (fun e => absurd e (hne (H.l i hi) hd3 (by simp))) (H.l i hi)
  · intro i hi
    by_cases c : i = 3
    · subst c
      exact gd
    · have h8 : (mkA G d2 cap2 m2 f2 T V).1 8 i = G.1 8 i := by
        show (if (8 = 8 ∧ i = 3) then d2 else _) = _
        rw [if_neg (by omega)]
        rfl
      have hm : (mkA G d2 cap2 m2 f2 T V).2.1 i = G.2.1 i := if_neg c
      have hf : (mkA G d2 cap2 m2 f2 T V).2.2.2 i = G.2.2.2 i := if_neg c
      rw [h8, hm, hf]
      refine k _ _ (hne (H.d i hi) hn3 (by simp)) (fun e hp => ?_) (H.d i hi)
      exact hs.d 3 i (by decide) hi (Ne.symm c) hp e.symm
  · intro i hi
    by_cases c : i = 3
    · subst c
      rw [en3]
      exact ⟨hw6, by omega, hn2, hT⟩
    · have hm : (mkA G d2 cap2 m2 f2 T V).2.1 i = G.2.1 i := if_neg c
      have hf : (mkA G d2 cap2 m2 f2 T V).2.2.2 i = G.2.2.2 i := if_neg c
      rw [en i (by omega), hm, hf, hw (3 + i) (by omega) (by omega)]
      refine ⟨(H.n i hi).1, (H.n i hi).2.1, (H.n i hi).2.2.1, fun j hj => ?_⟩
      have h1 : (mkA G d2 cap2 m2 f2 T V).1 i j = G.1 i j := by
        show (if (i = 8 ∧ j = 3) then d2 else if i = 3 then T j else if i = 4 then V j else G.1 i j) = _
        rw [if_neg (by omega), if_neg c, if_neg (by omega)]
      rw [h1]
      exact (H.n i hi).2.2.2 j hj
  · rw [n0]
    intro j hj
    rw [hw (8 + 3 * j) (by omega) (by omega), hw (9 + 3 * j) (by omega) (by omega), hw (10 + 3 * j) (by omega) (by omega)]
    exact ob (H.r j hj) (by decide)
  · rw [n1]
    intro j hj
    rw [hw (38 + 4 * j) (by omega) (by omega), hw (39 + 4 * j) (by omega) (by omega), hw (40 + 4 * j) (by omega) (by omega), hw (41 + 4 * j) (by omega) (by omega)]
    exact ob (H.j j hj) (by decide)
  · rw [nn2]
    intro j hj
    rw [hw (58 + 2 * j) (by omega) (by omega), hw (59 + 2 * j) (by omega) (by omega)]
    exact ob (H.s j hj) (by decide)
  · rw [en3]
    exact hV
  · intro i m hi hm hne2 hp
    have ev : ∀ x, x ≠ 3 → (mkA G d2 cap2 m2 f2 T V).1 8 x = G.1 8 x := fun x hx => by
      show (if (8 = 8 ∧ x = 3) then d2 else _) = _
      rw [if_neg (by omega)]
      rfl
    have e3 : (mkA G d2 cap2 m2 f2 T V).1 8 3 = d2 := rfl
    have ndx : ∀ x, x < 4 → x ≠ 3 → 0 < cap2 → d2 ≠ G.1 8 x := fun x hx h3 hp => by
      rcases (show x = 0 ∨ x = 1 ∨ x = 2 by omega) with rfl | rfl | rfl
      · exact (hdd hp).1
      · exact (hdd hp).2.1
      · exact (hdd hp).2.2
    by_cases c1 : i = 3
    · subst c1
      rw [e3, ev m (Ne.symm hne2)]
      exact ndx m hm (Ne.symm hne2) hp
    · have hp2 : 0 < G.2.1 i := by
        rw [show (mkA G d2 cap2 m2 f2 T V).2.1 i = G.2.1 i from if_neg c1] at hp
        exact hp
      by_cases c2 : m = 3
      · subst c2
        rw [e3, ev i c1]
        rcases Nat.eq_zero_or_pos cap2 with q | q
        · intro e
          rcases hcap with z | z
          · have h1 := k _ _ (hne (H.d i hi) hn3 (by simp)) (fun e hp3 => hs.d 3 i (by decide) hi (Ne.symm c1) hp3 e.symm) (H.d i hi)
            rw [e, gd] at h1
            have h2 := Option.some.inj h1
            simp at h2
            omega
          · omega
        · exact (ndx i hi c1 q).symm
      · rw [ev i c1, ev m c2]
        exact hs.d i m hi hm hne2 hp2
  · rw [n0]
    exact hs.r
/-- the row of `now` -/
def pset (p : PS) (w : Nat → Int32) : PS := (fun k => if k = 0 then w else p.1 k, p.2)
theorem hR.keep {kk : Nat → Nat} {dE : Nat → Nat} {h h2 : hG} {a : Nat} {G : XG} {w : Nat → Int32} (H : hR kk dE h a G w) (k : ∀ (b : Nat) (e : va_E), h b = some e → (∃ ci fs, e = .inr (ci, fs) ∧ (ci = 3 ∨ ci = 10 ∨ ci = 11 ∨ ci = 12)) → h2 b = some e) (kl : ∀ i, i < 4 → h2 (G.1 7 i) = h (G.1 7 i)) (kd : ∀ i, i < 4 → h2 (G.1 8 i) = h (G.1 8 i)) (kr : ∀ j, j < xr_n w 0 → h2 (G.1 0 j) = h (G.1 0 j)) : hR kk dE h2 a G w := by
  obtain ⟨H, hc, hs⟩ := H
  have ob : ∀ {b ci : Nat} {fs : List Value}, h b = some (.inr (ci, fs)) → ci = 3 ∨ ci = 10 ∨ ci = 11 ∨ ci = 12 → h2 b = some (.inr (ci, fs)) := fun hb hc => k _ _ hb ⟨_, _, rfl, hc⟩
  exact ⟨⟨ob H.o (by decide), fun i hi => (kl i hi).trans (H.l i hi), fun i hi => (kd i hi).trans (H.d i hi), H.n, fun j hj => (kr j hj).trans (H.r j hj), fun j hj => ob (H.j j hj) (by decide), fun j hj => ob (H.s j hj) (by decide), fun j hj => ⟨fun c => ⟨ob ((H.a j hj).1 c).1 (by decide), ob ((H.a j hj).1 c).2 (by decide)⟩, fun c => ob ((H.a j hj).2 c) (by decide)⟩⟩, hc, hs⟩
theorem XF.acts {kk : Nat → Nat} {dE : Nat → Nat} {h h2 : hG} {g : Nat → Nat} {z : MS} {G : XG} {S : XL} {p : PS} {M : XI} (X : XF kk dE h g z G S p M) (k : hka h h2 G) {w2 : Nat → Int32} {m2 : Int32} {d2 cap2 n2 : Nat} {f2 : Nat → Option Nat} {T V : Nat → Nat}
    (gl : h2 (G.1 7 3) = some (.inr (13, [.int m2, .ref d2, .int (nI n2)]))) (gd : h2 d2 = some (.inl (kk 5, cap2, .inr (.inr (.inr (.inr f2)))))) (hw : ∀ i, i ≠ 6 → i < 68 → w2 i = p.1 0 i) (hw6 : w2 6 = nI n2) (hn2 : n2 ≤ cap2) (hn30 : n2 ≤ 30) (hcap : (d2 = dE 0 ∧ cap2 = 0) ∨ (10 ≤ cap2 ∧ cap2 ≤ 50))
    (hT : ∀ j, j < n2 → f2 j = some (T j)) (hV : ∀ j, j < n2 → hact h2 (mkA G d2 cap2 m2 f2 T V) (w2 (68 + j)) j) (hdd : 0 < cap2 → d2 ≠ G.1 8 0 ∧ d2 ≠ G.1 8 1 ∧ d2 ≠ G.1 8 2) (hdi : 0 < cap2 → d2 = G.1 8 3 ∧ 0 < G.2.1 3 ∨ h d2 = none) : XF kk dE h2 g z (mkA G d2 cap2 m2 f2 T V) S (pset p w2) M := by
  obtain ⟨HR, hc, hs⟩ := X.n
  have hl3 := HR.l 3 (by decide)
  have hd3 := HR.d 3 (by decide)
  have ob : ∀ {b ci : Nat} {fs : List Value}, h b = some (.inr (ci, fs)) → ci ≠ 13 → h2 b = some (.inr (ci, fs)) := fun hb hc => k _ _ (hne hb hl3 (by simp [hc])) (fun e => absurd e (hne hb hd3 (by simp))) hb
  have ar : ∀ {b : Nat} {x : ClassId × vp_A}, h b = some (.inl x) → (0 < G.2.1 3 → b ≠ G.1 8 3) → h2 b = some (.inl x) := fun hb hc => k _ _ (hne hb hl3 (by simp)) (fun e hp => hc hp e) hb
  have en0 : xr_n w2 0 = xr_n (p.1 0) 0 := by
    unfold xr_n
    rw [hw 3 (by omega) (by omega)]
  refine ⟨fun i q hq => ?_, X.n.acts k gl gd hw hw6 hn2 hn30 hcap hT hV hdd, ?_, ar X.sl (fun _ => ?_), fun s hs2 => ob (X.so s hs2) (by decide), fun s hs2 hm => ⟨(X.sh s hs2 hm).1, ?_⟩, X.sd, ?_, fun i a hi ha => ?_, X.gi⟩
  · have h1 := X.f i q hq
    have hk1 := hkx_o (kk := kk) (ci := 13) (fs := [.int (G.2.2.1 3), .ref (G.1 8 3), .int (p.1 0 (3 + 3))]) (by decide)
    have hk2 := hkx_q (kk := kk) (c := kk 5) (n := G.2.1 3) (f := G.2.2.2 3)
    exact k _ _ (hne h1 hl3 (hk1 g z i q hq)) (fun e => absurd e (hne h1 hd3 (hk2 g z i q hq))) h1
  · obtain ⟨fE, he⟩ := X.e
    exact ⟨fE, ar he (fun hp => hne he hd3 (by simp; omega))⟩
  · exact hne X.sl hd3 (by
      intro e
      have h1 := (X.so 0 (by decide))
      simp at e
      obtain ⟨-, e2, e3⟩ := e
      have : G.2.2.2 3 = fun i => some (S.1 i) := e3.symm
      rcases hc.c3 with q | q <;> omega)
  · obtain ⟨h60, e, h1, h2'⟩ := X.sh s hs2 hm
    refine ⟨e, h1, ?_⟩
    rcases h1 with ⟨-, f, rfl, -⟩ | ⟨-, f, rfl, -⟩ | ⟨-, f, rfl, -⟩ | ⟨-, f, rfl, -⟩ <;> exact ar h2' (fun _ => hne h2' hd3 (by simp))
  · exact ar X.im (fun hp => hne X.im hd3 (by
      intro e
      simp at e
      rcases hc.c3 with q | q <;> omega))
  · obtain ⟨HI, hj⟩ := X.ii i a hi ha
    have HI0 := HI.1
    refine ⟨HI.keep (fun b e hb hx => ?_) (fun x hx => ?_) (fun x hx => ?_) (fun x hx => ?_), hj.l, fun x y hx hy hp => ?_, fun x y hx hy => ?_⟩
    · obtain ⟨ci, fs, rfl, hx⟩ := hx
      exact ob hb (by omega)
    · rw [HI0.l x hx]
      exact k _ _ (hj.l 3 x (by decide) hx).symm (fun e => absurd e (hne (HI0.l x hx) hd3 (by simp))) (HI0.l x hx)
    · rw [HI0.d x hx]
      exact ar (HI0.d x hx) (fun hp => (hj.d 3 x (by decide) hx hp).symm)
    · rw [HI0.r x hx]
      exact ob (HI0.r x hx) (by decide)
    · by_cases c : x = 3
      · subst c
        show d2 ≠ _
        rcases hdi hp with ⟨q, hp3⟩ | q
        · rw [q]
          exact hj.d 3 y (by decide) hy hp3
        · exact (hn_ne (HI0.d y hy) q).symm
      · have ev : (mkA G d2 cap2 m2 f2 T V).1 8 x = G.1 8 x := by
          show (if (8 = 8 ∧ x = 3) then d2 else _) = _
          rw [if_neg (by omega)]
          rfl
        rw [ev]
        rw [show (mkA G d2 cap2 m2 f2 T V).2.1 x = G.2.1 x from if_neg c] at hp
        exact hj.d x y hx hy hp
    · rw [show xr_n ((pset p w2).1 0) 0 = xr_n (p.1 0) 0 from en0] at hx
      exact hj.r x y hx hy
