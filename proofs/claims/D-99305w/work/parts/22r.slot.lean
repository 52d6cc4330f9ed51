set_option maxRecDepth 100000
/-! a slot changes -/
theorem XF.slot {kk : Nat → Nat} {dE : Nat → Nat} {h h2 : hG} {g : Nat → Nat} {z : MS} {G : XG} {S : XL} {p : PS} {M : XI} (X : XF kk dE h g z G S p M) {s : Nat} (hs : s < 4) {S2 : XL} {p2 : PS} (k : ∀ (b : Nat) (e : va_E), h b = some e → b ≠ S.1 s → (pm p s ≠ -1 → b ≠ S.2 s) → h2 b = some e)
    (e0 : p2.1 0 = p.1 0) (eo : ∀ t, t < 4 → t ≠ s → pm p2 t = pm p t ∧ pd p2 t = pd p t ∧ ∀ i, i < 60 → pn p2 (60 * t + i) = pn p (60 * t + i)) (s1 : S2.1 = S.1) (s2 : ∀ t, t < 4 → t ≠ s → S2.2 t = S.2 t)
    (hso : h2 (S.1 s) = some (.inr (2, [xs_held S2 p2 s]))) (hsh : pm p2 s ≠ -1 → (pm p2 s = Int32.ofNat (pm p2 s).toNatClampNeg ∧ (pm p2 s).toNatClampNeg ≤ 60) ∧ ∃ e, xs_arr kk (pm p2 s).toNatClampNeg (pd p2 s) (fun i => pn p2 (60 * s + i)) e ∧ h2 (S2.2 s) = some e)
    (hsd : pm p2 s ≠ -1 → ∀ t, t < 4 → t ≠ s → pm p t ≠ -1 → S2.2 s ≠ S.2 t) : XF kk dE h2 g z G S2 p2 M := by
  have hslot := X.so s hs
  have harr : ∀ e, h (S.2 s) = some e → pm p s ≠ -1 → ∃ n, n ≤ 60 ∧ ∃ d num, xs_arr kk n d num e := fun e he hm => by
    obtain ⟨h60, e1, h1, h3⟩ := X.sh s hs hm
    rw [he] at h3
    cases h3
    exact ⟨_, h60.2, _, _, h1⟩
  have ob : ∀ {b ci : Nat} {fs : List Value}, h b = some (.inr (ci, fs)) → ci ≠ 2 → h2 b = some (.inr (ci, fs)) := fun hb hc => k _ _ hb (hne hb hslot (by simp [hc])) (fun hm => by
    obtain ⟨h60, e1, h1, h3⟩ := X.sh s hs hm
    refine hne hb h3 ?_
    rcases h1 with ⟨-, f, rfl, -⟩ | ⟨-, f, rfl, -⟩ | ⟨-, f, rfl, -⟩ | ⟨-, f, rfl, -⟩ <;> simp)
  have oq : ∀ {b : Nat} {c : ClassId} {n : Nat} {f : Nat → Option Nat}, h b = some (.inl (c, n, .inr (.inr (.inr (.inr f))))) → h2 b = some (.inl (c, n, .inr (.inr (.inr (.inr f))))) := fun hb => k _ _ hb (hne hb hslot (by simp)) (fun hm => by
    obtain ⟨h60, e1, h1, h3⟩ := X.sh s hs hm
    refine hne hb h3 ?_
    rcases h1 with ⟨-, f, rfl, -⟩ | ⟨-, f, rfl, -⟩ | ⟨-, f, rfl, -⟩ | ⟨-, f, rfl, -⟩ <;> simp)
  have hk : ∀ {a : Nat} {G : XG} {w : Nat → Int32}, hR kk dE h a G w → hR kk dE h2 a G w := fun H => by
    refine H.keep (fun b e hb hx => ?_) (fun x hx => ?_) (fun x hx => ?_) (fun x hx => ?_)
    · obtain ⟨ci, fs, rfl, hx⟩ := hx
      exact ob hb (by omega)
    · rw [H.1.l x hx]
      exact ob (H.1.l x hx) (by decide)
    · rw [H.1.d x hx]
      exact oq (H.1.d x hx)
    · rw [H.1.r x hx]
      exact ob (H.1.r x hx) (by decide)
  refine ⟨fun i q hq => ?_, by rw [e0]; exact hk X.n, ?_, ?_, fun t ht => ?_, fun t ht hm => ?_, fun t u ht hu htu => ?_, oq X.im, fun i a hi ha => ?_, X.gi⟩
  · have h1 := X.f i q hq
    refine k _ _ h1 (hne h1 hslot (hkx_o (kk := kk) (ci := 2) (by decide) g z i q hq)) (fun hm => ?_)
    obtain ⟨h60, e1, h3, h4⟩ := X.sh s hs hm
    exact hne h1 h4 (xs_arr_n h3 h60.2 g z i q hq)
  · obtain ⟨fE, he⟩ := X.e
    exact ⟨fE, oq he⟩
  · rw [s1]
    exact oq X.sl
  · rw [s1]
    by_cases c : t = s
    · rw [c]
      exact hso
    · have hx : xs_held S2 p2 t = xs_held S p t := by
        unfold xs_held
        rw [(eo t ht c).1, s2 t ht c]
      rw [hx]
      exact k _ _ (X.so t ht) (X.sd t s ht hs c).1 (fun hm => by
        obtain ⟨h60, e1, h1, h3⟩ := X.sh s hs hm
        refine hne (X.so t ht) h3 ?_
        rcases h1 with ⟨-, f, rfl, -⟩ | ⟨-, f, rfl, -⟩ | ⟨-, f, rfl, -⟩ | ⟨-, f, rfl, -⟩ <;> simp)
  · by_cases c : t = s
    · subst c
      exact hsh hm
    · rw [(eo t ht c).1] at hm
      obtain ⟨h60, e1, h1, h3⟩ := X.sh t ht hm
      rw [(eo t ht c).1, (eo t ht c).2.1]
      refine ⟨h60, e1, ?_, ?_⟩
      · have hn : ∀ i, i < (pm p t).toNatClampNeg → pn p2 (60 * t + i) = pn p (60 * t + i) := fun i hi => (eo t ht c).2.2 i (by omega)
        rcases h1 with ⟨q, f, e, hf⟩ | ⟨q, f, e, hf⟩ | ⟨q, f, e, hf⟩ | ⟨q, f, e, hf⟩
        · exact Or.inl ⟨q, f, e, fun i hi => (hf i hi).trans (hn i hi).symm⟩
        · exact Or.inr (Or.inl ⟨q, f, e, fun i hi => (hf i hi).trans (hn i hi).symm⟩)
        · exact Or.inr (Or.inr (Or.inl ⟨q, f, e, fun i hi => (hf i hi).trans (hn i hi).symm⟩))
        · exact Or.inr (Or.inr (Or.inr ⟨q, f, e, fun i hi => (hf i hi).trans (hn i hi).symm⟩))
      · rw [s2 t ht c]
        refine k _ _ h3 (hne h3 hslot ?_) (fun hms => (X.sd t s ht hs c).2 hm hms)
        rcases h1 with ⟨-, f, rfl, -⟩ | ⟨-, f, rfl, -⟩ | ⟨-, f, rfl, -⟩ | ⟨-, f, rfl, -⟩ <;> simp
  · rw [s1]
    refine ⟨(X.sd t u ht hu htu).1, fun h1 h3 => ?_⟩
    by_cases c : t = s
    · subst c
      rw [(eo u hu (Ne.symm htu)).1] at h3
      rw [s2 u hu (Ne.symm htu)]
      exact hsd h1 u hu (Ne.symm htu) h3
    · rw [(eo t ht c).1] at h1
      by_cases c2 : u = s
      · subst c2
        rw [s2 t ht c]
        exact (hsd h3 t ht c h1).symm
      · rw [(eo u hu c2).1] at h3
        rw [s2 t ht c, s2 u hu c2]
        exact (X.sd t u ht hu htu).2 h1 h3
  · obtain ⟨HI, hj⟩ := X.ii i a hi ha
    refine ⟨hk HI, ?_⟩
    rw [e0]
    exact hj
/-- a slot begins anew; a number is put into a slot -/
def psr (p : PS) (s : Nat) (n d : Int32) : PS := (fun k => if k = 3 then upd (p.1 3) s n else if k = 4 then upd (p.1 4) s d else p.1 k, fun j => if 60 * s ≤ j ∧ j < 60 * s + 60 then 0 else p.2 j)
def psn (p : PS) (j : Nat) (v : Int64) : PS := (p.1, vp_updL p.2 j v)
theorem XF.begin {kk : Nat → Nat} {dE : Nat → Nat} {h h2 : hG} {g : Nat → Nat} {z : MS} {G : XG} {S : XL} {p : PS} {M : XI} (X : XF kk dE h g z G S p M) {s x : Nat} {n d : Int32} {e : va_E} (hs : s < 4) (hn : ¬ n < 0) (h60 : n.toNatClampNeg ≤ 60) (hx : h x = none) (he : xs_arr kk n.toNatClampNeg d (fun _ => 0) e) (gx : h2 x = some e) (ga : h2 (S.1 s) = some (.inr (2, [.ref x]))) (k : hfr h h2 [S.1 s]) : XF kk dE h2 g z G (S.1, va_up S.2 s x) (psr p s n d) M := by
  have em : pm (psr p s n d) s = n := pk_us
  have ed : pd (psr p s n d) s = d := pk_us
  have hn1 : n ≠ -1 := fun q => hn (by rw [q]; decide)
  refine X.slot hs (S2 := (S.1, va_up S.2 s x)) (p2 := psr p s n d) (fun b e9 hb n1 _ => k _ _ (nm1 n1) hb) rfl (fun t ht hne => ⟨pk_un hne, pk_un hne, fun i hi => ?_⟩) rfl (fun t ht hne => va_up_ne _ _ hne) ?_ ?_ ?_
  · show (if 60 * s ≤ 60 * t + i ∧ 60 * t + i < 60 * s + 60 then (0 : Int64) else p.2 (60 * t + i)) = p.2 (60 * t + i)
    rw [if_neg (by omega)]
  · unfold xs_held
    rw [em, if_neg hn1, show ((S.1, va_up S.2 s x) : XL).2 s = x from va_up_self _ _ _]
    exact ga
  · intro _
    rw [em, ed]
    refine ⟨⟨?_, h60⟩, e, ?_, ?_⟩
    · exact (Int32.ofNat_toNatClampNeg n (Int32.not_lt.mp hn)).symm
    · have hz : ∀ i, i < n.toNatClampNeg → (0 : Int64) = pn (psr p s n d) (60 * s + i) := fun i hi => (if_pos (show 60 * s ≤ 60 * s + i ∧ 60 * s + i < 60 * s + 60 by omega)).symm
      rcases he with ⟨q, f, e, hf⟩ | ⟨q, f, e, hf⟩ | ⟨q, f, e, hf⟩ | ⟨q, f, e, hf⟩
      · exact Or.inl ⟨q, f, e, fun i hi => (hf i hi).trans (hz i hi)⟩
      · exact Or.inr (Or.inl ⟨q, f, e, fun i hi => (hf i hi).trans (hz i hi)⟩)
      · exact Or.inr (Or.inr (Or.inl ⟨q, f, e, fun i hi => (hf i hi).trans (hz i hi)⟩))
      · exact Or.inr (Or.inr (Or.inr ⟨q, f, e, fun i hi => (hf i hi).trans (hz i hi)⟩))
    · rw [show ((S.1, va_up S.2 s x) : XL).2 s = x from va_up_self _ _ _]
      exact gx
  · intro _ t ht hne hm
    rw [show ((S.1, va_up S.2 s x) : XL).2 s = x from va_up_self _ _ _]
    obtain ⟨_, e1, _, h3⟩ := X.sh t ht hm
    exact (hn_ne h3 hx).symm
theorem XF.puts {kk : Nat → Nat} {dE : Nat → Nat} {h h2 : hG} {g : Nat → Nat} {z : MS} {G : XG} {S : XL} {p : PS} {M : XI} (X : XF kk dE h g z G S p M) {s i : Nat} {v : Int64} {e2 : va_E} (hs : s < 4) (hm : pm p s ≠ -1) (hi : i < (pm p s).toNatClampNeg) (he : xs_arr kk (pm p s).toNatClampNeg (pd p s) (vp_updL (fun j => pn p (60 * s + j)) i v) e2) (gx : h2 (S.2 s) = some e2) (k : hfr h h2 [S.2 s]) : XF kk dE h2 g z G S (psn p (60 * s + i) v) M := by
  obtain ⟨h60, e1, h1, h3⟩ := X.sh s hs hm
  have hslot := X.so s hs
  have hne1 : S.1 s ≠ S.2 s := hne hslot h3 (by rcases h1 with ⟨-, f, rfl, -⟩ | ⟨-, f, rfl, -⟩ | ⟨-, f, rfl, -⟩ | ⟨-, f, rfl, -⟩ <;> simp)
  refine X.slot hs (S2 := S) (p2 := psn p (60 * s + i) v) (fun b e9 hb n1 n2 => k _ _ (nm1 (n2 hm)) hb) rfl (fun t ht hne => ⟨rfl, rfl, fun j hj => ?_⟩) rfl (fun t ht hne => rfl) ?_ ?_ ?_
  · show vp_updL p.2 (60 * s + i) v (60 * t + j) = p.2 (60 * t + j)
    unfold vp_updL
    rw [if_neg (by omega)]
  · exact k _ _ (nm1 hne1) hslot
  · intro _
    refine ⟨h60, e2, ?_, gx⟩
    have hz : ∀ j, j < (pm p s).toNatClampNeg → vp_updL (fun j => pn p (60 * s + j)) i v j = pn (psn p (60 * s + i) v) (60 * s + j) := fun j hj => by
      show vp_updL (fun j => pn p (60 * s + j)) i v j = vp_updL p.2 (60 * s + i) v (60 * s + j)
      unfold vp_updL
      by_cases c : j = i
      · rw [if_pos c, if_pos (by omega)]
      · rw [if_neg c, if_neg (by omega)]
        rfl
    rcases he with ⟨q, f, e, hf⟩ | ⟨q, f, e, hf⟩ | ⟨q, f, e, hf⟩ | ⟨q, f, e, hf⟩
    · exact Or.inl ⟨q, f, e, fun i hi => (hf i hi).trans (hz i hi)⟩
    · exact Or.inr (Or.inl ⟨q, f, e, fun i hi => (hf i hi).trans (hz i hi)⟩)
    · exact Or.inr (Or.inr (Or.inl ⟨q, f, e, fun i hi => (hf i hi).trans (hz i hi)⟩))
    · exact Or.inr (Or.inr (Or.inr ⟨q, f, e, fun i hi => (hf i hi).trans (hz i hi)⟩))
  · intro _ t ht hne hmt
    exact (X.sd s t hs ht (Ne.symm hne)).2 hm hmt
