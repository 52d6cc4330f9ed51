set_option maxRecDepth 100000
/-! a rivers object in a ghost heap; rows of the calls that only read lists -/
theorem hp.two {D : va_G} {A : Nat → Prop} {h : hG} {H : Heap} (hh : hp D A h H) {a b : Nat} {e f : va_E} (ha : h a = some e) (hb : h b = some f) : va_P D vwCl [(a, e), (b, f)] H := (hh.one ha).app (hh.one hb)
section HR
variable {E : gE} {cc : ByteArray} {nL fr lc mc ms : Nat} {RX : String} {D : va_G} {kk : Nat → Nat} {dE : Nat → Nat} {A : Nat → Prop} {h : hG} {ka na pc : Nat} {lo : List (Option Value)} {st : List Value} {post : Option Value → hG → Prop}
theorem hC.xf (C : hC E cc nL fr lc mc ms RX D kk dE A) : xf (eS E) := C.2.2.2.2.1.2.2.1
theorem hC.hat (C : hC E cc nL fr lc mc ms RX D kk dE A) {ci : Nat} {r : vw_C} (hcl : vwCl[ci]? = some r) : ClassAt (eS E) r.1 (D.1 ci) := (C.k.1 ci _ hcl).2
theorem hh_size (pc2 : Nat) (C : hC E cc nL fr lc mc ms RX D kk dE A) {a d idx count : Nat} {m n : Int32} (ha : h a = some (.inr (13, [.int m, .ref d, .int n]))) (hl : Cond.methodLink RX idx yL_size ∈ lw_all) (hf : 1 ≤ fr) (hlc : 20 ≤ lc) (hka : ka ≤ mc) (hna : na ≤ ms) (hst : (st.map fun v => v.category).sum ≤ 8) (hd : decode cc pc = .ok (.invokeinterface idx count, 5)) (e : pc + 5 = pc2)
    (k1 : ga_W E nL (hw_I E D A h) ka na pc2 lo (.int n :: st)) : ga_W E nL (hw_I E D A h) ka na pc lo (.ref a :: st) :=
  ga_callFP pc2 (as := []) C.c C.ml C.ow C.ts (C.hat (ci := 13) rfl) C.xf.1 (met_J2_size (eL E) D a d m n)
    (fun U g mk a h => ⟨h.1, va_K.moved (u := U) (U := U.calling g mk a) (Vm.Alike.refl U.vm) h.2⟩) (fun H locs hI U hU hW => ⟨by rw [hU]; exact hI.1.one ha, va_K.moved hW.alike (C.k.sub [] rfl)⟩) (fun H locs hI => va_recv C.k (hI.1.one ha) (ci := 13) (q0 := 0) rfl rfl)
    (lw_F hl q787 q789 q98 q791) (by decide +kernel) rfl (by rw [C.rm]; exact hf) (by rw [C.rm]; exact hlc) (by rw [C.rm]; exact hka) (by rw [C.rm]; exact hna) hst hd e k1
theorem hh_isEmpty (pc2 : Nat) (C : hC E cc nL fr lc mc ms RX D kk dE A) {a d idx count : Nat} {m n : Int32} (ha : h a = some (.inr (13, [.int m, .ref d, .int n]))) (hl : Cond.methodLink RX idx yL_isEmpty ∈ lw_all) (hf : 1 ≤ fr) (hlc : 20 ≤ lc) (hka : ka ≤ mc) (hna : na ≤ ms) (hst : (st.map fun v => v.category).sum ≤ 8) (hd : decode cc pc = .ok (.invokeinterface idx count, 5)) (e : pc + 5 = pc2)
    (k1 : ga_W E nL (hw_I E D A h) ka na pc2 lo (.int (if n = 0 then 1 else 0) :: st)) : ga_W E nL (hw_I E D A h) ka na pc lo (.ref a :: st) :=
  ga_callFP pc2 (as := []) C.c C.ml C.ow C.ts (C.hat (ci := 13) rfl) C.xf.2.2 (met_J2_isEmpty (eL E) D a d m n)
    (fun U g mk a h => ⟨h.1, va_K.moved (u := U) (U := U.calling g mk a) (Vm.Alike.refl U.vm) h.2⟩) (fun H locs hI U hU hW => ⟨by rw [hU]; exact hI.1.one ha, va_K.moved hW.alike (C.k.sub [] rfl)⟩) (fun H locs hI => va_recv C.k (hI.1.one ha) (ci := 13) (q0 := 0) rfl rfl)
    (lw_F hl q1510 q1512 q98 q1514) (by decide +kernel) rfl (by rw [C.rm]; exact hf) (by rw [C.rm]; exact hlc) (by rw [C.rm]; exact hka) (by rw [C.rm]; exact hna) hst hd e k1
theorem hh_lget (pc2 : Nat) (C : hC E cc nL fr lc mc ms RX D kk dE A) {a d cap N y idx count : Nat} {f : Nat → Option Nat} {m r : Int32} (ha : h a = some (.inr (13, [.int m, .ref d, .int (Int32.ofNat N)]))) (hda : h d = some (.inl (kk 5, cap, .inr (.inr (.inr (.inr f)))))) (hr : vp_in r N) (hN : N ≤ cap) (hN2 : N < 2 ^ 31) (hy : f r.toNatClampNeg = some y) (hl : Cond.methodLink RX idx yL_get ∈ lw_all) (hf : 3 ≤ fr) (hlc : 81 ≤ lc) (hka : ka ≤ mc) (hna : na ≤ ms) (hst : (st.map fun v => v.category).sum ≤ 8) (hd : decode cc pc = .ok (.invokeinterface idx count, 5)) (e : pc + 5 = pc2)
    (k1 : ga_W E nL (hw_I E D A h) ka na pc2 lo (.ref y :: st)) : ga_W E nL (hw_I E D A h) ka na pc lo (.int r :: .ref a :: st) :=
  ga_callFP pc2 (as := [.int r]) C.c C.ml C.ow C.ts (C.hat (ci := 13) rfl) C.xf.2.1 (met_J2_get (eL E) D a d cap y N (kk 5) f m r hr hN hN2 hy)
    (fun U g mk a h => ⟨h.1, va_K.moved (u := U) (U := U.calling g mk a) (Vm.Alike.refl U.vm) h.2⟩) (fun H locs hI U hU hW => ⟨by rw [hU]; exact hI.1.two ha hda, va_K.moved hW.alike (C.k.sub [5] rfl)⟩) (fun H locs hI => va_recv C.k (hI.1.one ha) (ci := 13) (q0 := 0) rfl rfl)
    (n := 1) (lw_F hl q1028 q1030 q98 q1032) (by decide +kernel) rfl (by rw [C.rm]; exact hf) (by rw [C.rm]; exact hlc) (by rw [C.rm]; exact hka) (by rw [C.rm]; exact hna) hst hd e k1
theorem hh_is (pc2 : Nat) (C : hC E cc nL fr lc mc ms RX D kk dE A) {a idx : Nat} {v0 v1 v2 v3 : Value} {l0 l1 l2 n : Int32} (ha : h a = some (.inr (3, [v0, v1, v2, v3, .int l0, .int l1, .int l2, .int n]))) (hl : Cond.methodLink RX idx yX2_is ∈ lw_all) (hf : 2 ≤ fr) (hlc : 60 ≤ lc) (hka : ka ≤ mc) (hna : na ≤ ms) (hst : (st.map fun v => v.category).sum ≤ 8) (hd : decode cc pc = .ok (.invokevirtual idx, 3)) (e : pc + 3 = pc2)
    (k1 : ga_W E nL (hw_I E D A h) ka na pc2 lo (.int (if n ≤ 0 then 0 else 1) :: st)) : ga_W E nL (hw_I E D A h) ka na pc lo (.ref a :: st) :=
  ga_callVP pc2 (as := []) C.c C.ml C.ow C.ts (met_X2_is (eL E) D a v0 v1 v2 v3 l0 l1 l2 n)
    (fun U g mk a h => ⟨h.1, va_K.moved (u := U) (U := U.calling g mk a) (Vm.Alike.refl U.vm) h.2⟩) (fun H locs hI U hU hW => ⟨by rw [hU]; exact hI.1.one ha, va_K.moved hW.alike (C.k.sub [] rfl)⟩) (fun H locs hI => va_recv C.k (hI.1.one ha) (ci := 3) (q0 := 0) rfl rfl)
    (lw_V hl q998 q999 q95 q1000) cd_X2_is rfl (by rw [C.rm]; show 1 ≤ fr; omega) (by rw [C.rm]; show 20 ≤ lc; omega) (by rw [C.rm]; exact hka) (by rw [C.rm]; exact hna) hst hd e k1
/-- checkcast to the object's own class -/
theorem hh_cast (pc2 : Nat) (C : hC E cc nL fr lc mc ms RX D kk dE A) {idx a ci : Nat} {fs : List Value} {Cn : String} {T : u_T} {N : Nat} (ha : h a = some (.inr (ci, fs))) (hcl : vwCl[ci]? = some (Cn, T, N)) (hl : Cond.classLink RX idx Cn ∈ lw_all) (hd : decode cc pc = .ok (.checkcast idx, 3)) (e : pc + 3 = pc2)
    (k1 : ga_W E nL (hw_I E D A h) ka na pc2 lo (.ref a :: st)) : ga_W E nL (hw_I E D A h) ka na pc lo (.ref a :: st) := by
  subst e
  exact fun H locs ls hI hL => va_castS C.c.1 C.c.2 C.ow (C.ts _ hl) (C.hat hcl) (hw_recv C hI ha hcl) hd (k1 H locs ls hI hL)
end HR
/-- the cells of one act, by its number c -/
def hact (h : hG) (G : XG) (c : Int32) (i : Nat) : Prop :=
  (100 ≤ c → h (G.1 3 i) = some (.inr (12, [.int (-1), .int (-1), .ref (G.1 4 i)])) ∧ h (G.1 4 i) = some (.inr (11, [.int (c - c / 100 * 100), .int (c / 100 - 1)]))) ∧
  (¬ 100 ≤ c → h (G.1 3 i) = some (.inr (12, [.int (c / 2), .int (c - c / 2 * 2), .null])))
def hr (kk : Nat → Nat) (h : hG) (a : Nat) (G : XG) (w : Nat → Int32) : Prop :=
  (h a = some (.inr (3, [.ref (G.1 7 0), .ref (G.1 7 1), .ref (G.1 7 2), .ref (G.1 7 3), .int (w 0), .int (w 1), .int (w 2), .int (w 7)]))) ∧
  (∀ i, i < 4 → h (G.1 7 i) = some (.inr (13, [.int (G.2.2.1 i), .ref (G.1 8 i), .int (w (3 + i))]))) ∧
  (∀ i, i < 4 → h (G.1 8 i) = some (.inl (kk 5, G.2.1 i, .inr (.inr (.inr (.inr (G.2.2.2 i))))))) ∧
  (∀ i, i < 4 → w (3 + i) = Int32.ofNat (xr_n w i) ∧ xr_n w i < 2 ^ 31 ∧ xr_n w i ≤ G.2.1 i ∧ ∀ j, j < xr_n w i → G.2.2.2 i j = some (G.1 i j)) ∧
  (∀ j, j < xr_n w 0 → h (G.1 0 j) = some (.inr (9, [.int (w (8 + 3 * j)), .int (w (9 + 3 * j)), .int (w (10 + 3 * j))]))) ∧
  (∀ j, j < xr_n w 1 → h (G.1 1 j) = some (.inr (10, [.int (w (38 + 4 * j)), .int (w (39 + 4 * j)), .int (w (40 + 4 * j)), .int (w (41 + 4 * j))]))) ∧
  (∀ j, j < xr_n w 2 → h (G.1 2 j) = some (.inr (11, [.int (w (58 + 2 * j)), .int (w (59 + 2 * j))]))) ∧
  (∀ j, j < xr_n w 3 → hact h G (w (68 + j)) j)
theorem hr.o {kk : Nat → Nat} {h : hG} {a : Nat} {G : XG} {w : Nat → Int32} (hS : hr kk h a G w) : h a = some (.inr (3, [.ref (G.1 7 0), .ref (G.1 7 1), .ref (G.1 7 2), .ref (G.1 7 3), .int (w 0), .int (w 1), .int (w 2), .int (w 7)])) := hS.1
theorem hr.l {kk : Nat → Nat} {h : hG} {a : Nat} {G : XG} {w : Nat → Int32} (hS : hr kk h a G w) : ∀ i, i < 4 → h (G.1 7 i) = some (.inr (13, [.int (G.2.2.1 i), .ref (G.1 8 i), .int (w (3 + i))])) := hS.2.1
theorem hr.d {kk : Nat → Nat} {h : hG} {a : Nat} {G : XG} {w : Nat → Int32} (hS : hr kk h a G w) : ∀ i, i < 4 → h (G.1 8 i) = some (.inl (kk 5, G.2.1 i, .inr (.inr (.inr (.inr (G.2.2.2 i)))))) := hS.2.2.1
theorem hr.n {kk : Nat → Nat} {h : hG} {a : Nat} {G : XG} {w : Nat → Int32} (hS : hr kk h a G w) : ∀ i, i < 4 → w (3 + i) = Int32.ofNat (xr_n w i) ∧ xr_n w i < 2 ^ 31 ∧ xr_n w i ≤ G.2.1 i ∧ ∀ j, j < xr_n w i → G.2.2.2 i j = some (G.1 i j) := hS.2.2.2.1
theorem hr.r {kk : Nat → Nat} {h : hG} {a : Nat} {G : XG} {w : Nat → Int32} (hS : hr kk h a G w) : ∀ j, j < xr_n w 0 → h (G.1 0 j) = some (.inr (9, [.int (w (8 + 3 * j)), .int (w (9 + 3 * j)), .int (w (10 + 3 * j))])) := hS.2.2.2.2.1
theorem hr.j {kk : Nat → Nat} {h : hG} {a : Nat} {G : XG} {w : Nat → Int32} (hS : hr kk h a G w) : ∀ j, j < xr_n w 1 → h (G.1 1 j) = some (.inr (10, [.int (w (38 + 4 * j)), .int (w (39 + 4 * j)), .int (w (40 + 4 * j)), .int (w (41 + 4 * j))])) := hS.2.2.2.2.2.1
theorem hr.s {kk : Nat → Nat} {h : hG} {a : Nat} {G : XG} {w : Nat → Int32} (hS : hr kk h a G w) : ∀ j, j < xr_n w 2 → h (G.1 2 j) = some (.inr (11, [.int (w (58 + 2 * j)), .int (w (59 + 2 * j))])) := hS.2.2.2.2.2.2.1
theorem hr.a {kk : Nat → Nat} {h : hG} {a : Nat} {G : XG} {w : Nat → Int32} (hS : hr kk h a G w) : ∀ j, j < xr_n w 3 → hact h G (w (68 + j)) j := hS.2.2.2.2.2.2.2
/-- room in the lists -/
def hcp (dE : Nat → Nat) (G : XG) (w : Nat → Int32) : Prop :=
  (G.2.1 0 = 10) ∧
  (G.2.1 1 = 5) ∧
  (G.2.1 2 = 5) ∧
  ((G.1 8 3 = dE 0 ∧ G.2.1 3 = 0) ∨ (10 ≤ G.2.1 3 ∧ G.2.1 3 ≤ 50)) ∧
  (xr_n w 3 ≤ 30)
theorem hcp.c0 {dE : Nat → Nat} {G : XG} {w : Nat → Int32} (hS : hcp dE G w) : G.2.1 0 = 10 := hS.1
theorem hcp.c1 {dE : Nat → Nat} {G : XG} {w : Nat → Int32} (hS : hcp dE G w) : G.2.1 1 = 5 := hS.2.1
theorem hcp.c2 {dE : Nat → Nat} {G : XG} {w : Nat → Int32} (hS : hcp dE G w) : G.2.1 2 = 5 := hS.2.2.1
theorem hcp.c3 {dE : Nat → Nat} {G : XG} {w : Nat → Int32} (hS : hcp dE G w) : (G.1 8 3 = dE 0 ∧ G.2.1 3 = 0) ∨ (10 ≤ G.2.1 3 ∧ G.2.1 3 ≤ 50) := hS.2.2.2.1
theorem hcp.n3 {dE : Nat → Nat} {G : XG} {w : Nat → Int32} (hS : hcp dE G w) : xr_n w 3 ≤ 30 := hS.2.2.2.2
/-- the parts that may change are apart -/
def hsj (G : XG) (w : Nat → Int32) : Prop :=
  (∀ i k, i < 4 → k < 4 → i ≠ k → G.1 7 i ≠ G.1 7 k) ∧
  (∀ i k, i < 4 → k < 4 → i ≠ k → 0 < G.2.1 i → G.1 8 i ≠ G.1 8 k) ∧
  (∀ i k, i < xr_n w 0 → k < xr_n w 0 → i ≠ k → G.1 0 i ≠ G.1 0 k)
theorem hsj.l {G : XG} {w : Nat → Int32} (hS : hsj G w) : ∀ i k, i < 4 → k < 4 → i ≠ k → G.1 7 i ≠ G.1 7 k := hS.1
theorem hsj.d {G : XG} {w : Nat → Int32} (hS : hsj G w) : ∀ i k, i < 4 → k < 4 → i ≠ k → 0 < G.2.1 i → G.1 8 i ≠ G.1 8 k := hS.2.1
theorem hsj.r {G : XG} {w : Nat → Int32} (hS : hsj G w) : ∀ i k, i < xr_n w 0 → k < xr_n w 0 → i ≠ k → G.1 0 i ≠ G.1 0 k := hS.2.2
def hR (kk : Nat → Nat) (dE : Nat → Nat) (h : hG) (a : Nat) (G : XG) (w : Nat → Int32) : Prop := hr kk h a G w ∧ hcp dE G w ∧ hsj G w
/-- all of it that may change is new to h -/
def hnw (h : hG) (a : Nat) (G : XG) (w : Nat → Int32) : Prop :=
  (h a = none) ∧
  (∀ i, i < 4 → h (G.1 7 i) = none) ∧
  (∀ i, i < 4 → 0 < G.2.1 i → h (G.1 8 i) = none) ∧
  (∀ j, j < xr_n w 0 → h (G.1 0 j) = none)
theorem hnw.o {h : hG} {a : Nat} {G : XG} {w : Nat → Int32} (hS : hnw h a G w) : h a = none := hS.1
theorem hnw.l {h : hG} {a : Nat} {G : XG} {w : Nat → Int32} (hS : hnw h a G w) : ∀ i, i < 4 → h (G.1 7 i) = none := hS.2.1
theorem hnw.d {h : hG} {a : Nat} {G : XG} {w : Nat → Int32} (hS : hnw h a G w) : ∀ i, i < 4 → 0 < G.2.1 i → h (G.1 8 i) = none := hS.2.2.1
theorem hnw.r {h : hG} {a : Nat} {G : XG} {w : Nat → Int32} (hS : hnw h a G w) : ∀ j, j < xr_n w 0 → h (G.1 0 j) = none := hS.2.2.2
theorem lt4 {i : Nat} (h : i < 4) : i = 0 ∨ i = 1 ∨ i = 2 ∨ i = 3 := by omega
/-- a rivers object's ghost out of its addresses -/
def mkG (l d : Nat → Nat) (R J S T V : Nat → Nat) (c : Nat → Nat) (m : Nat → Int32) (f : Nat → Nat → Option Nat) : XG :=
  (fun i j => if i = 7 then l j else if i = 8 then d j else if i = 0 then R j else if i = 1 then J j else if i = 2 then S j else if i = 3 then T j else V j, c, m, f)
def f4 {α : Type} (a b c d : α) : Nat → α := fun i => if i = 0 then a else if i = 1 then b else if i = 2 then c else d
theorem hact.kept {h h2 : hG} {G G2 : XG} {c : Int32} {i : Nat} (ha : hact h G c i) (k : hfr h h2 []) (e3 : G2.1 3 i = G.1 3 i) (e4 : G2.1 4 i = G.1 4 i) : hact h2 G2 c i := by
  unfold hact
  rw [e3, e4]
  exact ⟨fun q => ⟨k _ _ List.not_mem_nil (ha.1 q).1, k _ _ List.not_mem_nil (ha.1 q).2⟩, fun q => k _ _ List.not_mem_nil (ha.2 q)⟩
theorem hR_mk {kk : Nat → Nat} {dE : Nat → Nat} {h h2 : hG} {a : Nat} {G : XG} {w : Nat → Int32} (hRa : hR kk dE h a G w) (kx : hfr h h2 []) {b l0 l1 l2 l3 d0 d1 d2 d3 c3 : Nat} {m0 m1 m2 m3 : Int32} {f0 f1 f2 f3 : Nat → Option Nat} {R : Nat → Nat} {x : va_E} (hE : h (dE 0) = some x)
    (gb : h2 b = some (.inr (3, [.ref l0, .ref l1, .ref l2, .ref l3, .int (w 0), .int (w 1), .int (w 2), .int (w 7)])))
    (g0 : h2 l0 = some (.inr (13, [.int m0, .ref d0, .int (nI (xr_n w 0))]))) (g1 : h2 l1 = some (.inr (13, [.int m1, .ref d1, .int (nI (xr_n w 1))]))) (g2 : h2 l2 = some (.inr (13, [.int m2, .ref d2, .int (nI (xr_n w 2))]))) (g3 : h2 l3 = some (.inr (13, [.int m3, .ref d3, .int (nI (xr_n w 3))])))
    (e0 : h2 d0 = some (.inl (kk 5, 10, .inr (.inr (.inr (.inr f0)))))) (e1 : h2 d1 = some (.inl (kk 5, 5, .inr (.inr (.inr (.inr f1)))))) (e2 : h2 d2 = some (.inl (kk 5, 5, .inr (.inr (.inr (.inr f2)))))) (e3 : h2 d3 = some (.inl (kk 5, c3, .inr (.inr (.inr (.inr f3))))))
    (q0 : ∀ j, j < xr_n w 0 → f0 j = some (R j)) (q1 : ∀ j, j < xr_n w 1 → f1 j = G.2.2.2 1 j) (q2 : ∀ j, j < xr_n w 2 → f2 j = G.2.2.2 2 j) (q3 : ∀ j, j < xr_n w 3 → f3 j = G.2.2.2 3 j)
    (hr0 : ∀ j, j < xr_n w 0 → h2 (R j) = some (.inr (9, [.int (w (8 + 3 * j)), .int (w (9 + 3 * j)), .int (w (10 + 3 * j))])) ∧ h (R j) = none) (hrd : ∀ i j, i < xr_n w 0 → j < xr_n w 0 → i ≠ j → R i ≠ R j)
    (c3h : (d3 = dE 0 ∧ c3 = 0 ∧ xr_n w 3 = 0) ∨ (h d3 = none ∧ c3 = ls_mx (xr_n w 3) ∧ d3 ≠ d0 ∧ d3 ≠ d1 ∧ d3 ≠ d2))
    (zb : h b = none) (zl0 : h l0 = none) (zl1 : h l1 = none) (zl2 : h l2 = none) (zl3 : h l3 = none) (zd0 : h d0 = none) (zd1 : h d1 = none) (zd2 : h d2 = none)
    (p01 : l0 ≠ l1) (p02 : l0 ≠ l2) (p03 : l0 ≠ l3) (p12 : l1 ≠ l2) (p13 : l1 ≠ l3) (p23 : l2 ≠ l3) (r01 : d0 ≠ d1) (r02 : d0 ≠ d2) (r12 : d1 ≠ d2) :
    ∃ G2, hR kk dE h2 b G2 w ∧ hnw h b G2 w := by
  obtain ⟨H, hc, hs⟩ := hRa
  have hn0 := H.n 0 (by decide)
  have hn1 := H.n 1 (by decide)
  have hn2 := H.n 2 (by decide)
  have hn3 := H.n 3 (by decide)
  have b0 := hn0.2.2.1
  have b1 := hn1.2.2.1
  have b2 := hn2.2.2.1
  rw [hc.c0] at b0
  rw [hc.c1] at b1
  rw [hc.c2] at b2
  have b3 := hc.n3
  have hmx : xr_n w 3 ≤ ls_mx (xr_n w 3) ∧ 10 ≤ ls_mx (xr_n w 3) ∧ ls_mx (xr_n w 3) ≤ 50 := by unfold ls_mx; split <;> omega
  have hc3 : xr_n w 3 ≤ c3 := by
    rcases c3h with q | q
    · omega
    · omega
  have n01 : dE 0 ≠ d0 := hn_ne hE zd0
  have n02 : dE 0 ≠ d1 := hn_ne hE zd1
  have n03 : dE 0 ≠ d2 := hn_ne hE zd2
  have s3 : d3 ≠ d0 ∧ d3 ≠ d1 ∧ d3 ≠ d2 := by
    rcases c3h with q | q
    · rw [q.1]
      exact ⟨n01, n02, n03⟩
    · exact q.2.2
  refine ⟨mkG (f4 l0 l1 l2 l3) (f4 d0 d1 d2 d3) R (G.1 1) (G.1 2) (G.1 3) (G.1 4) (f4 10 5 5 c3) (f4 m0 m1 m2 m3) (f4 f0 f1 f2 f3), ⟨⟨gb, ?_, ?_, ?_, fun j hj => (hr0 j hj).1, fun j hj => kx _ _ List.not_mem_nil (H.j j hj), fun j hj => kx _ _ List.not_mem_nil (H.s j hj), fun j hj => (H.a j hj).kept kx rfl rfl⟩, ⟨rfl, rfl, rfl, ?_, b3⟩, ⟨?_, ?_, hrd⟩⟩, ⟨zb, ?_, ?_, fun j hj => (hr0 j hj).2⟩⟩
  · intro i hi
    rcases lt4 hi with rfl | rfl | rfl | rfl
    · rw [hn0.1]; exact g0
    · rw [hn1.1]; exact g1
    · rw [hn2.1]; exact g2
    · rw [hn3.1]; exact g3
  · intro i hi
    rcases lt4 hi with rfl | rfl | rfl | rfl
    · exact e0
    · exact e1
    · exact e2
    · exact e3
  · intro i hi
    rcases lt4 hi with rfl | rfl | rfl | rfl
    · exact ⟨hn0.1, hn0.2.1, b0, q0⟩
    · exact ⟨hn1.1, hn1.2.1, b1, fun j hj => (q1 j hj).trans (hn1.2.2.2 j hj)⟩
    · exact ⟨hn2.1, hn2.2.1, b2, fun j hj => (q2 j hj).trans (hn2.2.2.2 j hj)⟩
    · exact ⟨hn3.1, hn3.2.1, hc3, fun j hj => (q3 j hj).trans (hn3.2.2.2 j hj)⟩
  · rcases c3h with q | q
    · exact Or.inl ⟨q.1, q.2.1⟩
    · refine Or.inr ?_
      show 10 ≤ c3 ∧ c3 ≤ 50
      omega
  · intro i k hi hk hne
    rcases lt4 hi with rfl | rfl | rfl | rfl <;> rcases lt4 hk with rfl | rfl | rfl | rfl
    · exact absurd rfl hne
    · exact p01
    · exact p02
    · exact p03
    · exact p01.symm
    · exact absurd rfl hne
    · exact p12
    · exact p13
    · exact p02.symm
    · exact p12.symm
    · exact absurd rfl hne
    · exact p23
    · exact p03.symm
    · exact p13.symm
    · exact p23.symm
    · exact absurd rfl hne
  · intro i k hi hk hne _
    rcases lt4 hi with rfl | rfl | rfl | rfl <;> rcases lt4 hk with rfl | rfl | rfl | rfl
    · exact absurd rfl hne
    · exact r01
    · exact r02
    · exact s3.1.symm
    · exact r01.symm
    · exact absurd rfl hne
    · exact r12
    · exact s3.2.1.symm
    · exact r02.symm
    · exact r12.symm
    · exact absurd rfl hne
    · exact s3.2.2.symm
    · exact s3.1
    · exact s3.2.1
    · exact s3.2.2
    · exact absurd rfl hne
  · intro i hi
    rcases lt4 hi with rfl | rfl | rfl | rfl
    · exact zl0
    · exact zl1
    · exact zl2
    · exact zl3
  · intro i hi hp
    rcases lt4 hi with rfl | rfl | rfl | rfl
    · exact zd0
    · exact zd1
    · exact zd2
    · rcases c3h with q | q
      · exact absurd (show 0 < c3 from hp) (by omega)
      · exact q.1
