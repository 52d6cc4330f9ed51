set_option maxRecDepth 100000
/-! methods over ghosts that throw a Fault -/
def hx_X (D : va_G) (A : Nat → Prop) (px : Nat → hG → Prop) : String → Nat → State → State → Prop := fun E q st t => E = RX8 ∧ (∃ h2 : hG, px q h2 ∧ hp D A h2 t.heap) ∧ va_F A st t
section HT
variable {E : gE} {cc : ByteArray} {nL fr lc mc ms : Nat} {RX : String} {D : va_G} {kk : Nat → Nat} {dE : Nat → Nat} {A : Nat → Prop} {h : hG} {ka na pc : Nat} {lo : List (Option Value)} {st : List Value} {post : Option Value → hG → Prop} {px : Nat → hG → Prop}
theorem hx_of {l : Launch} {y : MethodName} {maxL : Nat} {ret : Option FieldType} {as : List Value} (hy : plainName y.cls = true) (hcls : y.cls = RX) (hlen : (lg_sl as).length ≤ maxL) {lo : List (Option Value)} (hlo : ga_ps 0 lo = lv_args 0 as)
    (body : ∀ E : gE, hC E cc maxL fr lc mc ms RX D kk dE A → (∀ x ∈ (eC E).exceptionTable.toList, False) → (eT E).sig.returnType = ret → (eT E).locks = false → eQ E = vx_MQ (eB E) (hw_Qc D A post) (hx_X D A px) (eA E) (eS E) mc ms A → ga_W E maxL (hw_I E D A h) 0 0 0 lo []) :
    vx_Met l y (ws_ y cc maxL ret) ({ frames := fr, cells := mc, slots := ms, locals := lc } : Room) (hw_Pc D kk dE A h as) (hw_Qc D A post) (hx_X D A px) mc ms A := by
  refine vx_ofW (cc := cc) (maxL := maxL) (ret := ret) hy rfl ?_
  intro p e s m args below meth c s₁ B hml hnx hv
  obtain ⟨rfl, hP, hJ0⟩ := hv
  have hts := atoms_spec (ws := ws_ y cc maxL ret) B.pre
  have hts : ∀ w ∈ lw_all, w.before _ s = true := fun w h => hts w (List.mem_cons_of_mem _ h)
  have hown : s.vm.findClass RX = some m.cls := by rw [← hcls]; exact findClass_of_methodNamed B.named
  have hl := lv_entry as (n := maxL) hlen
  rw [lg_entry_eq]
  have K := body (p, l, e, (headSpec (ws_ y cc maxL ret) ({ frames := fr, cells := mc, slots := ms, locals := lc } : Room)).room, s, m, as.toArray, below, meth, c, vx_MQ below (hw_Qc D A post) (hx_X D A px) as.toArray s mc ms A) ⟨⟨B.exec, B.bytes⟩, hml, hown, hts, hJ0, rfl⟩ hnx B.returns B.notSynchronized rfl
  exact K s.heap [] _ ⟨hP, va_S.rf⟩ ⟨hl.1, hl.2.1, fun i v h => hl.2.2 (i, v) (by rw [← hlo]; exact (ga_ps_mem lo 0 i v).mpr ⟨i, by omega, h⟩)⟩
theorem hx_iret {v : Int32} {rt : FieldType} (C : hC E cc nL fr lc mc ms RX D kk dE A) (hr : (eT E).sig.returnType = some rt) (hlk : (eT E).locks = false) (hq : eQ E = vx_MQ (eB E) (hw_Qc D A post) (hx_X D A px) (eA E) (eS E) mc ms A) {w : Int32} (hn : narrow rt (.int v) = .int w) (hka : ka ≤ mc) (hna : na ≤ ms) (hp0 : post (some (.int w)) h) (hd : decode cc pc = .ok (.ireturn, 1)) : ga_W E nL (hw_I E D A h) ka na pc lo [.int v] := by
  refine ga_widen hka hna ?_
  intro H locs ls hI hL
  rw [hq]
  exact vx_ret (ga_zret C.c.1 C.c.2 hr hn (fun t ht hW => ⟨⟨_, h, rfl, hp0, by rw [ht]; exact hI.1⟩, hI.2.F ht⟩) hI.2.2.2 hd hlk)
theorem hx_vret (C : hC E cc nL fr lc mc ms RX D kk dE A) (hr : (eT E).sig.returnType = none) (hlk : (eT E).locks = false) (hq : eQ E = vx_MQ (eB E) (hw_Qc D A post) (hx_X D A px) (eA E) (eS E) mc ms A) (hka : ka ≤ mc) (hna : na ≤ ms) (hp0 : post none h) (hd : decode cc pc = .ok (.return_, 1)) : ga_W E nL (hw_I E D A h) ka na pc lo [] := by
  refine ga_widen hka hna ?_
  intro H locs ls hI hL
  rw [hq]
  exact vx_ret (W.vret C.c.1 C.c.2 hr (fun t ht hW => ⟨⟨_, h, rfl, hp0, by rw [ht]; exact hI.1⟩, hI.2.F ht⟩) hI.2.2.2 hd hlk)
theorem hx_aret {v : Value} {rt : FieldType} (C : hC E cc nL fr lc mc ms RX D kk dE A) (hr : (eT E).sig.returnType = some rt) (hrt : (∃ n, rt = .object n) ∨ ∃ t, rt = .array t) (hv : v = .null ∨ ∃ a, v = .ref a) (hlk : (eT E).locks = false) (hq : eQ E = vx_MQ (eB E) (hw_Qc D A post) (hx_X D A px) (eA E) (eS E) mc ms A) (hka : ka ≤ mc) (hna : na ≤ ms) (hp0 : post (some v) h) (hd : decode cc pc = .ok (.areturn, 1)) : ga_W E nL (hw_I E D A h) ka na pc lo [v] := by
  refine ga_widen hka hna ?_
  intro H locs ls hI hL
  rw [hq]
  exact vx_ret (W.aret C.c.1 C.c.2 hr hrt hv (fun t ht hW => ⟨⟨_, h, rfl, hp0, by rw [ht]; exact hI.1⟩, hI.2.F ht⟩) hI.2.2.2 hd hlk)
theorem hx_cell {H : Heap} {q : Nat} {fs : List Value} (C : hC E cc nL fr lc mc ms RX D kk dE A) (hh : hp D A h H) (hqf : h q = some (.inr (8, fs))) : ∃ ce : Cell, H[q]? = some ce ∧ ce.vm = .none ∧ (eS E).vm.findClass RX8 = some ce.cls := by
  obtain ⟨r, h1, cell, q1, q2, q3, q4⟩ := hh.at hqf
  cases h1
  exact ⟨cell, q1, q3, by rw [q2]; exact (C.k.1 8 _ rfl).2.1⟩
/-- athrow of a Fault that no handler here takes -/
theorem hx_throw {q : Nat} {fs : List Value} (C : hC E cc nL fr lc mc ms RX D kk dE A) (hnx : ∀ x ∈ (eC E).exceptionTable.toList, False) (hlk : (eT E).locks = false) (hq : eQ E = vx_MQ (eB E) (hw_Qc D A post) (hx_X D A px) (eA E) (eS E) mc ms A) (hqf : h q = some (.inr (8, fs))) (hka : ka ≤ mc) (hna : na ≤ ms) (hp0 : px q h) (hd : decode cc pc = .ok (.athrow, 1)) : ga_W E nL (hw_I E D A h) ka na pc lo (.ref q :: st) := by
  intro H locs ls hI hL
  obtain ⟨ce, hc1, hc2, hc3⟩ := hx_cell C hI.1 hqf
  refine vx_athrow C.c.1 C.c.2 hd ?_
  rw [hq]
  exact vx_out (E := RX8) (fun x hx => (hnx x hx).elim) hlk hc1 hc2 hc3 (fun t ht _ => ⟨rfl, ⟨h, hp0, by rw [ht]; exact hI.1⟩, hI.2.F ht⟩) hI.2.2.2 hka hna
/-- a call of a method that may throw, with no handler here -/
theorem hx_callV (pc2 : Nat) (C : hC E cc nL fr lc mc ms RX D kk dE A) (hnx : ∀ x ∈ (eC E).exceptionTable.toList, False) (hlk : (eT E).locks = false) (hq : eQ E = vx_MQ (eB E) (hw_Qc D A post) (hx_X D A px) (eA E) (eS E) mc ms A) {post1 : Option Value → hG → Prop} {px1 : Nat → hG → Prop} {a ci : Nat} {fs : List Value} {Cn : String} {T : u_T} {N : Nat} {y : MethodName} {bytes : ByteArray} {maxL idx n f2 l2 m2 s2 : Nat} {ret : Option FieldType} {as : List Value}
    (hM : vx_Met (eL E) y (ws_ y bytes maxL ret) ({ frames := f2, cells := m2, slots := s2, locals := l2 } : Room) (hw_Pc D kk dE A h (.ref a :: as)) (hw_Qc D A post1) (hx_X D A px1) m2 s2 A) (hpx : ∀ q h2, px1 q h2 → px q h2)
    (ha : h a = some (.inr (ci, fs))) (hcl : vwCl[ci]? = some (Cn, T, N)) (hw : GoodIn lw_all (wsV RX idx Cn y (ws_ y bytes maxL ret))) (hdd : y.cls = Cn ∧ y.cls ≠ "java/lang/invoke/MethodHandle" ∧ y.cls ≠ "java/lang/invoke/VarHandle" ∧ (parseMethodDescriptor y.desc).map (fun d => d.parameters.length) = some n) (hn : as.length = n)
    (hf : f2 + 1 ≤ fr) (hlc : 8 + (maxL + 11) + l2 ≤ lc) (hka : ka + m2 ≤ mc) (hna : na + s2 ≤ ms) (hst : (st.map fun v => v.category).sum ≤ 8) (hd : decode cc pc = .ok (.invokevirtual idx, 3)) (e : pc + 3 = pc2)
    (k1 : ∀ v h2, post1 v h2 → ga_W E nL (hw_I E D A h2) (ka + m2) (na + s2) pc2 lo (v.toList ++ st)) : ga_W E nL (hw_I E D A h) ka na pc lo (as.reverse ++ .ref a :: st) := by
  subst e
  intro H locs ls hI hL T0 hT S
  have cw : CallW (eR E) (eS E) (eA E) RX Cn idx y bytes maxL ret (ws_ y bytes maxL ret) ({ frames := f2, cells := m2, slots := s2, locals := l2 } : Room) m2 s2 n := cwV n C.ts hw rfl rfl rfl hdd (by rw [C.rm]; exact ⟨hf, hlc⟩)
  have hp := hw_pre (as := .ref a :: as) C hI
  rcases vx_runV (S := (⟨C.c.1, C.c.2, C.ml, C.ow, C.ts⟩ : CallFix (eP E) (eM E) (eC E) cc nL (eS E) (eA E) lw_all RX)) hM cw ⟨hp.1, hw_recv C hI ha hcl, hp.2⟩ (g := F0 (eM E) pc ls (as.reverse ++ .ref a :: st)) (rest := st) rfl hn hL.1 rfl (lv_room hst) hd (by rw [C.rm]; exact ⟨hka, hna⟩) T0 hT S with hr | hr
  · exact hw_end hI hL rfl hr k1
  · obtain ⟨q, st0, t, T2, L, En, ce, h0, X2, hL2, e1, e2, ⟨rfl, ⟨h2, hp1, hP2⟩, hF⟩, hce, hvm, hcl2, stp⟩ := hr
    have hS2 := ga_step hI.2 h0 e1 hF hL2
    have hce2 : T2.heap[q]? = some ce := by rw [e1]; exact hce
    have hout := vx_out (p := eP E) (l := eL E) (e := eV E) (R := eR E) (s := eS E) (m := eM E) (args := eA E) (below := eB E) (meth := eT E) (c := eC E) (H := T2.heap) (locs := locs ++ L) (cells := ka + m2) (slots := na + s2) (free := A) (ls := ls) (rest := st) (Qc := hw_Qc D A post) (XC := hx_X D A px) (pc := pc) (E := RX8) (ce := ce) (q := q) (mc := mc) (ms := ms) (fun x hx => (hnx x hx).elim) hlk hce2 hvm hcl2 (fun t9 ht _ => ⟨rfl, ⟨h2, hpx _ _ hp1, by rw [ht, e1]; exact hP2⟩, hS2.F ht⟩) hS2.2.2 hka hna
    obtain ⟨t2, a1, b1⟩ := hout T2 rfl X2
    refine ⟨t2, stp.trans a1, ?_⟩
    rw [hq]
    exact b1
/-- rows generic in the picture: a nest mate's static method; a text's length, its signs -/
theorem ga_callSN (pc2 : Nat) {I : Heap → List Loc → Prop} (C : ga_C E cc) (hml : (eC E).maxLocals = nL) (how : (eS E).vm.findClass RX = some (eM E).cls) (hts : ∀ w ∈ lw_all, w.before (eA E) (eS E) = true) (hxn : xn (eS E)) {y : MethodName} {host : String} {bytes : ByteArray} {maxL idx n f2 l2 : Nat} {ret : Option FieldType} {as : List Value} {v : Option Value}
    (hM : Met (eL E) y (ws_ y bytes maxL ret) ({ frames := f2, cells := 0, slots := 0, locals := l2 } : Room) (ps_Pc as) (ps_Qc v) 0 0 (fun _ => False))
    (hl : Cond.methodLinkNest RX idx y host ∈ lw_tbl) (h2 : Cond.static y ∈ lw_all) (h4 : Cond.initialized y.cls ∈ lw_all) (h5 : Cond.code y bytes maxL ret ∈ lw_all) (hdd : y.cls ≠ "java/lang/invoke/MethodHandle" ∧ y.cls ≠ "java/lang/invoke/VarHandle" ∧ (parseMethodDescriptor y.desc).map (fun d => d.parameters.length) = some n) (hn : as.length = n)
    (hf : f2 + 1 ≤ (eR E).frames) (hlc : 8 + (maxL + 11) + l2 ≤ (eR E).locals) (hka : ka ≤ (eR E).cells) (hna : na ≤ (eR E).slots) (hst : (st.map fun v => v.category).sum ≤ 8) (hd : decode cc pc = .ok (.invokestatic idx, 3)) (e : pc + 3 = pc2)
    (k1 : ga_W E nL I ka na pc2 lo (v.toList ++ st)) : ga_W E nL I ka na pc lo (as.reverse ++ st) := by
  subst e
  intro H locs ls hI hL T hT S
  have cw : va_CN (eR E) (eS E) (eA E) RX idx y host bytes maxL ret (ws_ y bytes maxL ret) ({ frames := f2, cells := 0, slots := 0, locals := l2 } : Room) 0 0 n := va_cnB n hts (lw_meth h5) rfl rfl rfl (hxn _ hl rfl) (hts _ h4) hdd ⟨hf, hlc⟩
  exact rd_end hI hL rfl (va_runSN (S := (⟨C.1, C.2, hml, how, hts⟩ : CallFix (eP E) (eM E) (eC E) cc nL (eS E) (eA E) lw_all RX)) hM ⟨cw, hts _ h2, trivial⟩ ⟨fun a U g mk q => ⟨q.1, trivial⟩, fun U hU hW => ⟨rfl, trivial⟩⟩ (g := F0 (eM E) pc ls (as.reverse ++ st)) (rest := st) rfl hn hL.1 rfl (lv_room hst) hd ⟨hka, hna⟩ T hT S) k1
theorem hh_tx (C : hC E cc nL fr lc mc ms RX D kk dE A) : ∀ H locs, hw_I E D A h H locs → ∀ U : State, U.heap = H → (eS E).WarmedH U.vm → tx_S (tgE dE) A U U.heap := fun H locs hI U hU hW => by
  rw [hU]
  exact (C.t.moved hW).kept hI.2.2.1
theorem hh_slen (pc2 : Nat) (C : hC E cc nL fr lc mc ms RX D kk dE A) {w idx : Nat} (hw : w < 13) (hf : 4 ≤ fr) (hlc : 200 ≤ lc) (hka : ka ≤ mc) (hna : na ≤ ms) (hwd : Cond.methodLink RX idx yJ4_length ∈ lw_all) (hst : (st.map fun v => v.category).sum ≤ 8) (hd : decode cc pc = .ok (.invokevirtual idx, 3)) (e : pc + 3 = pc2)
    (k1 : ga_W E nL (hw_I E D A h) ka na pc2 lo (.int (tx_l w) :: st)) : ga_W E nL (hw_I E D A h) ka na pc lo (.ref ((tgE dE).1 w) :: st) :=
  ga_callVP pc2 (as := []) (own := RX) C.c C.ml C.ow C.ts (met_J4_length (eL E) (tgE dE) A w hw) (fun U g mk a h => tx_S.calling h) (hh_tx C) (fun H locs hI => vk_recv C.t.1 hw hI.2) (lw_V hwd q680 q681 q105 q682) cd_J4_length rfl (by rw [C.rm]; show 2 ≤ fr; omega) (by rw [C.rm]; show 8 + (1 + 11) + 40 ≤ lc; omega) (by rw [C.rm]; exact hka) (by rw [C.rm]; exact hna) hst hd e k1
theorem hh_schar (pc2 : Nat) (C : hC E cc nL fr lc mc ms RX D kk dE A) {w idx : Nat} {i : Int32} (hw : w < 13) (hi : vp_in i (tx_len.getD w 0)) (hf : 4 ≤ fr) (hlc : 200 ≤ lc) (hka : ka ≤ mc) (hna : na ≤ ms) (hwd : Cond.methodLink RX idx yJ4_charAt ∈ lw_all) (hst : (st.map fun v => v.category).sum ≤ 8) (hd : decode cc pc = .ok (.invokevirtual idx, 3)) (e : pc + 3 = pc2)
    (k1 : ga_W E nL (hw_I E D A h) ka na pc2 lo (.int (tx_c w i) :: st)) : ga_W E nL (hw_I E D A h) ka na pc lo (.int i :: .ref ((tgE dE).1 w) :: st) :=
  ga_callVP pc2 (as := [.int i]) (own := RX) C.c C.ml C.ow C.ts (met_J4_charAt (eL E) (tgE dE) A w i hw hi) (fun U g mk a h => tx_S.calling h) (hh_tx C) (fun H locs hI => vk_recv C.t.1 hw hI.2) (lw_V hwd q690 q691 q105 q692) cd_J4_charAt rfl (by rw [C.rm]; show 4 ≤ fr; omega) (by rw [C.rm]; show 8 + (2 + 11) + 140 ≤ lc; omega) (by rw [C.rm]; exact hka) (by rw [C.rm]; exact hna) hst hd e k1
theorem hh_ldcS (pc2 : Nat) (C : hC E cc nL fr lc mc ms RX D kk dE A) {I : Heap → List Loc → Prop} {idx i : Nat} {tx : String} (hm : (RX, idx, tx, i) ∈ tx_refs) (hd : decode cc pc = .ok (.ldc idx, 2)) (e : pc + 2 = pc2) (k1 : ga_W E nL I ka na pc2 lo (.ref ((tgE dE).1 i) :: st)) : ga_W E nL I ka na pc lo st := by
  subst e
  exact fun H locs ls hI hL => va_ldcS C.c.1 C.c.2 C.ow (C.t.2.1 _ hm) hd (k1 H locs ls hI hL)
end HT
/-! what the reader reads: the text T of n signs; a state: where it is, where the token begins, the token, its number -/
abbrev sT : Type := Nat × Nat × Int32 × Int32
def isA (T : Nat → Int32) (n a : Nat) (lo hi : Int32) : Prop := a < n ∧ ¬ fX0_in (T a).toInt64 lo.toInt64 hi.toInt64 = 0
def isB (T : Nat → Int32) (n a : Nat) (lo hi : Int32) : Bool := decide (a < n) && !decide (fX0_in (T a).toInt64 lo.toInt64 hi.toInt64 = 0)
theorem isB_iff {T : Nat → Int32} {n a : Nat} {lo hi : Int32} : isB T n a lo hi = true ↔ isA T n a lo hi := by
  unfold isB isA
  simp
def isS (T : Nat → Int32) (n a : Nat) : Bool := isB T n a 32 32 || isB T n a 10 10
def tkS (T : Nat → Int32) (n : Nat) : Nat → Nat → Nat
  | 0, a => a
  | k + 1, a => if isS T n a = true then tkS T n k (a + 1) else a
def tkW (T : Nat → Int32) (n : Nat) (lo hi : Int32) : Nat → Nat → Nat
  | 0, a => a
  | k + 1, a => if isB T n a lo hi = true then tkW T n lo hi k (a + 1) else a
def tkV (T : Nat → Int32) (n : Nat) : Nat → Nat → Int32 → Int32
  | 0, _, v => v
  | k + 1, a, v => if isB T n a 48 57 = true then tkV T n k (a + 1) (pu_min 99999 (10 * v + T a - 48)) else v
def tkB (T : Nat → Int32) (n a : Nat) : Nat := tkS T n (n - a) a
def tk (T : Nat → Int32) (n a : Nat) : sT :=
  if tkB T n a = n then (n, n, 0, 0)
  else if isB T n (tkB T n a) 97 122 = true then (tkW T n 97 122 (n - tkB T n a) (tkB T n a), tkB T n a, 1, 0)
  else if isB T n (tkB T n a) 48 57 = true then (tkW T n 48 57 (n - tkB T n a) (tkB T n a), tkB T n a, 2, tkV T n (n - tkB T n a) (tkB T n a) 0)
  else (tkB T n a + 1, tkB T n a, if isB T n (tkB T n a) 59 59 = true then 3 else 4, 0)
theorem isB_lt {T : Nat → Int32} {n a : Nat} {lo hi : Int32} (h : isB T n a lo hi = true) : a < n := (isB_iff.mp h).1
theorem tkS_le {T : Nat → Int32} {n : Nat} : ∀ {k a : Nat}, a + k = n → a ≤ tkS T n k a ∧ tkS T n k a ≤ n := by
  intro k
  induction k with
  | zero => intro a h; exact ⟨Nat.le_refl _, by unfold tkS; omega⟩
  | succ k ih =>
    intro a h
    unfold tkS
    by_cases c : isS T n a = true
    · rw [if_pos c]
      have := ih (a := a + 1) (by omega)
      omega
    · rw [if_neg c]
      omega
theorem tkW_le {T : Nat → Int32} {n : Nat} {lo hi : Int32} : ∀ {k a : Nat}, a + k = n → a ≤ tkW T n lo hi k a ∧ tkW T n lo hi k a ≤ n := by
  intro k
  induction k with
  | zero => intro a h; exact ⟨Nat.le_refl _, by unfold tkW; omega⟩
  | succ k ih =>
    intro a h
    unfold tkW
    by_cases c : isB T n a lo hi = true
    · rw [if_pos c]
      have := ih (a := a + 1) (by omega)
      omega
    · rw [if_neg c]
      omega
theorem tk_le {T : Nat → Int32} {n a : Nat} (ha : a ≤ n) : (tk T n a).1 ≤ n ∧ (tk T n a).2.1 ≤ (tk T n a).1 := by
  have hb := tkS_le (T := T) (n := n) (k := n - a) (a := a) (by omega)
  have hb : a ≤ tkB T n a ∧ tkB T n a ≤ n := hb
  unfold tk
  split
  · exact ⟨Nat.le_refl _, Nat.le_refl _⟩
  · split
    · have := tkW_le (T := T) (n := n) (lo := 97) (hi := 122) (k := n - tkB T n a) (a := tkB T n a) (by omega)
      exact ⟨this.2, this.1⟩
    · split
      · have := tkW_le (T := T) (n := n) (lo := 48) (hi := 57) (k := n - tkB T n a) (a := tkB T n a) (by omega)
        exact ⟨this.2, this.1⟩
      · rename_i h1 _ _
        exact ⟨by show tkB T n a + 1 ≤ n; omega, by show tkB T n a ≤ tkB T n a + 1; omega⟩
/-- whether the token is the word w -/
def sp_isF (T : Nat → Int32) (b w : Nat) : Nat → Nat → Bool
  | 0, _ => true
  | k + 1, i => decide (T (b + i) = tx_c w (nI i)) && sp_isF T b w k (i + 1)
def sp_is (T : Nat → Int32) (s : sT) (w : Nat) : Bool := decide (s.2.2.1 = 1) && decide (s.1 - s.2.1 = tx_len.getD w 0) && sp_isF T s.2.1 w (tx_len.getD w 0) 0
/-- a fault: its kind, its place -/
abbrev sF : Type := Int32 × Nat
def sp_takes (T : Nat → Int32) (n : Nat) (s : sT) (w : Nat) : Int32 × sT := if sp_is T s w = true then (1, tk T n s.1) else (0, s)
def sp_asks (T : Nat → Int32) (n : Nat) (s : sT) (w : Nat) : sF ⊕ sT := if sp_is T s w = true then .inr (tk T n s.1) else .inl (1, s.2.1)
def sp_num (T : Nat → Int32) (n : Nat) (s : sT) (lo hi : Int32) : sF ⊕ (Int32 × sT) :=
  if s.2.2.1 = 2 then (if fX0_in s.2.2.2.toInt64 lo.toInt64 hi.toInt64 = 0 then .inl (2, s.2.1) else .inr (s.2.2.2, tk T n s.1)) else .inl (1, s.2.1)
def sp_numw (T : Nat → Int32) (n : Nat) (s : sT) (w : Nat) (lo hi : Int32) : sF ⊕ (Int32 × sT) := match sp_asks T n s w with
  | .inl f => .inl f
  | .inr s2 => sp_num T n s2 lo hi
/-- the reader's cell -/
def rdc (tp n rv : Nat) (s : sT) : va_E := .inr (7, [.ref tp, .int (nI n), .ref rv, .int (nI s.1), .int (nI s.2.1), .int s.2.2.1, .int s.2.2.2])
def FT (h : hG) (q : Nat) (f : sF) : Prop := h q = some (.inr (8, [.null, .null, .null, .null, .null, .int 0, .int f.1, .int (nI f.2)]))
theorem zq_val {C n d : String} {A : Nat → Prop} {U : State} {H : Heap} (h : va_Zq C n d A U H) : ∃ v : Value, (v = .null ∨ ∃ t, v = .ref t) ∧ va_Z C n d v A U H := by
  rcases h with h | ⟨t, h⟩
  · exact ⟨_, Or.inl rfl, h⟩
  · exact ⟨_, Or.inr ⟨t, rfl⟩, h⟩
theorem tx_le : ∀ w : Fin 13, 0 < tx_len.getD w.1 0 ∧ tx_len.getD w.1 0 ≤ 10 := by decide
theorem sp_takes_ok {T : Nat → Int32} {n w : Nat} {s : sT} (hs : s.1 ≤ n ∧ s.2.1 ≤ s.1) : (sp_takes T n s w).2.1 ≤ n ∧ (sp_takes T n s w).2.2.1 ≤ (sp_takes T n s w).2.1 := by
  unfold sp_takes
  split
  · exact tk_le hs.1
  · exact hs
