set_option maxRecDepth 100000
/-! a Fault that is caught -/
section HH
variable {E : gE} {cc : ByteArray} {nL fr lc mc ms : Nat} {RX : String} {D : va_G} {kk : Nat → Nat} {dE : Nat → Nat} {A : Nat → Prop} {h : hG} {ka na pc : Nat} {lo : List (Option Value)} {st : List Value} {post : Option Value → hG → Prop} {px : Nat → hG → Prop} {hh : List (Nat × Nat × Nat × Nat)}
theorem hx_ofH {l : Launch} {y : MethodName} {maxL : Nat} {ret : Option FieldType} {as : List Value} (hy : plainName y.cls = true) (hcls : y.cls = RX) (hlen : (lg_sl as).length ≤ maxL) {lo : List (Option Value)} (hlo : ga_ps 0 lo = lv_args 0 as)
    (body : ∀ E : gE, hC E cc maxL fr lc mc ms RX D kk dE A → (eC E).exceptionTable.toList = tableOf hh → (eT E).sig.returnType = ret → (eT E).locks = false → eQ E = vx_MQ (eB E) (hw_Qc D A post) (hx_X D A px) (eA E) (eS E) mc ms A → ga_W E maxL (hw_I E D A h) 0 0 0 lo []) :
    vx_Met l y (wsW_ y cc maxL ret hh) ({ frames := fr, cells := mc, slots := ms, locals := lc } : Room) (hw_Pc D kk dE A h as) (hw_Qc D A post) (hx_X D A px) mc ms A := by
  refine vx_ofWH (cc := cc) (maxL := maxL) (ret := ret) (hh := hh) hy rfl ?_
  intro p e s m args below meth c s₁ B hml hv
  obtain ⟨rfl, hP, hJ0⟩ := hv
  have hts := atoms_spec (ws := wsW_ y cc maxL ret hh) B.pre
  have hT := vx_table (x := y) B (hts _ List.mem_cons_self)
  have hts : ∀ w ∈ lw_all, w.before _ s = true := fun w h => hts w (List.mem_cons_of_mem _ h)
  have hown : s.vm.findClass RX = some m.cls := by rw [← hcls]; exact findClass_of_methodNamed B.named
  have hl := lv_entry as (n := maxL) hlen
  rw [lg_entry_eq]
  have K := body (p, l, e, (headSpec (wsW_ y cc maxL ret hh) ({ frames := fr, cells := mc, slots := ms, locals := lc } : Room)).room, s, m, as.toArray, below, meth, c, vx_MQ below (hw_Qc D A post) (hx_X D A px) as.toArray s mc ms A) ⟨⟨B.exec, B.bytes⟩, hml, hown, hts, hJ0, rfl⟩ hT B.returns B.notSynchronized rfl
  exact K s.heap [] _ ⟨hP, va_S.rf⟩ ⟨hl.1, hl.2.1, fun i v h => hl.2.2 (i, v) (by rw [← hlo]; exact (ga_ps_mem lo 0 i v).mpr ⟨i, by omega, h⟩)⟩
/-- a call of a method that may throw a Fault, caught here -/
theorem hx_callVC (pc2 : Nat) (C : hC E cc nL fr lc mc ms RX D kk dE A) (hT : (eC E).exceptionTable.toList = tableOf hh) (pre : List ExceptionTableEntry) (x : ExceptionTableEntry) (suf : List ExceptionTableEntry) (hs : tableOf hh = pre ++ x :: suf) (hpre : ∀ z ∈ pre, covers z pc = false) (hx : covers x pc = true) (h0 : x.catchType ≠ 0) (hlk : Cond.classLink RX x.catchType RX8 ∈ lw_all)
    {post1 : Option Value → hG → Prop} {px1 : Nat → hG → Prop} {a ci : Nat} {fs : List Value} {Cn : String} {T : u_T} {N : Nat} {y : MethodName} {bytes : ByteArray} {maxL idx n f2 l2 m2 s2 : Nat} {ret : Option FieldType} {as : List Value}
    (hM : vx_Met (eL E) y (ws_ y bytes maxL ret) ({ frames := f2, cells := m2, slots := s2, locals := l2 } : Room) (hw_Pc D kk dE A h (.ref a :: as)) (hw_Qc D A post1) (hx_X D A px1) m2 s2 A)
    (ha : h a = some (.inr (ci, fs))) (hcl : vwCl[ci]? = some (Cn, T, N)) (hw : GoodIn lw_all (wsV RX idx Cn y (ws_ y bytes maxL ret))) (hdd : y.cls = Cn ∧ y.cls ≠ "java/lang/invoke/MethodHandle" ∧ y.cls ≠ "java/lang/invoke/VarHandle" ∧ (parseMethodDescriptor y.desc).map (fun d => d.parameters.length) = some n) (hn : as.length = n)
    (hf : f2 + 1 ≤ fr) (hlc : 8 + (maxL + 11) + l2 ≤ lc) (hka : ka + m2 ≤ mc) (hna : na + s2 ≤ ms) (hst : (st.map fun v => v.category).sum ≤ 8) (hd : decode cc pc = .ok (.invokevirtual idx, 3)) (e : pc + 3 = pc2)
    (k1 : ∀ v h2, post1 v h2 → ga_W E nL (hw_I E D A h2) (ka + m2) (na + s2) pc2 lo (v.toList ++ st))
    (k2 : ∀ q h2, px1 q h2 → ga_W E nL (hw_I E D A h2) (ka + m2) (na + s2) x.handlerPc lo [.ref q]) : ga_W E nL (hw_I E D A h) ka na pc lo (as.reverse ++ .ref a :: st) := by
  subst e
  intro H locs ls hI hL T0 hT0 S
  have cw : CallW (eR E) (eS E) (eA E) RX Cn idx y bytes maxL ret (ws_ y bytes maxL ret) ({ frames := f2, cells := m2, slots := s2, locals := l2 } : Room) m2 s2 n := cwV n C.ts hw rfl rfl rfl hdd (by rw [C.rm]; exact ⟨hf, hlc⟩)
  have hp := hw_pre (as := .ref a :: as) C hI
  rcases vx_runV (S := (⟨C.c.1, C.c.2, C.ml, C.ow, C.ts⟩ : CallFix (eP E) (eM E) (eC E) cc nL (eS E) (eA E) lw_all RX)) hM cw ⟨hp.1, hw_recv C hI ha hcl, hp.2⟩ (g := F0 (eM E) pc ls (as.reverse ++ .ref a :: st)) (rest := st) rfl hn hL.1 rfl (lv_room hst) hd (by rw [C.rm]; exact ⟨hka, hna⟩) T0 hT0 S with hr | hr
  · exact hw_end hI hL rfl hr k1
  · obtain ⟨q, st0, t, T2, L, En, ce, h9, X2, hL2, e1, e2, ⟨rfl, ⟨h2, hp1, hP2⟩, hF⟩, hce, hvm, hcl2, stp⟩ := hr
    have hS2 := ga_step hI.2 h9 e1 hF hL2
    have hce2 : T2.heap[q]? = some ce := by rw [e1]; exact hce
    have hcast : (Cond.castable RX8 RX8).before (eA E) (eS E) = true := va_Nw.use rfl (C.s (RX8, RX8) (by unfold hc_l; simp [RX8]))
    have hout := vx_catch (p := eP E) (l := eL E) (e := eV E) (R := eR E) (s := eS E) (m := eM E) (args := eA E) (below := eB E) (meth := eT E) (c := eC E) (H := T2.heap) (locs := locs ++ L) (cells := ka + m2) (slots := na + s2) (ls := ls) (rest := st) (Q := eQ E) (pc := pc) (E := RX8) (name := RX8) (ce := ce) (q := q) C.ow pre x suf (hT.trans hs) (fun z hz => Or.inl (hpre z hz)) hx h0 (C.ts _ hlk) hcast hce2 hvm hcl2 (k2 q h2 hp1 T2.heap (locs ++ L) ls ⟨by rw [e1]; exact hP2, hS2⟩ hL)
    obtain ⟨t2, a1, b1⟩ := hout T2 rfl X2
    exact ⟨t2, stp.trans a1, b1⟩
end HH
def sp_now (w : Nat → Int32) : Nat → Int32 := if w 7 ≤ 0 then (fun _ => 0) else sp_fix w (xr_n w 0)
theorem hnw.back {h h2 : hG} {a : Nat} {G : XG} {w : Nat → Int32} (N : hnw h2 a G w) (k : hfr h h2 []) : hnw h a G w := by
  have z : ∀ b, h2 b = none → h b = none := fun b hb => by
    cases c : h b with
    | none => rfl
    | some e =>
      rw [k _ _ List.not_mem_nil c] at hb
      cases hb
  exact ⟨z _ N.o, fun i hi => z _ (N.l i hi), fun i hi hp => z _ (N.d i hi hp), fun j hj => z _ (N.r j hj)⟩
