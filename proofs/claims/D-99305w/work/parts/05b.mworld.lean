set_option maxRecDepth 100000
/-! the reference's world: z.1 its ints by the fields' numbers, z.2.1 its arrays of ints, bytes, booleans, z.2.2 its arrays of longs; g its addresses (42: the object; k: the array of field k), kk its array classes (0 int, 1 long, 2 byte, 3 boolean) -/
abbrev MS : Type := (Nat → Int32) × (Nat → Nat → Int32) × (Nat → Nat → Int64)
def mi (z : MS) (k : Nat) : Int32 := z.1 k
def ma (z : MS) (k i : Nat) : Int32 := z.2.1 k i
def ml (z : MS) (k i : Nat) : Int64 := z.2.2 k i
def msi (z : MS) (k : Nat) (v : Int32) : MS := (va_up z.1 k v, z.2)
def msa (z : MS) (k : Nat) (i v : Int32) : MS := (z.1, va_up z.2.1 k (upd (z.2.1 k) i.toNatClampNeg v), z.2.2)
def msl (z : MS) (k : Nat) (i : Int32) (v : Int64) : MS := (z.1, z.2.1, va_up z.2.2 k (vp_updL (z.2.2 k) i.toNatClampNeg v))
def mw_f (g : Nat → Nat) (z : MS) : List Value := [.int (mi z 0), .ref (g 1), .ref (g 2), .ref (g 3), .ref (g 4), .int (mi z 5), .ref (g 6), .int (mi z 7), .int (mi z 8), .int (mi z 9), .int (mi z 10), .int (mi z 11), .int (mi z 12), .int (mi z 13), .ref (g 14), .ref (g 15), .ref (g 16), .ref (g 17), .ref (g 18), .ref (g 19), .int (mi z 20), .int (mi z 21), .ref (g 22), .ref (g 23), .int (mi z 24), .int (mi z 25), .int (mi z 26), .ref (g 27), .ref (g 28), .int (mi z 29), .ref (g 30), .ref (g 31), .int (mi z 32), .int (mi z 33), .int (mi z 34), .ref (g 35), .ref (g 36), .int (mi z 37), .ref (g 38), .ref (g 39), .ref (g 40), .ref (g 41)]
def mw_t (g kk : Nat → Nat) (z : MS) : va_W := [(g 1, .inl (kk 0, 98, .inl (ma z 1))), (g 2, .inl (kk 0, 294, .inl (ma z 2))), (g 3, .inl (kk 3, 3, .inl (ma z 3))), (g 4, .inl (kk 2, 700, .inl (ma z 4))), (g 6, .inl (kk 0, 5, .inl (ma z 6))), (g 14, .inl (kk 0, 98, .inl (ma z 14))), (g 15, .inl (kk 0, 61, .inl (ma z 15))), (g 16, .inl (kk 0, 61, .inl (ma z 16))), (g 17, .inl (kk 0, 61, .inl (ma z 17))), (g 18, .inl (kk 0, 5, .inl (ma z 18))), (g 19, .inl (kk 0, 5, .inl (ma z 19))), (g 22, .inl (kk 0, 61, .inl (ma z 22))), (g 23, .inl (kk 3, 61, .inl (ma z 23))), (g 27, .inl (kk 0, 61, .inl (ma z 27))), (g 28, .inl (kk 0, 10, .inl (ma z 28))), (g 30, .inl (kk 0, 610, .inl (ma z 30))), (g 31, .inl (kk 2, 37210, .inl (ma z 31))), (g 35, .inl (kk 1, 1300, .inr (.inl (ml z 35)))), (g 36, .inl (kk 1, 1300, .inr (.inl (ml z 36)))), (g 38, .inl (kk 0, 4, .inl (ma z 38))), (g 39, .inl (kk 0, 4, .inl (ma z 39))), (g 40, .inl (kk 1, 240, .inr (.inl (ml z 40)))), (g 41, .inl (kk 1, 60, .inr (.inl (ml z 41))))]
def mw (g kk : Nat → Nat) (z : MS) : va_W := (g 42, .inr (1, mw_f g z)) :: mw_t g kk z
def mw_tys (kk : Nat → Nat) : List (ClassId × FieldType) := [(kk 0, .int), (kk 1, .long), (kk 2, .byte), (kk 3, .boolean)]
def mw_A (g : Nat → Nat) : Nat → Prop := fun q => ∃ k, k < 43 ∧ q = g k
/-- the heap holds the world z, and nothing else that was there at the method's start has changed -/
def mw_I (E : gE) (D : va_G) (g kk : Nat → Nat) (z : MS) : Heap → List Loc → Prop := fun H locs => va_P D vwCl (mw g kk z) H ∧ va_S (mw_A g) (eS E).heap H locs
/-- what holds at a method's start -/
def mw_J (D : va_G) (g kk : Nat → Nat) (tg : tx_G) (U : State) : Prop := va_K D vwCl (mw_tys kk) U ∧ (∀ z, va_D (mw_A g) (mw g kk z)) ∧ tx_S tg (mw_A g) U U.heap
def mw_C (E : gE) (cc : ByteArray) (nL fr lc : Nat) (D : va_G) (g kk : Nat → Nat) (tg : tx_G) : Prop :=
  ga_C E cc ∧ (eC E).maxLocals = nL ∧ (eS E).vm.findClass RX6 = some (eM E).cls ∧ (∀ w ∈ lw_all, w.before (eA E) (eS E) = true) ∧ mw_J D g kk tg (eS E) ∧ eR E = ({ frames := fr, cells := 0, slots := 0, locals := lc } : Room)
section MW
variable {E : gE} {cc : ByteArray} {nL fr lc : Nat} {D : va_G} {g kk : Nat → Nat} {tg : tx_G} {z : MS} {ka na pc : Nat} {lo : List (Option Value)} {st : List Value}
theorem mw_C.c (C : mw_C E cc nL fr lc D g kk tg) : ga_C E cc := C.1
theorem mw_C.ml (C : mw_C E cc nL fr lc D g kk tg) : (eC E).maxLocals = nL := C.2.1
theorem mw_C.ow (C : mw_C E cc nL fr lc D g kk tg) : (eS E).vm.findClass RX6 = some (eM E).cls := C.2.2.1
theorem mw_C.ts (C : mw_C E cc nL fr lc D g kk tg) : ∀ w ∈ lw_all, w.before (eA E) (eS E) = true := C.2.2.2.1
theorem mw_C.j (C : mw_C E cc nL fr lc D g kk tg) : mw_J D g kk tg (eS E) := C.2.2.2.2.1
theorem mw_C.rm (C : mw_C E cc nL fr lc D g kk tg) : eR E = ({ frames := fr, cells := 0, slots := 0, locals := lc } : Room) := C.2.2.2.2.2
/-- getfield of the reference -/
theorem ma_get (pc2 k : Nat) (C : mw_C E cc nL fr lc D g kk tg) {idx : Nat} {v : Value} (hk : k < 42) (hl : Cond.fieldLink RX6 idx RX6 (TX6 k).2.1 (TX6 k).2.2.1 ∈ lw_all) (hc : (TX6 k).1 = RX6) (hv : (mw_f g z)[k]? = some v) (hd : decode cc pc = .ok (.getfield idx, 3)) (e : pc + 3 = pc2)
    (k1 : ga_W E nL (mw_I E D g kk z) ka na pc2 lo (v :: st)) : ga_W E nL (mw_I E D g kk z) ka na pc lo (.ref (g 42) :: st) := by
  subst e
  intro H locs ls hI hL
  refine va_get (D := D) (ci := 1) (v := v) (C := RX6) (T := TX6) (N := 42) C.c.1 C.c.2 C.ts in_X6 C.ow C.j.1 hI.1 0 rfl rfl k hk (C.ts _ hl) (fun x h9 => by rw [hc] at h9; exact h9) hv hd ?_
  exact k1 H locs ls hI hL
theorem mw_put_e {D : va_G} {cl : List vw_C} {w1 w2 : va_W} {H : Heap} (h : va_P D cl w1 H) (e : w1 = w2) : va_P D cl w2 H := e ▸ h
theorem ma_put_x (pc2 k : Nat) (C : mw_C E cc nL fr lc D g kk tg) {idx : Nat} {v : Int32} (hk : k < 42) (hl : Cond.fieldLink RX6 idx RX6 (TX6 k).2.1 (TX6 k).2.2.1 ∈ lw_all) (hc : (TX6 k).1 = RX6) (hf : (TX6 k).2.2.2 = false) (hp : parseFieldDescriptor (TX6 k).2.2.1 = some .int) (hs : ((mw g kk z).set 0 (g 42, .inr (1, (mw_f g z).set k (.int v)))) = mw g kk (msi z k v)) (hlen : k < (mw_f g z).length) (hd : decode cc pc = .ok (.putfield idx, 3)) (e : pc + 3 = pc2)
    (k1 : ga_W E nL (mw_I E D g kk (msi z k v)) ka na pc2 lo st) : ga_W E nL (mw_I E D g kk z) ka na pc lo (.int v :: .ref (g 42) :: st) := by
  subst e
  intro H locs ls hI hL
  refine va_put (D := D) (ci := 1) (v := .int v) (ty := .int) (C := RX6) (T := TX6) (N := 42) C.c.1 C.c.2 C.ts in_X6 tyX6 tyX6_ok nmX6 C.ow C.j.1 hI.1 (C.j.2.1 z) hI.2 0 rfl rfl k hk (C.ts _ hl) (fun x h9 => by rw [hc] at h9; exact h9) hf hp rfl rfl hlen hd (fun H1 locs1 hP hD hS => ?_)
  exact k1 H1 locs1 ls ⟨mw_put_e hP hs, hS⟩ hL
theorem ma_set0 (v : Int32) : ((mw g kk z).set 0 (g 42, .inr (1, (mw_f g z).set 0 (.int v)))) = mw g kk (msi z 0 v) := rfl
theorem ma_set5 (v : Int32) : ((mw g kk z).set 0 (g 42, .inr (1, (mw_f g z).set 5 (.int v)))) = mw g kk (msi z 5 v) := rfl
theorem ma_set7 (v : Int32) : ((mw g kk z).set 0 (g 42, .inr (1, (mw_f g z).set 7 (.int v)))) = mw g kk (msi z 7 v) := rfl
theorem ma_set8 (v : Int32) : ((mw g kk z).set 0 (g 42, .inr (1, (mw_f g z).set 8 (.int v)))) = mw g kk (msi z 8 v) := rfl
theorem ma_set9 (v : Int32) : ((mw g kk z).set 0 (g 42, .inr (1, (mw_f g z).set 9 (.int v)))) = mw g kk (msi z 9 v) := rfl
theorem ma_set10 (v : Int32) : ((mw g kk z).set 0 (g 42, .inr (1, (mw_f g z).set 10 (.int v)))) = mw g kk (msi z 10 v) := rfl
theorem ma_set11 (v : Int32) : ((mw g kk z).set 0 (g 42, .inr (1, (mw_f g z).set 11 (.int v)))) = mw g kk (msi z 11 v) := rfl
theorem ma_set12 (v : Int32) : ((mw g kk z).set 0 (g 42, .inr (1, (mw_f g z).set 12 (.int v)))) = mw g kk (msi z 12 v) := rfl
theorem ma_set13 (v : Int32) : ((mw g kk z).set 0 (g 42, .inr (1, (mw_f g z).set 13 (.int v)))) = mw g kk (msi z 13 v) := rfl
theorem ma_set20 (v : Int32) : ((mw g kk z).set 0 (g 42, .inr (1, (mw_f g z).set 20 (.int v)))) = mw g kk (msi z 20 v) := rfl
theorem ma_set21 (v : Int32) : ((mw g kk z).set 0 (g 42, .inr (1, (mw_f g z).set 21 (.int v)))) = mw g kk (msi z 21 v) := rfl
theorem ma_set24 (v : Int32) : ((mw g kk z).set 0 (g 42, .inr (1, (mw_f g z).set 24 (.int v)))) = mw g kk (msi z 24 v) := rfl
theorem ma_set25 (v : Int32) : ((mw g kk z).set 0 (g 42, .inr (1, (mw_f g z).set 25 (.int v)))) = mw g kk (msi z 25 v) := rfl
theorem ma_set26 (v : Int32) : ((mw g kk z).set 0 (g 42, .inr (1, (mw_f g z).set 26 (.int v)))) = mw g kk (msi z 26 v) := rfl
theorem ma_set29 (v : Int32) : ((mw g kk z).set 0 (g 42, .inr (1, (mw_f g z).set 29 (.int v)))) = mw g kk (msi z 29 v) := rfl
theorem ma_set32 (v : Int32) : ((mw g kk z).set 0 (g 42, .inr (1, (mw_f g z).set 32 (.int v)))) = mw g kk (msi z 32 v) := rfl
theorem ma_set33 (v : Int32) : ((mw g kk z).set 0 (g 42, .inr (1, (mw_f g z).set 33 (.int v)))) = mw g kk (msi z 33 v) := rfl
theorem ma_set34 (v : Int32) : ((mw g kk z).set 0 (g 42, .inr (1, (mw_f g z).set 34 (.int v)))) = mw g kk (msi z 34 v) := rfl
theorem ma_set37 (v : Int32) : ((mw g kk z).set 0 (g 42, .inr (1, (mw_f g z).set 37 (.int v)))) = mw g kk (msi z 37 v) := rfl
/-- iaload, baload, laload, arraylength, iastore .. of the array of field k, at its place in the list -/
theorem ma_iald (pc2 k q n : Nat) (C : mw_C E cc nL fr lc D g kk tg) {i : Int32} (ha : (mw g kk z)[q]? = some (g k, .inl (kk 0, n, .inl (ma z k)))) (hi : vp_in i n) (hd : decode cc pc = .ok (.iaload, 1)) (e : pc + 1 = pc2)
    (k1 : ga_W E nL (mw_I E D g kk z) ka na pc2 lo (.int (ma z k i.toNatClampNeg) :: st)) : ga_W E nL (mw_I E D g kk z) ka na pc lo (.int i :: .ref (g k) :: st) := by
  subst e
  intro H locs ls hI hL
  exact va_iald C.c.1 C.c.2 C.j.1 hI.1 q 0 ha rfl hi hd (k1 H locs ls hI hL)
theorem ma_bald (pc2 k q n : Nat) (C : mw_C E cc nL fr lc D g kk tg) {i : Int32} (ha : (mw g kk z)[q]? = some (g k, .inl (kk 2, n, .inl (ma z k)))) (hi : vp_in i n) (hd : decode cc pc = .ok (.baload, 1)) (e : pc + 1 = pc2)
    (k1 : ga_W E nL (mw_I E D g kk z) ka na pc2 lo (.int (ma z k i.toNatClampNeg) :: st)) : ga_W E nL (mw_I E D g kk z) ka na pc lo (.int i :: .ref (g k) :: st) := by
  subst e
  intro H locs ls hI hL
  exact va_bald C.c.1 C.c.2 C.j.1 hI.1 q 2 ha rfl hi hd (k1 H locs ls hI hL)
theorem ma_zald (pc2 k q n : Nat) (C : mw_C E cc nL fr lc D g kk tg) {i : Int32} (ha : (mw g kk z)[q]? = some (g k, .inl (kk 3, n, .inl (ma z k)))) (hi : vp_in i n) (hd : decode cc pc = .ok (.baload, 1)) (e : pc + 1 = pc2)
    (k1 : ga_W E nL (mw_I E D g kk z) ka na pc2 lo (.int (ma z k i.toNatClampNeg) :: st)) : ga_W E nL (mw_I E D g kk z) ka na pc lo (.int i :: .ref (g k) :: st) := by
  subst e
  intro H locs ls hI hL
  exact va_zald C.c.1 C.c.2 C.j.1 hI.1 q 3 ha rfl hi hd (k1 H locs ls hI hL)
theorem ma_lald (pc2 k q n : Nat) (C : mw_C E cc nL fr lc D g kk tg) {i : Int32} (ha : (mw g kk z)[q]? = some (g k, .inl (kk 1, n, .inr (.inl (ml z k))))) (hi : vp_in i n) (hd : decode cc pc = .ok (.laload, 1)) (e : pc + 1 = pc2)
    (k1 : ga_W E nL (mw_I E D g kk z) ka na pc2 lo (.long (ml z k i.toNatClampNeg) :: st)) : ga_W E nL (mw_I E D g kk z) ka na pc lo (.int i :: .ref (g k) :: st) := by
  subst e
  intro H locs ls hI hL
  exact va_lald C.c.1 C.c.2 C.j.1 hI.1 q 1 ha rfl hi hd (k1 H locs ls hI hL)
theorem ma_iast (pc2 k q n : Nat) (C : mw_C E cc nL fr lc D g kk tg) {i v : Int32} (ha : (mw g kk z)[q]? = some (g k, .inl (kk 0, n, .inl (ma z k)))) (hs : (mw g kk z).set q (g k, .inl (kk 0, n, .inl (upd (ma z k) i.toNatClampNeg v))) = mw g kk (msa z k i v)) (hi : vp_in i n) (hd : decode cc pc = .ok (.iastore, 1)) (e : pc + 1 = pc2)
    (k1 : ga_W E nL (mw_I E D g kk (msa z k i v)) ka na pc2 lo st) : ga_W E nL (mw_I E D g kk z) ka na pc lo (.int v :: .int i :: .ref (g k) :: st) := by
  subst e
  intro H locs ls hI hL
  exact va_iast C.c.1 C.c.2 C.j.1 hI.1 (C.j.2.1 z) hI.2 q 0 ha rfl hi hd (fun H1 locs1 hP hD hS => k1 H1 locs1 ls ⟨mw_put_e hP hs, hS⟩ hL)
theorem ma_bast (pc2 k q n : Nat) (C : mw_C E cc nL fr lc D g kk tg) {i v : Int32} {w : Int32} (hw : vp_nar .byte v = w) (ha : (mw g kk z)[q]? = some (g k, .inl (kk 2, n, .inl (ma z k)))) (hs : (mw g kk z).set q (g k, .inl (kk 2, n, .inl (upd (ma z k) i.toNatClampNeg w))) = mw g kk (msa z k i w)) (hi : vp_in i n) (hd : decode cc pc = .ok (.bastore, 1)) (e : pc + 1 = pc2)
    (k1 : ga_W E nL (mw_I E D g kk (msa z k i w)) ka na pc2 lo st) : ga_W E nL (mw_I E D g kk z) ka na pc lo (.int v :: .int i :: .ref (g k) :: st) := by
  subst e
  subst hw
  intro H locs ls hI hL
  exact va_bast C.c.1 C.c.2 C.j.1 hI.1 (C.j.2.1 z) hI.2 q 2 ha rfl hi hd (fun H1 locs1 hP hD hS => k1 H1 locs1 ls ⟨mw_put_e hP hs, hS⟩ hL)
theorem ma_zast (pc2 k q n : Nat) (C : mw_C E cc nL fr lc D g kk tg) {i v : Int32} {w : Int32} (hw : vp_nar .boolean v = w) (ha : (mw g kk z)[q]? = some (g k, .inl (kk 3, n, .inl (ma z k)))) (hs : (mw g kk z).set q (g k, .inl (kk 3, n, .inl (upd (ma z k) i.toNatClampNeg w))) = mw g kk (msa z k i w)) (hi : vp_in i n) (hd : decode cc pc = .ok (.bastore, 1)) (e : pc + 1 = pc2)
    (k1 : ga_W E nL (mw_I E D g kk (msa z k i w)) ka na pc2 lo st) : ga_W E nL (mw_I E D g kk z) ka na pc lo (.int v :: .int i :: .ref (g k) :: st) := by
  subst e
  subst hw
  intro H locs ls hI hL
  exact va_zast C.c.1 C.c.2 C.j.1 hI.1 (C.j.2.1 z) hI.2 q 3 ha rfl hi hd (fun H1 locs1 hP hD hS => k1 H1 locs1 ls ⟨mw_put_e hP hs, hS⟩ hL)
theorem ma_last (pc2 k q n : Nat) (C : mw_C E cc nL fr lc D g kk tg) {i : Int32} {v : Int64} (ha : (mw g kk z)[q]? = some (g k, .inl (kk 1, n, .inr (.inl (ml z k))))) (hs : (mw g kk z).set q (g k, .inl (kk 1, n, .inr (.inl (vp_updL (ml z k) i.toNatClampNeg v)))) = mw g kk (msl z k i v)) (hi : vp_in i n) (hd : decode cc pc = .ok (.lastore, 1)) (e : pc + 1 = pc2)
    (k1 : ga_W E nL (mw_I E D g kk (msl z k i v)) ka na pc2 lo st) : ga_W E nL (mw_I E D g kk z) ka na pc lo (.long v :: .int i :: .ref (g k) :: st) := by
  subst e
  intro H locs ls hI hL
  exact va_last C.c.1 C.c.2 C.j.1 hI.1 (C.j.2.1 z) hI.2 q 1 ha rfl hi hd (fun H1 locs1 hP hD hS => k1 H1 locs1 ls ⟨mw_put_e hP hs, hS⟩ hL)
theorem ma_seta1 (i v : Int32) : (mw g kk z).set 1 (g 1, .inl (kk 0, 98, .inl (upd (ma z 1) i.toNatClampNeg v))) = mw g kk (msa z 1 i v) := rfl
theorem ma_seta2 (i v : Int32) : (mw g kk z).set 2 (g 2, .inl (kk 0, 294, .inl (upd (ma z 2) i.toNatClampNeg v))) = mw g kk (msa z 2 i v) := rfl
theorem ma_seta3 (i v : Int32) : (mw g kk z).set 3 (g 3, .inl (kk 3, 3, .inl (upd (ma z 3) i.toNatClampNeg v))) = mw g kk (msa z 3 i v) := rfl
theorem ma_seta4 (i v : Int32) : (mw g kk z).set 4 (g 4, .inl (kk 2, 700, .inl (upd (ma z 4) i.toNatClampNeg v))) = mw g kk (msa z 4 i v) := rfl
theorem ma_seta6 (i v : Int32) : (mw g kk z).set 5 (g 6, .inl (kk 0, 5, .inl (upd (ma z 6) i.toNatClampNeg v))) = mw g kk (msa z 6 i v) := rfl
theorem ma_seta14 (i v : Int32) : (mw g kk z).set 6 (g 14, .inl (kk 0, 98, .inl (upd (ma z 14) i.toNatClampNeg v))) = mw g kk (msa z 14 i v) := rfl
theorem ma_seta15 (i v : Int32) : (mw g kk z).set 7 (g 15, .inl (kk 0, 61, .inl (upd (ma z 15) i.toNatClampNeg v))) = mw g kk (msa z 15 i v) := rfl
theorem ma_seta16 (i v : Int32) : (mw g kk z).set 8 (g 16, .inl (kk 0, 61, .inl (upd (ma z 16) i.toNatClampNeg v))) = mw g kk (msa z 16 i v) := rfl
theorem ma_seta17 (i v : Int32) : (mw g kk z).set 9 (g 17, .inl (kk 0, 61, .inl (upd (ma z 17) i.toNatClampNeg v))) = mw g kk (msa z 17 i v) := rfl
theorem ma_seta18 (i v : Int32) : (mw g kk z).set 10 (g 18, .inl (kk 0, 5, .inl (upd (ma z 18) i.toNatClampNeg v))) = mw g kk (msa z 18 i v) := rfl
theorem ma_seta19 (i v : Int32) : (mw g kk z).set 11 (g 19, .inl (kk 0, 5, .inl (upd (ma z 19) i.toNatClampNeg v))) = mw g kk (msa z 19 i v) := rfl
theorem ma_seta22 (i v : Int32) : (mw g kk z).set 12 (g 22, .inl (kk 0, 61, .inl (upd (ma z 22) i.toNatClampNeg v))) = mw g kk (msa z 22 i v) := rfl
theorem ma_seta23 (i v : Int32) : (mw g kk z).set 13 (g 23, .inl (kk 3, 61, .inl (upd (ma z 23) i.toNatClampNeg v))) = mw g kk (msa z 23 i v) := rfl
theorem ma_seta27 (i v : Int32) : (mw g kk z).set 14 (g 27, .inl (kk 0, 61, .inl (upd (ma z 27) i.toNatClampNeg v))) = mw g kk (msa z 27 i v) := rfl
theorem ma_seta28 (i v : Int32) : (mw g kk z).set 15 (g 28, .inl (kk 0, 10, .inl (upd (ma z 28) i.toNatClampNeg v))) = mw g kk (msa z 28 i v) := rfl
theorem ma_seta30 (i v : Int32) : (mw g kk z).set 16 (g 30, .inl (kk 0, 610, .inl (upd (ma z 30) i.toNatClampNeg v))) = mw g kk (msa z 30 i v) := rfl
theorem ma_seta31 (i v : Int32) : (mw g kk z).set 17 (g 31, .inl (kk 2, 37210, .inl (upd (ma z 31) i.toNatClampNeg v))) = mw g kk (msa z 31 i v) := rfl
theorem ma_seta35 (i : Int32) (v : Int64) : (mw g kk z).set 18 (g 35, .inl (kk 1, 1300, .inr (.inl (vp_updL (ml z 35) i.toNatClampNeg v)))) = mw g kk (msl z 35 i v) := rfl
theorem ma_seta36 (i : Int32) (v : Int64) : (mw g kk z).set 19 (g 36, .inl (kk 1, 1300, .inr (.inl (vp_updL (ml z 36) i.toNatClampNeg v)))) = mw g kk (msl z 36 i v) := rfl
theorem ma_seta38 (i v : Int32) : (mw g kk z).set 20 (g 38, .inl (kk 0, 4, .inl (upd (ma z 38) i.toNatClampNeg v))) = mw g kk (msa z 38 i v) := rfl
theorem ma_seta39 (i v : Int32) : (mw g kk z).set 21 (g 39, .inl (kk 0, 4, .inl (upd (ma z 39) i.toNatClampNeg v))) = mw g kk (msa z 39 i v) := rfl
theorem ma_seta40 (i : Int32) (v : Int64) : (mw g kk z).set 22 (g 40, .inl (kk 1, 240, .inr (.inl (vp_updL (ml z 40) i.toNatClampNeg v)))) = mw g kk (msl z 40 i v) := rfl
theorem ma_seta41 (i : Int32) (v : Int64) : (mw g kk z).set 23 (g 41, .inl (kk 1, 60, .inr (.inl (vp_updL (ml z 41) i.toNatClampNeg v)))) = mw g kk (msl z 41 i v) := rfl
theorem ma_ldc (pc2 : Nat) (C : mw_C E cc nL fr lc D g kk tg) {I : Heap → List Loc → Prop} {index : Nat} {v : Int32} (hc : Jvm.Cond.constant RX6 index v ∈ lw_all) (hd : decode cc pc = .ok (.ldc index, 2)) (e : pc + 2 = pc2) (k1 : ga_W E nL I ka na pc2 lo (.int v :: st)) : ga_W E nL I ka na pc lo st := ga_ldc pc2 C.c C.ow (C.ts _ hc) hd e k1
theorem ma_ldc2 (pc2 : Nat) (C : mw_C E cc nL fr lc D g kk tg) {I : Heap → List Loc → Prop} {index : Nat} {v : Int64} (hc : Jvm.Cond.constantLong RX6 index v ∈ lw_all) (hd : decode cc pc = .ok (.ldc2_w index, 3)) (e : pc + 3 = pc2) (k1 : ga_W E nL I ka na pc2 lo (.long v :: st)) : ga_W E nL I ka na pc lo st := ga_ldc2 pc2 C.c C.ow (C.ts _ hc) hd e k1
theorem ma_ldcS (pc2 : Nat) (C : mw_C E cc nL fr lc D g kk tg) {I : Heap → List Loc → Prop} {idx i : Nat} {tx : String} (hm : (RX6, idx, tx, i) ∈ tx_refs) (hd : decode cc pc = .ok (.ldc idx, 2)) (e : pc + 2 = pc2) (k1 : ga_W E nL I ka na pc2 lo (.ref (tg.1 i) :: st)) : ga_W E nL I ka na pc lo st := by
  subst e
  exact fun H locs ls hI hL => va_ldcS C.c.1 C.c.2 C.ow (C.j.2.2.2.1 _ hm) hd (k1 H locs ls hI hL)
/-- a method of the reference: its start and its end -/
def mw_Pc (D : va_G) (g kk : Nat → Nat) (tg : tx_G) (z : MS) (as : List Value) : Array Value → State → Prop := va_Pc as (fun U => va_P D vwCl (mw g kk z) U.heap ∧ mw_J D g kk tg U)
def mw_Qc (D : va_G) (g kk : Nat → Nat) (z : MS) (v : Option Value) : Array Value → State → Outcome → State → Prop := fun _ st oc t => (oc = .returned v ∧ va_P D vwCl (mw g kk z) t.heap) ∧ va_F (mw_A g) st t
theorem mw_J.moved {D : va_G} {g kk : Nat → Nat} {tg : tx_G} {s U : State} {H : Heap} {locs : List Loc} (h : mw_J D g kk tg s) (hW : s.WarmedH U.vm) (hH : U.heap = H) (hS : va_S (mw_A g) s.heap H locs) : mw_J D g kk tg U := ⟨va_K.moved hW.alike h.1, h.2.1, by
  rw [hH]
  exact (h.2.2.moved hW).kept hS.2.1⟩
/-- a method's contract out of its walk -/
theorem mw_of {l : Launch} {y : MethodName} {cc : ByteArray} {maxL : Nat} {ret : Option FieldType} {fr lc : Nat} {z z2 : MS} {as : List Value} {v : Option Value} (hy : plainName y.cls = true) (hcls : y.cls = RX6) (hlen : (lg_sl as).length ≤ maxL) {lo : List (Option Value)} (hlo : ga_ps 0 lo = lv_args 0 as)
    (body : ∀ E : gE, mw_C E cc maxL fr lc D g kk tg → (eT E).sig.returnType = ret → (eT E).locks = false → eQ E = MQ (eB E) (mw_Qc D g kk z2 v) (eA E) (eS E) 0 0 (mw_A g) → ga_W E maxL (mw_I E D g kk z) 0 0 0 lo []) :
    Met l y (ws_ y cc maxL ret) ({ frames := fr, cells := 0, slots := 0, locals := lc } : Room) (mw_Pc D g kk tg z as) (mw_Qc D g kk z2 v) 0 0 (mw_A g) := by
  refine Met.ofW (cc := cc) (maxL := maxL) (ret := ret) hy rfl ?_
  intro p e s m args below meth c s₁ B hml hv
  obtain ⟨rfl, hP, hJ⟩ := hv
  have hts := atoms_spec (ws := ws_ y cc maxL ret) B.pre
  have hts : ∀ w ∈ lw_all, w.before _ s = true := fun w h => hts w (List.mem_cons_of_mem _ h)
  have hown : s.vm.findClass RX6 = some m.cls := by rw [← hcls]; exact findClass_of_methodNamed B.named
  have hl := lv_entry as (n := maxL) hlen
  rw [lg_entry_eq]
  have K := body (p, l, e, (headSpec (ws_ y cc maxL ret) ({ frames := fr, cells := 0, slots := 0, locals := lc } : Room)).room, s, m, as.toArray, below, meth, c, MQ below (mw_Qc D g kk z2 v) as.toArray s 0 0 (mw_A g)) ⟨⟨B.exec, B.bytes⟩, hml, hown, hts, hJ, rfl⟩ B.returns B.notSynchronized rfl
  exact K s.heap [] _ ⟨hP, va_S.rf⟩ ⟨hl.1, hl.2.1, fun i v h => hl.2.2 (i, v) (by rw [← hlo]; exact (ga_ps_mem lo 0 i v).mpr ⟨i, by omega, h⟩)⟩
theorem mw_iret {v : Int32} {z2 : MS} {vv : Value} {rt : FieldType} (C : mw_C E cc nL fr lc D g kk tg) (hr : (eT E).sig.returnType = some rt) (hlk : (eT E).locks = false) (hq : eQ E = MQ (eB E) (mw_Qc D g kk z2 (some vv)) (eA E) (eS E) 0 0 (mw_A g)) {w : Int32} (hn : narrow rt (.int v) = .int w) (ev : Value.int w = vv) (ez : z = z2) (hd : decode cc pc = .ok (.ireturn, 1)) : ga_W E nL (mw_I E D g kk z) 0 0 pc lo [.int v] := by
  intro H locs ls hI hL
  subst ev
  subst ez
  rw [hq]
  exact ga_zret C.c.1 C.c.2 hr hn (fun t ht hW => ⟨⟨rfl, by rw [ht]; exact hI.1⟩, hI.2.F ht⟩) hI.2.2.2 hd hlk
theorem mw_lret {v : Int64} {z2 : MS} {vv : Value} (C : mw_C E cc nL fr lc D g kk tg) (hr : (eT E).sig.returnType = some .long) (hlk : (eT E).locks = false) (hq : eQ E = MQ (eB E) (mw_Qc D g kk z2 (some vv)) (eA E) (eS E) 0 0 (mw_A g)) (ev : Value.long v = vv) (ez : z = z2) (hd : decode cc pc = .ok (.lreturn, 1)) : ga_W E nL (mw_I E D g kk z) 0 0 pc lo [.long v] := by
  intro H locs ls hI hL
  subst ev
  subst ez
  rw [hq]
  exact W.lret C.c.1 C.c.2 hr (fun t ht hW => ⟨⟨rfl, by rw [ht]; exact hI.1⟩, hI.2.F ht⟩) hI.2.2.2 hd hlk
theorem mw_vret {z2 : MS} (C : mw_C E cc nL fr lc D g kk tg) (hr : (eT E).sig.returnType = none) (hlk : (eT E).locks = false) (hq : eQ E = MQ (eB E) (mw_Qc D g kk z2 none) (eA E) (eS E) 0 0 (mw_A g)) (ez : z = z2) (hd : decode cc pc = .ok (.return_, 1)) : ga_W E nL (mw_I E D g kk z) 0 0 pc lo [] := by
  intro H locs ls hI hL
  subst ez
  rw [hq]
  exact W.vret C.c.1 C.c.2 hr (fun t ht hW => ⟨⟨rfl, by rw [ht]; exact hI.1⟩, hI.2.F ht⟩) hI.2.2.2 hd hlk
theorem mw_pre {y : MethodName} {as : List Value} {H : Heap} {locs : List Loc} (C : mw_C E cc nL fr lc D g kk tg) (hI : mw_I E D g kk z H locs) : FrameBlind (mw_Pc D g kk tg z as) ∧ ∀ U : State, U.heap = H → (eS E).WarmedH U.vm → mw_Pc D g kk tg z as as.toArray U :=
  ⟨fun a U gg mk q => ⟨q.1, q.2.1, va_K.moved (u := U) (U := U.calling gg mk a) (Vm.Alike.refl U.vm) q.2.2.1, q.2.2.2.1, tx_S.calling q.2.2.2.2⟩, fun U hU hW => ⟨rfl, by rw [hU]; exact hI.1, C.j.moved hW hU hI.2⟩⟩
/-- a call of a method of the reference: through the object -/
theorem ma_callV (pc2 : Nat) (C : mw_C E cc nL fr lc D g kk tg) {y : MethodName} {bytes : ByteArray} {maxL idx n f2 l2 : Nat} {ret : Option FieldType} {z2 : MS} {as : List Value} {v : Option Value}
    (hM : Met (eL E) y (ws_ y bytes maxL ret) ({ frames := f2, cells := 0, slots := 0, locals := l2 } : Room) (mw_Pc D g kk tg z (.ref (g 42) :: as)) (mw_Qc D g kk z2 v) 0 0 (mw_A g))
    (hw : GoodIn lw_all (wsV RX6 idx RX6 y (ws_ y bytes maxL ret))) (hdd : y.cls = RX6 ∧ y.cls ≠ "java/lang/invoke/MethodHandle" ∧ y.cls ≠ "java/lang/invoke/VarHandle" ∧ (parseMethodDescriptor y.desc).map (fun d => d.parameters.length) = some n) (hn : as.length = n)
    (hf : f2 + 1 ≤ fr) (hlc : 8 + (maxL + 11) + l2 ≤ lc) (hst : (st.map fun v => v.category).sum ≤ 8) (hd : decode cc pc = .ok (.invokevirtual idx, 3)) (e : pc + 3 = pc2)
    (k1 : ga_W E nL (mw_I E D g kk z2) 0 0 pc2 lo (v.toList ++ st)) : ga_W E nL (mw_I E D g kk z) 0 0 pc lo (as.reverse ++ .ref (g 42) :: st) := by
  subst e
  intro H locs ls hI hL T hT X
  have cw : CallW (eR E) (eS E) (eA E) RX6 RX6 idx y bytes maxL ret (ws_ y bytes maxL ret) ({ frames := f2, cells := 0, slots := 0, locals := l2 } : Room) 0 0 n := cwV n C.ts hw rfl rfl rfl hdd (by rw [C.rm]; exact ⟨hf, hlc⟩)
  have hp := mw_pre (y := y) (as := .ref (g 42) :: as) C hI
  obtain ⟨v', st0, t, T', L, h0, X', hL', e1, e2, ⟨⟨hv, hP2⟩, hF⟩, stp⟩ := va_runV (S := (⟨C.c.1, C.c.2, C.ml, C.ow, C.ts⟩ : CallFix (eP E) (eM E) (eC E) cc nL (eS E) (eA E) lw_all RX6)) hM cw ⟨hp.1, va_recv C.j.1 hI.1 (ci := 1) (q0 := 0) rfl rfl, hp.2⟩ (g := F0 (eM E) pc ls (as.reverse ++ .ref (g 42) :: st)) (rest := st) rfl hn hL.1 rfl (lv_room hst) hd (by rw [C.rm]; exact ⟨Nat.le_refl _, Nat.le_refl _⟩) T hT X
  cases hv
  obtain ⟨t2, a1, b1⟩ := k1 T'.heap (locs ++ L) ls ⟨by rw [e1]; exact hP2, ga_step hI.2 h0 e1 hF hL'⟩ hL T' rfl X'
  exact ⟨t2, stp t2 a1, b1⟩
theorem mw_tx {E : gE} {D : va_G} {g kk : Nat → Nat} {tg : tx_G} {z : MS} {cc : ByteArray} {nL fr lc : Nat} (C : mw_C E cc nL fr lc D g kk tg) : ∀ H locs, mw_I E D g kk z H locs → ∀ U : State, U.heap = H → (eS E).WarmedH U.vm → tx_S tg (mw_A g) U U.heap := fun H locs hI U hU hW => by
  rw [hU]
  exact (C.j.2.2.moved hW).kept hI.2.2.1
theorem mw_txr {E : gE} {D : va_G} {g kk : Nat → Nat} {tg : tx_G} {z : MS} {cc : ByteArray} {nL fr lc w : Nat} (C : mw_C E cc nL fr lc D g kk tg) (hw : w < 13) : ∀ H locs, mw_I E D g kk z H locs → ∃ cell : Cell, H[tg.1 w]? = some cell ∧ cell.vm.isStatics = false ∧ (eS E).vm.findClass "java/lang/String" = some cell.cls := fun H locs hI => vk_recv C.j.2.2.1 hw hI.2
theorem ma_slen (pc2 : Nat) (C : mw_C E cc nL fr lc D g kk tg) {w : Nat} (hw : w < 13) (hf : 4 ≤ fr) (hlc : 200 ≤ lc) {idx : Nat} (hwd : Cond.methodLink RX6 idx yJ4_length ∈ lw_all) (hst : (st.map fun v => v.category).sum ≤ 8) (hd : decode cc pc = .ok (.invokevirtual idx, 3)) (e : pc + 3 = pc2)
    (k1 : ga_W E nL (mw_I E D g kk z) 0 0 pc2 lo (.int (tx_l w) :: st)) : ga_W E nL (mw_I E D g kk z) 0 0 pc lo (.ref (tg.1 w) :: st) :=
  ga_callVP pc2 (as := []) (own := RX6) C.c C.ml C.ow C.ts (met_J4_length (eL E) tg (mw_A g) w hw) (fun U g mk a h => tx_S.calling h) (mw_tx C) (mw_txr C hw) (lw_V hwd q680 q681 q105 q682) cd_J4_length rfl (by rw [C.rm]; show 2 ≤ fr; omega) (by rw [C.rm]; show 8 + (1 + 11) + 40 ≤ lc; omega) (by rw [C.rm]; exact Nat.le_refl _) (by rw [C.rm]; exact Nat.le_refl _) hst hd e k1
theorem ma_schar (pc2 : Nat) (C : mw_C E cc nL fr lc D g kk tg) {w : Nat} {i : Int32} (hw : w < 13) (hi : vp_in i (tx_len.getD w 0)) (hf : 4 ≤ fr) (hlc : 200 ≤ lc) {idx : Nat} (hwd : Cond.methodLink RX6 idx yJ4_charAt ∈ lw_all) (hst : (st.map fun v => v.category).sum ≤ 8) (hd : decode cc pc = .ok (.invokevirtual idx, 3)) (e : pc + 3 = pc2)
    (k1 : ga_W E nL (mw_I E D g kk z) 0 0 pc2 lo (.int (tx_c w i) :: st)) : ga_W E nL (mw_I E D g kk z) 0 0 pc lo (.int i :: .ref (tg.1 w) :: st) :=
  ga_callVP pc2 (as := [.int i]) (own := RX6) C.c C.ml C.ow C.ts (met_J4_charAt (eL E) tg (mw_A g) w i hw hi) (fun U g mk a h => tx_S.calling h) (mw_tx C) (mw_txr C hw) (lw_V hwd q690 q691 q105 q692) cd_J4_charAt rfl (by rw [C.rm]; show 4 ≤ fr; omega) (by rw [C.rm]; show 8 + (2 + 11) + 140 ≤ lc; omega) (by rw [C.rm]; exact Nat.le_refl _) (by rw [C.rm]; exact Nat.le_refl _) hst hd e k1
theorem ma_callS (pc2 : Nat) (C : mw_C E cc nL fr lc D g kk tg) {y : MethodName} {bytes : ByteArray} {maxL idx n f2 l2 : Nat} {ret : Option FieldType} {as : List Value} {v : Option Value}
    (hM : Met (eL E) y (ws_ y bytes maxL ret) ({ frames := f2, cells := 0, slots := 0, locals := l2 } : Room) (ps_Pc as) (ps_Qc v) 0 0 (fun _ => False))
    (hw : GoodIn lw_all (va_wsS RX6 idx y (ws_ y bytes maxL ret))) (hdd : y.cls ≠ "java/lang/invoke/MethodHandle" ∧ y.cls ≠ "java/lang/invoke/VarHandle" ∧ (parseMethodDescriptor y.desc).map (fun d => d.parameters.length) = some n) (hn : as.length = n)
    (hf : f2 + 1 ≤ fr) (hlc : 8 + (maxL + 11) + l2 ≤ lc) (hst : (st.map fun v => v.category).sum ≤ 8) (hd : decode cc pc = .ok (.invokestatic idx, 3)) (e : pc + 3 = pc2)
    (k1 : ga_W E nL (mw_I E D g kk z) 0 0 pc2 lo (v.toList ++ st)) : ga_W E nL (mw_I E D g kk z) 0 0 pc lo (as.reverse ++ st) := by
  subst e
  exact ga_callS _ (RX := RX6) C.c C.ml C.ow C.ts hM hw hdd hn (by rw [C.rm]; exact hf) (by rw [C.rm]; exact hlc) (by rw [C.rm]; exact Nat.le_refl _) (by rw [C.rm]; exact Nat.le_refl _) hst hd rfl k1
end MW
