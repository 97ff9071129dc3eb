/-! 08: OWN LAYER: an abstract heap as a function; wp, Con; rows r_* -/
set_option maxRecDepth 100000
abbrev AH : Type := Nat → Option va_E
def hup (h : AH) (a : Nat) (e : va_E) : AH := fun q => if q = a then some e else h q
theorem hup_s {h : AH} {a : Nat} {e : va_E} : hup h a e a = some e := if_pos rfl
theorem hup_n {h : AH} {a q : Nat} {e : va_E} (n : q ≠ a) : hup h a e q = h q := if_neg n
theorem hup_hup {h : AH} {a : Nat} {e e' : va_E} : hup (hup h a e) a e' = hup h a e' := by
  funext q
  unfold hup
  by_cases hq : q = a <;> simp [hq]
theorem hup_self {h : AH} {a : Nat} {e : va_E} (hh : h a = some e) : hup h a e = h := by
  funext q
  unfold hup
  by_cases hq : q = a <;> simp [hq, hh]
theorem hup_comm {h : AH} {a b : Nat} {e e' : va_E} (n : a ≠ b) : hup (hup h a e) b e' = hup (hup h b e') a e := by
  funext q
  unfold hup
  by_cases hq : q = a
  · subst hq
    simp [n]
  · simp [hq]
abbrev CLs : List vw_C := [(RX1, TX1, 5), (RX2, TX2, 32), (RX3, TX3, 2), (RX6, TX6, 4), (RX7, TX7, 5), (RX8, TX8, 2), (RX9, TX9, 5), (RX10, TX10, 4), (RX11, TX11, 2), (RX12, TX12, 4), (RX13, TX13, 3), (RX14, TX14, 3), (RX15, TX15, 3), (RX16, TX16, 4), (RJ1, TJ1, 4), (RJ6, TJ6, 3), (RJ21, TJ21, 1), (RJ2, TJ2, 4)]
abbrev WD : Type := Launch × va_G × (Nat → ClassId) × State × Array Value
def wL (w : WD) : Launch := w.1
def wD (w : WD) : va_G := w.2.1
def wT (w : WD) : Nat → ClassId := w.2.2.1
def wS (w : WD) : State := w.2.2.2.1
def wA (w : WD) : Array Value := w.2.2.2.2
def wB (w : WD) : Nat := (wS w).heap.size
def wF (w : WD) : Addr → Prop := fun q => wB w ≤ q
def wTys (w : WD) : List (ClassId × FieldType) := [(wT w 0, .int), (wT w 1, .byte), (wT w 2, .char), (wT w 3, .boolean), (wT w 4, .long), (wT w 5, .object "java/lang/Object")]
def Good (w : WD) : Prop := (wL w).flags = flags0 ∧ va_K (wD w) CLs (wTys w) (wS w) ∧ (∀ x ∈ lw_tbl, x.before (wA w) (wS w) = true) ∧ (Jvm.Cond.and given_1 narrow_1).before (wA w) (wS w) = true
def Rp (w : WD) (h : AH) (H : Heap) : Prop := (∀ a e, h a = some e → wB w ≤ a ∧ va_at (wD w) CLs (a, e) H) ∧ wB w ≤ H.size ∧ ∀ q : Nat, q < wB w → H[q]? = (wS w).heap[q]?
theorem Rp.lt {w : WD} {h : AH} {H : Heap} (hR : Rp w h H) {a : Nat} {e : va_E} (ha : h a = some e) : a < H.size := (hR.1 a e ha).2.lt
theorem Rp.fresh {w : WD} {h : AH} {H : Heap} (hR : Rp w h H) : h H.size = none := by
  cases e : h H.size with
  | none => rfl
  | some x => exact absurd (hR.lt e) (Nat.lt_irrefl _)
theorem Rp.one {w : WD} {h : AH} {H : Heap} (hR : Rp w h H) {a : Nat} {e : va_E} (ha : h a = some e) : va_P (wD w) CLs [(a, e)] H := by
  intro k q hk
  cases k with
  | zero => cases hk; exact (hR.1 a e ha).2
  | succ k => simp at hk
theorem Rp.put {w : WD} {h : AH} {H H1 : Heap} (hR : Rp w h H) {a : Nat} {e0 e : va_E} (ha : h a = some e0) (he : va_at (wD w) CLs (a, e) H1) (z : H1.size = H.size) (oq : ∀ q : Nat, q ≠ a → H1[q]? = H[q]?) : Rp w (hup h a e) H1 := by
  have hb := (hR.1 a e0 ha).1
  refine ⟨fun q x hq => ?_, by rw [z]; exact hR.2.1, fun q hq => by rw [oq q (by omega)]; exact hR.2.2 q hq⟩
  by_cases hqa : q = a
  · subst hqa
    rw [hup_s] at hq
    cases hq
    exact ⟨hb, he⟩
  · rw [hup_n hqa] at hq
    obtain ⟨h1, h2⟩ := hR.1 q x hq
    exact ⟨h1, h2.kept (oq q hqa)⟩
theorem Rp.new {w : WD} {h : AH} {H H1 : Heap} (hR : Rp w h H) {e : va_E} (he : va_at (wD w) CLs (H.size, e) H1) (z : H1.size = H.size + 1) (oq : ∀ q : Nat, q < H.size → H1[q]? = H[q]?) : Rp w (hup h H.size e) H1 := by
  refine ⟨fun q x hq => ?_, by rw [z]; exact Nat.le_succ_of_le hR.2.1, fun q hq => by rw [oq q (Nat.lt_of_lt_of_le hq hR.2.1)]; exact hR.2.2 q hq⟩
  by_cases hqa : q = H.size
  · subst hqa
    rw [hup_s] at hq
    cases hq
    exact ⟨hR.2.1, he⟩
  · rw [hup_n hqa] at hq
    obtain ⟨h1, h2⟩ := hR.1 q x hq
    exact ⟨h1, h2.kept (oq q h2.lt)⟩
/-- fewer cells known -/
def Sub (h h' : AH) : Prop := ∀ a e, h a = some e → h' a = some e
theorem Sub.rf {h : AH} : Sub h h := fun _ _ q => q
theorem Sub.tr {a b c : AH} (h1 : Sub a b) (h2 : Sub b c) : Sub a c := fun q e hq => h2 q e (h1 q e hq)
theorem Sub.up {h : AH} {a : Nat} {e : va_E} (hn : h a = none) : Sub h (hup h a e) := fun q x hq => by
  rw [hup_n (fun e => by rw [e, hn] at hq; cases hq)]; exact hq
theorem Rp.less {w : WD} {h h' : AH} {H : Heap} (hR : Rp w h' H) (hs : Sub h h') : Rp w h H := ⟨fun a e ha => hR.1 a e (hs a e ha), hR.2⟩
/-- locals: by their places -/
def hasL (A : Array Slot) (ls : List (Option Value)) : Prop := A.size = ls.length ∧ lv_wf A ∧ (∀ (i : Nat) (v : Value), ls[i]? = some (some v) → A[i]? = some (.val v) ∧ v.category = 1)
def lzl (ls : List (Option Value)) : List (Nat × Value) := (List.range ls.length).filterMap fun i => (ls[i]?.join).map fun v => (i, v)
theorem lzl_mem {ls : List (Option Value)} {q : Nat × Value} : q ∈ lzl ls ↔ ls[q.1]? = some (some q.2) := by
  unfold lzl
  rw [List.mem_filterMap]
  constructor
  · rintro ⟨i, hi, he⟩
    rw [Option.map_eq_some_iff] at he
    obtain ⟨v, hv, rfl⟩ := he
    exact Option.join_eq_some_iff.mp hv
  · intro hq
    have hl : q.1 < ls.length := (List.getElem?_eq_some_iff.mp hq).1
    refine ⟨q.1, List.mem_range.mpr hl, ?_⟩
    rw [hq]
    rfl
theorem hasL.has {A : Array Slot} {ls : List (Option Value)} (h : hasL A ls) : lv_has A ls.length (lzl ls) := ⟨h.1, h.2.1, fun q hq => (h.2.2 q.1 q.2 (lzl_mem.mp hq)).1⟩
theorem hasL.at {A : Array Slot} {ls : List (Option Value)} (h : hasL A ls) {i : Nat} {v : Value} (hi : ls[i]? = some (some v)) : A[i]? = some (.val v) := (h.2.2 i v hi).1
theorem hasL.set {A A' : Array Slot} {ls : List (Option Value)} (h : hasL A ls) {i : Nat} {v : Value} (hc : v.category = 1) (h' : lv_has A' ls.length ((i, v) :: (lzl ls).filter (fun q => !(q.1 == i) && !(q.1 + 1 == i && q.2.category == 2)))) : hasL A' (ls.set i (some v)) := by
  refine ⟨by rw [List.length_set]; exact h'.1, h'.2.1, fun j x hj => ?_⟩
  by_cases hji : i = j
  · subst hji
    rw [List.getElem?_set] at hj
    simp only [if_true] at hj
    split at hj
    · cases hj
      exact ⟨h'.2.2 (i, v) List.mem_cons_self, hc⟩
    · cases hj
  · rw [List.getElem?_set_ne hji] at hj
    have hx := (h.2.2 j x hj).2
    refine ⟨h'.2.2 (j, x) (List.mem_cons_of_mem _ (List.mem_filter.mpr ⟨lzl_mem.mpr hj, ?_⟩)), hx⟩
    have e1 : (j == i) = false := by simpa using (fun e => hji e.symm)
    simp [e1, hx]
theorem lg_sl1 : ∀ (vs : List Value), (∀ v ∈ vs, v.category = 1) → lg_sl vs = vs.map Slot.val
  | [], _ => rfl
  | v :: t, h => by
    have h1 := h v List.mem_cons_self
    have h2 := lg_sl1 t (fun x hx => h x (List.mem_cons_of_mem _ hx))
    unfold lg_sl at h2 ⊢
    rw [List.flatMap_cons, h2, if_neg (by omega)]
    rfl
theorem hasL_entry {vs : List Value} {n : Nat} (hc : ∀ v ∈ vs, v.category = 1) (hn : vs.length ≤ n) : hasL ((lg_sl vs ++ List.replicate (n - (lg_sl vs).length) Slot.unset).toArray) (vs.map some ++ List.replicate (n - vs.length) none) := by
  have e := lg_sl1 vs hc
  have el : (lg_sl vs).length = vs.length := by rw [e, List.length_map]
  have hl := lv_entry vs (n := n) (by omega)
  refine ⟨by simp [el], hl.2.1, fun i v hi => ?_⟩
  by_cases hiv : i < vs.length
  · rw [List.getElem?_append_left (by simpa using hiv), List.getElem?_map, Option.map_eq_some_iff] at hi
    obtain ⟨x, hx, ex⟩ := hi
    cases ex
    refine ⟨?_, hc v (List.mem_of_getElem? hx)⟩
    rw [e]
    simp only [List.getElem?_toArray]
    rw [List.getElem?_append_left (by simpa using hiv), List.getElem?_map, hx]
    rfl
  · rw [List.getElem?_append_right (by simp; omega)] at hi
    have := List.mem_of_getElem? hi
    rw [List.mem_replicate] at this
    cases this.2
abbrev MG : Type := Program × Env × Room × State × MethodId × Array Value × List Frame × Method × Code
def gP (g : MG) : Program := g.1
def gE (g : MG) : Env := g.2.1
def gR (g : MG) : Room := g.2.2.1
def gS (g : MG) : State := g.2.2.2.1
def gM (g : MG) : MethodId := g.2.2.2.2.1
def gA (g : MG) : Array Value := g.2.2.2.2.2.1
def gB (g : MG) : List Frame := g.2.2.2.2.2.2.1
def gT (g : MG) : Method := g.2.2.2.2.2.2.2.1
def gC (g : MG) : Code := g.2.2.2.2.2.2.2.2
abbrev wW (w : WD) (g : MG) (H : Heap) (locs : List Loc) (k n : Nat) (Q : State → Prop) (f : JFrame) : Prop := W (gP g) (wL w) (gE g) (gR g) (gS g) (gM g) (gA g) (gB g) (gT g) (gC g) H locs k n Q f
/-- the method's frame at pc, its heap, its book of cells and slots -/
def wp (w : WD) (g : MG) (Q : State → Prop) (pc : Nat) (ls : List (Option Value)) (st : List Value) (h : AH) (k n : Nat) : Prop :=
  ∀ (H : Heap) (locs : List Loc) (lsA : Array Slot), Rp w h H → (∀ z ∈ locs, wF w z.base) → hasL lsA ls → wW w g H locs k n Q (F0 (gM g) pc lsA st)
/-- the method's frame, E thrown over it -/
def wpx (w : WD) (g : MG) (Q : State → Prop) (pc : Nat) (ls : List (Option Value)) (st : List Value) (E : String) (h : AH) (k n : Nat) : Prop :=
  ∀ (H : Heap) (locs : List Loc) (lsA : Array Slot) (ce : Cell) (q9 : Addr), Rp w h H → (∀ z ∈ locs, wF w z.base) → hasL lsA ls → H[q9]? = some ce → ce.vm = .none → (gS g).vm.findClass E = some ce.cls →
    vx_W (gP g) (wL w) (gE g) (gR g) (gS g) (gM g) (gA g) (gB g) (gT g) (gC g) H locs k n Q (F0 (gM g) pc lsA st) q9
/-- the method's fixed facts -/
def Cx (w : WD) (g : MG) (cc : ByteArray) (own : String) (ret : Option FieldType) (nm : String) (nL : Nat) (tb : List (Nat × Nat × Nat × Nat)) (d mc ms : Nat) : Prop :=
  (gP g).tables.exec = Jvm.exec ∧ (gC g).code = cc ∧ (gT g).sig.returnType = ret ∧ (gT g).locks = false ∧ (gC g).maxLocals = nL ∧ (gS g).vm.findClass own = some (gM g).cls ∧ (∀ x ∈ lw_all, x.before (gA g) (gS g) = true) ∧
  (wS w).WarmedH (gS g).vm ∧ Good w ∧ wB w ≤ (gS g).heap.size ∧ (∀ q : Nat, q < wB w → (gS g).heap[q]? = (wS w).heap[q]?) ∧ (d + 1 ≤ (gR g).frames ∧ 64 * (d + 1) ≤ (gR g).locals ∧ (gR g).cells = mc ∧ (gR g).slots = ms) ∧ (gT g).name = nm ∧ (gC g).exceptionTable.toList = tableOf tb
section RowsA
variable {w : WD} {g : MG} {cc : ByteArray} {own : String} {ret : Option FieldType} {nm : String} {nL : Nat} {tb : List (Nat × Nat × Nat × Nat)} {d mc ms : Nat}
theorem Cx.exec (C : Cx w g cc own ret nm nL tb d mc ms) : (gP g).tables.exec = Jvm.exec := C.1
theorem Cx.code (C : Cx w g cc own ret nm nL tb d mc ms) : (gC g).code = cc := C.2.1
theorem Cx.rets (C : Cx w g cc own ret nm nL tb d mc ms) : (gT g).sig.returnType = ret := C.2.2.1
theorem Cx.lock (C : Cx w g cc own ret nm nL tb d mc ms) : (gT g).locks = false := C.2.2.2.1
theorem Cx.maxl (C : Cx w g cc own ret nm nL tb d mc ms) : (gC g).maxLocals = nL := C.2.2.2.2.1
theorem Cx.ownc (C : Cx w g cc own ret nm nL tb d mc ms) : (gS g).vm.findClass own = some (gM g).cls := C.2.2.2.2.2.1
theorem Cx.hts (C : Cx w g cc own ret nm nL tb d mc ms) : ∀ x ∈ lw_all, x.before (gA g) (gS g) = true := C.2.2.2.2.2.2.1
theorem Cx.warm (C : Cx w g cc own ret nm nL tb d mc ms) : (wS w).WarmedH (gS g).vm := C.2.2.2.2.2.2.2.1
theorem Cx.good (C : Cx w g cc own ret nm nL tb d mc ms) : Good w := C.2.2.2.2.2.2.2.2.1
theorem Cx.base (C : Cx w g cc own ret nm nL tb d mc ms) : wB w ≤ (gS g).heap.size := C.2.2.2.2.2.2.2.2.2.1
theorem Cx.frozen (C : Cx w g cc own ret nm nL tb d mc ms) : ∀ q : Nat, q < wB w → (gS g).heap[q]? = (wS w).heap[q]? := C.2.2.2.2.2.2.2.2.2.2.1
theorem Cx.room (C : Cx w g cc own ret nm nL tb d mc ms) : d + 1 ≤ (gR g).frames ∧ 64 * (d + 1) ≤ (gR g).locals ∧ (gR g).cells = mc ∧ (gR g).slots = ms := C.2.2.2.2.2.2.2.2.2.2.2.1
theorem Cx.name (C : Cx w g cc own ret nm nL tb d mc ms) : (gT g).name = nm := C.2.2.2.2.2.2.2.2.2.2.2.2.1
theorem Cx.table (C : Cx w g cc own ret nm nL tb d mc ms) : (gC g).exceptionTable.toList = tableOf tb := C.2.2.2.2.2.2.2.2.2.2.2.2.2
theorem Cx.K (C : Cx w g cc own ret nm nL tb d mc ms) : va_K (wD w) CLs (wTys w) (gS g) := va_K.moved C.warm.alike C.good.2.1
theorem Cx.nw (C : Cx w g cc own ret nm nL tb d mc ms) {x : Cond} (hx : x ∈ lw_tbl) (ho : x.onTables = true) (hm : va_Nw x (wS w) → va_Nw x (gS g)) : va_Nw x (gS g) := hm (va_Nw.of ho (C.good.2.2.1 x hx))
end RowsA
/-- contracts -/
def Qcon (w : WD) (Qp : Option Value → AH → Prop) : Array Value → State → Outcome → State → Prop := fun _ _ o t => ∃ (v : Option Value) (h' : AH), o = .returned v ∧ Qp v h' ∧ Rp w h' t.heap
def Xcon (w : WD) (Xp : String → AH → Prop) : String → State → State → Prop := fun E _ t => ∃ h' : AH, Xp E h' ∧ Rp w h' t.heap
def Pcon (w : WD) (args : List Value) (h : AH) : Array Value → State → Prop := va_Pc args (fun U => (wS w).WarmedH U.vm ∧ Rp w h U.heap)
def rmL (d mc ms : Nat) : Room := { frames := d + 1, cells := mc, slots := ms, locals := 64 * (d + 1) }
def Con (w : WD) (y : MethodName) (ws : List Cond) (d mc ms : Nat) (args : List Value) (h : AH) (Qp : Option Value → AH → Prop) (Xp : String → AH → Prop) : Prop := vx_Met (wL w) y ws (rmL d mc ms) (Pcon w args h) (Qcon w Qp) (Xcon w Xp) mc ms (wF w)
def mQ (w : WD) (g : MG) (mc ms : Nat) (Qp : Option Value → AH → Prop) (Xp : String → AH → Prop) : State → Prop := vx_MQ (gB g) (Qcon w Qp) (Xcon w Xp) (gA g) (gS g) mc ms (wF w)
def noX : String → AH → Prop := fun _ _ => False
def Qi (P : Int32 → AH → Prop) : Option Value → AH → Prop := fun v h => ∃ r : Int32, v = some (.int r) ∧ P r h
def Qv (P : AH → Prop) : Option Value → AH → Prop := fun v h => v = none ∧ P h
def Qr (P : Value → AH → Prop) : Option Value → AH → Prop := fun v h => ∃ r : Value, v = some r ∧ P r h
/-- a pure answer, the heap as it was -/
def Pi (r : Int32) (h : AH) : Option Value → AH → Prop := fun v h' => v = some (.int r) ∧ h' = h
theorem table_nil {c : Code} (h : ∀ x ∈ c.exceptionTable.toList, False) : c.exceptionTable.toList = tableOf [] := by
  rw [List.eq_nil_iff_forall_not_mem.mpr h]
  rfl
theorem Con.of {w : WD} (G : Good w) {y : MethodName} {cc : ByteArray} {maxL : Nat} {ret : Option FieldType} {d mc ms : Nat} {args : List Value} {h : AH} {Qp : Option Value → AH → Prop} {Xp : String → AH → Prop} (ls0 : List (Option Value)) (hy : plainName y.cls = true := by decide) (hl : args.map some ++ List.replicate (maxL - args.length) none = ls0 := by rfl) (hn : args.length ≤ maxL := by exact Nat.le_of_ble_eq_true rfl) (hc : ∀ v ∈ args, v.category = 1 := by simp [Value.category])
    (body : ∀ g : MG, Cx w g cc y.cls ret y.name maxL [] d mc ms → wp w g (mQ w g mc ms Qp Xp) 0 ls0 [] h 0 0) : Con w y (ws_ y cc maxL ret) d mc ms args h Qp Xp := by
  subst hl
  refine vx_ofW (cc := cc) (maxL := maxL) (ret := ret) hy rfl ?_
  intro p e s m argsA below meth c s₁ B hml htab hv
  obtain ⟨rfl, hW, hR⟩ := hv
  have hts := atoms_spec (ws := ws_ y cc maxL ret) B.pre
  have hts : ∀ x ∈ lw_all, x.before _ s = true := fun x hx => hts x (List.mem_cons_of_mem _ hx)
  rw [lg_entry_eq]
  exact body (p, e, (headSpec (ws_ y cc maxL ret) (rmL d mc ms)).room, s, m, args.toArray, below, meth, c) ⟨B.exec, B.bytes, B.returns, B.notSynchronized, hml, findClass_of_methodNamed B.named, hts, hW, G, hR.2.1, hR.2.2, ⟨Nat.le_refl _, Nat.le_refl _, rfl, rfl⟩, (name_of_methodNamed B.named B.method).1, table_nil htab⟩ _ _ _ hR (fun _ hz => nomatch hz) (hasL_entry hc hn)
theorem Con.ofH {w : WD} (G : Good w) {y : MethodName} {cc : ByteArray} {maxL : Nat} {ret : Option FieldType} {tb : List (Nat × Nat × Nat × Nat)} {d mc ms : Nat} {args : List Value} {h : AH} {Qp : Option Value → AH → Prop} {Xp : String → AH → Prop} (ls0 : List (Option Value)) (hy : plainName y.cls = true := by decide) (hl : args.map some ++ List.replicate (maxL - args.length) none = ls0 := by rfl) (hn : args.length ≤ maxL := by exact Nat.le_of_ble_eq_true rfl) (hc : ∀ v ∈ args, v.category = 1 := by simp [Value.category])
    (body : ∀ g : MG, Cx w g cc y.cls ret y.name maxL tb d mc ms → wp w g (mQ w g mc ms Qp Xp) 0 ls0 [] h 0 0) : Con w y (wsW_ y cc maxL ret tb) d mc ms args h Qp Xp := by
  subst hl
  refine vx_ofWH (cc := cc) (maxL := maxL) (ret := ret) (hh := tb) hy rfl ?_
  intro p e s m argsA below meth c s₁ B hml hv
  obtain ⟨rfl, hW, hR⟩ := hv
  have hts0 := atoms_spec (ws := wsW_ y cc maxL ret tb) B.pre
  have hts : ∀ x ∈ lw_all, x.before _ s = true := fun x hx => hts0 x (List.mem_cons_of_mem _ hx)
  rw [lg_entry_eq]
  exact body (p, e, (headSpec (wsW_ y cc maxL ret tb) (rmL d mc ms)).room, s, m, args.toArray, below, meth, c) ⟨B.exec, B.bytes, B.returns, B.notSynchronized, hml, findClass_of_methodNamed B.named, hts, hW, G, hR.2.1, hR.2.2, ⟨Nat.le_refl _, Nat.le_refl _, rfl, rfl⟩, (name_of_methodNamed B.named B.method).1, vx_table (x := y) B (hts0 _ List.mem_cons_self)⟩ _ _ _ hR (fun _ hz => nomatch hz) (hasL_entry hc hn)
/-- what holds of more is asked of less -/
theorem Con.post {w : WD} {y : MethodName} {ws : List Cond} {d mc ms : Nat} {args : List Value} {h : AH} {Qp Qp' : Option Value → AH → Prop} {Xp Xp' : String → AH → Prop} (hC : Con w y ws d mc ms args h Qp Xp) (hq : ∀ v h', Qp v h' → Qp' v h') (hx : ∀ E h', Xp E h' → Xp' E h') : Con w y ws d mc ms args h Qp' Xp' := by
  intro p e ha hc hk s m argsA below hf hpre hP hK
  obtain ⟨j, o, h1, h2, h3, h4⟩ := hC p e ha hc hk s m argsA below hf hpre hP hK
  refine ⟨j, o, h1, h2, h3, ?_⟩
  rcases h4 with ⟨⟨v, h', e1, e2, e3⟩, e4⟩ | ⟨q, e1, E, ce, L, ⟨h', e2, e3⟩, e4⟩
  · exact Or.inl ⟨⟨v, h', e1, hq _ _ e2, e3⟩, e4⟩
  · exact Or.inr ⟨q, e1, E, ce, L, ⟨h', hx _ _ e2, e3⟩, e4⟩
section RowsB
variable {w : WD} {g : MG} {cc : ByteArray} {own : String} {ret : Option FieldType} {nm : String} {nL : Nat} {tb : List (Nat × Nat × Nat × Nat)} {d mc ms : Nat} {Q : State → Prop} {pc k n : Nat} {ls : List (Option Value)} {st : List Value} {h : AH}
theorem wp_widen {k' n' : Nat} (h1 : k ≤ k') (h2 : n ≤ n') (kk : wp w g Q pc ls st h k' n') : wp w g Q pc ls st h k n := fun H locs lsA hR hz hs => W.widen h1 h2 (kk H locs lsA hR hz hs)
theorem wp_less {h' : AH} (hs : Sub h h') (kk : wp w g Q pc ls st h k n) : wp w g Q pc ls st h' k n := fun H locs lsA hR hz hl => kk H locs lsA (hR.less hs) hz hl
theorem wp_eq {h' : AH} (e : h' = h) (kk : wp w g Q pc ls st h k n) : wp w g Q pc ls st h' k n := e ▸ kk
theorem wp_fewer {ls' : List (Option Value)} (hl : ls.length = ls'.length) (hv : ∀ (i : Nat) (v : Value), ls'[i]? = some (some v) → ls[i]? = some (some v)) (kk : wp w g Q pc ls' st h k n) : wp w g Q pc ls st h k n := fun H locs lsA hR hz hs => kk H locs lsA hR hz ⟨hs.1.trans hl, hs.2.1, fun i v hi => hs.2.2 i v (hv i v hi)⟩

theorem r_iadd (C : Cx w g cc own ret nm nL tb d mc ms) {x y : Int32} (hd : decode cc pc = .ok (.iadd, 1))  (kk : wp w g Q (pc + 1) ls (.int (x + y) :: st) h k n) : wp w g Q pc ls (.int y :: .int x :: st) h k n := fun H locs lsA hR hz hs => lv_iadd C.exec C.code hd (kk H locs lsA hR hz hs)
theorem r_isub (C : Cx w g cc own ret nm nL tb d mc ms) {x y : Int32} (hd : decode cc pc = .ok (.isub, 1))  (kk : wp w g Q (pc + 1) ls (.int (x - y) :: st) h k n) : wp w g Q pc ls (.int y :: .int x :: st) h k n := fun H locs lsA hR hz hs => lv_isub C.exec C.code hd (kk H locs lsA hR hz hs)
theorem r_imul (C : Cx w g cc own ret nm nL tb d mc ms) {x y : Int32} (hd : decode cc pc = .ok (.imul, 1))  (kk : wp w g Q (pc + 1) ls (.int (x * y) :: st) h k n) : wp w g Q pc ls (.int y :: .int x :: st) h k n := fun H locs lsA hR hz hs => lv_imul C.exec C.code hd (kk H locs lsA hR hz hs)
theorem r_iand (C : Cx w g cc own ret nm nL tb d mc ms) {x y : Int32} (hd : decode cc pc = .ok (.iand, 1))  (kk : wp w g Q (pc + 1) ls (.int (x &&& y) :: st) h k n) : wp w g Q pc ls (.int y :: .int x :: st) h k n := fun H locs lsA hR hz hs => lv_iand C.exec C.code hd (kk H locs lsA hR hz hs)
theorem r_ior (C : Cx w g cc own ret nm nL tb d mc ms) {x y : Int32} (hd : decode cc pc = .ok (.ior, 1))  (kk : wp w g Q (pc + 1) ls (.int (x ||| y) :: st) h k n) : wp w g Q pc ls (.int y :: .int x :: st) h k n := fun H locs lsA hR hz hs => lv_ior C.exec C.code hd (kk H locs lsA hR hz hs)
theorem r_ixor (C : Cx w g cc own ret nm nL tb d mc ms) {x y : Int32} (hd : decode cc pc = .ok (.ixor, 1))  (kk : wp w g Q (pc + 1) ls (.int (x ^^^ y) :: st) h k n) : wp w g Q pc ls (.int y :: .int x :: st) h k n := fun H locs lsA hR hz hs => lv_ixor C.exec C.code hd (kk H locs lsA hR hz hs)
theorem r_ishl (C : Cx w g cc own ret nm nL tb d mc ms) {x y : Int32} (hd : decode cc pc = .ok (.ishl, 1))  (kk : wp w g Q (pc + 1) ls (.int (x <<< (y &&& 31)) :: st) h k n) : wp w g Q pc ls (.int y :: .int x :: st) h k n := fun H locs lsA hR hz hs => lv_ishl C.exec C.code hd (kk H locs lsA hR hz hs)
theorem r_ishr (C : Cx w g cc own ret nm nL tb d mc ms) {x y : Int32} (hd : decode cc pc = .ok (.ishr, 1))  (kk : wp w g Q (pc + 1) ls (.int (x >>> (y &&& 31)) :: st) h k n) : wp w g Q pc ls (.int y :: .int x :: st) h k n := fun H locs lsA hR hz hs => lv_ishr C.exec C.code hd (kk H locs lsA hR hz hs)
theorem r_idiv (C : Cx w g cc own ret nm nL tb d mc ms) {x y : Int32} (hd : decode cc pc = .ok (.idiv, 1)) (hne : ¬ y = 0) (kk : wp w g Q (pc + 1) ls (.int (x / y) :: st) h k n) : wp w g Q pc ls (.int y :: .int x :: st) h k n := fun H locs lsA hR hz hs => lv_idiv C.exec C.code hd hne (kk H locs lsA hR hz hs)
theorem r_irem (C : Cx w g cc own ret nm nL tb d mc ms) {x y : Int32} (hd : decode cc pc = .ok (.irem, 1)) (hne : ¬ y = 0) (kk : wp w g Q (pc + 1) ls (.int (x - x / y * y) :: st) h k n) : wp w g Q pc ls (.int y :: .int x :: st) h k n := fun H locs lsA hR hz hs => lv_irem C.exec C.code hd hne (kk H locs lsA hR hz hs)
theorem r_iushr (C : Cx w g cc own ret nm nL tb d mc ms) {x y : Int32} (hd : decode cc pc = .ok (.iushr, 1))  (kk : wp w g Q (pc + 1) ls (.int ((x.toUInt32 >>> (y.toUInt32 &&& Int32.toUInt32 31)).toInt32) :: st) h k n) : wp w g Q pc ls (.int y :: .int x :: st) h k n := fun H locs lsA hR hz hs => lv_iushr C.exec C.code hd rfl (kk H locs lsA hR hz hs)
theorem r_ineg (C : Cx w g cc own ret nm nL tb d mc ms) {x : Int32} (hd : decode cc pc = .ok (.ineg, 1))  (kk : wp w g Q (pc + 1) ls (.int (-x) :: st) h k n) : wp w g Q pc ls (.int x :: st) h k n := fun H locs lsA hR hz hs => lv_ineg C.exec C.code hd (kk H locs lsA hR hz hs)
theorem r_i2l (C : Cx w g cc own ret nm nL tb d mc ms) {x : Int32} (hd : decode cc pc = .ok (.i2l, 1))  (kk : wp w g Q (pc + 1) ls (.long x.toInt64 :: st) h k n) : wp w g Q pc ls (.int x :: st) h k n := fun H locs lsA hR hz hs => lv_i2l C.exec C.code hd rfl (kk H locs lsA hR hz hs)
theorem r_i2b (C : Cx w g cc own ret nm nL tb d mc ms) {x : Int32} (hd : decode cc pc = .ok (.i2b, 1))  (kk : wp w g Q (pc + 1) ls (.int x.toInt8.toInt32 :: st) h k n) : wp w g Q pc ls (.int x :: st) h k n := fun H locs lsA hR hz hs => lv_i2b C.exec C.code hd rfl (kk H locs lsA hR hz hs)
theorem r_i2c (C : Cx w g cc own ret nm nL tb d mc ms) {x : Int32} (hd : decode cc pc = .ok (.i2c, 1))  (kk : wp w g Q (pc + 1) ls (.int (x.toUInt32 % 65536).toInt32 :: st) h k n) : wp w g Q pc ls (.int x :: st) h k n := fun H locs lsA hR hz hs => lv_i2c C.exec C.code hd rfl (kk H locs lsA hR hz hs)
theorem r_lcmp (C : Cx w g cc own ret nm nL tb d mc ms) {x y : Int64} (hd : decode cc pc = .ok (.lcmp, 1))  (kk : wp w g Q (pc + 1) ls (.int (lg_cmp x y) :: st) h k n) : wp w g Q pc ls (.long y :: .long x :: st) h k n := fun H locs lsA hR hz hs => W.lcmp C.exec C.code hd (kk H locs lsA hR hz hs)
theorem r_dup (C : Cx w g cc own ret nm nL tb d mc ms) {v : Value} (hd : decode cc pc = .ok (.dup, 1)) (hv : v.category = 1) (kk : wp w g Q (pc + 1) ls (v :: v :: st) h k n) : wp w g Q pc ls (v :: st) h k n := fun H locs lsA hR hz hs => lv_dup C.exec C.code hd hv (kk H locs lsA hR hz hs)
theorem r_pop (C : Cx w g cc own ret nm nL tb d mc ms) {v : Value} (hd : decode cc pc = .ok (.pop, 1)) (hv : v.category = 1) (kk : wp w g Q (pc + 1) ls (st) h k n) : wp w g Q pc ls (v :: st) h k n := fun H locs lsA hR hz hs => lv_pop C.exec C.code hd hv (kk H locs lsA hR hz hs)
theorem r_dup_x1 (C : Cx w g cc own ret nm nL tb d mc ms) {v u : Value} (hd : decode cc pc = .ok (.dup_x1, 1)) (hv : v.category = 1) (hu : u.category = 1) (kk : wp w g Q (pc + 1) ls (v :: u :: v :: st) h k n) : wp w g Q pc ls (v :: u :: st) h k n := fun H locs lsA hR hz hs => lv_dup_x1 C.exec C.code hd hv hu (kk H locs lsA hR hz hs)
theorem r_iconst (C : Cx w g cc own ret nm nL tb d mc ms) {z : Int} {v : Int32} (hd : decode cc pc = .ok (.iconst z, 1)) (hv : Int32.ofInt z = v) (kk : wp w g Q (pc + 1) ls (.int v :: st) h k n) : wp w g Q pc ls (st) h k n := fun H locs lsA hR hz hs => lv_iconst C.exec C.code hd hv (kk H locs lsA hR hz hs)
theorem r_bipush (C : Cx w g cc own ret nm nL tb d mc ms) {z : Int} {v : Int32} (hd : decode cc pc = .ok (.bipush z, 2)) (hv : (Int8.ofInt z).toInt32 = v) (kk : wp w g Q (pc + 2) ls (.int v :: st) h k n) : wp w g Q pc ls (st) h k n := fun H locs lsA hR hz hs => lv_bipush C.exec C.code hd hv (kk H locs lsA hR hz hs)
theorem r_sipush (C : Cx w g cc own ret nm nL tb d mc ms) {z : Int} {v : Int32} (hd : decode cc pc = .ok (.sipush z, 3)) (hv : (Int16.ofInt z).toInt32 = v) (kk : wp w g Q (pc + 3) ls (.int v :: st) h k n) : wp w g Q pc ls (st) h k n := fun H locs lsA hR hz hs => lv_sipush C.exec C.code hd hv (kk H locs lsA hR hz hs)
theorem r_lconst (C : Cx w g cc own ret nm nL tb d mc ms) {z : Fin 2} {v : Int64} (hd : decode cc pc = .ok (.lconst z, 1)) (hv : Int64.ofNat (z : Nat) = v) (kk : wp w g Q (pc + 1) ls (.long v :: st) h k n) : wp w g Q pc ls (st) h k n := fun H locs lsA hR hz hs => lv_lconst C.exec C.code hd hv (kk H locs lsA hR hz hs)
theorem r_null (C : Cx w g cc own ret nm nL tb d mc ms)  (hd : decode cc pc = .ok (.aconst_null, 1))  (kk : wp w g Q (pc + 1) ls (.null :: st) h k n) : wp w g Q pc ls (st) h k n := fun H locs lsA hR hz hs => lv_null C.exec C.code hd (kk H locs lsA hR hz hs)
theorem r_goto (C : Cx w g cc own ret nm nL tb d mc ms) {off : Int} {tgt : Nat} (hd : decode cc pc = .ok (.goto off, 3)) (ht : (pc : Int) + off = (tgt : Int)) (kk : wp w g Q tgt ls st h k n) : wp w g Q pc ls st h k n := fun H locs lsA hR hz hs => lv_goto C.exec C.code hd ht (kk H locs lsA hR hz hs)
-- BRANCHES
theorem r_ifeq (C : Cx w g cc own ret nm nL tb d mc ms) {x : Int32} {off : Int} {tgt : Nat} (hd : decode cc pc = .ok (.ifCond .eq off, 3)) (ht : (pc : Int) + off = (tgt : Int)) (kt : x = 0 → wp w g Q tgt ls st h k n) (kf : ¬ x = 0 → wp w g Q (pc + 3) ls st h k n) : wp w g Q pc ls (.int x :: st) h k n := fun H locs lsA hR hz hs => lv_if_eq C.exec C.code hd ht (fun q => kt q H locs lsA hR hz hs) (fun q => kf q H locs lsA hR hz hs)
theorem r_iceq (C : Cx w g cc own ret nm nL tb d mc ms) {x y : Int32} {off : Int} {tgt : Nat} (hd : decode cc pc = .ok (.if_icmp .eq off, 3)) (ht : (pc : Int) + off = (tgt : Int)) (kt : x = y → wp w g Q tgt ls st h k n) (kf : ¬ x = y → wp w g Q (pc + 3) ls st h k n) : wp w g Q pc ls (.int y :: .int x :: st) h k n := fun H locs lsA hR hz hs => lv_icmp_eq C.exec C.code hd ht (fun q => kt q H locs lsA hR hz hs) (fun q => kf q H locs lsA hR hz hs)
theorem r_ifne (C : Cx w g cc own ret nm nL tb d mc ms) {x : Int32} {off : Int} {tgt : Nat} (hd : decode cc pc = .ok (.ifCond .ne off, 3)) (ht : (pc : Int) + off = (tgt : Int)) (kt : ¬ x = 0 → wp w g Q tgt ls st h k n) (kf : x = 0 → wp w g Q (pc + 3) ls st h k n) : wp w g Q pc ls (.int x :: st) h k n := fun H locs lsA hR hz hs => lv_if_ne C.exec C.code hd ht (fun q => kt q H locs lsA hR hz hs) (fun q => kf q H locs lsA hR hz hs)
theorem r_icne (C : Cx w g cc own ret nm nL tb d mc ms) {x y : Int32} {off : Int} {tgt : Nat} (hd : decode cc pc = .ok (.if_icmp .ne off, 3)) (ht : (pc : Int) + off = (tgt : Int)) (kt : ¬ x = y → wp w g Q tgt ls st h k n) (kf : x = y → wp w g Q (pc + 3) ls st h k n) : wp w g Q pc ls (.int y :: .int x :: st) h k n := fun H locs lsA hR hz hs => lv_icmp_ne C.exec C.code hd ht (fun q => kt q H locs lsA hR hz hs) (fun q => kf q H locs lsA hR hz hs)
theorem r_iflt (C : Cx w g cc own ret nm nL tb d mc ms) {x : Int32} {off : Int} {tgt : Nat} (hd : decode cc pc = .ok (.ifCond .lt off, 3)) (ht : (pc : Int) + off = (tgt : Int)) (kt : x < 0 → wp w g Q tgt ls st h k n) (kf : ¬ x < 0 → wp w g Q (pc + 3) ls st h k n) : wp w g Q pc ls (.int x :: st) h k n := fun H locs lsA hR hz hs => lv_if_lt C.exec C.code hd ht (fun q => kt q H locs lsA hR hz hs) (fun q => kf q H locs lsA hR hz hs)
theorem r_iclt (C : Cx w g cc own ret nm nL tb d mc ms) {x y : Int32} {off : Int} {tgt : Nat} (hd : decode cc pc = .ok (.if_icmp .lt off, 3)) (ht : (pc : Int) + off = (tgt : Int)) (kt : x < y → wp w g Q tgt ls st h k n) (kf : ¬ x < y → wp w g Q (pc + 3) ls st h k n) : wp w g Q pc ls (.int y :: .int x :: st) h k n := fun H locs lsA hR hz hs => lv_icmp_lt C.exec C.code hd ht (fun q => kt q H locs lsA hR hz hs) (fun q => kf q H locs lsA hR hz hs)
theorem r_ifge (C : Cx w g cc own ret nm nL tb d mc ms) {x : Int32} {off : Int} {tgt : Nat} (hd : decode cc pc = .ok (.ifCond .ge off, 3)) (ht : (pc : Int) + off = (tgt : Int)) (kt : 0 ≤ x → wp w g Q tgt ls st h k n) (kf : ¬ 0 ≤ x → wp w g Q (pc + 3) ls st h k n) : wp w g Q pc ls (.int x :: st) h k n := fun H locs lsA hR hz hs => lv_if_ge C.exec C.code hd ht (fun q => kt q H locs lsA hR hz hs) (fun q => kf q H locs lsA hR hz hs)
theorem r_icge (C : Cx w g cc own ret nm nL tb d mc ms) {x y : Int32} {off : Int} {tgt : Nat} (hd : decode cc pc = .ok (.if_icmp .ge off, 3)) (ht : (pc : Int) + off = (tgt : Int)) (kt : y ≤ x → wp w g Q tgt ls st h k n) (kf : ¬ y ≤ x → wp w g Q (pc + 3) ls st h k n) : wp w g Q pc ls (.int y :: .int x :: st) h k n := fun H locs lsA hR hz hs => lv_icmp_ge C.exec C.code hd ht (fun q => kt q H locs lsA hR hz hs) (fun q => kf q H locs lsA hR hz hs)
theorem r_ifgt (C : Cx w g cc own ret nm nL tb d mc ms) {x : Int32} {off : Int} {tgt : Nat} (hd : decode cc pc = .ok (.ifCond .gt off, 3)) (ht : (pc : Int) + off = (tgt : Int)) (kt : 0 < x → wp w g Q tgt ls st h k n) (kf : ¬ 0 < x → wp w g Q (pc + 3) ls st h k n) : wp w g Q pc ls (.int x :: st) h k n := fun H locs lsA hR hz hs => lv_if_gt C.exec C.code hd ht (fun q => kt q H locs lsA hR hz hs) (fun q => kf q H locs lsA hR hz hs)
theorem r_icgt (C : Cx w g cc own ret nm nL tb d mc ms) {x y : Int32} {off : Int} {tgt : Nat} (hd : decode cc pc = .ok (.if_icmp .gt off, 3)) (ht : (pc : Int) + off = (tgt : Int)) (kt : y < x → wp w g Q tgt ls st h k n) (kf : ¬ y < x → wp w g Q (pc + 3) ls st h k n) : wp w g Q pc ls (.int y :: .int x :: st) h k n := fun H locs lsA hR hz hs => lv_icmp_gt C.exec C.code hd ht (fun q => kt q H locs lsA hR hz hs) (fun q => kf q H locs lsA hR hz hs)
theorem r_ifle (C : Cx w g cc own ret nm nL tb d mc ms) {x : Int32} {off : Int} {tgt : Nat} (hd : decode cc pc = .ok (.ifCond .le off, 3)) (ht : (pc : Int) + off = (tgt : Int)) (kt : x ≤ 0 → wp w g Q tgt ls st h k n) (kf : ¬ x ≤ 0 → wp w g Q (pc + 3) ls st h k n) : wp w g Q pc ls (.int x :: st) h k n := fun H locs lsA hR hz hs => lv_if_le C.exec C.code hd ht (fun q => kt q H locs lsA hR hz hs) (fun q => kf q H locs lsA hR hz hs)
theorem r_icle (C : Cx w g cc own ret nm nL tb d mc ms) {x y : Int32} {off : Int} {tgt : Nat} (hd : decode cc pc = .ok (.if_icmp .le off, 3)) (ht : (pc : Int) + off = (tgt : Int)) (kt : x ≤ y → wp w g Q tgt ls st h k n) (kf : ¬ x ≤ y → wp w g Q (pc + 3) ls st h k n) : wp w g Q pc ls (.int y :: .int x :: st) h k n := fun H locs lsA hR hz hs => lv_icmp_le C.exec C.code hd ht (fun q => kt q H locs lsA hR hz hs) (fun q => kf q H locs lsA hR hz hs)
theorem r_ifnonnullR (C : Cx w g cc own ret nm nL tb d mc ms) {x : Nat} {off : Int} {tgt : Nat} (hd : decode cc pc = .ok (.ifnonnull off, 3)) (ht : (pc : Int) + off = (tgt : Int)) (kk : wp w g Q tgt ls st h k n) : wp w g Q pc ls (.ref x :: st) h k n := fun H locs lsA hR hz hs => lv_ifnonnull C.exec C.code hd ht (kk H locs lsA hR hz hs)
theorem r_ifnonnullN (C : Cx w g cc own ret nm nL tb d mc ms) {off : Int} (hd : decode cc pc = .ok (.ifnonnull off, 3)) (kk : wp w g Q (pc + 3) ls st h k n) : wp w g Q pc ls (.null :: st) h k n := fun H locs lsA hR hz hs => lv_ifnonnullN C.exec C.code hd (kk H locs lsA hR hz hs)
theorem r_ifnullR (C : Cx w g cc own ret nm nL tb d mc ms) {x : Nat} {off : Int} (hd : decode cc pc = .ok (.ifnull off, 3)) (kk : wp w g Q (pc + 3) ls st h k n) : wp w g Q pc ls (.ref x :: st) h k n := fun H locs lsA hR hz hs => lv_ifnull C.exec C.code hd (kk H locs lsA hR hz hs)
theorem r_ifnullN (C : Cx w g cc own ret nm nL tb d mc ms) {off : Int} {tgt : Nat} (hd : decode cc pc = .ok (.ifnull off, 3)) (ht : (pc : Int) + off = (tgt : Int)) (kk : wp w g Q tgt ls st h k n) : wp w g Q pc ls (.null :: st) h k n := fun H locs lsA hR hz hs => lv_ifnullN C.exec C.code hd ht (kk H locs lsA hR hz hs)
theorem r_acne (C : Cx w g cc own ret nm nL tb d mc ms) {x y : Nat} {off : Int} {tgt : Nat} (hd : decode cc pc = .ok (.if_acmp .ne off, 3)) (ht : (pc : Int) + off = (tgt : Int)) (kt : ¬ x = y → wp w g Q tgt ls st h k n) (kf : x = y → wp w g Q (pc + 3) ls st h k n) : wp w g Q pc ls (.ref y :: .ref x :: st) h k n := fun H locs lsA hR hz hs => lv_acmp_ne (rx := some x) (ry := some y) C.exec C.code hd ht (fun q => kt (fun e => q (by rw [e])) H locs lsA hR hz hs) (fun q => kf (Option.some.inj q) H locs lsA hR hz hs)
theorem r_aceq (C : Cx w g cc own ret nm nL tb d mc ms) {x y : Nat} {off : Int} {tgt : Nat} (hd : decode cc pc = .ok (.if_acmp .eq off, 3)) (ht : (pc : Int) + off = (tgt : Int)) (kt : x = y → wp w g Q tgt ls st h k n) (kf : ¬ x = y → wp w g Q (pc + 3) ls st h k n) : wp w g Q pc ls (.ref y :: .ref x :: st) h k n := fun H locs lsA hR hz hs => lv_acmp_eq (rx := some x) (ry := some y) C.exec C.code hd ht (fun q => kt (Option.some.inj q) H locs lsA hR hz hs) (fun q => kf (fun e => q (by rw [e])) H locs lsA hR hz hs)
theorem r_lookup (C : Cx w g cc own ret nm nL tb d mc ms) {dflt : Int} {ps : Array (Int × Int)} {len : Nat} {x : Int32} {off : Int} {tgt : Nat} (hd : decode cc pc = .ok (.lookupswitch dflt ps, len)) (hp : (ps.toList.zip (ps.toList.drop 1)).all (fun (a, next) => a.1 < next.1) = true) (ho : Op.lookupswitch.offset ps.toList dflt x.toInt = off) (ht : (pc : Int) + off = (tgt : Int)) (kk : wp w g Q tgt ls st h k n) : wp w g Q pc ls (.int x :: st) h k n := fun H locs lsA hR hz hs => lv_lookup C.exec C.code hd hp ho ht (kk H locs lsA hR hz hs)
theorem r_tabOut (C : Cx w g cc own ret nm nL tb d mc ms) {dflt lo hi : Int} {offs : Array Int} {len : Nat} {x : Int32} {tgt : Nat} (hd : decode cc pc = .ok (.tableswitch dflt lo hi offs, len)) (hq : x.toInt < lo ∨ hi < x.toInt) (ht : (pc : Int) + dflt = (tgt : Int)) (kk : wp w g Q tgt ls st h k n) : wp w g Q pc ls (.int x :: st) h k n := fun H locs lsA hR hz hs => lv_tableOut C.exec C.code hd hq ht (kk H locs lsA hR hz hs)
theorem r_tabIn (C : Cx w g cc own ret nm nL tb d mc ms) {dflt lo hi : Int} {offs : Array Int} {len : Nat} {x : Int32} {off : Int} {tgt : Nat} (hd : decode cc pc = .ok (.tableswitch dflt lo hi offs, len)) (h1 : ¬ x.toInt < lo) (h2 : ¬ hi < x.toInt) (ho : offs[(x.toInt - lo).toNat]? = some off) (ht : (pc : Int) + off = (tgt : Int)) (kk : wp w g Q tgt ls st h k n) : wp w g Q pc ls (.int x :: st) h k n := fun H locs lsA hR hz hs => lv_tableIn C.exec C.code hd h1 h2 ho ht (kk H locs lsA hR hz hs)
theorem r_iloadG_n (C : Cx w g cc own ret nm nL tb d mc ms) {i : Fin 4} {j : Nat} {x : Int32} (hd : decode cc pc = .ok (.iload_n i, 1)) (hj : (i : Nat) = j) (hl : ls[j]? = some (some (.int x))) (kk : wp w g Q (pc + 1) ls (.int x :: st) h k n) : wp w g Q pc ls st h k n := fun H locs lsA hR hz hs => lv_iload_n C.exec C.code hd hj (hs.at hl) (kk H locs lsA hR hz hs)
theorem r_iloadG (C : Cx w g cc own ret nm nL tb d mc ms) {j : Nat} {x : Int32} (hd : decode cc pc = .ok (.iload j, 2)) (hl : ls[j]? = some (some (.int x))) (kk : wp w g Q (pc + 2) ls (.int x :: st) h k n) : wp w g Q pc ls st h k n := fun H locs lsA hR hz hs => lv_iload C.exec C.code hd (hs.at hl) (kk H locs lsA hR hz hs)
theorem r_aloadG_n (C : Cx w g cc own ret nm nL tb d mc ms) {i : Fin 4} {j : Nat} {x : Value} (hd : decode cc pc = .ok (.aload_n i, 1)) (hj : (i : Nat) = j) (hx : x.isRef = true) (hl : ls[j]? = some (some x)) (kk : wp w g Q (pc + 1) ls (x :: st) h k n) : wp w g Q pc ls st h k n := by
  intro H locs lsA hR hz hs
  cases x with
  | ref a => exact lv_aload_n C.exec C.code hd hj (hs.at hl) (kk H locs lsA hR hz hs)
  | null => exact lv_aload_nN C.exec C.code hd hj (hs.at hl) (kk H locs lsA hR hz hs)
  | _ => cases hx
theorem r_aloadG (C : Cx w g cc own ret nm nL tb d mc ms) {j : Nat} {x : Value} (hd : decode cc pc = .ok (.aload j, 2)) (hx : x.isRef = true) (hl : ls[j]? = some (some x)) (kk : wp w g Q (pc + 2) ls (x :: st) h k n) : wp w g Q pc ls st h k n := by
  intro H locs lsA hR hz hs
  cases x with
  | ref a => exact lv_aload C.exec C.code hd (hs.at hl) (kk H locs lsA hR hz hs)
  | null => exact lv_aloadN C.exec C.code hd (hs.at hl) (kk H locs lsA hR hz hs)
  | _ => cases hx
theorem r_istoreG_n (C : Cx w g cc own ret nm nL tb d mc ms) {i : Fin 4} {j : Nat} {x : Int32} (hd : decode cc pc = .ok (.istore_n i, 1)) (hj : (i : Nat) = j) (hl : j < ls.length) (kk : wp w g Q (pc + 1) (ls.set j (some (.int x))) st h k n) : wp w g Q pc ls (.int x :: st) h k n := fun H locs lsA hR hz hs => lv_istore_n C.exec C.code hd hj hs.has hl rfl (fun lsB hB => kk H locs lsB hR hz (hs.set rfl hB))
theorem r_istoreG (C : Cx w g cc own ret nm nL tb d mc ms) {j : Nat} {x : Int32} (hd : decode cc pc = .ok (.istore j, 2)) (hl : j < ls.length) (kk : wp w g Q (pc + 2) (ls.set j (some (.int x))) st h k n) : wp w g Q pc ls (.int x :: st) h k n := fun H locs lsA hR hz hs => lv_istore C.exec C.code hd hs.has hl rfl (fun lsB hB => kk H locs lsB hR hz (hs.set rfl hB))
theorem r_astoreG_n (C : Cx w g cc own ret nm nL tb d mc ms) {i : Fin 4} {j : Nat} {x : Value} (hd : decode cc pc = .ok (.astore_n i, 1)) (hj : (i : Nat) = j) (hx : x.isRef = true) (hl : j < ls.length) (kk : wp w g Q (pc + 1) (ls.set j (some x)) st h k n) : wp w g Q pc ls (x :: st) h k n := by
  intro H locs lsA hR hz hs
  cases x with
  | ref a => exact lv_astore_n C.exec C.code hd hj hs.has hl rfl (fun lsB hB => kk H locs lsB hR hz (hs.set rfl hB))
  | null => exact lv_astore_nN C.exec C.code hd hj hs.has hl rfl (fun lsB hB => kk H locs lsB hR hz (hs.set rfl hB))
  | _ => cases hx
theorem r_astoreG (C : Cx w g cc own ret nm nL tb d mc ms) {j : Nat} {x : Value} (hd : decode cc pc = .ok (.astore j, 2)) (hx : x.isRef = true) (hl : j < ls.length) (kk : wp w g Q (pc + 2) (ls.set j (some x)) st h k n) : wp w g Q pc ls (x :: st) h k n := by
  intro H locs lsA hR hz hs
  cases x with
  | ref a => exact lv_astore C.exec C.code hd hs.has hl rfl (fun lsB hB => kk H locs lsB hR hz (hs.set rfl hB))
  | null => exact lv_astoreN C.exec C.code hd hs.has hl rfl (fun lsB hB => kk H locs lsB hR hz (hs.set rfl hB))
  | _ => cases hx
theorem lzl_at {ls : List (Option Value)} {j : Nat} {v : Value} (hl : ls[j]? = some (some v)) : ∃ k : Nat, (lzl ls)[k]? = some (j, v) := List.getElem?_of_mem (lzl_mem.mpr hl)
theorem r_iincG (C : Cx w g cc own ret nm nL tb d mc ms) {j : Nat} {z : Int} {x v : Int32} (hd : decode cc pc = .ok (.iinc j z, 3)) (hx : ls[j]? = some (some (.int x))) (hv : x + Int32.ofInt z = v) (kk : wp w g Q (pc + 3) (ls.set j (some (.int v))) st h k n) : wp w g Q pc ls st h k n := by
  intro H locs lsA hR hz hs
  obtain ⟨q, hq⟩ := lzl_at hx
  exact lv_iinc C.exec C.code hd hs.has hq hv (List.getElem?_eq_some_iff.mp hx).1 rfl (fun lsB hB => kk H locs lsB hR hz (hs.set rfl hB))
theorem r_iload_0 (C : Cx w g cc own ret nm nL tb d mc ms) {t : List (Option Value)} {x : Int32} (hd : decode cc pc = .ok (.iload_n 0, 1)) (kk : wp w g Q (pc + 1) (some (.int x) :: t) (.int x :: st) h k n) : wp w g Q pc (some (.int x) :: t) st h k n := r_iloadG_n C hd rfl rfl kk
theorem r_aload_0 (C : Cx w g cc own ret nm nL tb d mc ms) {t : List (Option Value)} {x : Nat} (hd : decode cc pc = .ok (.aload_n 0, 1)) (kk : wp w g Q (pc + 1) (some (.ref x) :: t) (.ref x :: st) h k n) : wp w g Q pc (some (.ref x) :: t) st h k n := r_aloadG_n C hd rfl rfl rfl kk
theorem r_aloadV_0 (C : Cx w g cc own ret nm nL tb d mc ms) {t : List (Option Value)} {x : Value} (hx : x.isRef = true) (hd : decode cc pc = .ok (.aload_n 0, 1)) (kk : wp w g Q (pc + 1) (some x :: t) (x :: st) h k n) : wp w g Q pc (some x :: t) st h k n := r_aloadG_n C hd rfl hx rfl kk
theorem r_istore_0 (C : Cx w g cc own ret nm nL tb d mc ms) {y : Option Value} {t : List (Option Value)} {x : Int32} (hd : decode cc pc = .ok (.istore_n 0, 1)) (kk : wp w g Q (pc + 1) (some (.int x) :: t) st h k n) : wp w g Q pc (y :: t) (.int x :: st) h k n := r_istoreG_n C hd rfl (by simp only [List.length_cons]; omega) kk
theorem r_astore_0 (C : Cx w g cc own ret nm nL tb d mc ms) {y : Option Value} {t : List (Option Value)} {x : Nat} (hd : decode cc pc = .ok (.astore_n 0, 1)) (kk : wp w g Q (pc + 1) (some (.ref x) :: t) st h k n) : wp w g Q pc (y :: t) (.ref x :: st) h k n := r_astoreG_n C hd rfl rfl (by simp only [List.length_cons]; omega) kk
theorem r_astoreV_0 (C : Cx w g cc own ret nm nL tb d mc ms) {y : Option Value} {t : List (Option Value)} {x : Value} (hx : x.isRef = true) (hd : decode cc pc = .ok (.astore_n 0, 1)) (kk : wp w g Q (pc + 1) (some x :: t) st h k n) : wp w g Q pc (y :: t) (x :: st) h k n := r_astoreG_n C hd rfl hx (by simp only [List.length_cons]; omega) kk
theorem r_iinc_0 (C : Cx w g cc own ret nm nL tb d mc ms) {t : List (Option Value)} {z : Int} {x v : Int32} (hd : decode cc pc = .ok (.iinc 0 z, 3)) (hv : x + Int32.ofInt z = v) (kk : wp w g Q (pc + 3) (some (.int v) :: t) st h k n) : wp w g Q pc (some (.int x) :: t) st h k n := r_iincG C hd rfl hv kk
theorem r_iload_1 (C : Cx w g cc own ret nm nL tb d mc ms) {x0 : Option Value} {t : List (Option Value)} {x : Int32} (hd : decode cc pc = .ok (.iload_n 1, 1)) (kk : wp w g Q (pc + 1) (x0 :: some (.int x) :: t) (.int x :: st) h k n) : wp w g Q pc (x0 :: some (.int x) :: t) st h k n := r_iloadG_n C hd rfl rfl kk
theorem r_aload_1 (C : Cx w g cc own ret nm nL tb d mc ms) {x0 : Option Value} {t : List (Option Value)} {x : Nat} (hd : decode cc pc = .ok (.aload_n 1, 1)) (kk : wp w g Q (pc + 1) (x0 :: some (.ref x) :: t) (.ref x :: st) h k n) : wp w g Q pc (x0 :: some (.ref x) :: t) st h k n := r_aloadG_n C hd rfl rfl rfl kk
theorem r_aloadV_1 (C : Cx w g cc own ret nm nL tb d mc ms) {x0 : Option Value} {t : List (Option Value)} {x : Value} (hx : x.isRef = true) (hd : decode cc pc = .ok (.aload_n 1, 1)) (kk : wp w g Q (pc + 1) (x0 :: some x :: t) (x :: st) h k n) : wp w g Q pc (x0 :: some x :: t) st h k n := r_aloadG_n C hd rfl hx rfl kk
theorem r_istore_1 (C : Cx w g cc own ret nm nL tb d mc ms) {x0 : Option Value} {y : Option Value} {t : List (Option Value)} {x : Int32} (hd : decode cc pc = .ok (.istore_n 1, 1)) (kk : wp w g Q (pc + 1) (x0 :: some (.int x) :: t) st h k n) : wp w g Q pc (x0 :: y :: t) (.int x :: st) h k n := r_istoreG_n C hd rfl (by simp only [List.length_cons]; omega) kk
theorem r_astore_1 (C : Cx w g cc own ret nm nL tb d mc ms) {x0 : Option Value} {y : Option Value} {t : List (Option Value)} {x : Nat} (hd : decode cc pc = .ok (.astore_n 1, 1)) (kk : wp w g Q (pc + 1) (x0 :: some (.ref x) :: t) st h k n) : wp w g Q pc (x0 :: y :: t) (.ref x :: st) h k n := r_astoreG_n C hd rfl rfl (by simp only [List.length_cons]; omega) kk
theorem r_astoreV_1 (C : Cx w g cc own ret nm nL tb d mc ms) {x0 : Option Value} {y : Option Value} {t : List (Option Value)} {x : Value} (hx : x.isRef = true) (hd : decode cc pc = .ok (.astore_n 1, 1)) (kk : wp w g Q (pc + 1) (x0 :: some x :: t) st h k n) : wp w g Q pc (x0 :: y :: t) (x :: st) h k n := r_astoreG_n C hd rfl hx (by simp only [List.length_cons]; omega) kk
theorem r_iinc_1 (C : Cx w g cc own ret nm nL tb d mc ms) {x0 : Option Value} {t : List (Option Value)} {z : Int} {x v : Int32} (hd : decode cc pc = .ok (.iinc 1 z, 3)) (hv : x + Int32.ofInt z = v) (kk : wp w g Q (pc + 3) (x0 :: some (.int v) :: t) st h k n) : wp w g Q pc (x0 :: some (.int x) :: t) st h k n := r_iincG C hd rfl hv kk
theorem r_iload_2 (C : Cx w g cc own ret nm nL tb d mc ms) {x0 x1 : Option Value} {t : List (Option Value)} {x : Int32} (hd : decode cc pc = .ok (.iload_n 2, 1)) (kk : wp w g Q (pc + 1) (x0 :: x1 :: some (.int x) :: t) (.int x :: st) h k n) : wp w g Q pc (x0 :: x1 :: some (.int x) :: t) st h k n := r_iloadG_n C hd rfl rfl kk
theorem r_aload_2 (C : Cx w g cc own ret nm nL tb d mc ms) {x0 x1 : Option Value} {t : List (Option Value)} {x : Nat} (hd : decode cc pc = .ok (.aload_n 2, 1)) (kk : wp w g Q (pc + 1) (x0 :: x1 :: some (.ref x) :: t) (.ref x :: st) h k n) : wp w g Q pc (x0 :: x1 :: some (.ref x) :: t) st h k n := r_aloadG_n C hd rfl rfl rfl kk
theorem r_aloadV_2 (C : Cx w g cc own ret nm nL tb d mc ms) {x0 x1 : Option Value} {t : List (Option Value)} {x : Value} (hx : x.isRef = true) (hd : decode cc pc = .ok (.aload_n 2, 1)) (kk : wp w g Q (pc + 1) (x0 :: x1 :: some x :: t) (x :: st) h k n) : wp w g Q pc (x0 :: x1 :: some x :: t) st h k n := r_aloadG_n C hd rfl hx rfl kk
theorem r_istore_2 (C : Cx w g cc own ret nm nL tb d mc ms) {x0 x1 : Option Value} {y : Option Value} {t : List (Option Value)} {x : Int32} (hd : decode cc pc = .ok (.istore_n 2, 1)) (kk : wp w g Q (pc + 1) (x0 :: x1 :: some (.int x) :: t) st h k n) : wp w g Q pc (x0 :: x1 :: y :: t) (.int x :: st) h k n := r_istoreG_n C hd rfl (by simp only [List.length_cons]; omega) kk
theorem r_astore_2 (C : Cx w g cc own ret nm nL tb d mc ms) {x0 x1 : Option Value} {y : Option Value} {t : List (Option Value)} {x : Nat} (hd : decode cc pc = .ok (.astore_n 2, 1)) (kk : wp w g Q (pc + 1) (x0 :: x1 :: some (.ref x) :: t) st h k n) : wp w g Q pc (x0 :: x1 :: y :: t) (.ref x :: st) h k n := r_astoreG_n C hd rfl rfl (by simp only [List.length_cons]; omega) kk
theorem r_astoreV_2 (C : Cx w g cc own ret nm nL tb d mc ms) {x0 x1 : Option Value} {y : Option Value} {t : List (Option Value)} {x : Value} (hx : x.isRef = true) (hd : decode cc pc = .ok (.astore_n 2, 1)) (kk : wp w g Q (pc + 1) (x0 :: x1 :: some x :: t) st h k n) : wp w g Q pc (x0 :: x1 :: y :: t) (x :: st) h k n := r_astoreG_n C hd rfl hx (by simp only [List.length_cons]; omega) kk
theorem r_iinc_2 (C : Cx w g cc own ret nm nL tb d mc ms) {x0 x1 : Option Value} {t : List (Option Value)} {z : Int} {x v : Int32} (hd : decode cc pc = .ok (.iinc 2 z, 3)) (hv : x + Int32.ofInt z = v) (kk : wp w g Q (pc + 3) (x0 :: x1 :: some (.int v) :: t) st h k n) : wp w g Q pc (x0 :: x1 :: some (.int x) :: t) st h k n := r_iincG C hd rfl hv kk
theorem r_iload_3 (C : Cx w g cc own ret nm nL tb d mc ms) {x0 x1 x2 : Option Value} {t : List (Option Value)} {x : Int32} (hd : decode cc pc = .ok (.iload_n 3, 1)) (kk : wp w g Q (pc + 1) (x0 :: x1 :: x2 :: some (.int x) :: t) (.int x :: st) h k n) : wp w g Q pc (x0 :: x1 :: x2 :: some (.int x) :: t) st h k n := r_iloadG_n C hd rfl rfl kk
theorem r_aload_3 (C : Cx w g cc own ret nm nL tb d mc ms) {x0 x1 x2 : Option Value} {t : List (Option Value)} {x : Nat} (hd : decode cc pc = .ok (.aload_n 3, 1)) (kk : wp w g Q (pc + 1) (x0 :: x1 :: x2 :: some (.ref x) :: t) (.ref x :: st) h k n) : wp w g Q pc (x0 :: x1 :: x2 :: some (.ref x) :: t) st h k n := r_aloadG_n C hd rfl rfl rfl kk
theorem r_aloadV_3 (C : Cx w g cc own ret nm nL tb d mc ms) {x0 x1 x2 : Option Value} {t : List (Option Value)} {x : Value} (hx : x.isRef = true) (hd : decode cc pc = .ok (.aload_n 3, 1)) (kk : wp w g Q (pc + 1) (x0 :: x1 :: x2 :: some x :: t) (x :: st) h k n) : wp w g Q pc (x0 :: x1 :: x2 :: some x :: t) st h k n := r_aloadG_n C hd rfl hx rfl kk
theorem r_istore_3 (C : Cx w g cc own ret nm nL tb d mc ms) {x0 x1 x2 : Option Value} {y : Option Value} {t : List (Option Value)} {x : Int32} (hd : decode cc pc = .ok (.istore_n 3, 1)) (kk : wp w g Q (pc + 1) (x0 :: x1 :: x2 :: some (.int x) :: t) st h k n) : wp w g Q pc (x0 :: x1 :: x2 :: y :: t) (.int x :: st) h k n := r_istoreG_n C hd rfl (by simp only [List.length_cons]; omega) kk
theorem r_astore_3 (C : Cx w g cc own ret nm nL tb d mc ms) {x0 x1 x2 : Option Value} {y : Option Value} {t : List (Option Value)} {x : Nat} (hd : decode cc pc = .ok (.astore_n 3, 1)) (kk : wp w g Q (pc + 1) (x0 :: x1 :: x2 :: some (.ref x) :: t) st h k n) : wp w g Q pc (x0 :: x1 :: x2 :: y :: t) (.ref x :: st) h k n := r_astoreG_n C hd rfl rfl (by simp only [List.length_cons]; omega) kk
theorem r_astoreV_3 (C : Cx w g cc own ret nm nL tb d mc ms) {x0 x1 x2 : Option Value} {y : Option Value} {t : List (Option Value)} {x : Value} (hx : x.isRef = true) (hd : decode cc pc = .ok (.astore_n 3, 1)) (kk : wp w g Q (pc + 1) (x0 :: x1 :: x2 :: some x :: t) st h k n) : wp w g Q pc (x0 :: x1 :: x2 :: y :: t) (x :: st) h k n := r_astoreG_n C hd rfl hx (by simp only [List.length_cons]; omega) kk
theorem r_iinc_3 (C : Cx w g cc own ret nm nL tb d mc ms) {x0 x1 x2 : Option Value} {t : List (Option Value)} {z : Int} {x v : Int32} (hd : decode cc pc = .ok (.iinc 3 z, 3)) (hv : x + Int32.ofInt z = v) (kk : wp w g Q (pc + 3) (x0 :: x1 :: x2 :: some (.int v) :: t) st h k n) : wp w g Q pc (x0 :: x1 :: x2 :: some (.int x) :: t) st h k n := r_iincG C hd rfl hv kk
theorem r_iload_4 (C : Cx w g cc own ret nm nL tb d mc ms) {x0 x1 x2 x3 : Option Value} {t : List (Option Value)} {x : Int32} (hd : decode cc pc = .ok (.iload 4, 2)) (kk : wp w g Q (pc + 2) (x0 :: x1 :: x2 :: x3 :: some (.int x) :: t) (.int x :: st) h k n) : wp w g Q pc (x0 :: x1 :: x2 :: x3 :: some (.int x) :: t) st h k n := r_iloadG C hd rfl kk
theorem r_aload_4 (C : Cx w g cc own ret nm nL tb d mc ms) {x0 x1 x2 x3 : Option Value} {t : List (Option Value)} {x : Nat} (hd : decode cc pc = .ok (.aload 4, 2)) (kk : wp w g Q (pc + 2) (x0 :: x1 :: x2 :: x3 :: some (.ref x) :: t) (.ref x :: st) h k n) : wp w g Q pc (x0 :: x1 :: x2 :: x3 :: some (.ref x) :: t) st h k n := r_aloadG C hd rfl rfl kk
theorem r_aloadV_4 (C : Cx w g cc own ret nm nL tb d mc ms) {x0 x1 x2 x3 : Option Value} {t : List (Option Value)} {x : Value} (hx : x.isRef = true) (hd : decode cc pc = .ok (.aload 4, 2)) (kk : wp w g Q (pc + 2) (x0 :: x1 :: x2 :: x3 :: some x :: t) (x :: st) h k n) : wp w g Q pc (x0 :: x1 :: x2 :: x3 :: some x :: t) st h k n := r_aloadG C hd hx rfl kk
theorem r_istore_4 (C : Cx w g cc own ret nm nL tb d mc ms) {x0 x1 x2 x3 : Option Value} {y : Option Value} {t : List (Option Value)} {x : Int32} (hd : decode cc pc = .ok (.istore 4, 2)) (kk : wp w g Q (pc + 2) (x0 :: x1 :: x2 :: x3 :: some (.int x) :: t) st h k n) : wp w g Q pc (x0 :: x1 :: x2 :: x3 :: y :: t) (.int x :: st) h k n := r_istoreG C hd (by simp only [List.length_cons]; omega) kk
theorem r_astore_4 (C : Cx w g cc own ret nm nL tb d mc ms) {x0 x1 x2 x3 : Option Value} {y : Option Value} {t : List (Option Value)} {x : Nat} (hd : decode cc pc = .ok (.astore 4, 2)) (kk : wp w g Q (pc + 2) (x0 :: x1 :: x2 :: x3 :: some (.ref x) :: t) st h k n) : wp w g Q pc (x0 :: x1 :: x2 :: x3 :: y :: t) (.ref x :: st) h k n := r_astoreG C hd rfl (by simp only [List.length_cons]; omega) kk
theorem r_astoreV_4 (C : Cx w g cc own ret nm nL tb d mc ms) {x0 x1 x2 x3 : Option Value} {y : Option Value} {t : List (Option Value)} {x : Value} (hx : x.isRef = true) (hd : decode cc pc = .ok (.astore 4, 2)) (kk : wp w g Q (pc + 2) (x0 :: x1 :: x2 :: x3 :: some x :: t) st h k n) : wp w g Q pc (x0 :: x1 :: x2 :: x3 :: y :: t) (x :: st) h k n := r_astoreG C hd hx (by simp only [List.length_cons]; omega) kk
theorem r_iinc_4 (C : Cx w g cc own ret nm nL tb d mc ms) {x0 x1 x2 x3 : Option Value} {t : List (Option Value)} {z : Int} {x v : Int32} (hd : decode cc pc = .ok (.iinc 4 z, 3)) (hv : x + Int32.ofInt z = v) (kk : wp w g Q (pc + 3) (x0 :: x1 :: x2 :: x3 :: some (.int v) :: t) st h k n) : wp w g Q pc (x0 :: x1 :: x2 :: x3 :: some (.int x) :: t) st h k n := r_iincG C hd rfl hv kk
theorem r_iload_5 (C : Cx w g cc own ret nm nL tb d mc ms) {x0 x1 x2 x3 x4 : Option Value} {t : List (Option Value)} {x : Int32} (hd : decode cc pc = .ok (.iload 5, 2)) (kk : wp w g Q (pc + 2) (x0 :: x1 :: x2 :: x3 :: x4 :: some (.int x) :: t) (.int x :: st) h k n) : wp w g Q pc (x0 :: x1 :: x2 :: x3 :: x4 :: some (.int x) :: t) st h k n := r_iloadG C hd rfl kk
theorem r_aload_5 (C : Cx w g cc own ret nm nL tb d mc ms) {x0 x1 x2 x3 x4 : Option Value} {t : List (Option Value)} {x : Nat} (hd : decode cc pc = .ok (.aload 5, 2)) (kk : wp w g Q (pc + 2) (x0 :: x1 :: x2 :: x3 :: x4 :: some (.ref x) :: t) (.ref x :: st) h k n) : wp w g Q pc (x0 :: x1 :: x2 :: x3 :: x4 :: some (.ref x) :: t) st h k n := r_aloadG C hd rfl rfl kk
theorem r_aloadV_5 (C : Cx w g cc own ret nm nL tb d mc ms) {x0 x1 x2 x3 x4 : Option Value} {t : List (Option Value)} {x : Value} (hx : x.isRef = true) (hd : decode cc pc = .ok (.aload 5, 2)) (kk : wp w g Q (pc + 2) (x0 :: x1 :: x2 :: x3 :: x4 :: some x :: t) (x :: st) h k n) : wp w g Q pc (x0 :: x1 :: x2 :: x3 :: x4 :: some x :: t) st h k n := r_aloadG C hd hx rfl kk
theorem r_istore_5 (C : Cx w g cc own ret nm nL tb d mc ms) {x0 x1 x2 x3 x4 : Option Value} {y : Option Value} {t : List (Option Value)} {x : Int32} (hd : decode cc pc = .ok (.istore 5, 2)) (kk : wp w g Q (pc + 2) (x0 :: x1 :: x2 :: x3 :: x4 :: some (.int x) :: t) st h k n) : wp w g Q pc (x0 :: x1 :: x2 :: x3 :: x4 :: y :: t) (.int x :: st) h k n := r_istoreG C hd (by simp only [List.length_cons]; omega) kk
theorem r_astore_5 (C : Cx w g cc own ret nm nL tb d mc ms) {x0 x1 x2 x3 x4 : Option Value} {y : Option Value} {t : List (Option Value)} {x : Nat} (hd : decode cc pc = .ok (.astore 5, 2)) (kk : wp w g Q (pc + 2) (x0 :: x1 :: x2 :: x3 :: x4 :: some (.ref x) :: t) st h k n) : wp w g Q pc (x0 :: x1 :: x2 :: x3 :: x4 :: y :: t) (.ref x :: st) h k n := r_astoreG C hd rfl (by simp only [List.length_cons]; omega) kk
theorem r_astoreV_5 (C : Cx w g cc own ret nm nL tb d mc ms) {x0 x1 x2 x3 x4 : Option Value} {y : Option Value} {t : List (Option Value)} {x : Value} (hx : x.isRef = true) (hd : decode cc pc = .ok (.astore 5, 2)) (kk : wp w g Q (pc + 2) (x0 :: x1 :: x2 :: x3 :: x4 :: some x :: t) st h k n) : wp w g Q pc (x0 :: x1 :: x2 :: x3 :: x4 :: y :: t) (x :: st) h k n := r_astoreG C hd hx (by simp only [List.length_cons]; omega) kk
theorem r_iinc_5 (C : Cx w g cc own ret nm nL tb d mc ms) {x0 x1 x2 x3 x4 : Option Value} {t : List (Option Value)} {z : Int} {x v : Int32} (hd : decode cc pc = .ok (.iinc 5 z, 3)) (hv : x + Int32.ofInt z = v) (kk : wp w g Q (pc + 3) (x0 :: x1 :: x2 :: x3 :: x4 :: some (.int v) :: t) st h k n) : wp w g Q pc (x0 :: x1 :: x2 :: x3 :: x4 :: some (.int x) :: t) st h k n := r_iincG C hd rfl hv kk
theorem r_iload_6 (C : Cx w g cc own ret nm nL tb d mc ms) {x0 x1 x2 x3 x4 x5 : Option Value} {t : List (Option Value)} {x : Int32} (hd : decode cc pc = .ok (.iload 6, 2)) (kk : wp w g Q (pc + 2) (x0 :: x1 :: x2 :: x3 :: x4 :: x5 :: some (.int x) :: t) (.int x :: st) h k n) : wp w g Q pc (x0 :: x1 :: x2 :: x3 :: x4 :: x5 :: some (.int x) :: t) st h k n := r_iloadG C hd rfl kk
theorem r_aload_6 (C : Cx w g cc own ret nm nL tb d mc ms) {x0 x1 x2 x3 x4 x5 : Option Value} {t : List (Option Value)} {x : Nat} (hd : decode cc pc = .ok (.aload 6, 2)) (kk : wp w g Q (pc + 2) (x0 :: x1 :: x2 :: x3 :: x4 :: x5 :: some (.ref x) :: t) (.ref x :: st) h k n) : wp w g Q pc (x0 :: x1 :: x2 :: x3 :: x4 :: x5 :: some (.ref x) :: t) st h k n := r_aloadG C hd rfl rfl kk
theorem r_aloadV_6 (C : Cx w g cc own ret nm nL tb d mc ms) {x0 x1 x2 x3 x4 x5 : Option Value} {t : List (Option Value)} {x : Value} (hx : x.isRef = true) (hd : decode cc pc = .ok (.aload 6, 2)) (kk : wp w g Q (pc + 2) (x0 :: x1 :: x2 :: x3 :: x4 :: x5 :: some x :: t) (x :: st) h k n) : wp w g Q pc (x0 :: x1 :: x2 :: x3 :: x4 :: x5 :: some x :: t) st h k n := r_aloadG C hd hx rfl kk
theorem r_istore_6 (C : Cx w g cc own ret nm nL tb d mc ms) {x0 x1 x2 x3 x4 x5 : Option Value} {y : Option Value} {t : List (Option Value)} {x : Int32} (hd : decode cc pc = .ok (.istore 6, 2)) (kk : wp w g Q (pc + 2) (x0 :: x1 :: x2 :: x3 :: x4 :: x5 :: some (.int x) :: t) st h k n) : wp w g Q pc (x0 :: x1 :: x2 :: x3 :: x4 :: x5 :: y :: t) (.int x :: st) h k n := r_istoreG C hd (by simp only [List.length_cons]; omega) kk
theorem r_astore_6 (C : Cx w g cc own ret nm nL tb d mc ms) {x0 x1 x2 x3 x4 x5 : Option Value} {y : Option Value} {t : List (Option Value)} {x : Nat} (hd : decode cc pc = .ok (.astore 6, 2)) (kk : wp w g Q (pc + 2) (x0 :: x1 :: x2 :: x3 :: x4 :: x5 :: some (.ref x) :: t) st h k n) : wp w g Q pc (x0 :: x1 :: x2 :: x3 :: x4 :: x5 :: y :: t) (.ref x :: st) h k n := r_astoreG C hd rfl (by simp only [List.length_cons]; omega) kk
theorem r_astoreV_6 (C : Cx w g cc own ret nm nL tb d mc ms) {x0 x1 x2 x3 x4 x5 : Option Value} {y : Option Value} {t : List (Option Value)} {x : Value} (hx : x.isRef = true) (hd : decode cc pc = .ok (.astore 6, 2)) (kk : wp w g Q (pc + 2) (x0 :: x1 :: x2 :: x3 :: x4 :: x5 :: some x :: t) st h k n) : wp w g Q pc (x0 :: x1 :: x2 :: x3 :: x4 :: x5 :: y :: t) (x :: st) h k n := r_astoreG C hd hx (by simp only [List.length_cons]; omega) kk
theorem r_iinc_6 (C : Cx w g cc own ret nm nL tb d mc ms) {x0 x1 x2 x3 x4 x5 : Option Value} {t : List (Option Value)} {z : Int} {x v : Int32} (hd : decode cc pc = .ok (.iinc 6 z, 3)) (hv : x + Int32.ofInt z = v) (kk : wp w g Q (pc + 3) (x0 :: x1 :: x2 :: x3 :: x4 :: x5 :: some (.int v) :: t) st h k n) : wp w g Q pc (x0 :: x1 :: x2 :: x3 :: x4 :: x5 :: some (.int x) :: t) st h k n := r_iincG C hd rfl hv kk
theorem r_iload_7 (C : Cx w g cc own ret nm nL tb d mc ms) {x0 x1 x2 x3 x4 x5 x6 : Option Value} {t : List (Option Value)} {x : Int32} (hd : decode cc pc = .ok (.iload 7, 2)) (kk : wp w g Q (pc + 2) (x0 :: x1 :: x2 :: x3 :: x4 :: x5 :: x6 :: some (.int x) :: t) (.int x :: st) h k n) : wp w g Q pc (x0 :: x1 :: x2 :: x3 :: x4 :: x5 :: x6 :: some (.int x) :: t) st h k n := r_iloadG C hd rfl kk
theorem r_aload_7 (C : Cx w g cc own ret nm nL tb d mc ms) {x0 x1 x2 x3 x4 x5 x6 : Option Value} {t : List (Option Value)} {x : Nat} (hd : decode cc pc = .ok (.aload 7, 2)) (kk : wp w g Q (pc + 2) (x0 :: x1 :: x2 :: x3 :: x4 :: x5 :: x6 :: some (.ref x) :: t) (.ref x :: st) h k n) : wp w g Q pc (x0 :: x1 :: x2 :: x3 :: x4 :: x5 :: x6 :: some (.ref x) :: t) st h k n := r_aloadG C hd rfl rfl kk
theorem r_aloadV_7 (C : Cx w g cc own ret nm nL tb d mc ms) {x0 x1 x2 x3 x4 x5 x6 : Option Value} {t : List (Option Value)} {x : Value} (hx : x.isRef = true) (hd : decode cc pc = .ok (.aload 7, 2)) (kk : wp w g Q (pc + 2) (x0 :: x1 :: x2 :: x3 :: x4 :: x5 :: x6 :: some x :: t) (x :: st) h k n) : wp w g Q pc (x0 :: x1 :: x2 :: x3 :: x4 :: x5 :: x6 :: some x :: t) st h k n := r_aloadG C hd hx rfl kk
theorem r_istore_7 (C : Cx w g cc own ret nm nL tb d mc ms) {x0 x1 x2 x3 x4 x5 x6 : Option Value} {y : Option Value} {t : List (Option Value)} {x : Int32} (hd : decode cc pc = .ok (.istore 7, 2)) (kk : wp w g Q (pc + 2) (x0 :: x1 :: x2 :: x3 :: x4 :: x5 :: x6 :: some (.int x) :: t) st h k n) : wp w g Q pc (x0 :: x1 :: x2 :: x3 :: x4 :: x5 :: x6 :: y :: t) (.int x :: st) h k n := r_istoreG C hd (by simp only [List.length_cons]; omega) kk
theorem r_astore_7 (C : Cx w g cc own ret nm nL tb d mc ms) {x0 x1 x2 x3 x4 x5 x6 : Option Value} {y : Option Value} {t : List (Option Value)} {x : Nat} (hd : decode cc pc = .ok (.astore 7, 2)) (kk : wp w g Q (pc + 2) (x0 :: x1 :: x2 :: x3 :: x4 :: x5 :: x6 :: some (.ref x) :: t) st h k n) : wp w g Q pc (x0 :: x1 :: x2 :: x3 :: x4 :: x5 :: x6 :: y :: t) (.ref x :: st) h k n := r_astoreG C hd rfl (by simp only [List.length_cons]; omega) kk
theorem r_astoreV_7 (C : Cx w g cc own ret nm nL tb d mc ms) {x0 x1 x2 x3 x4 x5 x6 : Option Value} {y : Option Value} {t : List (Option Value)} {x : Value} (hx : x.isRef = true) (hd : decode cc pc = .ok (.astore 7, 2)) (kk : wp w g Q (pc + 2) (x0 :: x1 :: x2 :: x3 :: x4 :: x5 :: x6 :: some x :: t) st h k n) : wp w g Q pc (x0 :: x1 :: x2 :: x3 :: x4 :: x5 :: x6 :: y :: t) (x :: st) h k n := r_astoreG C hd hx (by simp only [List.length_cons]; omega) kk
theorem r_iinc_7 (C : Cx w g cc own ret nm nL tb d mc ms) {x0 x1 x2 x3 x4 x5 x6 : Option Value} {t : List (Option Value)} {z : Int} {x v : Int32} (hd : decode cc pc = .ok (.iinc 7 z, 3)) (hv : x + Int32.ofInt z = v) (kk : wp w g Q (pc + 3) (x0 :: x1 :: x2 :: x3 :: x4 :: x5 :: x6 :: some (.int v) :: t) st h k n) : wp w g Q pc (x0 :: x1 :: x2 :: x3 :: x4 :: x5 :: x6 :: some (.int x) :: t) st h k n := r_iincG C hd rfl hv kk
theorem r_iload_8 (C : Cx w g cc own ret nm nL tb d mc ms) {x0 x1 x2 x3 x4 x5 x6 x7 : Option Value} {t : List (Option Value)} {x : Int32} (hd : decode cc pc = .ok (.iload 8, 2)) (kk : wp w g Q (pc + 2) (x0 :: x1 :: x2 :: x3 :: x4 :: x5 :: x6 :: x7 :: some (.int x) :: t) (.int x :: st) h k n) : wp w g Q pc (x0 :: x1 :: x2 :: x3 :: x4 :: x5 :: x6 :: x7 :: some (.int x) :: t) st h k n := r_iloadG C hd rfl kk
theorem r_aload_8 (C : Cx w g cc own ret nm nL tb d mc ms) {x0 x1 x2 x3 x4 x5 x6 x7 : Option Value} {t : List (Option Value)} {x : Nat} (hd : decode cc pc = .ok (.aload 8, 2)) (kk : wp w g Q (pc + 2) (x0 :: x1 :: x2 :: x3 :: x4 :: x5 :: x6 :: x7 :: some (.ref x) :: t) (.ref x :: st) h k n) : wp w g Q pc (x0 :: x1 :: x2 :: x3 :: x4 :: x5 :: x6 :: x7 :: some (.ref x) :: t) st h k n := r_aloadG C hd rfl rfl kk
theorem r_aloadV_8 (C : Cx w g cc own ret nm nL tb d mc ms) {x0 x1 x2 x3 x4 x5 x6 x7 : Option Value} {t : List (Option Value)} {x : Value} (hx : x.isRef = true) (hd : decode cc pc = .ok (.aload 8, 2)) (kk : wp w g Q (pc + 2) (x0 :: x1 :: x2 :: x3 :: x4 :: x5 :: x6 :: x7 :: some x :: t) (x :: st) h k n) : wp w g Q pc (x0 :: x1 :: x2 :: x3 :: x4 :: x5 :: x6 :: x7 :: some x :: t) st h k n := r_aloadG C hd hx rfl kk
theorem r_istore_8 (C : Cx w g cc own ret nm nL tb d mc ms) {x0 x1 x2 x3 x4 x5 x6 x7 : Option Value} {y : Option Value} {t : List (Option Value)} {x : Int32} (hd : decode cc pc = .ok (.istore 8, 2)) (kk : wp w g Q (pc + 2) (x0 :: x1 :: x2 :: x3 :: x4 :: x5 :: x6 :: x7 :: some (.int x) :: t) st h k n) : wp w g Q pc (x0 :: x1 :: x2 :: x3 :: x4 :: x5 :: x6 :: x7 :: y :: t) (.int x :: st) h k n := r_istoreG C hd (by simp only [List.length_cons]; omega) kk
theorem r_astore_8 (C : Cx w g cc own ret nm nL tb d mc ms) {x0 x1 x2 x3 x4 x5 x6 x7 : Option Value} {y : Option Value} {t : List (Option Value)} {x : Nat} (hd : decode cc pc = .ok (.astore 8, 2)) (kk : wp w g Q (pc + 2) (x0 :: x1 :: x2 :: x3 :: x4 :: x5 :: x6 :: x7 :: some (.ref x) :: t) st h k n) : wp w g Q pc (x0 :: x1 :: x2 :: x3 :: x4 :: x5 :: x6 :: x7 :: y :: t) (.ref x :: st) h k n := r_astoreG C hd rfl (by simp only [List.length_cons]; omega) kk
theorem r_astoreV_8 (C : Cx w g cc own ret nm nL tb d mc ms) {x0 x1 x2 x3 x4 x5 x6 x7 : Option Value} {y : Option Value} {t : List (Option Value)} {x : Value} (hx : x.isRef = true) (hd : decode cc pc = .ok (.astore 8, 2)) (kk : wp w g Q (pc + 2) (x0 :: x1 :: x2 :: x3 :: x4 :: x5 :: x6 :: x7 :: some x :: t) st h k n) : wp w g Q pc (x0 :: x1 :: x2 :: x3 :: x4 :: x5 :: x6 :: x7 :: y :: t) (x :: st) h k n := r_astoreG C hd hx (by simp only [List.length_cons]; omega) kk
theorem r_iinc_8 (C : Cx w g cc own ret nm nL tb d mc ms) {x0 x1 x2 x3 x4 x5 x6 x7 : Option Value} {t : List (Option Value)} {z : Int} {x v : Int32} (hd : decode cc pc = .ok (.iinc 8 z, 3)) (hv : x + Int32.ofInt z = v) (kk : wp w g Q (pc + 3) (x0 :: x1 :: x2 :: x3 :: x4 :: x5 :: x6 :: x7 :: some (.int v) :: t) st h k n) : wp w g Q pc (x0 :: x1 :: x2 :: x3 :: x4 :: x5 :: x6 :: x7 :: some (.int x) :: t) st h k n := r_iincG C hd rfl hv kk
theorem r_iload_9 (C : Cx w g cc own ret nm nL tb d mc ms) {x0 x1 x2 x3 x4 x5 x6 x7 x8 : Option Value} {t : List (Option Value)} {x : Int32} (hd : decode cc pc = .ok (.iload 9, 2)) (kk : wp w g Q (pc + 2) (x0 :: x1 :: x2 :: x3 :: x4 :: x5 :: x6 :: x7 :: x8 :: some (.int x) :: t) (.int x :: st) h k n) : wp w g Q pc (x0 :: x1 :: x2 :: x3 :: x4 :: x5 :: x6 :: x7 :: x8 :: some (.int x) :: t) st h k n := r_iloadG C hd rfl kk
theorem r_aload_9 (C : Cx w g cc own ret nm nL tb d mc ms) {x0 x1 x2 x3 x4 x5 x6 x7 x8 : Option Value} {t : List (Option Value)} {x : Nat} (hd : decode cc pc = .ok (.aload 9, 2)) (kk : wp w g Q (pc + 2) (x0 :: x1 :: x2 :: x3 :: x4 :: x5 :: x6 :: x7 :: x8 :: some (.ref x) :: t) (.ref x :: st) h k n) : wp w g Q pc (x0 :: x1 :: x2 :: x3 :: x4 :: x5 :: x6 :: x7 :: x8 :: some (.ref x) :: t) st h k n := r_aloadG C hd rfl rfl kk
theorem r_aloadV_9 (C : Cx w g cc own ret nm nL tb d mc ms) {x0 x1 x2 x3 x4 x5 x6 x7 x8 : Option Value} {t : List (Option Value)} {x : Value} (hx : x.isRef = true) (hd : decode cc pc = .ok (.aload 9, 2)) (kk : wp w g Q (pc + 2) (x0 :: x1 :: x2 :: x3 :: x4 :: x5 :: x6 :: x7 :: x8 :: some x :: t) (x :: st) h k n) : wp w g Q pc (x0 :: x1 :: x2 :: x3 :: x4 :: x5 :: x6 :: x7 :: x8 :: some x :: t) st h k n := r_aloadG C hd hx rfl kk
theorem r_istore_9 (C : Cx w g cc own ret nm nL tb d mc ms) {x0 x1 x2 x3 x4 x5 x6 x7 x8 : Option Value} {y : Option Value} {t : List (Option Value)} {x : Int32} (hd : decode cc pc = .ok (.istore 9, 2)) (kk : wp w g Q (pc + 2) (x0 :: x1 :: x2 :: x3 :: x4 :: x5 :: x6 :: x7 :: x8 :: some (.int x) :: t) st h k n) : wp w g Q pc (x0 :: x1 :: x2 :: x3 :: x4 :: x5 :: x6 :: x7 :: x8 :: y :: t) (.int x :: st) h k n := r_istoreG C hd (by simp only [List.length_cons]; omega) kk
theorem r_astore_9 (C : Cx w g cc own ret nm nL tb d mc ms) {x0 x1 x2 x3 x4 x5 x6 x7 x8 : Option Value} {y : Option Value} {t : List (Option Value)} {x : Nat} (hd : decode cc pc = .ok (.astore 9, 2)) (kk : wp w g Q (pc + 2) (x0 :: x1 :: x2 :: x3 :: x4 :: x5 :: x6 :: x7 :: x8 :: some (.ref x) :: t) st h k n) : wp w g Q pc (x0 :: x1 :: x2 :: x3 :: x4 :: x5 :: x6 :: x7 :: x8 :: y :: t) (.ref x :: st) h k n := r_astoreG C hd rfl (by simp only [List.length_cons]; omega) kk
theorem r_astoreV_9 (C : Cx w g cc own ret nm nL tb d mc ms) {x0 x1 x2 x3 x4 x5 x6 x7 x8 : Option Value} {y : Option Value} {t : List (Option Value)} {x : Value} (hx : x.isRef = true) (hd : decode cc pc = .ok (.astore 9, 2)) (kk : wp w g Q (pc + 2) (x0 :: x1 :: x2 :: x3 :: x4 :: x5 :: x6 :: x7 :: x8 :: some x :: t) st h k n) : wp w g Q pc (x0 :: x1 :: x2 :: x3 :: x4 :: x5 :: x6 :: x7 :: x8 :: y :: t) (x :: st) h k n := r_astoreG C hd hx (by simp only [List.length_cons]; omega) kk
theorem r_iinc_9 (C : Cx w g cc own ret nm nL tb d mc ms) {x0 x1 x2 x3 x4 x5 x6 x7 x8 : Option Value} {t : List (Option Value)} {z : Int} {x v : Int32} (hd : decode cc pc = .ok (.iinc 9 z, 3)) (hv : x + Int32.ofInt z = v) (kk : wp w g Q (pc + 3) (x0 :: x1 :: x2 :: x3 :: x4 :: x5 :: x6 :: x7 :: x8 :: some (.int v) :: t) st h k n) : wp w g Q pc (x0 :: x1 :: x2 :: x3 :: x4 :: x5 :: x6 :: x7 :: x8 :: some (.int x) :: t) st h k n := r_iincG C hd rfl hv kk
theorem r_iload_10 (C : Cx w g cc own ret nm nL tb d mc ms) {x0 x1 x2 x3 x4 x5 x6 x7 x8 x9 : Option Value} {t : List (Option Value)} {x : Int32} (hd : decode cc pc = .ok (.iload 10, 2)) (kk : wp w g Q (pc + 2) (x0 :: x1 :: x2 :: x3 :: x4 :: x5 :: x6 :: x7 :: x8 :: x9 :: some (.int x) :: t) (.int x :: st) h k n) : wp w g Q pc (x0 :: x1 :: x2 :: x3 :: x4 :: x5 :: x6 :: x7 :: x8 :: x9 :: some (.int x) :: t) st h k n := r_iloadG C hd rfl kk
theorem r_aload_10 (C : Cx w g cc own ret nm nL tb d mc ms) {x0 x1 x2 x3 x4 x5 x6 x7 x8 x9 : Option Value} {t : List (Option Value)} {x : Nat} (hd : decode cc pc = .ok (.aload 10, 2)) (kk : wp w g Q (pc + 2) (x0 :: x1 :: x2 :: x3 :: x4 :: x5 :: x6 :: x7 :: x8 :: x9 :: some (.ref x) :: t) (.ref x :: st) h k n) : wp w g Q pc (x0 :: x1 :: x2 :: x3 :: x4 :: x5 :: x6 :: x7 :: x8 :: x9 :: some (.ref x) :: t) st h k n := r_aloadG C hd rfl rfl kk
theorem r_aloadV_10 (C : Cx w g cc own ret nm nL tb d mc ms) {x0 x1 x2 x3 x4 x5 x6 x7 x8 x9 : Option Value} {t : List (Option Value)} {x : Value} (hx : x.isRef = true) (hd : decode cc pc = .ok (.aload 10, 2)) (kk : wp w g Q (pc + 2) (x0 :: x1 :: x2 :: x3 :: x4 :: x5 :: x6 :: x7 :: x8 :: x9 :: some x :: t) (x :: st) h k n) : wp w g Q pc (x0 :: x1 :: x2 :: x3 :: x4 :: x5 :: x6 :: x7 :: x8 :: x9 :: some x :: t) st h k n := r_aloadG C hd hx rfl kk
theorem r_istore_10 (C : Cx w g cc own ret nm nL tb d mc ms) {x0 x1 x2 x3 x4 x5 x6 x7 x8 x9 : Option Value} {y : Option Value} {t : List (Option Value)} {x : Int32} (hd : decode cc pc = .ok (.istore 10, 2)) (kk : wp w g Q (pc + 2) (x0 :: x1 :: x2 :: x3 :: x4 :: x5 :: x6 :: x7 :: x8 :: x9 :: some (.int x) :: t) st h k n) : wp w g Q pc (x0 :: x1 :: x2 :: x3 :: x4 :: x5 :: x6 :: x7 :: x8 :: x9 :: y :: t) (.int x :: st) h k n := r_istoreG C hd (by simp only [List.length_cons]; omega) kk
theorem r_astore_10 (C : Cx w g cc own ret nm nL tb d mc ms) {x0 x1 x2 x3 x4 x5 x6 x7 x8 x9 : Option Value} {y : Option Value} {t : List (Option Value)} {x : Nat} (hd : decode cc pc = .ok (.astore 10, 2)) (kk : wp w g Q (pc + 2) (x0 :: x1 :: x2 :: x3 :: x4 :: x5 :: x6 :: x7 :: x8 :: x9 :: some (.ref x) :: t) st h k n) : wp w g Q pc (x0 :: x1 :: x2 :: x3 :: x4 :: x5 :: x6 :: x7 :: x8 :: x9 :: y :: t) (.ref x :: st) h k n := r_astoreG C hd rfl (by simp only [List.length_cons]; omega) kk
theorem r_astoreV_10 (C : Cx w g cc own ret nm nL tb d mc ms) {x0 x1 x2 x3 x4 x5 x6 x7 x8 x9 : Option Value} {y : Option Value} {t : List (Option Value)} {x : Value} (hx : x.isRef = true) (hd : decode cc pc = .ok (.astore 10, 2)) (kk : wp w g Q (pc + 2) (x0 :: x1 :: x2 :: x3 :: x4 :: x5 :: x6 :: x7 :: x8 :: x9 :: some x :: t) st h k n) : wp w g Q pc (x0 :: x1 :: x2 :: x3 :: x4 :: x5 :: x6 :: x7 :: x8 :: x9 :: y :: t) (x :: st) h k n := r_astoreG C hd hx (by simp only [List.length_cons]; omega) kk
theorem r_iinc_10 (C : Cx w g cc own ret nm nL tb d mc ms) {x0 x1 x2 x3 x4 x5 x6 x7 x8 x9 : Option Value} {t : List (Option Value)} {z : Int} {x v : Int32} (hd : decode cc pc = .ok (.iinc 10 z, 3)) (hv : x + Int32.ofInt z = v) (kk : wp w g Q (pc + 3) (x0 :: x1 :: x2 :: x3 :: x4 :: x5 :: x6 :: x7 :: x8 :: x9 :: some (.int v) :: t) st h k n) : wp w g Q pc (x0 :: x1 :: x2 :: x3 :: x4 :: x5 :: x6 :: x7 :: x8 :: x9 :: some (.int x) :: t) st h k n := r_iincG C hd rfl hv kk
theorem r_iload_11 (C : Cx w g cc own ret nm nL tb d mc ms) {x0 x1 x2 x3 x4 x5 x6 x7 x8 x9 x10 : Option Value} {t : List (Option Value)} {x : Int32} (hd : decode cc pc = .ok (.iload 11, 2)) (kk : wp w g Q (pc + 2) (x0 :: x1 :: x2 :: x3 :: x4 :: x5 :: x6 :: x7 :: x8 :: x9 :: x10 :: some (.int x) :: t) (.int x :: st) h k n) : wp w g Q pc (x0 :: x1 :: x2 :: x3 :: x4 :: x5 :: x6 :: x7 :: x8 :: x9 :: x10 :: some (.int x) :: t) st h k n := r_iloadG C hd rfl kk
theorem r_aload_11 (C : Cx w g cc own ret nm nL tb d mc ms) {x0 x1 x2 x3 x4 x5 x6 x7 x8 x9 x10 : Option Value} {t : List (Option Value)} {x : Nat} (hd : decode cc pc = .ok (.aload 11, 2)) (kk : wp w g Q (pc + 2) (x0 :: x1 :: x2 :: x3 :: x4 :: x5 :: x6 :: x7 :: x8 :: x9 :: x10 :: some (.ref x) :: t) (.ref x :: st) h k n) : wp w g Q pc (x0 :: x1 :: x2 :: x3 :: x4 :: x5 :: x6 :: x7 :: x8 :: x9 :: x10 :: some (.ref x) :: t) st h k n := r_aloadG C hd rfl rfl kk
theorem r_aloadV_11 (C : Cx w g cc own ret nm nL tb d mc ms) {x0 x1 x2 x3 x4 x5 x6 x7 x8 x9 x10 : Option Value} {t : List (Option Value)} {x : Value} (hx : x.isRef = true) (hd : decode cc pc = .ok (.aload 11, 2)) (kk : wp w g Q (pc + 2) (x0 :: x1 :: x2 :: x3 :: x4 :: x5 :: x6 :: x7 :: x8 :: x9 :: x10 :: some x :: t) (x :: st) h k n) : wp w g Q pc (x0 :: x1 :: x2 :: x3 :: x4 :: x5 :: x6 :: x7 :: x8 :: x9 :: x10 :: some x :: t) st h k n := r_aloadG C hd hx rfl kk
theorem r_istore_11 (C : Cx w g cc own ret nm nL tb d mc ms) {x0 x1 x2 x3 x4 x5 x6 x7 x8 x9 x10 : Option Value} {y : Option Value} {t : List (Option Value)} {x : Int32} (hd : decode cc pc = .ok (.istore 11, 2)) (kk : wp w g Q (pc + 2) (x0 :: x1 :: x2 :: x3 :: x4 :: x5 :: x6 :: x7 :: x8 :: x9 :: x10 :: some (.int x) :: t) st h k n) : wp w g Q pc (x0 :: x1 :: x2 :: x3 :: x4 :: x5 :: x6 :: x7 :: x8 :: x9 :: x10 :: y :: t) (.int x :: st) h k n := r_istoreG C hd (by simp only [List.length_cons]; omega) kk
theorem r_astore_11 (C : Cx w g cc own ret nm nL tb d mc ms) {x0 x1 x2 x3 x4 x5 x6 x7 x8 x9 x10 : Option Value} {y : Option Value} {t : List (Option Value)} {x : Nat} (hd : decode cc pc = .ok (.astore 11, 2)) (kk : wp w g Q (pc + 2) (x0 :: x1 :: x2 :: x3 :: x4 :: x5 :: x6 :: x7 :: x8 :: x9 :: x10 :: some (.ref x) :: t) st h k n) : wp w g Q pc (x0 :: x1 :: x2 :: x3 :: x4 :: x5 :: x6 :: x7 :: x8 :: x9 :: x10 :: y :: t) (.ref x :: st) h k n := r_astoreG C hd rfl (by simp only [List.length_cons]; omega) kk
theorem r_astoreV_11 (C : Cx w g cc own ret nm nL tb d mc ms) {x0 x1 x2 x3 x4 x5 x6 x7 x8 x9 x10 : Option Value} {y : Option Value} {t : List (Option Value)} {x : Value} (hx : x.isRef = true) (hd : decode cc pc = .ok (.astore 11, 2)) (kk : wp w g Q (pc + 2) (x0 :: x1 :: x2 :: x3 :: x4 :: x5 :: x6 :: x7 :: x8 :: x9 :: x10 :: some x :: t) st h k n) : wp w g Q pc (x0 :: x1 :: x2 :: x3 :: x4 :: x5 :: x6 :: x7 :: x8 :: x9 :: x10 :: y :: t) (x :: st) h k n := r_astoreG C hd hx (by simp only [List.length_cons]; omega) kk
theorem r_iinc_11 (C : Cx w g cc own ret nm nL tb d mc ms) {x0 x1 x2 x3 x4 x5 x6 x7 x8 x9 x10 : Option Value} {t : List (Option Value)} {z : Int} {x v : Int32} (hd : decode cc pc = .ok (.iinc 11 z, 3)) (hv : x + Int32.ofInt z = v) (kk : wp w g Q (pc + 3) (x0 :: x1 :: x2 :: x3 :: x4 :: x5 :: x6 :: x7 :: x8 :: x9 :: x10 :: some (.int v) :: t) st h k n) : wp w g Q pc (x0 :: x1 :: x2 :: x3 :: x4 :: x5 :: x6 :: x7 :: x8 :: x9 :: x10 :: some (.int x) :: t) st h k n := r_iincG C hd rfl hv kk
theorem r_iload_12 (C : Cx w g cc own ret nm nL tb d mc ms) {x0 x1 x2 x3 x4 x5 x6 x7 x8 x9 x10 x11 : Option Value} {t : List (Option Value)} {x : Int32} (hd : decode cc pc = .ok (.iload 12, 2)) (kk : wp w g Q (pc + 2) (x0 :: x1 :: x2 :: x3 :: x4 :: x5 :: x6 :: x7 :: x8 :: x9 :: x10 :: x11 :: some (.int x) :: t) (.int x :: st) h k n) : wp w g Q pc (x0 :: x1 :: x2 :: x3 :: x4 :: x5 :: x6 :: x7 :: x8 :: x9 :: x10 :: x11 :: some (.int x) :: t) st h k n := r_iloadG C hd rfl kk
theorem r_aload_12 (C : Cx w g cc own ret nm nL tb d mc ms) {x0 x1 x2 x3 x4 x5 x6 x7 x8 x9 x10 x11 : Option Value} {t : List (Option Value)} {x : Nat} (hd : decode cc pc = .ok (.aload 12, 2)) (kk : wp w g Q (pc + 2) (x0 :: x1 :: x2 :: x3 :: x4 :: x5 :: x6 :: x7 :: x8 :: x9 :: x10 :: x11 :: some (.ref x) :: t) (.ref x :: st) h k n) : wp w g Q pc (x0 :: x1 :: x2 :: x3 :: x4 :: x5 :: x6 :: x7 :: x8 :: x9 :: x10 :: x11 :: some (.ref x) :: t) st h k n := r_aloadG C hd rfl rfl kk
theorem r_aloadV_12 (C : Cx w g cc own ret nm nL tb d mc ms) {x0 x1 x2 x3 x4 x5 x6 x7 x8 x9 x10 x11 : Option Value} {t : List (Option Value)} {x : Value} (hx : x.isRef = true) (hd : decode cc pc = .ok (.aload 12, 2)) (kk : wp w g Q (pc + 2) (x0 :: x1 :: x2 :: x3 :: x4 :: x5 :: x6 :: x7 :: x8 :: x9 :: x10 :: x11 :: some x :: t) (x :: st) h k n) : wp w g Q pc (x0 :: x1 :: x2 :: x3 :: x4 :: x5 :: x6 :: x7 :: x8 :: x9 :: x10 :: x11 :: some x :: t) st h k n := r_aloadG C hd hx rfl kk
theorem r_istore_12 (C : Cx w g cc own ret nm nL tb d mc ms) {x0 x1 x2 x3 x4 x5 x6 x7 x8 x9 x10 x11 : Option Value} {y : Option Value} {t : List (Option Value)} {x : Int32} (hd : decode cc pc = .ok (.istore 12, 2)) (kk : wp w g Q (pc + 2) (x0 :: x1 :: x2 :: x3 :: x4 :: x5 :: x6 :: x7 :: x8 :: x9 :: x10 :: x11 :: some (.int x) :: t) st h k n) : wp w g Q pc (x0 :: x1 :: x2 :: x3 :: x4 :: x5 :: x6 :: x7 :: x8 :: x9 :: x10 :: x11 :: y :: t) (.int x :: st) h k n := r_istoreG C hd (by simp only [List.length_cons]; omega) kk
theorem r_astore_12 (C : Cx w g cc own ret nm nL tb d mc ms) {x0 x1 x2 x3 x4 x5 x6 x7 x8 x9 x10 x11 : Option Value} {y : Option Value} {t : List (Option Value)} {x : Nat} (hd : decode cc pc = .ok (.astore 12, 2)) (kk : wp w g Q (pc + 2) (x0 :: x1 :: x2 :: x3 :: x4 :: x5 :: x6 :: x7 :: x8 :: x9 :: x10 :: x11 :: some (.ref x) :: t) st h k n) : wp w g Q pc (x0 :: x1 :: x2 :: x3 :: x4 :: x5 :: x6 :: x7 :: x8 :: x9 :: x10 :: x11 :: y :: t) (.ref x :: st) h k n := r_astoreG C hd rfl (by simp only [List.length_cons]; omega) kk
theorem r_astoreV_12 (C : Cx w g cc own ret nm nL tb d mc ms) {x0 x1 x2 x3 x4 x5 x6 x7 x8 x9 x10 x11 : Option Value} {y : Option Value} {t : List (Option Value)} {x : Value} (hx : x.isRef = true) (hd : decode cc pc = .ok (.astore 12, 2)) (kk : wp w g Q (pc + 2) (x0 :: x1 :: x2 :: x3 :: x4 :: x5 :: x6 :: x7 :: x8 :: x9 :: x10 :: x11 :: some x :: t) st h k n) : wp w g Q pc (x0 :: x1 :: x2 :: x3 :: x4 :: x5 :: x6 :: x7 :: x8 :: x9 :: x10 :: x11 :: y :: t) (x :: st) h k n := r_astoreG C hd hx (by simp only [List.length_cons]; omega) kk
theorem r_iinc_12 (C : Cx w g cc own ret nm nL tb d mc ms) {x0 x1 x2 x3 x4 x5 x6 x7 x8 x9 x10 x11 : Option Value} {t : List (Option Value)} {z : Int} {x v : Int32} (hd : decode cc pc = .ok (.iinc 12 z, 3)) (hv : x + Int32.ofInt z = v) (kk : wp w g Q (pc + 3) (x0 :: x1 :: x2 :: x3 :: x4 :: x5 :: x6 :: x7 :: x8 :: x9 :: x10 :: x11 :: some (.int v) :: t) st h k n) : wp w g Q pc (x0 :: x1 :: x2 :: x3 :: x4 :: x5 :: x6 :: x7 :: x8 :: x9 :: x10 :: x11 :: some (.int x) :: t) st h k n := r_iincG C hd rfl hv kk
theorem r_iload_13 (C : Cx w g cc own ret nm nL tb d mc ms) {x0 x1 x2 x3 x4 x5 x6 x7 x8 x9 x10 x11 x12 : Option Value} {t : List (Option Value)} {x : Int32} (hd : decode cc pc = .ok (.iload 13, 2)) (kk : wp w g Q (pc + 2) (x0 :: x1 :: x2 :: x3 :: x4 :: x5 :: x6 :: x7 :: x8 :: x9 :: x10 :: x11 :: x12 :: some (.int x) :: t) (.int x :: st) h k n) : wp w g Q pc (x0 :: x1 :: x2 :: x3 :: x4 :: x5 :: x6 :: x7 :: x8 :: x9 :: x10 :: x11 :: x12 :: some (.int x) :: t) st h k n := r_iloadG C hd rfl kk
theorem r_aload_13 (C : Cx w g cc own ret nm nL tb d mc ms) {x0 x1 x2 x3 x4 x5 x6 x7 x8 x9 x10 x11 x12 : Option Value} {t : List (Option Value)} {x : Nat} (hd : decode cc pc = .ok (.aload 13, 2)) (kk : wp w g Q (pc + 2) (x0 :: x1 :: x2 :: x3 :: x4 :: x5 :: x6 :: x7 :: x8 :: x9 :: x10 :: x11 :: x12 :: some (.ref x) :: t) (.ref x :: st) h k n) : wp w g Q pc (x0 :: x1 :: x2 :: x3 :: x4 :: x5 :: x6 :: x7 :: x8 :: x9 :: x10 :: x11 :: x12 :: some (.ref x) :: t) st h k n := r_aloadG C hd rfl rfl kk
theorem r_aloadV_13 (C : Cx w g cc own ret nm nL tb d mc ms) {x0 x1 x2 x3 x4 x5 x6 x7 x8 x9 x10 x11 x12 : Option Value} {t : List (Option Value)} {x : Value} (hx : x.isRef = true) (hd : decode cc pc = .ok (.aload 13, 2)) (kk : wp w g Q (pc + 2) (x0 :: x1 :: x2 :: x3 :: x4 :: x5 :: x6 :: x7 :: x8 :: x9 :: x10 :: x11 :: x12 :: some x :: t) (x :: st) h k n) : wp w g Q pc (x0 :: x1 :: x2 :: x3 :: x4 :: x5 :: x6 :: x7 :: x8 :: x9 :: x10 :: x11 :: x12 :: some x :: t) st h k n := r_aloadG C hd hx rfl kk
theorem r_istore_13 (C : Cx w g cc own ret nm nL tb d mc ms) {x0 x1 x2 x3 x4 x5 x6 x7 x8 x9 x10 x11 x12 : Option Value} {y : Option Value} {t : List (Option Value)} {x : Int32} (hd : decode cc pc = .ok (.istore 13, 2)) (kk : wp w g Q (pc + 2) (x0 :: x1 :: x2 :: x3 :: x4 :: x5 :: x6 :: x7 :: x8 :: x9 :: x10 :: x11 :: x12 :: some (.int x) :: t) st h k n) : wp w g Q pc (x0 :: x1 :: x2 :: x3 :: x4 :: x5 :: x6 :: x7 :: x8 :: x9 :: x10 :: x11 :: x12 :: y :: t) (.int x :: st) h k n := r_istoreG C hd (by simp only [List.length_cons]; omega) kk
theorem r_astore_13 (C : Cx w g cc own ret nm nL tb d mc ms) {x0 x1 x2 x3 x4 x5 x6 x7 x8 x9 x10 x11 x12 : Option Value} {y : Option Value} {t : List (Option Value)} {x : Nat} (hd : decode cc pc = .ok (.astore 13, 2)) (kk : wp w g Q (pc + 2) (x0 :: x1 :: x2 :: x3 :: x4 :: x5 :: x6 :: x7 :: x8 :: x9 :: x10 :: x11 :: x12 :: some (.ref x) :: t) st h k n) : wp w g Q pc (x0 :: x1 :: x2 :: x3 :: x4 :: x5 :: x6 :: x7 :: x8 :: x9 :: x10 :: x11 :: x12 :: y :: t) (.ref x :: st) h k n := r_astoreG C hd rfl (by simp only [List.length_cons]; omega) kk
theorem r_astoreV_13 (C : Cx w g cc own ret nm nL tb d mc ms) {x0 x1 x2 x3 x4 x5 x6 x7 x8 x9 x10 x11 x12 : Option Value} {y : Option Value} {t : List (Option Value)} {x : Value} (hx : x.isRef = true) (hd : decode cc pc = .ok (.astore 13, 2)) (kk : wp w g Q (pc + 2) (x0 :: x1 :: x2 :: x3 :: x4 :: x5 :: x6 :: x7 :: x8 :: x9 :: x10 :: x11 :: x12 :: some x :: t) st h k n) : wp w g Q pc (x0 :: x1 :: x2 :: x3 :: x4 :: x5 :: x6 :: x7 :: x8 :: x9 :: x10 :: x11 :: x12 :: y :: t) (x :: st) h k n := r_astoreG C hd hx (by simp only [List.length_cons]; omega) kk
theorem r_iinc_13 (C : Cx w g cc own ret nm nL tb d mc ms) {x0 x1 x2 x3 x4 x5 x6 x7 x8 x9 x10 x11 x12 : Option Value} {t : List (Option Value)} {z : Int} {x v : Int32} (hd : decode cc pc = .ok (.iinc 13 z, 3)) (hv : x + Int32.ofInt z = v) (kk : wp w g Q (pc + 3) (x0 :: x1 :: x2 :: x3 :: x4 :: x5 :: x6 :: x7 :: x8 :: x9 :: x10 :: x11 :: x12 :: some (.int v) :: t) st h k n) : wp w g Q pc (x0 :: x1 :: x2 :: x3 :: x4 :: x5 :: x6 :: x7 :: x8 :: x9 :: x10 :: x11 :: x12 :: some (.int x) :: t) st h k n := r_iincG C hd rfl hv kk
theorem r_iload_14 (C : Cx w g cc own ret nm nL tb d mc ms) {x0 x1 x2 x3 x4 x5 x6 x7 x8 x9 x10 x11 x12 x13 : Option Value} {t : List (Option Value)} {x : Int32} (hd : decode cc pc = .ok (.iload 14, 2)) (kk : wp w g Q (pc + 2) (x0 :: x1 :: x2 :: x3 :: x4 :: x5 :: x6 :: x7 :: x8 :: x9 :: x10 :: x11 :: x12 :: x13 :: some (.int x) :: t) (.int x :: st) h k n) : wp w g Q pc (x0 :: x1 :: x2 :: x3 :: x4 :: x5 :: x6 :: x7 :: x8 :: x9 :: x10 :: x11 :: x12 :: x13 :: some (.int x) :: t) st h k n := r_iloadG C hd rfl kk
theorem r_aload_14 (C : Cx w g cc own ret nm nL tb d mc ms) {x0 x1 x2 x3 x4 x5 x6 x7 x8 x9 x10 x11 x12 x13 : Option Value} {t : List (Option Value)} {x : Nat} (hd : decode cc pc = .ok (.aload 14, 2)) (kk : wp w g Q (pc + 2) (x0 :: x1 :: x2 :: x3 :: x4 :: x5 :: x6 :: x7 :: x8 :: x9 :: x10 :: x11 :: x12 :: x13 :: some (.ref x) :: t) (.ref x :: st) h k n) : wp w g Q pc (x0 :: x1 :: x2 :: x3 :: x4 :: x5 :: x6 :: x7 :: x8 :: x9 :: x10 :: x11 :: x12 :: x13 :: some (.ref x) :: t) st h k n := r_aloadG C hd rfl rfl kk
theorem r_aloadV_14 (C : Cx w g cc own ret nm nL tb d mc ms) {x0 x1 x2 x3 x4 x5 x6 x7 x8 x9 x10 x11 x12 x13 : Option Value} {t : List (Option Value)} {x : Value} (hx : x.isRef = true) (hd : decode cc pc = .ok (.aload 14, 2)) (kk : wp w g Q (pc + 2) (x0 :: x1 :: x2 :: x3 :: x4 :: x5 :: x6 :: x7 :: x8 :: x9 :: x10 :: x11 :: x12 :: x13 :: some x :: t) (x :: st) h k n) : wp w g Q pc (x0 :: x1 :: x2 :: x3 :: x4 :: x5 :: x6 :: x7 :: x8 :: x9 :: x10 :: x11 :: x12 :: x13 :: some x :: t) st h k n := r_aloadG C hd hx rfl kk
theorem r_istore_14 (C : Cx w g cc own ret nm nL tb d mc ms) {x0 x1 x2 x3 x4 x5 x6 x7 x8 x9 x10 x11 x12 x13 : Option Value} {y : Option Value} {t : List (Option Value)} {x : Int32} (hd : decode cc pc = .ok (.istore 14, 2)) (kk : wp w g Q (pc + 2) (x0 :: x1 :: x2 :: x3 :: x4 :: x5 :: x6 :: x7 :: x8 :: x9 :: x10 :: x11 :: x12 :: x13 :: some (.int x) :: t) st h k n) : wp w g Q pc (x0 :: x1 :: x2 :: x3 :: x4 :: x5 :: x6 :: x7 :: x8 :: x9 :: x10 :: x11 :: x12 :: x13 :: y :: t) (.int x :: st) h k n := r_istoreG C hd (by simp only [List.length_cons]; omega) kk
theorem r_astore_14 (C : Cx w g cc own ret nm nL tb d mc ms) {x0 x1 x2 x3 x4 x5 x6 x7 x8 x9 x10 x11 x12 x13 : Option Value} {y : Option Value} {t : List (Option Value)} {x : Nat} (hd : decode cc pc = .ok (.astore 14, 2)) (kk : wp w g Q (pc + 2) (x0 :: x1 :: x2 :: x3 :: x4 :: x5 :: x6 :: x7 :: x8 :: x9 :: x10 :: x11 :: x12 :: x13 :: some (.ref x) :: t) st h k n) : wp w g Q pc (x0 :: x1 :: x2 :: x3 :: x4 :: x5 :: x6 :: x7 :: x8 :: x9 :: x10 :: x11 :: x12 :: x13 :: y :: t) (.ref x :: st) h k n := r_astoreG C hd rfl (by simp only [List.length_cons]; omega) kk
theorem r_astoreV_14 (C : Cx w g cc own ret nm nL tb d mc ms) {x0 x1 x2 x3 x4 x5 x6 x7 x8 x9 x10 x11 x12 x13 : Option Value} {y : Option Value} {t : List (Option Value)} {x : Value} (hx : x.isRef = true) (hd : decode cc pc = .ok (.astore 14, 2)) (kk : wp w g Q (pc + 2) (x0 :: x1 :: x2 :: x3 :: x4 :: x5 :: x6 :: x7 :: x8 :: x9 :: x10 :: x11 :: x12 :: x13 :: some x :: t) st h k n) : wp w g Q pc (x0 :: x1 :: x2 :: x3 :: x4 :: x5 :: x6 :: x7 :: x8 :: x9 :: x10 :: x11 :: x12 :: x13 :: y :: t) (x :: st) h k n := r_astoreG C hd hx (by simp only [List.length_cons]; omega) kk
theorem r_iinc_14 (C : Cx w g cc own ret nm nL tb d mc ms) {x0 x1 x2 x3 x4 x5 x6 x7 x8 x9 x10 x11 x12 x13 : Option Value} {t : List (Option Value)} {z : Int} {x v : Int32} (hd : decode cc pc = .ok (.iinc 14 z, 3)) (hv : x + Int32.ofInt z = v) (kk : wp w g Q (pc + 3) (x0 :: x1 :: x2 :: x3 :: x4 :: x5 :: x6 :: x7 :: x8 :: x9 :: x10 :: x11 :: x12 :: x13 :: some (.int v) :: t) st h k n) : wp w g Q pc (x0 :: x1 :: x2 :: x3 :: x4 :: x5 :: x6 :: x7 :: x8 :: x9 :: x10 :: x11 :: x12 :: x13 :: some (.int x) :: t) st h k n := r_iincG C hd rfl hv kk
theorem r_iload_15 (C : Cx w g cc own ret nm nL tb d mc ms) {x0 x1 x2 x3 x4 x5 x6 x7 x8 x9 x10 x11 x12 x13 x14 : Option Value} {t : List (Option Value)} {x : Int32} (hd : decode cc pc = .ok (.iload 15, 2)) (kk : wp w g Q (pc + 2) (x0 :: x1 :: x2 :: x3 :: x4 :: x5 :: x6 :: x7 :: x8 :: x9 :: x10 :: x11 :: x12 :: x13 :: x14 :: some (.int x) :: t) (.int x :: st) h k n) : wp w g Q pc (x0 :: x1 :: x2 :: x3 :: x4 :: x5 :: x6 :: x7 :: x8 :: x9 :: x10 :: x11 :: x12 :: x13 :: x14 :: some (.int x) :: t) st h k n := r_iloadG C hd rfl kk
theorem r_aload_15 (C : Cx w g cc own ret nm nL tb d mc ms) {x0 x1 x2 x3 x4 x5 x6 x7 x8 x9 x10 x11 x12 x13 x14 : Option Value} {t : List (Option Value)} {x : Nat} (hd : decode cc pc = .ok (.aload 15, 2)) (kk : wp w g Q (pc + 2) (x0 :: x1 :: x2 :: x3 :: x4 :: x5 :: x6 :: x7 :: x8 :: x9 :: x10 :: x11 :: x12 :: x13 :: x14 :: some (.ref x) :: t) (.ref x :: st) h k n) : wp w g Q pc (x0 :: x1 :: x2 :: x3 :: x4 :: x5 :: x6 :: x7 :: x8 :: x9 :: x10 :: x11 :: x12 :: x13 :: x14 :: some (.ref x) :: t) st h k n := r_aloadG C hd rfl rfl kk
theorem r_aloadV_15 (C : Cx w g cc own ret nm nL tb d mc ms) {x0 x1 x2 x3 x4 x5 x6 x7 x8 x9 x10 x11 x12 x13 x14 : Option Value} {t : List (Option Value)} {x : Value} (hx : x.isRef = true) (hd : decode cc pc = .ok (.aload 15, 2)) (kk : wp w g Q (pc + 2) (x0 :: x1 :: x2 :: x3 :: x4 :: x5 :: x6 :: x7 :: x8 :: x9 :: x10 :: x11 :: x12 :: x13 :: x14 :: some x :: t) (x :: st) h k n) : wp w g Q pc (x0 :: x1 :: x2 :: x3 :: x4 :: x5 :: x6 :: x7 :: x8 :: x9 :: x10 :: x11 :: x12 :: x13 :: x14 :: some x :: t) st h k n := r_aloadG C hd hx rfl kk
theorem r_istore_15 (C : Cx w g cc own ret nm nL tb d mc ms) {x0 x1 x2 x3 x4 x5 x6 x7 x8 x9 x10 x11 x12 x13 x14 : Option Value} {y : Option Value} {t : List (Option Value)} {x : Int32} (hd : decode cc pc = .ok (.istore 15, 2)) (kk : wp w g Q (pc + 2) (x0 :: x1 :: x2 :: x3 :: x4 :: x5 :: x6 :: x7 :: x8 :: x9 :: x10 :: x11 :: x12 :: x13 :: x14 :: some (.int x) :: t) st h k n) : wp w g Q pc (x0 :: x1 :: x2 :: x3 :: x4 :: x5 :: x6 :: x7 :: x8 :: x9 :: x10 :: x11 :: x12 :: x13 :: x14 :: y :: t) (.int x :: st) h k n := r_istoreG C hd (by simp only [List.length_cons]; omega) kk
theorem r_astore_15 (C : Cx w g cc own ret nm nL tb d mc ms) {x0 x1 x2 x3 x4 x5 x6 x7 x8 x9 x10 x11 x12 x13 x14 : Option Value} {y : Option Value} {t : List (Option Value)} {x : Nat} (hd : decode cc pc = .ok (.astore 15, 2)) (kk : wp w g Q (pc + 2) (x0 :: x1 :: x2 :: x3 :: x4 :: x5 :: x6 :: x7 :: x8 :: x9 :: x10 :: x11 :: x12 :: x13 :: x14 :: some (.ref x) :: t) st h k n) : wp w g Q pc (x0 :: x1 :: x2 :: x3 :: x4 :: x5 :: x6 :: x7 :: x8 :: x9 :: x10 :: x11 :: x12 :: x13 :: x14 :: y :: t) (.ref x :: st) h k n := r_astoreG C hd rfl (by simp only [List.length_cons]; omega) kk
theorem r_astoreV_15 (C : Cx w g cc own ret nm nL tb d mc ms) {x0 x1 x2 x3 x4 x5 x6 x7 x8 x9 x10 x11 x12 x13 x14 : Option Value} {y : Option Value} {t : List (Option Value)} {x : Value} (hx : x.isRef = true) (hd : decode cc pc = .ok (.astore 15, 2)) (kk : wp w g Q (pc + 2) (x0 :: x1 :: x2 :: x3 :: x4 :: x5 :: x6 :: x7 :: x8 :: x9 :: x10 :: x11 :: x12 :: x13 :: x14 :: some x :: t) st h k n) : wp w g Q pc (x0 :: x1 :: x2 :: x3 :: x4 :: x5 :: x6 :: x7 :: x8 :: x9 :: x10 :: x11 :: x12 :: x13 :: x14 :: y :: t) (x :: st) h k n := r_astoreG C hd hx (by simp only [List.length_cons]; omega) kk
theorem r_iinc_15 (C : Cx w g cc own ret nm nL tb d mc ms) {x0 x1 x2 x3 x4 x5 x6 x7 x8 x9 x10 x11 x12 x13 x14 : Option Value} {t : List (Option Value)} {z : Int} {x v : Int32} (hd : decode cc pc = .ok (.iinc 15 z, 3)) (hv : x + Int32.ofInt z = v) (kk : wp w g Q (pc + 3) (x0 :: x1 :: x2 :: x3 :: x4 :: x5 :: x6 :: x7 :: x8 :: x9 :: x10 :: x11 :: x12 :: x13 :: x14 :: some (.int v) :: t) st h k n) : wp w g Q pc (x0 :: x1 :: x2 :: x3 :: x4 :: x5 :: x6 :: x7 :: x8 :: x9 :: x10 :: x11 :: x12 :: x13 :: x14 :: some (.int x) :: t) st h k n := r_iincG C hd rfl hv kk
theorem r_iald (C : Cx w g cc own ret nm nL tb d mc ms) {a z : Nat} {f : Nat → Int32} {i : Int32} (ha : h a = some (.inl (wT w 0, z, .inl f))) (hi : vp_in i z) (hd : decode cc pc = .ok (.iaload, 1)) (kk : wp w g Q (pc + 1) ls (.int (f i.toNatClampNeg) :: st) h k n) : wp w g Q pc ls (.int i :: .ref a :: st) h k n := fun H locs lsA hR hz hs => va_iald (ws := [(a, _)]) C.exec C.code C.K (hR.one ha) 0 0 rfl rfl hi hd (kk H locs lsA hR hz hs)
theorem r_bald (C : Cx w g cc own ret nm nL tb d mc ms) {a z : Nat} {f : Nat → Int32} {i : Int32} (ha : h a = some (.inl (wT w 1, z, .inl f))) (hi : vp_in i z) (hd : decode cc pc = .ok (.baload, 1)) (kk : wp w g Q (pc + 1) ls (.int (f i.toNatClampNeg) :: st) h k n) : wp w g Q pc ls (.int i :: .ref a :: st) h k n := fun H locs lsA hR hz hs => va_bald (ws := [(a, _)]) C.exec C.code C.K (hR.one ha) 0 1 rfl rfl hi hd (kk H locs lsA hR hz hs)
theorem r_cald (C : Cx w g cc own ret nm nL tb d mc ms) {a z : Nat} {f : Nat → Int32} {i : Int32} (ha : h a = some (.inl (wT w 2, z, .inl f))) (hi : vp_in i z) (hd : decode cc pc = .ok (.caload, 1)) (kk : wp w g Q (pc + 1) ls (.int (f i.toNatClampNeg) :: st) h k n) : wp w g Q pc ls (.int i :: .ref a :: st) h k n := fun H locs lsA hR hz hs => va_cald (ws := [(a, _)]) C.exec C.code C.K (hR.one ha) 0 2 rfl rfl hi hd (kk H locs lsA hR hz hs)
theorem r_zald (C : Cx w g cc own ret nm nL tb d mc ms) {a z : Nat} {f : Nat → Int32} {i : Int32} (ha : h a = some (.inl (wT w 3, z, .inl f))) (hi : vp_in i z) (hd : decode cc pc = .ok (.baload, 1)) (kk : wp w g Q (pc + 1) ls (.int (f i.toNatClampNeg) :: st) h k n) : wp w g Q pc ls (.int i :: .ref a :: st) h k n := fun H locs lsA hR hz hs => va_zald (ws := [(a, _)]) C.exec C.code C.K (hR.one ha) 0 3 rfl rfl hi hd (kk H locs lsA hR hz hs)
theorem r_lald (C : Cx w g cc own ret nm nL tb d mc ms) {a z : Nat} {f : Nat → Int64} {i : Int32} (ha : h a = some (.inl (wT w 4, z, .inr (.inl f)))) (hi : vp_in i z) (hd : decode cc pc = .ok (.laload, 1)) (kk : wp w g Q (pc + 1) ls (.long (f i.toNatClampNeg) :: st) h k n) : wp w g Q pc ls (.int i :: .ref a :: st) h k n := fun H locs lsA hR hz hs => va_lald (ws := [(a, _)]) C.exec C.code C.K (hR.one ha) 0 4 rfl rfl hi hd (kk H locs lsA hR hz hs)
theorem r_aald (C : Cx w g cc own ret nm nL tb d mc ms) {a z : Nat} {f : Nat → Option Nat} {i : Int32} (ha : h a = some (.inl (wT w 5, z, .inr (.inr (.inr (.inr f)))))) (hi : vp_in i z) (hd : decode cc pc = .ok (.aaload, 1)) (kk : wp w g Q (pc + 1) ls (va_rf (f i.toNatClampNeg) :: st) h k n) : wp w g Q pc ls (.int i :: .ref a :: st) h k n := fun H locs lsA hR hz hs => va_aldq (ws := [(a, _)]) C.exec C.code C.K (hR.one ha) 0 5 rfl rfl hi hd (kk H locs lsA hR hz hs)
theorem r_alen (C : Cx w g cc own ret nm nL tb d mc ms) (t : Nat) (ht : t < 6) {a : Nat} {x : vp_A} {v : Int32} (ha : h a = some (.inl (wT w t, x))) (hv : Int32.ofNat x.1 = v) (hd : decode cc pc = .ok (.arraylength, 1)) (kk : wp w g Q (pc + 1) ls (.int v :: st) h k n) : wp w g Q pc ls (.ref a :: st) h k n := by
  intro H locs lsA hR hz hs
  have hk := kk H locs lsA hR hz hs
  have hp := hR.one ha
  match t, ht, hp with
  | 0, _, hp => exact va_alen (ws := [(a, _)]) C.exec C.code C.K hp 0 0 rfl rfl hv hd hk
  | 1, _, hp => exact va_alen (ws := [(a, _)]) C.exec C.code C.K hp 0 1 rfl rfl hv hd hk
  | 2, _, hp => exact va_alen (ws := [(a, _)]) C.exec C.code C.K hp 0 2 rfl rfl hv hd hk
  | 3, _, hp => exact va_alen (ws := [(a, _)]) C.exec C.code C.K hp 0 3 rfl rfl hv hd hk
  | 4, _, hp => exact va_alen (ws := [(a, _)]) C.exec C.code C.K hp 0 4 rfl rfl hv hd hk
  | 5, _, hp => exact va_alen (ws := [(a, _)]) C.exec C.code C.K hp 0 5 rfl rfl hv hd hk
theorem r_iast (C : Cx w g cc own ret nm nL tb d mc ms) {a z : Nat} {f : Nat → Int32} {i : Int32} {x : Int32} (ha : h a = some (.inl (wT w 0, z, .inl f))) (hi : vp_in i z) (hd : decode cc pc = .ok (.iastore, 1)) (kk : wp w g Q (pc + 1) ls st (hup h a (.inl (wT w 0, z, .inl (upd f i.toNatClampNeg x)))) k n) : wp w g Q pc ls (.int x :: .int i :: .ref a :: st) h k n := by
  intro H locs lsA hR hz hs
  have hat := (hR.1 a _ ha).2
  refine W.iast C.exec C.code hat ((C.K.2 0 _ rfl).1 z (fun j => .int (f j))) (fun q => by cases q) (by show ¬ (i < 0 ∨ (arrV _ _ _).slots.size ≤ _); rw [arrV_size]; exact hi) rfl rfl hd fun H1 e z1 oq => ?_
  refine kk H1 _ lsA (hR.put ha ?_ z1 oq) (fun q hq => ?_) hs
  · show H1[a]? = some (vp_cell _ _)
    rw [e]
    rw [vp_cell_i, vp_cell_i, arrV_store]
    congr 2
    funext q
    by_cases hq : q = i.toNatClampNeg
    · subst hq
      simp [updV, upd]
    · simp [updV, upd, hq]
  · rcases List.mem_append.mp hq with h1 | h1
    · exact hz q h1
    · rw [List.mem_singleton.mp h1]
      exact (hR.1 a _ ha).1
theorem r_bast (C : Cx w g cc own ret nm nL tb d mc ms) {a z : Nat} {f : Nat → Int32} {i : Int32} {x : Int32} (ha : h a = some (.inl (wT w 1, z, .inl f))) (hi : vp_in i z) (hd : decode cc pc = .ok (.bastore, 1)) (kk : wp w g Q (pc + 1) ls st (hup h a (.inl (wT w 1, z, .inl (upd f i.toNatClampNeg (vp_nar .byte x))))) k n) : wp w g Q pc ls (.int x :: .int i :: .ref a :: st) h k n := by
  intro H locs lsA hR hz hs
  have hat := (hR.1 a _ ha).2
  refine W.bast C.exec C.code hat ((C.K.2 1 _ rfl).1 z (fun j => .int (f j))) (fun q => by cases q) (by show ¬ (i < 0 ∨ (arrV _ _ _).slots.size ≤ _); rw [arrV_size]; exact hi) rfl rfl hd fun H1 e z1 oq => ?_
  refine kk H1 _ lsA (hR.put ha ?_ z1 oq) (fun q hq => ?_) hs
  · show H1[a]? = some (vp_cell _ _)
    rw [e]
    rw [vp_cell_i, vp_cell_i, arrV_store]
    congr 2
    funext q
    by_cases hq : q = i.toNatClampNeg
    · subst hq
      simp [updV, upd, vp_nar]
      try rfl
    · simp [updV, upd, hq]
  · rcases List.mem_append.mp hq with h1 | h1
    · exact hz q h1
    · rw [List.mem_singleton.mp h1]
      exact (hR.1 a _ ha).1
theorem r_cast (C : Cx w g cc own ret nm nL tb d mc ms) {a z : Nat} {f : Nat → Int32} {i : Int32} {x : Int32} (ha : h a = some (.inl (wT w 2, z, .inl f))) (hi : vp_in i z) (hd : decode cc pc = .ok (.castore, 1)) (kk : wp w g Q (pc + 1) ls st (hup h a (.inl (wT w 2, z, .inl (upd f i.toNatClampNeg (vp_nar .char x))))) k n) : wp w g Q pc ls (.int x :: .int i :: .ref a :: st) h k n := by
  intro H locs lsA hR hz hs
  have hat := (hR.1 a _ ha).2
  refine W.cast C.exec C.code hat ((C.K.2 2 _ rfl).1 z (fun j => .int (f j))) (fun q => by cases q) (by show ¬ (i < 0 ∨ (arrV _ _ _).slots.size ≤ _); rw [arrV_size]; exact hi) rfl rfl hd fun H1 e z1 oq => ?_
  refine kk H1 _ lsA (hR.put ha ?_ z1 oq) (fun q hq => ?_) hs
  · show H1[a]? = some (vp_cell _ _)
    rw [e]
    rw [vp_cell_i, vp_cell_i, arrV_store]
    congr 2
    funext q
    by_cases hq : q = i.toNatClampNeg
    · subst hq
      simp [updV, upd, vp_nar]
      try rfl
    · simp [updV, upd, hq]
  · rcases List.mem_append.mp hq with h1 | h1
    · exact hz q h1
    · rw [List.mem_singleton.mp h1]
      exact (hR.1 a _ ha).1
theorem r_zast (C : Cx w g cc own ret nm nL tb d mc ms) {a z : Nat} {f : Nat → Int32} {i : Int32} {x : Int32} (ha : h a = some (.inl (wT w 3, z, .inl f))) (hi : vp_in i z) (hd : decode cc pc = .ok (.bastore, 1)) (kk : wp w g Q (pc + 1) ls st (hup h a (.inl (wT w 3, z, .inl (upd f i.toNatClampNeg (vp_nar .boolean x))))) k n) : wp w g Q pc ls (.int x :: .int i :: .ref a :: st) h k n := by
  intro H locs lsA hR hz hs
  have hat := (hR.1 a _ ha).2
  refine W.zast C.exec C.code hat ((C.K.2 3 _ rfl).1 z (fun j => .int (f j))) (fun q => by cases q) (by show ¬ (i < 0 ∨ (arrV _ _ _).slots.size ≤ _); rw [arrV_size]; exact hi) rfl rfl hd fun H1 e z1 oq => ?_
  refine kk H1 _ lsA (hR.put ha ?_ z1 oq) (fun q hq => ?_) hs
  · show H1[a]? = some (vp_cell _ _)
    rw [e]
    rw [vp_cell_i, vp_cell_i, arrV_store]
    congr 2
    funext q
    by_cases hq : q = i.toNatClampNeg
    · subst hq
      simp [updV, upd, vp_nar]
      try rfl
    · simp [updV, upd, hq]
  · rcases List.mem_append.mp hq with h1 | h1
    · exact hz q h1
    · rw [List.mem_singleton.mp h1]
      exact (hR.1 a _ ha).1
theorem r_last (C : Cx w g cc own ret nm nL tb d mc ms) {a z : Nat} {f : Nat → Int64} {i : Int32} {x : Int64} (ha : h a = some (.inl (wT w 4, z, .inr (.inl f)))) (hi : vp_in i z) (hd : decode cc pc = .ok (.lastore, 1)) (kk : wp w g Q (pc + 1) ls st (hup h a (.inl (wT w 4, z, .inr (.inl (vp_updL f i.toNatClampNeg x))))) k n) : wp w g Q pc ls (.long x :: .int i :: .ref a :: st) h k n := by
  intro H locs lsA hR hz hs
  have hat := (hR.1 a _ ha).2
  refine W.last C.exec C.code hat ((C.K.2 4 _ rfl).1 z (fun j => .long (f j))) (fun q => by cases q) (by show ¬ (i < 0 ∨ (arrV _ _ _).slots.size ≤ _); rw [arrV_size]; exact hi) rfl rfl hd fun H1 e z1 oq => ?_
  refine kk H1 _ lsA (hR.put ha ?_ z1 oq) (fun q hq => ?_) hs
  · show H1[a]? = some (vp_cell _ _)
    rw [e]
    rw [vp_cell_l, vp_cell_l, arrV_store]
    congr 2
    funext q
    by_cases hq : q = i.toNatClampNeg
    · subst hq
      simp [updV, vp_updL]
    · simp [updV, vp_updL, hq]
  · rcases List.mem_append.mp hq with h1 | h1
    · exact hz q h1
    · rw [List.mem_singleton.mp h1]
      exact (hR.1 a _ ha).1
theorem r_ifeqM (C : Cx w g cc own ret nm nL tb d mc ms) {x : Int32} {off : Int} (M : Nat) {tgt : Nat} (vt vf : Int32) (hd : decode cc pc = .ok (.ifCond .eq off, 3)) (ht : (pc : Int) + off = (tgt : Int)) (kt : x = 0 → wp w g Q M ls (.int vt :: st) h k n → wp w g Q tgt ls st h k n) (kf : ¬ x = 0 → wp w g Q M ls (.int vf :: st) h k n → wp w g Q (pc + 3) ls st h k n) (kk : wp w g Q M ls (.int (if x = 0 then vt else vf) :: st) h k n) : wp w g Q pc ls (.int x :: st) h k n := r_ifeq C hd ht (fun q => kt q (by rw [if_pos q] at kk; exact kk)) (fun q => kf q (by rw [if_neg q] at kk; exact kk))
theorem r_iceqM (C : Cx w g cc own ret nm nL tb d mc ms) {x y : Int32} {off : Int} (M : Nat) {tgt : Nat} (vt vf : Int32) (hd : decode cc pc = .ok (.if_icmp .eq off, 3)) (ht : (pc : Int) + off = (tgt : Int)) (kt : x = y → wp w g Q M ls (.int vt :: st) h k n → wp w g Q tgt ls st h k n) (kf : ¬ x = y → wp w g Q M ls (.int vf :: st) h k n → wp w g Q (pc + 3) ls st h k n) (kk : wp w g Q M ls (.int (if x = y then vt else vf) :: st) h k n) : wp w g Q pc ls (.int y :: .int x :: st) h k n := r_iceq C hd ht (fun q => kt q (by rw [if_pos q] at kk; exact kk)) (fun q => kf q (by rw [if_neg q] at kk; exact kk))
theorem r_ifneM (C : Cx w g cc own ret nm nL tb d mc ms) {x : Int32} {off : Int} (M : Nat) {tgt : Nat} (vt vf : Int32) (hd : decode cc pc = .ok (.ifCond .ne off, 3)) (ht : (pc : Int) + off = (tgt : Int)) (kt : ¬ x = 0 → wp w g Q M ls (.int vt :: st) h k n → wp w g Q tgt ls st h k n) (kf : x = 0 → wp w g Q M ls (.int vf :: st) h k n → wp w g Q (pc + 3) ls st h k n) (kk : wp w g Q M ls (.int (if x = 0 then vf else vt) :: st) h k n) : wp w g Q pc ls (.int x :: st) h k n := r_ifne C hd ht (fun q => kt q (by rw [if_neg q] at kk; exact kk)) (fun q => kf q (by rw [if_pos q] at kk; exact kk))
theorem r_icneM (C : Cx w g cc own ret nm nL tb d mc ms) {x y : Int32} {off : Int} (M : Nat) {tgt : Nat} (vt vf : Int32) (hd : decode cc pc = .ok (.if_icmp .ne off, 3)) (ht : (pc : Int) + off = (tgt : Int)) (kt : ¬ x = y → wp w g Q M ls (.int vt :: st) h k n → wp w g Q tgt ls st h k n) (kf : x = y → wp w g Q M ls (.int vf :: st) h k n → wp w g Q (pc + 3) ls st h k n) (kk : wp w g Q M ls (.int (if x = y then vf else vt) :: st) h k n) : wp w g Q pc ls (.int y :: .int x :: st) h k n := r_icne C hd ht (fun q => kt q (by rw [if_neg q] at kk; exact kk)) (fun q => kf q (by rw [if_pos q] at kk; exact kk))
theorem r_ifltM (C : Cx w g cc own ret nm nL tb d mc ms) {x : Int32} {off : Int} (M : Nat) {tgt : Nat} (vt vf : Int32) (hd : decode cc pc = .ok (.ifCond .lt off, 3)) (ht : (pc : Int) + off = (tgt : Int)) (kt : x < 0 → wp w g Q M ls (.int vt :: st) h k n → wp w g Q tgt ls st h k n) (kf : ¬ x < 0 → wp w g Q M ls (.int vf :: st) h k n → wp w g Q (pc + 3) ls st h k n) (kk : wp w g Q M ls (.int (if x < 0 then vt else vf) :: st) h k n) : wp w g Q pc ls (.int x :: st) h k n := r_iflt C hd ht (fun q => kt q (by rw [if_pos q] at kk; exact kk)) (fun q => kf q (by rw [if_neg q] at kk; exact kk))
theorem r_icltM (C : Cx w g cc own ret nm nL tb d mc ms) {x y : Int32} {off : Int} (M : Nat) {tgt : Nat} (vt vf : Int32) (hd : decode cc pc = .ok (.if_icmp .lt off, 3)) (ht : (pc : Int) + off = (tgt : Int)) (kt : x < y → wp w g Q M ls (.int vt :: st) h k n → wp w g Q tgt ls st h k n) (kf : ¬ x < y → wp w g Q M ls (.int vf :: st) h k n → wp w g Q (pc + 3) ls st h k n) (kk : wp w g Q M ls (.int (if x < y then vt else vf) :: st) h k n) : wp w g Q pc ls (.int y :: .int x :: st) h k n := r_iclt C hd ht (fun q => kt q (by rw [if_pos q] at kk; exact kk)) (fun q => kf q (by rw [if_neg q] at kk; exact kk))
theorem r_ifgeM (C : Cx w g cc own ret nm nL tb d mc ms) {x : Int32} {off : Int} (M : Nat) {tgt : Nat} (vt vf : Int32) (hd : decode cc pc = .ok (.ifCond .ge off, 3)) (ht : (pc : Int) + off = (tgt : Int)) (kt : 0 ≤ x → wp w g Q M ls (.int vt :: st) h k n → wp w g Q tgt ls st h k n) (kf : ¬ 0 ≤ x → wp w g Q M ls (.int vf :: st) h k n → wp w g Q (pc + 3) ls st h k n) (kk : wp w g Q M ls (.int (if 0 ≤ x then vt else vf) :: st) h k n) : wp w g Q pc ls (.int x :: st) h k n := r_ifge C hd ht (fun q => kt q (by rw [if_pos q] at kk; exact kk)) (fun q => kf q (by rw [if_neg q] at kk; exact kk))
theorem r_icgeM (C : Cx w g cc own ret nm nL tb d mc ms) {x y : Int32} {off : Int} (M : Nat) {tgt : Nat} (vt vf : Int32) (hd : decode cc pc = .ok (.if_icmp .ge off, 3)) (ht : (pc : Int) + off = (tgt : Int)) (kt : y ≤ x → wp w g Q M ls (.int vt :: st) h k n → wp w g Q tgt ls st h k n) (kf : ¬ y ≤ x → wp w g Q M ls (.int vf :: st) h k n → wp w g Q (pc + 3) ls st h k n) (kk : wp w g Q M ls (.int (if y ≤ x then vt else vf) :: st) h k n) : wp w g Q pc ls (.int y :: .int x :: st) h k n := r_icge C hd ht (fun q => kt q (by rw [if_pos q] at kk; exact kk)) (fun q => kf q (by rw [if_neg q] at kk; exact kk))
theorem r_ifgtM (C : Cx w g cc own ret nm nL tb d mc ms) {x : Int32} {off : Int} (M : Nat) {tgt : Nat} (vt vf : Int32) (hd : decode cc pc = .ok (.ifCond .gt off, 3)) (ht : (pc : Int) + off = (tgt : Int)) (kt : 0 < x → wp w g Q M ls (.int vt :: st) h k n → wp w g Q tgt ls st h k n) (kf : ¬ 0 < x → wp w g Q M ls (.int vf :: st) h k n → wp w g Q (pc + 3) ls st h k n) (kk : wp w g Q M ls (.int (if 0 < x then vt else vf) :: st) h k n) : wp w g Q pc ls (.int x :: st) h k n := r_ifgt C hd ht (fun q => kt q (by rw [if_pos q] at kk; exact kk)) (fun q => kf q (by rw [if_neg q] at kk; exact kk))
theorem r_icgtM (C : Cx w g cc own ret nm nL tb d mc ms) {x y : Int32} {off : Int} (M : Nat) {tgt : Nat} (vt vf : Int32) (hd : decode cc pc = .ok (.if_icmp .gt off, 3)) (ht : (pc : Int) + off = (tgt : Int)) (kt : y < x → wp w g Q M ls (.int vt :: st) h k n → wp w g Q tgt ls st h k n) (kf : ¬ y < x → wp w g Q M ls (.int vf :: st) h k n → wp w g Q (pc + 3) ls st h k n) (kk : wp w g Q M ls (.int (if y < x then vt else vf) :: st) h k n) : wp w g Q pc ls (.int y :: .int x :: st) h k n := r_icgt C hd ht (fun q => kt q (by rw [if_pos q] at kk; exact kk)) (fun q => kf q (by rw [if_neg q] at kk; exact kk))
theorem r_ifleM (C : Cx w g cc own ret nm nL tb d mc ms) {x : Int32} {off : Int} (M : Nat) {tgt : Nat} (vt vf : Int32) (hd : decode cc pc = .ok (.ifCond .le off, 3)) (ht : (pc : Int) + off = (tgt : Int)) (kt : x ≤ 0 → wp w g Q M ls (.int vt :: st) h k n → wp w g Q tgt ls st h k n) (kf : ¬ x ≤ 0 → wp w g Q M ls (.int vf :: st) h k n → wp w g Q (pc + 3) ls st h k n) (kk : wp w g Q M ls (.int (if x ≤ 0 then vt else vf) :: st) h k n) : wp w g Q pc ls (.int x :: st) h k n := r_ifle C hd ht (fun q => kt q (by rw [if_pos q] at kk; exact kk)) (fun q => kf q (by rw [if_neg q] at kk; exact kk))
theorem r_icleM (C : Cx w g cc own ret nm nL tb d mc ms) {x y : Int32} {off : Int} (M : Nat) {tgt : Nat} (vt vf : Int32) (hd : decode cc pc = .ok (.if_icmp .le off, 3)) (ht : (pc : Int) + off = (tgt : Int)) (kt : x ≤ y → wp w g Q M ls (.int vt :: st) h k n → wp w g Q tgt ls st h k n) (kf : ¬ x ≤ y → wp w g Q M ls (.int vf :: st) h k n → wp w g Q (pc + 3) ls st h k n) (kk : wp w g Q M ls (.int (if x ≤ y then vt else vf) :: st) h k n) : wp w g Q pc ls (.int y :: .int x :: st) h k n := r_icle C hd ht (fun q => kt q (by rw [if_pos q] at kk; exact kk)) (fun q => kf q (by rw [if_neg q] at kk; exact kk))
end RowsB
