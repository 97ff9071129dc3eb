/-! 09: OWN LAYER, second half: fields, new cells, returns, calls -/
set_option maxRecDepth 100000
section RowsC
variable {w : WD} {g : MG} {cc : ByteArray} {own : String} {ret : Option FieldType} {nm : String} {nL : Nat} {tb : List (Nat × Nat × Nat × Nat)} {d mc ms : Nat} {Q : State → Prop} {pc k n : Nat} {ls : List (Option Value)} {st : List Value} {h : AH}
theorem wF_app {w : WD} {locs : List Loc} {a i : Nat} (hz : ∀ z ∈ locs, wF w z.base) (ha : wB w ≤ a) : ∀ z ∈ locs ++ [(⟨a, i⟩ : Loc)], wF w z.base := by
  intro q hq
  rcases List.mem_append.mp hq with h1 | h1
  · exact hz q h1
  · rw [List.mem_singleton.mp h1]
    exact ha
theorem r_get (C : Cx w g cc own ret nm nL tb d mc ms) {ref Cn : String} {T : u_T} {N ci idx a : Nat} {fs : List Value} {v : Value} (hin : ∀ x ∈ u_ws Cn T N, x ∈ lw_all) (j : Nat) (hc : CLs[ci]? = some (Cn, T, N)) (hj : j < N) (hq : Cond.fieldLink own idx ref (T j).2.1 (T j).2.2.1 ∈ lw_all) (hsame : ∀ x, (gS g).fieldFound? (T j).1 (T j).2.1 (T j).2.2.1 = some x → (gS g).fieldFound? ref (T j).2.1 (T j).2.2.1 = some x)
    (ha : h a = some (.inr (ci, fs))) (hv : fs[j]? = some v) (hd : decode cc pc = .ok (.getfield idx, 3)) (kk : wp w g Q (pc + 3) ls (v :: st) h k n) : wp w g Q pc ls (.ref a :: st) h k n :=
  fun H locs lsA hR hz hs => va_get (ws := [(a, _)]) C.exec C.code C.hts hin C.ownc C.K (hR.one ha) 0 rfl hc j hj (C.hts _ hq) hsame hv hd (kk H locs lsA hR hz hs)
theorem r_getN (C : Cx w g cc own ret nm nL tb d mc ms) {ref Cn host : String} {T : u_T} {N ci idx a : Nat} {fs : List Value} {v : Value} (hin : ∀ x ∈ u_ws Cn T N, x ∈ lw_all) (j : Nat) (hc : CLs[ci]? = some (Cn, T, N)) (hj : j < N) (hq : Cond.fieldLinkNest own idx ref (T j).2.1 (T j).2.2.1 host ∈ lw_tbl) (hsame : ∀ x, (gS g).fieldFound? (T j).1 (T j).2.1 (T j).2.2.1 = some x → (gS g).fieldFound? ref (T j).2.1 (T j).2.2.1 = some x)
    (ha : h a = some (.inr (ci, fs))) (hv : fs[j]? = some v) (hd : decode cc pc = .ok (.getfield idx, 3)) (kk : wp w g Q (pc + 3) ls (v :: st) h k n) : wp w g Q pc ls (.ref a :: st) h k n :=
  fun H locs lsA hR hz hs => va_getN (ws := [(a, _)]) C.exec C.code C.hts hin C.ownc C.K (hR.one ha) 0 rfl hc j hj (va_Nw.use rfl (C.nw hq rfl (va_Nw.warmF C.warm))) hsame hv hd (kk H locs lsA hR hz hs)
theorem r_put (C : Cx w g cc own ret nm nL tb d mc ms) {ref Cn : String} {T : u_T} {N ci idx a : Nat} {fs : List Value} {v : Value} {ty0 : Nat → FieldType} (hin : ∀ x ∈ u_ws Cn T N, x ∈ lw_all) (hty : ∀ i, i < N → parseFieldDescriptor (T i).2.2.1 = some (ty0 i)) (hnm : ∀ a, a < N → ∀ b, b < N → a ≠ b → (T a).2.1 ≠ (T b).2.1) (j : Nat) (hc : CLs[ci]? = some (Cn, T, N)) (hj : j < N) (hq : Cond.fieldLink own idx ref (T j).2.1 (T j).2.2.1 ∈ lw_all) (hsame : ∀ x, (gS g).fieldFound? (T j).1 (T j).2.1 (T j).2.2.1 = some x → (gS g).fieldFound? ref (T j).2.1 (T j).2.2.1 = some x) (hfin : (T j).2.2.2 = false)
    (ha : h a = some (.inr (ci, fs))) (hl : j < fs.length) (hn : narrow (ty0 j) v = v) (hfit : fits (ty0 j) v = true) (hd : decode cc pc = .ok (.putfield idx, 3)) (kk : wp w g Q (pc + 3) ls st (hup h a (.inr (ci, fs.set j v))) k n) : wp w g Q pc ls (v :: .ref a :: st) h k n := by
  intro H locs lsA hR hz hs
  have hap := va_apart (own := own) C.hts hin ty0 hty hnm C.K hc
  obtain ⟨hba, r, h1, cell, q1, q2, q3, q4⟩ := hR.1 a _ ha
  have hr : r = (Cn, T, N) := Option.some.inj (h1.symm.trans hc)
  subst hr
  obtain ⟨hS, hfc, kC, hkC, hkind⟩ := C.K.1 ci _ hc
  obtain ⟨cf, kf, fi, f, hi, hsl⟩ := hS j hj
  have hlay := C.hts _ (hin _ (u_in_lay hj))
  unfold u_lay at hlay
  rw [if_neg (by rw [hfin]; decide)] at hlay
  have hst := (u_facts hfc hkC (u_lays C.hts hin hj) hi).1
  have h6 := u_store hfc hkC hkind hlay hi (hty j hj) hn hfit
  refine W.putK C.exec C.code (f := f) ⟨C.ownc, C.hts _ hq, ⟨_, _, _, hsame _ hi⟩, hst⟩ (by rw [q2]; exact h6) q1 q3 (by rw [hsl]; exact k2_hasslot (q4 j hj)) rfl rfl hd fun H' e1 e2 e3 => ?_
  rw [hsl] at e1 ⊢
  exact kk H' _ lsA (hR.put ha ⟨_, hc, t_OB.to (V := updV (vp_V fs) j v) ⟨_, e1, q2, q3, t_set q4 hap hj v⟩ (fun x _ => vp_updV_set hl v x)⟩ e2 e3) (wF_app hz hba) hs
theorem r_putF (C : Cx w g cc own ret "<init>" nL tb d mc ms) {ref Cn : String} {T : u_T} {N ci idx a : Nat} {fs : List Value} {v : Value} {ty0 : Nat → FieldType} (hin : ∀ x ∈ u_ws Cn T N, x ∈ lw_all) (hty : ∀ i, i < N → parseFieldDescriptor (T i).2.2.1 = some (ty0 i)) (hnm : ∀ a, a < N → ∀ b, b < N → a ≠ b → (T a).2.1 ≠ (T b).2.1) (j : Nat) (hc : CLs[ci]? = some (Cn, T, N)) (hj : j < N) (hq : Cond.fieldLink own idx ref (T j).2.1 (T j).2.2.1 ∈ lw_all) (hsame : ∀ x, (gS g).fieldFound? (T j).1 (T j).2.1 (T j).2.2.1 = some x → (gS g).fieldFound? ref (T j).2.1 (T j).2.2.1 = some x) (hfin : (T j).2.2.2 = true) (hdecl : (T j).1 = own)
    (ha : h a = some (.inr (ci, fs))) (hl : j < fs.length) (hn : narrow (ty0 j) v = v) (hfit : fits (ty0 j) v = true) (hd : decode cc pc = .ok (.putfield idx, 3)) (kk : wp w g Q (pc + 3) ls st (hup h a (.inr (ci, fs.set j v))) k n) : wp w g Q pc ls (v :: .ref a :: st) h k n := by
  intro H locs lsA hR hz hs
  have hap := va_apart (own := own) C.hts hin ty0 hty hnm C.K hc
  obtain ⟨hba, r, h1, cell, q1, q2, q3, q4⟩ := hR.1 a _ ha
  have hr : r = (Cn, T, N) := Option.some.inj (h1.symm.trans hc)
  subst hr
  obtain ⟨hS, hfc, kC, hkC, hkind⟩ := C.K.1 ci _ hc
  obtain ⟨cf, kf, fi, f, hi, hsl⟩ := hS j hj
  have hlay := C.hts _ (hin _ (u_in_lay hj))
  unfold u_lay at hlay
  rw [if_pos hfin] at hlay
  have hst := (u_facts hfc hkC (u_lays C.hts hin hj) hi).1
  have hown := C.ownc
  have hcf : (gM g).cls = cf := by
    obtain ⟨_, _, c', _, _, _, -, -, hf', -, -, -, hown2, -⟩ := Cond.laysFinal_spec hlay
    have e1 : c' = cf := by have := hi.symm.trans hf'; simp at this; exact this.1.symm
    rw [hdecl] at hown2
    rw [← e1]; exact Option.some.inj (hown.symm.trans hown2)
  have h6 := u_fits hfc hkC hkind (Or.inr hlay) hi (hty j hj) hn hfit
  refine W.putFinK C.exec C.code hown (C.hts _ hq) (hsame _ hi) hst hcf C.name (by rw [q2]; exact h6) q1 q3 (by rw [hsl]; exact k2_hasslot (q4 j hj)) rfl rfl hd fun H' e1 e2 e3 => ?_
  rw [hsl] at e1 ⊢
  exact kk H' _ lsA (hR.put ha ⟨_, hc, t_OB.to (V := updV (vp_V fs) j v) ⟨_, e1, q2, q3, t_set q4 hap hj v⟩ (fun x _ => vp_updV_set hl v x)⟩ e2 e3) (wF_app hz hba) hs
theorem r_new (C : Cx w g cc own ret nm nL tb d mc ms) {Cn : String} {T : u_T} {N ci idx : Nat} {ty : Nat → FieldType} (hin : ∀ x ∈ u_ws Cn T N, x ∈ lw_all) (hty : ∀ i, i < N → parseFieldDescriptor (T i).2.2.1 = some (ty i)) (hc : CLs[ci]? = some (Cn, T, N)) (hcl : Cond.classLink own idx Cn ∈ lw_all) (hins : Cond.instantiable Cn N ∈ lw_all) (hini : Cond.initialized Cn ∈ lw_all) (fs : List Value) (hfs : ∀ j, j < N → defaultValue (ty j) = vp_V fs j) (hk : k + 1 ≤ mc) (hn : n + N ≤ ms) (hd : decode cc pc = .ok (.new idx, 3))
    (kk : ∀ q : Nat, h q = none → wB w ≤ q → wp w g Q (pc + 3) ls (.ref q :: st) (hup h q (.inr (ci, fs))) (k + 1) (n + N)) : wp w g Q pc ls st h k n := by
  intro H locs lsA hR hz hs
  have hKn := C.K.1 ci _ hc
  obtain ⟨-, -, r3, r4⟩ := C.room
  refine W.newcK C.exec C.code C.ownc (C.hts _ hcl) (C.hts _ hins) (C.hts _ hini) rfl hd (by rw [r3]; exact hk) (by rw [r4]; exact hn) hKn.2.1 rfl fun H1 kC hkC e1 z1 o1 => ?_
  exact kk H.size hR.fresh hR.2.1 H1 _ lsA (hR.new ⟨_, hc, (u_born ty C.hts hin hKn hkC e1 hty).to hfs⟩ z1 o1) hz hs
theorem r_newq (C : Cx w g cc own ret nm nL tb d mc ms) {idx : Nat} {z : Int32} {N : Nat} (hcl : Cond.classLink own idx "java/lang/Object" ∈ lw_all) (hov : Cond.arrayOver (.object "java/lang/Object") ∈ lw_tbl) (hz0 : ¬ z < 0) (hN : z.toNatClampNeg = N) (hby : N * 4 ≤ 536870912) (hk : k + 1 ≤ mc) (hn : n + N ≤ ms) (hd : decode cc pc = .ok (.anewarray idx, 3))
    (kk : ∀ q : Nat, h q = none → wB w ≤ q → wp w g Q (pc + 3) ls (.ref q :: st) (hup h q (.inl (wT w 5, N, .inr (.inr (.inr (.inr (fun _ => none))))))) (k + 1) (n + N)) : wp w g Q pc ls (.int z :: st) h k n := by
  intro H locs lsA hR hz hs
  obtain ⟨-, -, r3, r4⟩ := C.room
  subst hN
  have hAO : va_AO "java/lang/Object" (gS g) := va_AO.moved C.warm.alike (va_AO.of (C.good.2.2.1 _ hov))
  refine W.anew C.exec C.code C.ownc (C.hts _ hcl) (va_AO.use hAO) rfl hd rfl hz0 hby (by rw [r3]; exact hk) (by rw [r4]; exact hn) fun cA kA comp f1 f2 f3 f4 => ?_
  obtain ⟨kA', comp', g1, g2, g3, g4⟩ := (C.K.2 5 _ rfl).2
  have hcA : cA = wT w 5 := Option.some.inj (f1.symm.trans g4)
  subst hcA
  refine kk H.size hR.fresh hR.2.1 _ _ lsA (hR.new ?_ (Array.size_push _) (fun q hq => by rw [Array.getElem?_push, if_neg (Nat.ne_of_lt hq)])) hz hs
  show (H.push _)[H.size]? = some (vp_cell _ _)
  rw [vp_cell_q, Array.getElem?_push_size, arrV_new]
  rfl
theorem r_aastG (C : Cx w g cc own ret nm nL tb d mc ms) {a z v : Nat} {f : Nat → Option Nat} {i : Int32} (ha : h a = some (.inl (wT w 5, z, .inr (.inr (.inr (.inr f)))))) (hr : ∀ H, Rp w h H → va_Any "java/lang/Object" (gS g) H v) (hi : vp_in i z) (hd : decode cc pc = .ok (.aastore, 1)) (kk : wp w g Q (pc + 1) ls st (hup h a (.inl (wT w 5, z, .inr (.inr (.inr (.inr (va_up f i.toNatClampNeg (some v)))))))) k n) : wp w g Q pc ls (.ref v :: .int i :: .ref a :: st) h k n := by
  intro H locs lsA hR hz hs
  obtain ⟨hba, hat⟩ := hR.1 a _ ha
  have hlt : i.toNatClampNeg < z := Nat.not_le.mp fun q => hi (Or.inr q)
  have h0 : ¬ i < 0 := fun q => hi (Or.inl q)
  obtain ⟨cellV, g1, g3, ⟨kC, hkC⟩, hasg⟩ := hr H hR
  obtain ⟨kA, comp, k1, k2, k3, -⟩ := (C.K.2 5 _ rfl).2
  obtain ⟨kE, hkE, -⟩ := Vm.findClass_spec k3
  refine W.aast C.exec C.code hat (fun q h => by cases h) (fun h => by cases h) k1 k2 rfl hkE ⟨h0, by show _ < (arrV _ _ _).slots.size; rw [arrV_size]; exact hlt⟩ g1 (fun q h => by rw [h] at g3; cases g3) hkC (hasg _ k3) rfl rfl hd fun H1 e z1 oq => ?_
  refine kk H1 _ lsA (hR.put ha ?_ z1 oq) (wF_app hz hba) hs
  show H1[a]? = some (vp_cell _ _)
  rw [e]
  rw [vp_cell_q, vp_cell_q, arrV_store]
  congr 2
  funext q
  by_cases hq : q = i.toNatClampNeg
  · subst hq
    simp [updV, va_up, va_rf]
  · simp [updV, va_up, hq]
theorem obj_any (C : Cx w g cc own ret nm nL tb d mc ms) {v ci : Nat} {fs : List Value} {r : vw_C} (hv : h v = some (.inr (ci, fs))) (hc : CLs[ci]? = some r) (hca : Cond.castable r.1 "java/lang/Object" ∈ lw_tbl) : ∀ H, Rp w h H → va_Any "java/lang/Object" (gS g) H v := fun H hR =>
  va_rAny (ws := [(v, _)]) C.K (hR.one hv) (q0 := 0) rfl hc (vb_asgC (C.nw hca rfl (va_Nw.warmC C.warm)))
-- returns
theorem r_iret (C : Cx w g cc own (some .int) nm nL tb d mc ms) {v : Int32} {Qp : Option Value → AH → Prop} {Xp : String → AH → Prop} (hd : decode cc pc = .ok (.ireturn, 1)) (hq : Qp (some (.int v)) h) (hk : k ≤ mc := by omega) (hn : n ≤ ms := by omega) : wp w g (mQ w g mc ms Qp Xp) pc ls [.int v] h k n :=
  fun H locs lsA hR hz hs => W.widen hk hn (vx_ret (W.iret C.exec C.code C.rets (fun t ht _ => ⟨_, h, rfl, hq, by rw [ht]; exact hR⟩) hz hd C.lock))
theorem r_zret {ty : FieldType} (C : Cx w g cc own (some ty) nm nL tb d mc ms) {v : Int32} {Qp : Option Value → AH → Prop} {Xp : String → AH → Prop} (hd : decode cc pc = .ok (.ireturn, 1)) (hnr : narrow ty (.int v) = .int v) (hq : Qp (some (.int v)) h) (hk : k ≤ mc := by omega) (hn : n ≤ ms := by omega) : wp w g (mQ w g mc ms Qp Xp) pc ls [.int v] h k n :=
  fun H locs lsA hR hz hs => W.widen hk hn (vx_ret (W.zret C.exec C.code C.rets hnr (fun t ht _ => ⟨_, h, rfl, hq, by rw [ht]; exact hR⟩) hz hd C.lock))
theorem r_vret (C : Cx w g cc own none nm nL tb d mc ms) {Qp : Option Value → AH → Prop} {Xp : String → AH → Prop} (hd : decode cc pc = .ok (.return_, 1)) (hq : Qp none h) (hk : k ≤ mc := by omega) (hn : n ≤ ms := by omega) : wp w g (mQ w g mc ms Qp Xp) pc ls [] h k n :=
  fun H locs lsA hR hz hs => W.widen hk hn (vx_ret (W.vret C.exec C.code C.rets (fun t ht _ => ⟨_, h, rfl, hq, by rw [ht]; exact hR⟩) hz hd C.lock))
theorem r_aret {rt : FieldType} (C : Cx w g cc own (some rt) nm nL tb d mc ms) {v : Value} {Qp : Option Value → AH → Prop} {Xp : String → AH → Prop} (hd : decode cc pc = .ok (.areturn, 1)) (hrt : (∃ n, rt = .object n) ∨ ∃ t, rt = .array t) (hv : v = .null ∨ ∃ a, v = .ref a) (hq : Qp (some v) h) (hk : k ≤ mc := by omega) (hn : n ≤ ms := by omega) : wp w g (mQ w g mc ms Qp Xp) pc ls [v] h k n :=
  fun H locs lsA hR hz hs => W.widen hk hn (vx_ret (W.aret C.exec C.code C.rets hrt hv (fun t ht _ => ⟨_, h, rfl, hq, by rw [ht]; exact hR⟩) hz hd C.lock))
theorem wpx_out (C : Cx w g cc own ret nm nL [] d mc ms) {E : String} {Qp : Option Value → AH → Prop} {Xp : String → AH → Prop} (hx : Xp E h) (hk : k ≤ mc := by omega) (hn : n ≤ ms := by omega) : wpx w g (mQ w g mc ms Qp Xp) pc ls st E h k n :=
  fun H locs lsA ce q9 hR hz hs hc hv hcl => vx_out (by rw [C.table]; intro x hx; cases hx) C.lock hc hv hcl (fun t ht _ => ⟨h, hx, by rw [ht]; exact hR⟩) hz hk hn
-- calls
theorem wp_ofRun {st0 rest : List Value} {mc' ms' : Nat} {a : Array Value} {Qp' : Option Value → AH → Prop} {Xp' : String → AH → Prop} {H : Heap} {locs : List Loc} {lsA : Array Slot} (hz : ∀ z ∈ locs, wF w z.base) (hs : hasL lsA ls)
    (hr : vx_Run (gP g) (wL w) (gE g) (gR g) (gS g) (gM g) (gA g) (gB g) (gT g) (gC g) H locs k n mc' ms' (F0 (gM g) pc lsA st0) rest (Qcon w Qp' a) (Xcon w Xp') (wF w))
    (kk : ∀ v h', Qp' v h' → wp w g Q (pc + 3) ls (v.toList ++ rest) h' (k + mc') (n + ms')) (kx : ∀ E h', Xp' E h' → wpx w g Q pc ls rest E h' (k + mc') (n + ms')) : wW w g H locs k n Q (F0 (gM g) pc lsA st0) := by
  have app : ∀ {L : List Loc}, (∀ q ∈ L, wF w q.base) → ∀ z ∈ locs ++ L, wF w z.base := fun hL q hq => (List.mem_append.mp hq).elim (hz q) (hL q)
  intro T hT X
  rcases hr T hT X with ⟨v, st₀, t, T', L, h0, X', hL, e1, e2, ⟨v', h', ho, hq, hR⟩, hst⟩ | ⟨q, st₀, t, T', L, E, ce, h0, X', hL, e1, e2, ⟨h', hx, hR⟩, hce, hcv, hcl, hst⟩
  · cases ho
    obtain ⟨t2, a1, b1⟩ := kk _ h' hq T'.heap (locs ++ L) lsA (by rw [e1]; exact hR) (app hL) hs T' rfl X'
    exact ⟨t2, hst t2 a1, b1⟩
  · obtain ⟨t2, a1, b1⟩ := kx E h' hx T'.heap (locs ++ L) lsA ce q (by rw [e1]; exact hR) (app hL) hs (by rw [e1]; exact hce) hcv hcl T' rfl X'
    exact ⟨t2, hst.trans a1, b1⟩
theorem wp_ofRun5 {st0 rest : List Value} {mc' ms' : Nat} {a : Array Value} {Qp' : Option Value → AH → Prop} {Xp' : String → AH → Prop} {H : Heap} {locs : List Loc} {lsA : Array Slot} (hz : ∀ z ∈ locs, wF w z.base) (hs : hasL lsA ls)
    (hr : vx_Run5 (gP g) (wL w) (gE g) (gR g) (gS g) (gM g) (gA g) (gB g) (gT g) (gC g) H locs k n mc' ms' (F0 (gM g) pc lsA st0) rest (Qcon w Qp' a) (Xcon w Xp') (wF w))
    (kk : ∀ v h', Qp' v h' → wp w g Q (pc + 5) ls (v.toList ++ rest) h' (k + mc') (n + ms')) (kx : ∀ E h', Xp' E h' → wpx w g Q pc ls rest E h' (k + mc') (n + ms')) : wW w g H locs k n Q (F0 (gM g) pc lsA st0) := by
  have app : ∀ {L : List Loc}, (∀ q ∈ L, wF w q.base) → ∀ z ∈ locs ++ L, wF w z.base := fun hL q hq => (List.mem_append.mp hq).elim (hz q) (hL q)
  intro T hT X
  rcases hr T hT X with ⟨v, st₀, t, T', L, h0, X', hL, e1, e2, ⟨v', h', ho, hq, hR⟩, hst⟩ | ⟨q, st₀, t, T', L, E, ce, h0, X', hL, e1, e2, ⟨h', hx, hR⟩, hce, hcv, hcl, hst⟩
  · cases ho
    obtain ⟨t2, a1, b1⟩ := kk _ h' hq T'.heap (locs ++ L) lsA (by rw [e1]; exact hR) (app hL) hs T' rfl X'
    exact ⟨t2, hst t2 a1, b1⟩
  · obtain ⟨t2, a1, b1⟩ := kx E h' hx T'.heap (locs ++ L) lsA ce q (by rw [e1]; exact hR) (app hL) hs (by rw [e1]; exact hce) hcv hcl T' rfl X'
    exact ⟨t2, hst.trans a1, b1⟩
theorem Cx.fix (C : Cx w g cc own ret nm nL tb d mc ms) : CallFix (gP g) (gM g) (gC g) cc nL (gS g) (gA g) lw_all own := ⟨C.exec, C.code, C.maxl, C.ownc, C.hts⟩
theorem Cx.rmS (C : Cx w g cc own ret nm nL tb d mc ms) {d' L mc' ms' : Nat} (hdd : d' < d) (hL : L ≤ 45) : (rmL d' mc' ms').frames + 1 ≤ (gR g).frames ∧ 8 + (L + 11) + (rmL d' mc' ms').locals ≤ (gR g).locals := by
  obtain ⟨h1, h2, -, -⟩ := C.room
  refine ⟨?_, ?_⟩
  · show d' + 1 + 1 ≤ _
    omega
  · show 8 + (L + 11) + 64 * (d' + 1) ≤ _
    omega
theorem Cx.hf (C : Cx w g cc own ret nm nL tb d mc ms) {mc' ms' : Nat} (hk : k + mc' ≤ mc) (hn : n + ms' ≤ ms) : k + mc' ≤ (gR g).cells ∧ n + ms' ≤ (gR g).slots := by
  obtain ⟨-, -, r3, r4⟩ := C.room
  rw [r3, r4]
  exact ⟨hk, hn⟩
theorem Cx.pre (C : Cx w g cc own ret nm nL tb d mc ms) {As : List Value} {H : Heap} (hR : Rp w h H) : PreS (gS g) H (Pcon w As h) As :=
  ⟨fun _ _ _ _ q => q, fun U hU hW => ⟨rfl, State.WarmedH.trans C.warm hW, by rw [hU]; exact hR⟩⟩
theorem Cx.preV (C : Cx w g cc own ret nm nL tb d mc ms) {As : List Value} {a ci : Nat} {fs : List Value} {r : vw_C} {H : Heap} (hR : Rp w h H) (ha : h a = some (.inr (ci, fs))) (hc : CLs[ci]? = some r) : PreV (gS g) H r.1 a (Pcon w (.ref a :: As) h) As :=
  ⟨fun _ _ _ _ q => q, va_recv (ws := [(a, _)]) C.K (hR.one ha) (q0 := 0) hc rfl, fun U hU hW => ⟨rfl, State.WarmedH.trans C.warm hW, by rw [hU]; exact hR⟩⟩
theorem r_callS (C : Cx w g cc own ret nm nL tb d mc ms) {y : MethodName} {b : ByteArray} {L : Nat} {r : Option FieldType} {d' mc' ms' idx : Nat} {nA : Nat} {As st0 : List Value} {Qp' : Option Value → AH → Prop} {Xp' : String → AH → Prop} (hC : Con w y (ws_ y b L r) d' mc' ms' As h Qp' Xp')
    (hst : st0 = As.reverse ++ st := by rfl) (hA : As.length = nA := by rfl) (h1 : Cond.methodLink own idx y ∈ lw_all) (h2 : Cond.static y ∈ lw_all) (h3 : Cond.initialized y.cls ∈ lw_all) (h4 : Cond.code y b L r ∈ lw_all) (hy : y.cls ≠ "java/lang/invoke/MethodHandle" ∧ y.cls ≠ "java/lang/invoke/VarHandle" ∧ (parseMethodDescriptor y.desc).map (fun d => d.parameters.length) = some nA := by decide +kernel) (hdd : d' < d := by omega) (hL : L ≤ 45 := by decide) (hrm : (st.map fun v => v.category).sum ≤ 8 := by exact Nat.le_of_ble_eq_true rfl) (hln : ls.length = nL := by rfl) (hk : k + mc' ≤ mc := by omega) (hn : n + ms' ≤ ms := by omega) (hd : decode cc pc = .ok (.invokestatic idx, 3))
    (kk : ∀ v h', Qp' v h' → wp w g Q (pc + 3) ls (v.toList ++ st) h' (k + mc') (n + ms')) (kx : ∀ E h', Xp' E h' → wpx w g Q pc ls st E h' (k + mc') (n + ms')) : wp w g Q pc ls st0 h k n :=
  fun H locs lsA hR hz hs => wp_ofRun hz hs (vx_runS C.fix hC (va_cwS nA C.hts (lw_S h1 h2 h3 h4) rfl rfl rfl hy (C.rmS hdd hL)) (C.pre hR) rfl hA (hs.1.trans hln) hst (lv_room hrm) hd (C.hf hk hn)) kk kx
theorem r_callSW (C : Cx w g cc own ret nm nL tb d mc ms) {y : MethodName} {b : ByteArray} {L : Nat} {r : Option FieldType} {hh : List (Nat × Nat × Nat × Nat)} {d' mc' ms' idx : Nat} {nA : Nat} {As st0 : List Value} {Qp' : Option Value → AH → Prop} {Xp' : String → AH → Prop} (hC : Con w y (wsW_ y b L r hh) d' mc' ms' As h Qp' Xp')
    (hst : st0 = As.reverse ++ st := by rfl) (hA : As.length = nA := by rfl) (h1 : Cond.methodLink own idx y ∈ lw_all) (h2 : Cond.static y ∈ lw_all) (h3 : Cond.initialized y.cls ∈ lw_all) (h4 : Cond.codeWith y b L r hh ∈ lw_all) (hy : y.cls ≠ "java/lang/invoke/MethodHandle" ∧ y.cls ≠ "java/lang/invoke/VarHandle" ∧ (parseMethodDescriptor y.desc).map (fun d => d.parameters.length) = some nA := by decide +kernel) (hdd : d' < d := by omega) (hL : L ≤ 45 := by decide) (hrm : (st.map fun v => v.category).sum ≤ 8 := by exact Nat.le_of_ble_eq_true rfl) (hln : ls.length = nL := by rfl) (hk : k + mc' ≤ mc := by omega) (hn : n + ms' ≤ ms := by omega) (hd : decode cc pc = .ok (.invokestatic idx, 3))
    (kk : ∀ v h', Qp' v h' → wp w g Q (pc + 3) ls (v.toList ++ st) h' (k + mc') (n + ms')) (kx : ∀ E h', Xp' E h' → wpx w g Q pc ls st E h' (k + mc') (n + ms')) : wp w g Q pc ls st0 h k n :=
  fun H locs lsA hR hz hs => wp_ofRun hz hs (vx_runSX C.fix hC (vx_cwSW nA C.hts (lw_SW h1 h2 h3 h4) rfl rfl rfl hy (C.rmS hdd hL)) (C.pre hR) rfl hA (hs.1.trans hln) hst (lv_room hrm) hd (C.hf hk hn)) kk kx
theorem r_callV (C : Cx w g cc own ret nm nL tb d mc ms) {y : MethodName} {b : ByteArray} {L : Nat} {r : Option FieldType} {d' mc' ms' idx a ci : Nat} {nA : Nat} {fs As st0 : List Value} {T : u_T} {N : Nat} {Qp' : Option Value → AH → Prop} {Xp' : String → AH → Prop} (hC : Con w y (ws_ y b L r) d' mc' ms' (.ref a :: As) h Qp' Xp') (ha : h a = some (.inr (ci, fs))) (hc : CLs[ci]? = some (y.cls, T, N))
    (hst : st0 = As.reverse ++ .ref a :: st := by rfl) (hA : As.length = nA := by rfl) (h1 : Cond.methodLink own idx y ∈ lw_all) (h2 : Cond.instanceMethod y ∈ lw_all) (h3 : Cond.selects y.cls y y ∈ lw_all) (h4 : Cond.initialized y.cls ∈ lw_all) (h5 : Cond.code y b L r ∈ lw_all) (hy : y.cls ≠ "java/lang/invoke/MethodHandle" ∧ y.cls ≠ "java/lang/invoke/VarHandle" ∧ (parseMethodDescriptor y.desc).map (fun d => d.parameters.length) = some nA := by decide +kernel) (hdd : d' < d := by omega) (hL : L ≤ 45 := by decide) (hrm : (st.map fun v => v.category).sum ≤ 8 := by exact Nat.le_of_ble_eq_true rfl) (hln : ls.length = nL := by rfl) (hk : k + mc' ≤ mc := by omega) (hn : n + ms' ≤ ms := by omega) (hd : decode cc pc = .ok (.invokevirtual idx, 3))
    (kk : ∀ v h', Qp' v h' → wp w g Q (pc + 3) ls (v.toList ++ st) h' (k + mc') (n + ms')) (kx : ∀ E h', Xp' E h' → wpx w g Q pc ls st E h' (k + mc') (n + ms')) : wp w g Q pc ls st0 h k n :=
  fun H locs lsA hR hz hs => wp_ofRun hz hs (vx_runV C.fix hC (cwV nA C.hts (lw_V h1 h2 h3 h4 h5) rfl rfl rfl ⟨rfl, hy⟩ (C.rmS hdd hL)) (C.preV hR ha hc) rfl hA (hs.1.trans hln) hst (lv_room hrm) hd (C.hf hk hn)) kk kx
theorem r_callI (C : Cx w g cc own ret nm nL tb d mc ms) {y : MethodName} {b : ByteArray} {L : Nat} {d' mc' ms' idx a : Nat} {nA : Nat} {As st0 : List Value} {Qp' : Option Value → AH → Prop} {Xp' : String → AH → Prop} (hC : Con w y (ws_ y b L none) d' mc' ms' (.ref a :: As) h Qp' Xp')
    (hst : st0 = As.reverse ++ .ref a :: st := by rfl) (hA : As.length = nA := by rfl) (h1 : Cond.methodLink own idx y ∈ lw_all) (h2 : Cond.instanceMethod y ∈ lw_all) (h4 : Cond.initialized y.cls ∈ lw_all) (h5 : Cond.code y b L none ∈ lw_all) (hyn : y.name = "<init>" := by rfl) (hy : y.cls ≠ "java/lang/invoke/MethodHandle" ∧ y.cls ≠ "java/lang/invoke/VarHandle" ∧ (parseMethodDescriptor y.desc).map (fun d => d.parameters.length) = some nA := by decide +kernel) (hdd : d' < d := by omega) (hL : L ≤ 45 := by decide) (hrm : (st.map fun v => v.category).sum ≤ 8 := by exact Nat.le_of_ble_eq_true rfl) (hln : ls.length = nL := by rfl) (hk : k + mc' ≤ mc := by omega) (hn : n + ms' ≤ ms := by omega) (hd : decode cc pc = .ok (.invokespecial idx, 3))
    (kk : ∀ v h', Qp' v h' → wp w g Q (pc + 3) ls (v.toList ++ st) h' (k + mc') (n + ms')) (kx : ∀ E h', Xp' E h' → wpx w g Q pc ls st E h' (k + mc') (n + ms')) : wp w g Q pc ls st0 h k n :=
  fun H locs lsA hR hz hs => wp_ofRun hz hs (vx_runI C.fix hC (cwI nA C.hts (lw_meth h5) rfl rfl rfl (C.hts _ h4) (C.hts _ h1) (C.hts _ h2) hyn hy (C.rmS hdd hL)) (C.pre hR) rfl hA (hs.1.trans hln) hst (lv_room hrm) hd (C.hf hk hn)) kk kx
theorem r_callIN (C : Cx w g cc own ret nm nL tb d mc ms) {y : MethodName} {host : String} {b : ByteArray} {L : Nat} {d' mc' ms' idx a : Nat} {nA : Nat} {As st0 : List Value} {Qp' : Option Value → AH → Prop} {Xp' : String → AH → Prop} (hC : Con w y (ws_ y b L none) d' mc' ms' (.ref a :: As) h Qp' Xp')
    (hst : st0 = As.reverse ++ .ref a :: st := by rfl) (hA : As.length = nA := by rfl) (h1 : Cond.methodLinkNest own idx y host ∈ lw_tbl) (h2 : Cond.instanceMethod y ∈ lw_all) (h4 : Cond.initialized y.cls ∈ lw_all) (h5 : Cond.code y b L none ∈ lw_all) (hyn : y.name = "<init>" := by rfl) (hy : y.cls ≠ "java/lang/invoke/MethodHandle" ∧ y.cls ≠ "java/lang/invoke/VarHandle" ∧ (parseMethodDescriptor y.desc).map (fun d => d.parameters.length) = some nA := by decide +kernel) (hdd : d' < d := by omega) (hL : L ≤ 45 := by decide) (hrm : (st.map fun v => v.category).sum ≤ 8 := by exact Nat.le_of_ble_eq_true rfl) (hln : ls.length = nL := by rfl) (hk : k + mc' ≤ mc := by omega) (hn : n + ms' ≤ ms := by omega) (hd : decode cc pc = .ok (.invokespecial idx, 3))
    (kk : ∀ v h', Qp' v h' → wp w g Q (pc + 3) ls (v.toList ++ st) h' (k + mc') (n + ms')) (kx : ∀ E h', Xp' E h' → wpx w g Q pc ls st E h' (k + mc') (n + ms')) : wp w g Q pc ls st0 h k n :=
  fun H locs lsA hR hz hs => wp_ofRun hz hs (vx_runIN C.fix hC ⟨va_cnB nA C.hts (lw_meth h5) rfl rfl rfl (C.nw h1 rfl (va_Nw.warmM C.warm)) (C.hts _ h4) hy (C.rmS hdd hL), hyn, C.hts _ h2⟩ (C.pre hR) rfl hA (hs.1.trans hln) hst (lv_room hrm) hd (C.hf hk hn)) kk kx
theorem r_callF (C : Cx w g cc own ret nm nL tb d mc ms) {x y : MethodName} {b : ByteArray} {L : Nat} {r : Option FieldType} {d' mc' ms' idx cnt a ci : Nat} {nA : Nat} {fs As st0 : List Value} {T : u_T} {N : Nat} {Qp' : Option Value → AH → Prop} {Xp' : String → AH → Prop} (hC : Con w y (ws_ y b L r) d' mc' ms' (.ref a :: As) h Qp' Xp') (ha : h a = some (.inr (ci, fs))) (hc : CLs[ci]? = some (y.cls, T, N))
    (hst : st0 = As.reverse ++ .ref a :: st := by rfl) (hA : As.length = nA := by rfl) (h1 : Cond.methodLink own idx x ∈ lw_all) (h2 : Cond.selects y.cls x y ∈ lw_all) (h3 : Cond.instanceMethod y ∈ lw_all) (h4 : Cond.initialized y.cls ∈ lw_all) (h5 : Cond.code y b L r ∈ lw_all) (f1 : Cond.declares x ∈ lw_tbl) (f2 : Cond.interfaceMethod x.cls x.cls x.name x.desc ∈ lw_tbl) (f3 : Cond.publicMethod y ∈ lw_tbl) (f4 : Cond.unhidden y.cls x.name x.desc ∈ lw_tbl) (f5 : Cond.castable y.cls x.cls ∈ lw_tbl)
    (hy : x.cls ≠ "java/lang/invoke/MethodHandle" ∧ x.cls ≠ "java/lang/invoke/VarHandle" ∧ (parseMethodDescriptor x.desc).map (fun d => d.parameters.length) = some nA := by decide +kernel) (hdd : d' < d := by omega) (hL : L ≤ 45 := by decide) (hrm : (st.map fun v => v.category).sum ≤ 8 := by exact Nat.le_of_ble_eq_true rfl) (hln : ls.length = nL := by rfl) (hk : k + mc' ≤ mc := by omega) (hn : n + ms' ≤ ms := by omega) (hd : decode cc pc = .ok (.invokeinterface idx cnt, 5))
    (kk : ∀ v h', Qp' v h' → wp w g Q (pc + 5) ls (v.toList ++ st) h' (k + mc') (n + ms')) (kx : ∀ E h', Xp' E h' → wpx w g Q pc ls st E h' (k + mc') (n + ms')) : wp w g Q pc ls st0 h k n := by
  intro H locs lsA hR hz hs
  have hF : va_Fw y.cls x y (gS g) := va_Fw.moved ⟨hy.1, hy.2.1⟩ C.warm.alike (va_Fw.of (C.good.2.2.1 _ f1) (C.good.2.2.1 _ f2) (C.good.2.2.1 _ f3) (C.good.2.2.1 _ f4) (C.good.2.2.1 _ f5))
  have hG : GoodIn lw_all (va_wsF own idx y.cls x y (ws_ y b L r)) := by
    refine lw_app ?_ (lw_meth h5)
    intro w hw
    simp only [List.mem_cons, List.not_mem_nil, or_false] at hw
    rcases hw with e | e | e | e
    · rw [e]; exact h1
    · rw [e]; exact h2
    · rw [e]; exact h3
    · rw [e]; exact h4
  exact wp_ofRun5 hz hs (vx_runF (C.K.1 ci _ hc).2 C.fix hC (va_cwF nA C.hts hG rfl rfl rfl hF hy (C.rmS hdd hL)) (C.preV hR ha hc) rfl hA (hs.1.trans hln) hst (lv_room hrm) hd (C.hf hk hn)) kk kx
theorem r_objInit (C : Cx w g cc own ret nm nL tb d mc ms) {idx a : Nat} (h1 : Cond.methodLink own idx Lib.objectInit ∈ lw_all) (h2 : Cond.instanceMethod Lib.objectInit ∈ lw_all) (h3 : Cond.code Lib.objectInit ⟨#[0xb1]⟩ 1 none ∈ lw_all) (hrm : (st.map fun v => v.category).sum ≤ 8 := by exact Nat.le_of_ble_eq_true rfl) (hln : ls.length = nL := by rfl) (hd : decode cc pc = .ok (.invokespecial idx, 3)) (kk : wp w g Q (pc + 3) ls st h k n) : wp w g Q pc ls (.ref a :: st) h k n := by
  intro H locs lsA hR hz hs
  obtain ⟨r1, r2, -, -⟩ := C.room
  have hr := lv_room (pc := pc) (ls := lsA) (m := gM g) (rest := st) hrm
  refine W.objInit C.exec C.code C.ownc (C.hts _ h1) (C.hts _ h2) (C.hts _ h3) rfl (by rw [C.maxl]; exact hs.1.trans hln) rfl hd (by omega) (by have := lv_room (pc := pc) (ls := lsA) (m := gM g) (rest := .ref a :: st) hrm; omega) ?_
  exact kk H locs lsA hR hz hs
-- what a call hands on
theorem kI {pc' : Nat} {P : Int32 → AH → Prop} (kk : ∀ (r : Int32) (h' : AH), P r h' → wp w g Q pc' ls (.int r :: st) h' k n) : ∀ v h', Qi P v h' → wp w g Q pc' ls (v.toList ++ st) h' k n := by
  rintro v h' ⟨r, rfl, hp⟩
  exact kk r h' hp
theorem kV {pc' : Nat} {P : AH → Prop} (kk : ∀ h' : AH, P h' → wp w g Q pc' ls st h' k n) : ∀ v h', Qv P v h' → wp w g Q pc' ls (v.toList ++ st) h' k n := by
  rintro v h' ⟨rfl, hp⟩
  exact kk h' hp
theorem kR {pc' : Nat} {P : Value → AH → Prop} (kk : ∀ (r : Value) (h' : AH), P r h' → wp w g Q pc' ls (r :: st) h' k n) : ∀ v h', Qr P v h' → wp w g Q pc' ls (v.toList ++ st) h' k n := by
  rintro v h' ⟨r, rfl, hp⟩
  exact kk r h' hp
theorem kP {pc' : Nat} {r : Int32} (kk : wp w g Q pc' ls (.int r :: st) h k n) : ∀ v h', Pi r h v h' → wp w g Q pc' ls (v.toList ++ st) h' k n := by
  rintro v h' ⟨rfl, rfl⟩
  exact kk
theorem kN {pc' : Nat} : ∀ E h', noX E h' → wpx w g Q pc' ls st E h' k n := fun _ _ hx => hx.elim
theorem kPv {pc' : Nat} {h1 : AH} (kk : wp w g Q pc' ls st h1 k n) : ∀ v h', (v = none ∧ h' = h1) → wp w g Q pc' ls (v.toList ++ st) h' k n := by
  rintro v h' ⟨rfl, rfl⟩
  exact kk
-- two ways that meet again with one value each on the stack
theorem mrg {P : Prop} [Decidable P] {a b : Int32} {M T F : Nat} (kt : P → wp w g Q M ls (.int a :: st) h k n → wp w g Q T ls st h k n) (kf : ¬ P → wp w g Q M ls (.int b :: st) h k n → wp w g Q F ls st h k n) (kk : wp w g Q M ls (.int (if P then a else b) :: st) h k n) : (P → wp w g Q T ls st h k n) ∧ (¬ P → wp w g Q F ls st h k n) :=
  ⟨fun p => kt p (by rw [if_pos p] at kk; exact kk), fun p => kf p (by rw [if_neg p] at kk; exact kk)⟩
end RowsC
