/-! 10: the world of ReversalCourtModel: one object (am 0) and 23 arrays (am 1 .. am 23); fi: its int fields by their places; ar: its arrays -/
set_option maxRecDepth 100000
def mlen (j : Nat) : Nat := match j with
  | 1 => 40
  | 2 => 40
  | 3 => 40
  | 4 => 40
  | 5 => 40
  | 6 => 40
  | 7 => 40
  | 8 => 40
  | 9 => 40
  | 10 => 41
  | 11 => 41
  | 12 => 41
  | 13 => 5000
  | 14 => 10
  | 15 => 10
  | 16 => 30
  | 17 => 30
  | 18 => 10
  | 19 => 30
  | 20 => 6
  | 21 => 6
  | 22 => 6
  | 23 => 16
  | _ => 0
def mty (j : Nat) : Nat := match j with
  | 1 => 2
  | 13 => 3
  | 23 => 3
  | _ => 0
def mfs (am fi : Nat → Nat) : List Value := [.int (nI (fi 0)), .int (nI (fi 1)), .ref (am 1), .int (nI (fi 3)), .ref (am 2), .ref (am 3), .ref (am 4), .ref (am 5), .ref (am 6), .ref (am 7), .ref (am 8), .ref (am 9), .int (nI (fi 12)), .ref (am 10), .ref (am 11), .ref (am 12), .int (nI (fi 16)), .ref (am 13), .int (nI (fi 18)), .ref (am 14), .ref (am 15), .int (nI (fi 21)), .ref (am 16), .ref (am 17), .int (nI (fi 24)), .ref (am 18), .ref (am 19), .int (nI (fi 27)), .ref (am 20), .ref (am 21), .ref (am 22), .ref (am 23)]
def mA (w : WD) (j : Nat) (f : Nat → Int32) : va_E := .inl (wT w (mty j), mlen j, .inl f)
def mce (w : WD) (am fi : Nat → Nat) (ar : Nat → Nat → Int32) (j : Nat) : va_E := if j = 0 then .inr (1, mfs am fi) else mA w j (ar j)
def MI (am : Nat → Nat) : Prop := ∀ i j, i < 24 → j < 24 → am i = am j → i = j
def mput (w : WD) (am fi : Nat → Nat) (ar : Nat → Nat → Int32) (h0 : AH) : AH := fun a => match (List.range 24).find? (fun j => am j == a) with
  | some j => some (mce w am fi ar j)
  | none => h0 a
def fset (fi : Nat → Nat) (k v : Nat) : Nat → Nat := fun i => if i = k then v else fi i
def aset (ar : Nat → Nat → Int32) (j : Nat) (f : Nat → Int32) : Nat → Nat → Int32 := fun i => if i = j then f else ar i
def bI (b : Bool) : Int32 := if b then 1 else 0
theorem fset_s {fi : Nat → Nat} {k v : Nat} : fset fi k v k = v := if_pos rfl
theorem fset_n {fi : Nat → Nat} {k v i : Nat} (h : i ≠ k) : fset fi k v i = fi i := if_neg h
theorem aset_s {ar : Nat → Nat → Int32} {j : Nat} {f : Nat → Int32} : aset ar j f j = f := if_pos rfl
theorem aset_n {ar : Nat → Nat → Int32} {j i : Nat} {f : Nat → Int32} (h : i ≠ j) : aset ar j f i = ar i := if_neg h
theorem mfind {am : Nat → Nat} (hI : MI am) {j : Nat} (hj : j < 24) : (List.range 24).find? (fun i => am i == am j) = some j := by
  rw [List.find?_range_eq_some]
  refine ⟨by simp, List.mem_range.mpr hj, fun i hij => ?_⟩
  have : am i ≠ am j := fun e => by have := hI i j (by omega) hj e; omega
  simp [this]
theorem mput_at {w : WD} {am fi : Nat → Nat} {ar : Nat → Nat → Int32} {h0 : AH} (hI : MI am) {j : Nat} (hj : j < 24) : mput w am fi ar h0 (am j) = some (mce w am fi ar j) := by
  unfold mput
  rw [mfind hI hj]
theorem mput_off {w : WD} {am fi : Nat → Nat} {ar : Nat → Nat → Int32} {h0 : AH} {a : Nat} (ho : ∀ j, j < 24 → am j ≠ a) : mput w am fi ar h0 a = h0 a := by
  unfold mput
  have : (List.range 24).find? (fun j => am j == a) = none := by
    rw [List.find?_eq_none]
    intro j hj
    simpa using ho j (List.mem_range.mp hj)
  rw [this]
theorem mput_cases {am : Nat → Nat} (a : Nat) : (∃ j, j < 24 ∧ a = am j) ∨ ∀ j, j < 24 → am j ≠ a := by
  by_cases h : ∃ j, j < 24 ∧ a = am j
  · exact Or.inl h
  · exact Or.inr fun j hj e => h ⟨j, hj, e.symm⟩
theorem mput_up {w : WD} {am fi fi' : Nat → Nat} {ar ar' : Nat → Nat → Int32} {h0 : AH} (hI : MI am) {j : Nat} (hj : j < 24) {e : va_E} (he : mce w am fi' ar' j = e) (ho : ∀ i, i < 24 → i ≠ j → mce w am fi' ar' i = mce w am fi ar i) : hup (mput w am fi ar h0) (am j) e = mput w am fi' ar' h0 := by
  funext a
  rcases mput_cases (am := am) a with ⟨i, hi, rfl⟩ | hn
  · by_cases hij : i = j
    · subst hij
      rw [hup_s, mput_at hI hi, he]
    · rw [hup_n (fun e => hij (hI i j hi hj e)), mput_at hI hi, mput_at hI hi, ho i hi hij]
  · rw [hup_n (fun e => hn j hj e.symm), mput_off hn, mput_off hn]
theorem mput_mput {w : WD} {am fi fi' : Nat → Nat} {ar ar' : Nat → Nat → Int32} {h0 : AH} (hI : MI am) : mput w am fi' ar' (mput w am fi ar h0) = mput w am fi' ar' h0 := by
  funext a
  rcases mput_cases (am := am) a with ⟨i, hi, rfl⟩ | hn
  · rw [mput_at hI hi, mput_at hI hi]
  · rw [mput_off hn, mput_off hn, mput_off hn]
theorem mput_arr {w : WD} {am fi : Nat → Nat} {ar : Nat → Nat → Int32} {h0 : AH} (hI : MI am) {j : Nat} (hj : j < 24) (h0j : 0 < j) (f : Nat → Int32) : hup (mput w am fi ar h0) (am j) (mA w j f) = mput w am fi (aset ar j f) h0 := by
  refine mput_up hI hj ?_ fun i hi hij => ?_
  · unfold mce
    rw [if_neg (by omega), aset_s]
  · unfold mce
    rw [aset_n hij]
theorem mput_fld {w : WD} {am fi fi' : Nat → Nat} {ar : Nat → Nat → Int32} {h0 : AH} (hI : MI am) {fs : List Value} (hf : fs = mfs am fi') : hup (mput w am fi ar h0) (am 0) (.inr (1, fs)) = mput w am fi' ar h0 := by
  subst hf
  refine mput_up hI (by decide) rfl fun i hi hij => ?_
  unfold mce
  rw [if_neg hij, if_neg hij]
theorem narI (x : Int32) : narrow .int (.int x) = .int x := rfl
section RowsM
variable {w : WD} {g : MG} {cc : ByteArray} {ret : Option FieldType} {nm : String} {nL : Nat} {tb : List (Nat × Nat × Nat × Nat)} {d mc ms : Nat} {Q : State → Prop} {pc k n : Nat} {ls : List (Option Value)} {st : List Value} {am fi : Nat → Nat} {ar : Nat → Nat → Int32} {h0 : AH}
theorem r_mg0 (C : Cx w g cc RX2 ret nm nL tb d mc ms) (hI : MI am) (hd : decode cc pc = .ok (.getfield 81, 3)) (kk : wp w g Q (pc + 3) ls (.int (nI (fi 0)) :: st) (mput w am fi ar h0) k n) : wp w g Q pc ls (.ref (am 0) :: st) (mput w am fi ar h0) k n := r_get C in_X2 (ci := 1) 0 rfl (by decide) q1460 (fun _ q => q) (mput_at hI (by decide)) rfl hd kk
theorem r_mp0 (C : Cx w g cc RX2 ret nm nL tb d mc ms) (hI : MI am) {x : Int32} {v : Nat} (hv : x = nI v) (hd : decode cc pc = .ok (.putfield 81, 3)) (kk : wp w g Q (pc + 3) ls st (mput w am (fset fi 0 v) ar h0) k n) : wp w g Q pc ls (.int x :: .ref (am 0) :: st) (mput w am fi ar h0) k n := r_put C in_X2 (ci := 1) tyX2_ok nmX2 0 rfl (by decide) q1460 (fun _ q => q) rfl (mput_at hI (by decide)) (Nat.le_of_ble_eq_true rfl) rfl rfl hd (by subst hv; exact (mput_fld hI (w := w) (ar := ar) (h0 := h0) (fi := fi) (fi' := fset fi 0 v) rfl) ▸ kk)
theorem r_mg1 (C : Cx w g cc RX2 ret nm nL tb d mc ms) (hI : MI am) (hd : decode cc pc = .ok (.getfield 96, 3)) (kk : wp w g Q (pc + 3) ls (.int (nI (fi 1)) :: st) (mput w am fi ar h0) k n) : wp w g Q pc ls (.ref (am 0) :: st) (mput w am fi ar h0) k n := r_get C in_X2 (ci := 1) 1 rfl (by decide) q1461 (fun _ q => q) (mput_at hI (by decide)) rfl hd kk
theorem r_mp1 (C : Cx w g cc RX2 ret nm nL tb d mc ms) (hI : MI am) {x : Int32} {v : Nat} (hv : x = nI v) (hd : decode cc pc = .ok (.putfield 96, 3)) (kk : wp w g Q (pc + 3) ls st (mput w am (fset fi 1 v) ar h0) k n) : wp w g Q pc ls (.int x :: .ref (am 0) :: st) (mput w am fi ar h0) k n := r_put C in_X2 (ci := 1) tyX2_ok nmX2 1 rfl (by decide) q1461 (fun _ q => q) rfl (mput_at hI (by decide)) (Nat.le_of_ble_eq_true rfl) rfl rfl hd (by subst hv; exact (mput_fld hI (w := w) (ar := ar) (h0 := h0) (fi := fi) (fi' := fset fi 1 v) rfl) ▸ kk)
theorem r_mg2 (C : Cx w g cc RX2 ret nm nL tb d mc ms) (hI : MI am) (hd : decode cc pc = .ok (.getfield 7, 3)) (kk : wp w g Q (pc + 3) ls (.ref (am 1) :: st) (mput w am fi ar h0) k n) : wp w g Q pc ls (.ref (am 0) :: st) (mput w am fi ar h0) k n := r_get C in_X2 (ci := 1) 2 rfl (by decide) q1462 (fun _ q => q) (mput_at hI (by decide)) rfl hd kk
theorem r_mg3 (C : Cx w g cc RX2 ret nm nL tb d mc ms) (hI : MI am) (hd : decode cc pc = .ok (.getfield 103, 3)) (kk : wp w g Q (pc + 3) ls (.int (nI (fi 3)) :: st) (mput w am fi ar h0) k n) : wp w g Q pc ls (.ref (am 0) :: st) (mput w am fi ar h0) k n := r_get C in_X2 (ci := 1) 3 rfl (by decide) q1463 (fun _ q => q) (mput_at hI (by decide)) rfl hd kk
theorem r_mp3 (C : Cx w g cc RX2 ret nm nL tb d mc ms) (hI : MI am) {x : Int32} {v : Nat} (hv : x = nI v) (hd : decode cc pc = .ok (.putfield 103, 3)) (kk : wp w g Q (pc + 3) ls st (mput w am (fset fi 3 v) ar h0) k n) : wp w g Q pc ls (.int x :: .ref (am 0) :: st) (mput w am fi ar h0) k n := r_put C in_X2 (ci := 1) tyX2_ok nmX2 3 rfl (by decide) q1463 (fun _ q => q) rfl (mput_at hI (by decide)) (Nat.le_of_ble_eq_true rfl) rfl rfl hd (by subst hv; exact (mput_fld hI (w := w) (ar := ar) (h0 := h0) (fi := fi) (fi' := fset fi 3 v) rfl) ▸ kk)
theorem r_mg4 (C : Cx w g cc RX2 ret nm nL tb d mc ms) (hI : MI am) (hd : decode cc pc = .ok (.getfield 13, 3)) (kk : wp w g Q (pc + 3) ls (.ref (am 2) :: st) (mput w am fi ar h0) k n) : wp w g Q pc ls (.ref (am 0) :: st) (mput w am fi ar h0) k n := r_get C in_X2 (ci := 1) 4 rfl (by decide) q1464 (fun _ q => q) (mput_at hI (by decide)) rfl hd kk
theorem r_mg5 (C : Cx w g cc RX2 ret nm nL tb d mc ms) (hI : MI am) (hd : decode cc pc = .ok (.getfield 17, 3)) (kk : wp w g Q (pc + 3) ls (.ref (am 3) :: st) (mput w am fi ar h0) k n) : wp w g Q pc ls (.ref (am 0) :: st) (mput w am fi ar h0) k n := r_get C in_X2 (ci := 1) 5 rfl (by decide) q1465 (fun _ q => q) (mput_at hI (by decide)) rfl hd kk
theorem r_mg6 (C : Cx w g cc RX2 ret nm nL tb d mc ms) (hI : MI am) (hd : decode cc pc = .ok (.getfield 20, 3)) (kk : wp w g Q (pc + 3) ls (.ref (am 4) :: st) (mput w am fi ar h0) k n) : wp w g Q pc ls (.ref (am 0) :: st) (mput w am fi ar h0) k n := r_get C in_X2 (ci := 1) 6 rfl (by decide) q1466 (fun _ q => q) (mput_at hI (by decide)) rfl hd kk
theorem r_mg7 (C : Cx w g cc RX2 ret nm nL tb d mc ms) (hI : MI am) (hd : decode cc pc = .ok (.getfield 23, 3)) (kk : wp w g Q (pc + 3) ls (.ref (am 5) :: st) (mput w am fi ar h0) k n) : wp w g Q pc ls (.ref (am 0) :: st) (mput w am fi ar h0) k n := r_get C in_X2 (ci := 1) 7 rfl (by decide) q1467 (fun _ q => q) (mput_at hI (by decide)) rfl hd kk
theorem r_mg8 (C : Cx w g cc RX2 ret nm nL tb d mc ms) (hI : MI am) (hd : decode cc pc = .ok (.getfield 26, 3)) (kk : wp w g Q (pc + 3) ls (.ref (am 6) :: st) (mput w am fi ar h0) k n) : wp w g Q pc ls (.ref (am 0) :: st) (mput w am fi ar h0) k n := r_get C in_X2 (ci := 1) 8 rfl (by decide) q1468 (fun _ q => q) (mput_at hI (by decide)) rfl hd kk
theorem r_mg9 (C : Cx w g cc RX2 ret nm nL tb d mc ms) (hI : MI am) (hd : decode cc pc = .ok (.getfield 29, 3)) (kk : wp w g Q (pc + 3) ls (.ref (am 7) :: st) (mput w am fi ar h0) k n) : wp w g Q pc ls (.ref (am 0) :: st) (mput w am fi ar h0) k n := r_get C in_X2 (ci := 1) 9 rfl (by decide) q1469 (fun _ q => q) (mput_at hI (by decide)) rfl hd kk
theorem r_mg10 (C : Cx w g cc RX2 ret nm nL tb d mc ms) (hI : MI am) (hd : decode cc pc = .ok (.getfield 32, 3)) (kk : wp w g Q (pc + 3) ls (.ref (am 8) :: st) (mput w am fi ar h0) k n) : wp w g Q pc ls (.ref (am 0) :: st) (mput w am fi ar h0) k n := r_get C in_X2 (ci := 1) 10 rfl (by decide) q1470 (fun _ q => q) (mput_at hI (by decide)) rfl hd kk
theorem r_mg11 (C : Cx w g cc RX2 ret nm nL tb d mc ms) (hI : MI am) (hd : decode cc pc = .ok (.getfield 35, 3)) (kk : wp w g Q (pc + 3) ls (.ref (am 9) :: st) (mput w am fi ar h0) k n) : wp w g Q pc ls (.ref (am 0) :: st) (mput w am fi ar h0) k n := r_get C in_X2 (ci := 1) 11 rfl (by decide) q1471 (fun _ q => q) (mput_at hI (by decide)) rfl hd kk
theorem r_mg12 (C : Cx w g cc RX2 ret nm nL tb d mc ms) (hI : MI am) (hd : decode cc pc = .ok (.getfield 114, 3)) (kk : wp w g Q (pc + 3) ls (.int (nI (fi 12)) :: st) (mput w am fi ar h0) k n) : wp w g Q pc ls (.ref (am 0) :: st) (mput w am fi ar h0) k n := r_get C in_X2 (ci := 1) 12 rfl (by decide) q1472 (fun _ q => q) (mput_at hI (by decide)) rfl hd kk
theorem r_mp12 (C : Cx w g cc RX2 ret nm nL tb d mc ms) (hI : MI am) {x : Int32} {v : Nat} (hv : x = nI v) (hd : decode cc pc = .ok (.putfield 114, 3)) (kk : wp w g Q (pc + 3) ls st (mput w am (fset fi 12 v) ar h0) k n) : wp w g Q pc ls (.int x :: .ref (am 0) :: st) (mput w am fi ar h0) k n := r_put C in_X2 (ci := 1) tyX2_ok nmX2 12 rfl (by decide) q1472 (fun _ q => q) rfl (mput_at hI (by decide)) (Nat.le_of_ble_eq_true rfl) rfl rfl hd (by subst hv; exact (mput_fld hI (w := w) (ar := ar) (h0 := h0) (fi := fi) (fi' := fset fi 12 v) rfl) ▸ kk)
theorem r_mg13 (C : Cx w g cc RX2 ret nm nL tb d mc ms) (hI : MI am) (hd : decode cc pc = .ok (.getfield 38, 3)) (kk : wp w g Q (pc + 3) ls (.ref (am 10) :: st) (mput w am fi ar h0) k n) : wp w g Q pc ls (.ref (am 0) :: st) (mput w am fi ar h0) k n := r_get C in_X2 (ci := 1) 13 rfl (by decide) q1473 (fun _ q => q) (mput_at hI (by decide)) rfl hd kk
theorem r_mg14 (C : Cx w g cc RX2 ret nm nL tb d mc ms) (hI : MI am) (hd : decode cc pc = .ok (.getfield 41, 3)) (kk : wp w g Q (pc + 3) ls (.ref (am 11) :: st) (mput w am fi ar h0) k n) : wp w g Q pc ls (.ref (am 0) :: st) (mput w am fi ar h0) k n := r_get C in_X2 (ci := 1) 14 rfl (by decide) q1474 (fun _ q => q) (mput_at hI (by decide)) rfl hd kk
theorem r_mg15 (C : Cx w g cc RX2 ret nm nL tb d mc ms) (hI : MI am) (hd : decode cc pc = .ok (.getfield 44, 3)) (kk : wp w g Q (pc + 3) ls (.ref (am 12) :: st) (mput w am fi ar h0) k n) : wp w g Q pc ls (.ref (am 0) :: st) (mput w am fi ar h0) k n := r_get C in_X2 (ci := 1) 15 rfl (by decide) q1475 (fun _ q => q) (mput_at hI (by decide)) rfl hd kk
theorem r_mg16 (C : Cx w g cc RX2 ret nm nL tb d mc ms) (hI : MI am) (hd : decode cc pc = .ok (.getfield 121, 3)) (kk : wp w g Q (pc + 3) ls (.int (nI (fi 16)) :: st) (mput w am fi ar h0) k n) : wp w g Q pc ls (.ref (am 0) :: st) (mput w am fi ar h0) k n := r_get C in_X2 (ci := 1) 16 rfl (by decide) q1476 (fun _ q => q) (mput_at hI (by decide)) rfl hd kk
theorem r_mp16 (C : Cx w g cc RX2 ret nm nL tb d mc ms) (hI : MI am) {x : Int32} {v : Nat} (hv : x = nI v) (hd : decode cc pc = .ok (.putfield 121, 3)) (kk : wp w g Q (pc + 3) ls st (mput w am (fset fi 16 v) ar h0) k n) : wp w g Q pc ls (.int x :: .ref (am 0) :: st) (mput w am fi ar h0) k n := r_put C in_X2 (ci := 1) tyX2_ok nmX2 16 rfl (by decide) q1476 (fun _ q => q) rfl (mput_at hI (by decide)) (Nat.le_of_ble_eq_true rfl) rfl rfl hd (by subst hv; exact (mput_fld hI (w := w) (ar := ar) (h0 := h0) (fi := fi) (fi' := fset fi 16 v) rfl) ▸ kk)
theorem r_mg17 (C : Cx w g cc RX2 ret nm nL tb d mc ms) (hI : MI am) (hd : decode cc pc = .ok (.getfield 47, 3)) (kk : wp w g Q (pc + 3) ls (.ref (am 13) :: st) (mput w am fi ar h0) k n) : wp w g Q pc ls (.ref (am 0) :: st) (mput w am fi ar h0) k n := r_get C in_X2 (ci := 1) 17 rfl (by decide) q1477 (fun _ q => q) (mput_at hI (by decide)) rfl hd kk
theorem r_mg18 (C : Cx w g cc RX2 ret nm nL tb d mc ms) (hI : MI am) (hd : decode cc pc = .ok (.getfield 168, 3)) (kk : wp w g Q (pc + 3) ls (.int (nI (fi 18)) :: st) (mput w am fi ar h0) k n) : wp w g Q pc ls (.ref (am 0) :: st) (mput w am fi ar h0) k n := r_get C in_X2 (ci := 1) 18 rfl (by decide) q1478 (fun _ q => q) (mput_at hI (by decide)) rfl hd kk
theorem r_mp18 (C : Cx w g cc RX2 ret nm nL tb d mc ms) (hI : MI am) {x : Int32} {v : Nat} (hv : x = nI v) (hd : decode cc pc = .ok (.putfield 168, 3)) (kk : wp w g Q (pc + 3) ls st (mput w am (fset fi 18 v) ar h0) k n) : wp w g Q pc ls (.int x :: .ref (am 0) :: st) (mput w am fi ar h0) k n := r_put C in_X2 (ci := 1) tyX2_ok nmX2 18 rfl (by decide) q1478 (fun _ q => q) rfl (mput_at hI (by decide)) (Nat.le_of_ble_eq_true rfl) rfl rfl hd (by subst hv; exact (mput_fld hI (w := w) (ar := ar) (h0 := h0) (fi := fi) (fi' := fset fi 18 v) rfl) ▸ kk)
theorem r_mg19 (C : Cx w g cc RX2 ret nm nL tb d mc ms) (hI : MI am) (hd : decode cc pc = .ok (.getfield 51, 3)) (kk : wp w g Q (pc + 3) ls (.ref (am 14) :: st) (mput w am fi ar h0) k n) : wp w g Q pc ls (.ref (am 0) :: st) (mput w am fi ar h0) k n := r_get C in_X2 (ci := 1) 19 rfl (by decide) q1479 (fun _ q => q) (mput_at hI (by decide)) rfl hd kk
theorem r_mg20 (C : Cx w g cc RX2 ret nm nL tb d mc ms) (hI : MI am) (hd : decode cc pc = .ok (.getfield 54, 3)) (kk : wp w g Q (pc + 3) ls (.ref (am 15) :: st) (mput w am fi ar h0) k n) : wp w g Q pc ls (.ref (am 0) :: st) (mput w am fi ar h0) k n := r_get C in_X2 (ci := 1) 20 rfl (by decide) q1480 (fun _ q => q) (mput_at hI (by decide)) rfl hd kk
theorem r_mg21 (C : Cx w g cc RX2 ret nm nL tb d mc ms) (hI : MI am) (hd : decode cc pc = .ok (.getfield 177, 3)) (kk : wp w g Q (pc + 3) ls (.int (nI (fi 21)) :: st) (mput w am fi ar h0) k n) : wp w g Q pc ls (.ref (am 0) :: st) (mput w am fi ar h0) k n := r_get C in_X2 (ci := 1) 21 rfl (by decide) q1481 (fun _ q => q) (mput_at hI (by decide)) rfl hd kk
theorem r_mp21 (C : Cx w g cc RX2 ret nm nL tb d mc ms) (hI : MI am) {x : Int32} {v : Nat} (hv : x = nI v) (hd : decode cc pc = .ok (.putfield 177, 3)) (kk : wp w g Q (pc + 3) ls st (mput w am (fset fi 21 v) ar h0) k n) : wp w g Q pc ls (.int x :: .ref (am 0) :: st) (mput w am fi ar h0) k n := r_put C in_X2 (ci := 1) tyX2_ok nmX2 21 rfl (by decide) q1481 (fun _ q => q) rfl (mput_at hI (by decide)) (Nat.le_of_ble_eq_true rfl) rfl rfl hd (by subst hv; exact (mput_fld hI (w := w) (ar := ar) (h0 := h0) (fi := fi) (fi' := fset fi 21 v) rfl) ▸ kk)
theorem r_mg22 (C : Cx w g cc RX2 ret nm nL tb d mc ms) (hI : MI am) (hd : decode cc pc = .ok (.getfield 57, 3)) (kk : wp w g Q (pc + 3) ls (.ref (am 16) :: st) (mput w am fi ar h0) k n) : wp w g Q pc ls (.ref (am 0) :: st) (mput w am fi ar h0) k n := r_get C in_X2 (ci := 1) 22 rfl (by decide) q1482 (fun _ q => q) (mput_at hI (by decide)) rfl hd kk
theorem r_mg23 (C : Cx w g cc RX2 ret nm nL tb d mc ms) (hI : MI am) (hd : decode cc pc = .ok (.getfield 60, 3)) (kk : wp w g Q (pc + 3) ls (.ref (am 17) :: st) (mput w am fi ar h0) k n) : wp w g Q pc ls (.ref (am 0) :: st) (mput w am fi ar h0) k n := r_get C in_X2 (ci := 1) 23 rfl (by decide) q1483 (fun _ q => q) (mput_at hI (by decide)) rfl hd kk
theorem r_mg24 (C : Cx w g cc RX2 ret nm nL tb d mc ms) (hI : MI am) (hd : decode cc pc = .ok (.getfield 180, 3)) (kk : wp w g Q (pc + 3) ls (.int (nI (fi 24)) :: st) (mput w am fi ar h0) k n) : wp w g Q pc ls (.ref (am 0) :: st) (mput w am fi ar h0) k n := r_get C in_X2 (ci := 1) 24 rfl (by decide) q1484 (fun _ q => q) (mput_at hI (by decide)) rfl hd kk
theorem r_mp24 (C : Cx w g cc RX2 ret nm nL tb d mc ms) (hI : MI am) {x : Int32} {v : Nat} (hv : x = nI v) (hd : decode cc pc = .ok (.putfield 180, 3)) (kk : wp w g Q (pc + 3) ls st (mput w am (fset fi 24 v) ar h0) k n) : wp w g Q pc ls (.int x :: .ref (am 0) :: st) (mput w am fi ar h0) k n := r_put C in_X2 (ci := 1) tyX2_ok nmX2 24 rfl (by decide) q1484 (fun _ q => q) rfl (mput_at hI (by decide)) (Nat.le_of_ble_eq_true rfl) rfl rfl hd (by subst hv; exact (mput_fld hI (w := w) (ar := ar) (h0 := h0) (fi := fi) (fi' := fset fi 24 v) rfl) ▸ kk)
theorem r_mg25 (C : Cx w g cc RX2 ret nm nL tb d mc ms) (hI : MI am) (hd : decode cc pc = .ok (.getfield 63, 3)) (kk : wp w g Q (pc + 3) ls (.ref (am 18) :: st) (mput w am fi ar h0) k n) : wp w g Q pc ls (.ref (am 0) :: st) (mput w am fi ar h0) k n := r_get C in_X2 (ci := 1) 25 rfl (by decide) q1485 (fun _ q => q) (mput_at hI (by decide)) rfl hd kk
theorem r_mg26 (C : Cx w g cc RX2 ret nm nL tb d mc ms) (hI : MI am) (hd : decode cc pc = .ok (.getfield 66, 3)) (kk : wp w g Q (pc + 3) ls (.ref (am 19) :: st) (mput w am fi ar h0) k n) : wp w g Q pc ls (.ref (am 0) :: st) (mput w am fi ar h0) k n := r_get C in_X2 (ci := 1) 26 rfl (by decide) q1486 (fun _ q => q) (mput_at hI (by decide)) rfl hd kk
theorem r_mg27 (C : Cx w g cc RX2 ret nm nL tb d mc ms) (hI : MI am) (hd : decode cc pc = .ok (.getfield 204, 3)) (kk : wp w g Q (pc + 3) ls (.int (nI (fi 27)) :: st) (mput w am fi ar h0) k n) : wp w g Q pc ls (.ref (am 0) :: st) (mput w am fi ar h0) k n := r_get C in_X2 (ci := 1) 27 rfl (by decide) q1487 (fun _ q => q) (mput_at hI (by decide)) rfl hd kk
theorem r_mp27 (C : Cx w g cc RX2 ret nm nL tb d mc ms) (hI : MI am) {x : Int32} {v : Nat} (hv : x = nI v) (hd : decode cc pc = .ok (.putfield 204, 3)) (kk : wp w g Q (pc + 3) ls st (mput w am (fset fi 27 v) ar h0) k n) : wp w g Q pc ls (.int x :: .ref (am 0) :: st) (mput w am fi ar h0) k n := r_put C in_X2 (ci := 1) tyX2_ok nmX2 27 rfl (by decide) q1487 (fun _ q => q) rfl (mput_at hI (by decide)) (Nat.le_of_ble_eq_true rfl) rfl rfl hd (by subst hv; exact (mput_fld hI (w := w) (ar := ar) (h0 := h0) (fi := fi) (fi' := fset fi 27 v) rfl) ▸ kk)
theorem r_mg28 (C : Cx w g cc RX2 ret nm nL tb d mc ms) (hI : MI am) (hd : decode cc pc = .ok (.getfield 69, 3)) (kk : wp w g Q (pc + 3) ls (.ref (am 20) :: st) (mput w am fi ar h0) k n) : wp w g Q pc ls (.ref (am 0) :: st) (mput w am fi ar h0) k n := r_get C in_X2 (ci := 1) 28 rfl (by decide) q1488 (fun _ q => q) (mput_at hI (by decide)) rfl hd kk
theorem r_mg29 (C : Cx w g cc RX2 ret nm nL tb d mc ms) (hI : MI am) (hd : decode cc pc = .ok (.getfield 72, 3)) (kk : wp w g Q (pc + 3) ls (.ref (am 21) :: st) (mput w am fi ar h0) k n) : wp w g Q pc ls (.ref (am 0) :: st) (mput w am fi ar h0) k n := r_get C in_X2 (ci := 1) 29 rfl (by decide) q1489 (fun _ q => q) (mput_at hI (by decide)) rfl hd kk
theorem r_mg30 (C : Cx w g cc RX2 ret nm nL tb d mc ms) (hI : MI am) (hd : decode cc pc = .ok (.getfield 75, 3)) (kk : wp w g Q (pc + 3) ls (.ref (am 22) :: st) (mput w am fi ar h0) k n) : wp w g Q pc ls (.ref (am 0) :: st) (mput w am fi ar h0) k n := r_get C in_X2 (ci := 1) 30 rfl (by decide) q1490 (fun _ q => q) (mput_at hI (by decide)) rfl hd kk
theorem r_mg31 (C : Cx w g cc RX2 ret nm nL tb d mc ms) (hI : MI am) (hd : decode cc pc = .ok (.getfield 78, 3)) (kk : wp w g Q (pc + 3) ls (.ref (am 23) :: st) (mput w am fi ar h0) k n) : wp w g Q pc ls (.ref (am 0) :: st) (mput w am fi ar h0) k n := r_get C in_X2 (ci := 1) 31 rfl (by decide) q1491 (fun _ q => q) (mput_at hI (by decide)) rfl hd kk
theorem r_miald (C : Cx w g cc RX2 ret nm nL tb d mc ms) (hI : MI am) {j : Nat} {i : Int32} (hj : 0 < j ∧ j < 24) (ht : mty j = 0) (hi : vp_in i (mlen j)) (hd : decode cc pc = .ok (.iaload, 1)) (kk : wp w g Q (pc + 1) ls (.int (ar j i.toNatClampNeg) :: st) (mput w am fi ar h0) k n) : wp w g Q pc ls (.int i :: .ref (am j) :: st) (mput w am fi ar h0) k n := r_iald C (by rw [mput_at hI hj.2]; unfold mce mA; rw [if_neg (by omega), ht]) hi hd kk
theorem r_mcald (C : Cx w g cc RX2 ret nm nL tb d mc ms) (hI : MI am) {j : Nat} {i : Int32} (hj : 0 < j ∧ j < 24) (ht : mty j = 2) (hi : vp_in i (mlen j)) (hd : decode cc pc = .ok (.caload, 1)) (kk : wp w g Q (pc + 1) ls (.int (ar j i.toNatClampNeg) :: st) (mput w am fi ar h0) k n) : wp w g Q pc ls (.int i :: .ref (am j) :: st) (mput w am fi ar h0) k n := r_cald C (by rw [mput_at hI hj.2]; unfold mce mA; rw [if_neg (by omega), ht]) hi hd kk
theorem r_mzald (C : Cx w g cc RX2 ret nm nL tb d mc ms) (hI : MI am) {j : Nat} {i : Int32} (hj : 0 < j ∧ j < 24) (ht : mty j = 3) (hi : vp_in i (mlen j)) (hd : decode cc pc = .ok (.baload, 1)) (kk : wp w g Q (pc + 1) ls (.int (ar j i.toNatClampNeg) :: st) (mput w am fi ar h0) k n) : wp w g Q pc ls (.int i :: .ref (am j) :: st) (mput w am fi ar h0) k n := r_zald C (by rw [mput_at hI hj.2]; unfold mce mA; rw [if_neg (by omega), ht]) hi hd kk
theorem r_miast (C : Cx w g cc RX2 ret nm nL tb d mc ms) (hI : MI am) {j : Nat} {i x : Int32} (hj : 0 < j ∧ j < 24) (ht : mty j = 0) (hi : vp_in i (mlen j)) (hd : decode cc pc = .ok (.iastore, 1)) (kk : wp w g Q (pc + 1) ls st (mput w am fi (aset ar j (upd (ar j) i.toNatClampNeg x)) h0) k n) : wp w g Q pc ls (.int x :: .int i :: .ref (am j) :: st) (mput w am fi ar h0) k n := by
  refine r_iast C (f := ar j) (z := mlen j) (by rw [mput_at hI hj.2]; unfold mce mA; rw [if_neg (by omega), ht]) hi hd ?_
  have e := mput_arr (w := w) (fi := fi) (ar := ar) (h0 := h0) hI hj.2 hj.1 (upd (ar j) i.toNatClampNeg x)
  unfold mA at e
  rw [ht] at e
  rw [e]
  exact kk
theorem r_mcast (C : Cx w g cc RX2 ret nm nL tb d mc ms) (hI : MI am) {j : Nat} {i x : Int32} (hj : 0 < j ∧ j < 24) (ht : mty j = 2) (hi : vp_in i (mlen j)) (hd : decode cc pc = .ok (.castore, 1)) (kk : wp w g Q (pc + 1) ls st (mput w am fi (aset ar j (upd (ar j) i.toNatClampNeg (vp_nar .char x))) h0) k n) : wp w g Q pc ls (.int x :: .int i :: .ref (am j) :: st) (mput w am fi ar h0) k n := by
  refine r_cast C (f := ar j) (z := mlen j) (by rw [mput_at hI hj.2]; unfold mce mA; rw [if_neg (by omega), ht]) hi hd ?_
  have e := mput_arr (w := w) (fi := fi) (ar := ar) (h0 := h0) hI hj.2 hj.1 (upd (ar j) i.toNatClampNeg (vp_nar .char x))
  unfold mA at e
  rw [ht] at e
  rw [e]
  exact kk
theorem r_mzast (C : Cx w g cc RX2 ret nm nL tb d mc ms) (hI : MI am) {j : Nat} {i x : Int32} (hj : 0 < j ∧ j < 24) (ht : mty j = 3) (hi : vp_in i (mlen j)) (hd : decode cc pc = .ok (.bastore, 1)) (kk : wp w g Q (pc + 1) ls st (mput w am fi (aset ar j (upd (ar j) i.toNatClampNeg (vp_nar .boolean x))) h0) k n) : wp w g Q pc ls (.int x :: .int i :: .ref (am j) :: st) (mput w am fi ar h0) k n := by
  refine r_zast C (f := ar j) (z := mlen j) (by rw [mput_at hI hj.2]; unfold mce mA; rw [if_neg (by omega), ht]) hi hd ?_
  have e := mput_arr (w := w) (fi := fi) (ar := ar) (h0 := h0) hI hj.2 hj.1 (upd (ar j) i.toNatClampNeg (vp_nar .boolean x))
  unfold mA at e
  rw [ht] at e
  rw [e]
  exact kk
theorem r_mniald (C : Cx w g cc RX2 ret nm nL tb d mc ms) (hI : MI am) {i N j : Nat} (hj : 0 < j ∧ j < 24) (ht : mty j = 0) (hN : mlen j = N) (hi : i < N) (hN31 : N < 2 ^ 31) (hd : decode cc pc = .ok (.iaload, 1)) (kk : wp w g Q (pc + 1) ls (.int (ar j i) :: st) (mput w am fi ar h0) k n) : wp w g Q pc ls (.int (nI i) :: .ref (am j) :: st) (mput w am fi ar h0) k n := r_miald C hI hj ht (by rw [hN]; exact vp_in_nI hi hN31) hd (by rw [nI_clamp (by omega)]; exact kk)
theorem r_mncald (C : Cx w g cc RX2 ret nm nL tb d mc ms) (hI : MI am) {i N j : Nat} (hj : 0 < j ∧ j < 24) (ht : mty j = 2) (hN : mlen j = N) (hi : i < N) (hN31 : N < 2 ^ 31) (hd : decode cc pc = .ok (.caload, 1)) (kk : wp w g Q (pc + 1) ls (.int (ar j i) :: st) (mput w am fi ar h0) k n) : wp w g Q pc ls (.int (nI i) :: .ref (am j) :: st) (mput w am fi ar h0) k n := r_mcald C hI hj ht (by rw [hN]; exact vp_in_nI hi hN31) hd (by rw [nI_clamp (by omega)]; exact kk)
theorem r_mnzald (C : Cx w g cc RX2 ret nm nL tb d mc ms) (hI : MI am) {i N j : Nat} (hj : 0 < j ∧ j < 24) (ht : mty j = 3) (hN : mlen j = N) (hi : i < N) (hN31 : N < 2 ^ 31) (hd : decode cc pc = .ok (.baload, 1)) (kk : wp w g Q (pc + 1) ls (.int (ar j i) :: st) (mput w am fi ar h0) k n) : wp w g Q pc ls (.int (nI i) :: .ref (am j) :: st) (mput w am fi ar h0) k n := r_mzald C hI hj ht (by rw [hN]; exact vp_in_nI hi hN31) hd (by rw [nI_clamp (by omega)]; exact kk)
theorem r_mniast (C : Cx w g cc RX2 ret nm nL tb d mc ms) (hI : MI am) {i N j : Nat} {x : Int32} (hj : 0 < j ∧ j < 24) (ht : mty j = 0) (hN : mlen j = N) (hi : i < N) (hN31 : N < 2 ^ 31) (hd : decode cc pc = .ok (.iastore, 1)) (kk : wp w g Q (pc + 1) ls st (mput w am fi (aset ar j (upd (ar j) i x)) h0) k n) : wp w g Q pc ls (.int x :: .int (nI i) :: .ref (am j) :: st) (mput w am fi ar h0) k n := r_miast C hI hj ht (by rw [hN]; exact vp_in_nI hi hN31) hd (by rw [nI_clamp (by omega)]; exact kk)
theorem r_mncast (C : Cx w g cc RX2 ret nm nL tb d mc ms) (hI : MI am) {i N j : Nat} {x : Int32} (hj : 0 < j ∧ j < 24) (ht : mty j = 2) (hN : mlen j = N) (hi : i < N) (hN31 : N < 2 ^ 31) (hd : decode cc pc = .ok (.castore, 1)) (kk : wp w g Q (pc + 1) ls st (mput w am fi (aset ar j (upd (ar j) i (vp_nar .char x))) h0) k n) : wp w g Q pc ls (.int x :: .int (nI i) :: .ref (am j) :: st) (mput w am fi ar h0) k n := r_mcast C hI hj ht (by rw [hN]; exact vp_in_nI hi hN31) hd (by rw [nI_clamp (by omega)]; exact kk)
theorem r_mnzast (C : Cx w g cc RX2 ret nm nL tb d mc ms) (hI : MI am) {i N j : Nat} {x : Int32} (hj : 0 < j ∧ j < 24) (ht : mty j = 3) (hN : mlen j = N) (hi : i < N) (hN31 : N < 2 ^ 31) (hd : decode cc pc = .ok (.bastore, 1)) (kk : wp w g Q (pc + 1) ls st (mput w am fi (aset ar j (upd (ar j) i (vp_nar .boolean x))) h0) k n) : wp w g Q pc ls (.int x :: .int (nI i) :: .ref (am j) :: st) (mput w am fi ar h0) k n := r_mzast C hI hj ht (by rw [hN]; exact vp_in_nI hi hN31) hd (by rw [nI_clamp (by omega)]; exact kk)
end RowsM
