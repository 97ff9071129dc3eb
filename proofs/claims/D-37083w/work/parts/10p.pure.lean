/-! 10p: bits (pasted: kit/laws/BITS), then own pure laws -/
/-! ===== Int32 by its bits: bt x i ===== -/
def bt (x : Int32) (i : Nat) : Bool := x.toBitVec.getLsbD i
theorem b_ext {x y : Int32} (h : ∀ i, i < 32 → bt x i = bt y i) : x = y := Int32.toBitVec_inj.mp (BitVec.eq_of_getLsbD_eq (fun i hi => h i hi))
theorem b_or (x y : Int32) (i : Nat) : bt (x ||| y) i = (bt x i || bt y i) := by unfold bt; rw [Int32.toBitVec_or, BitVec.getLsbD_or]
theorem b_and (x y : Int32) (i : Nat) : bt (x &&& y) i = (bt x i && bt y i) := by unfold bt; rw [Int32.toBitVec_and, BitVec.getLsbD_and]
theorem b_xor (x y : Int32) (i : Nat) : bt (x ^^^ y) i = (bt x i ^^ bt y i) := by unfold bt; rw [Int32.toBitVec_xor, BitVec.getLsbD_xor]
theorem b_big {x : Int32} {i : Nat} (h : 32 ≤ i) : bt x i = false := BitVec.getLsbD_of_ge _ _ h
theorem b_255 (i : Nat) : bt 255 i = decide (i < 8) := by
  rcases Nat.lt_or_ge i 32 with h | h
  · exact (by decide +kernel : ∀ i, i < 32 → bt 255 i = decide (i < 8)) i h
  · rw [b_big h, decide_eq_false (by omega)]
theorem b_65535 (i : Nat) : bt 65535 i = decide (i < 16) := by
  rcases Nat.lt_or_ge i 32 with h | h
  · exact (by decide +kernel : ∀ i, i < 32 → bt 65535 i = decide (i < 16)) i h
  · rw [b_big h, decide_eq_false (by omega)]
theorem b_m1 : ∀ i, i < 32 → bt (-1) i = true := by decide +kernel
theorem b_0 (i : Nat) : bt 0 i = false := BitVec.getLsbD_zero
theorem s_l : ∀ n, n < 32 → ((nI n &&& 31).toBitVec.smod 32).toNat = n := by decide +kernel
theorem s_u : ∀ n, n < 32 → (((nI n).toUInt32 &&& Int32.toUInt32 31).toBitVec % 32).toNat = n := by decide +kernel
theorem b_shl (n : Nat) (hn : n < 32) (x : Int32) {i : Nat} (hi : i < 32) : bt (x <<< (nI n &&& 31)) i = (decide (n ≤ i) && bt x (i - n)) := by
  unfold bt
  rw [Int32.toBitVec_shiftLeft]
  show (x.toBitVec <<< ((nI n &&& 31).toBitVec.smod 32).toNat).getLsbD i = _
  rw [s_l n hn, BitVec.getLsbD_shiftLeft]
  rcases Nat.lt_or_ge i n with h | h
  · simp [h, Nat.not_le.mpr h]
  · simp [hi, h, Nat.not_lt.mpr h]
theorem b_ushr (n : Nat) (hn : n < 32) (x : Int32) (i : Nat) : bt ((x.toUInt32 >>> ((nI n).toUInt32 &&& Int32.toUInt32 31)).toInt32) i = bt x (n + i) := by
  show (x.toUInt32 >>> ((nI n).toUInt32 &&& Int32.toUInt32 31)).toBitVec.getLsbD i = x.toUInt32.toBitVec.getLsbD (n + i)
  rw [UInt32.toBitVec_shiftRight]
  show (x.toUInt32.toBitVec >>> (((nI n).toUInt32 &&& Int32.toUInt32 31).toBitVec % 32).toNat).getLsbD i = _
  rw [s_u n hn, BitVec.getLsbD_ushiftRight]
theorem b_sshr (n : Nat) (hn : n < 32) (x : Int32) {i : Nat} (hi : i < 32) : bt (x >>> (nI n &&& 31)) i = if n + i < 32 then bt x (n + i) else bt x 31 := by
  unfold bt
  rw [Int32.toBitVec_shiftRight]
  show (x.toBitVec.sshiftRight ((nI n &&& 31).toBitVec.smod 32).toNat).getLsbD i = _
  rw [s_l n hn, BitVec.getLsbD_sshiftRight, BitVec.msb_eq_getLsbD_last]
  simp [hi]
theorem b_shl8 (x : Int32) {i : Nat} (hi : i < 32) : bt (x <<< ((8 : Int32) &&& 31)) i = (decide (8 ≤ i) && bt x (i - 8)) := b_shl 8 (by omega) x hi
theorem b_shl16 (x : Int32) {i : Nat} (hi : i < 32) : bt (x <<< ((16 : Int32) &&& 31)) i = (decide (16 ≤ i) && bt x (i - 16)) := b_shl 16 (by omega) x hi
theorem b_shl24 (x : Int32) {i : Nat} (hi : i < 32) : bt (x <<< ((24 : Int32) &&& 31)) i = (decide (24 ≤ i) && bt x (i - 24)) := b_shl 24 (by omega) x hi
theorem b_sshr8 (x : Int32) {i : Nat} (hi : i < 32) : bt (x >>> ((8 : Int32) &&& 31)) i = if 8 + i < 32 then bt x (8 + i) else bt x 31 := b_sshr 8 (by omega) x hi
/-! ===== own ===== -/
def inB (x a b : Int32) : Bool := decide (a ≤ x) && decide (x ≤ b)
theorem bI_0 {b : Bool} : bI b = 0 ↔ b = false := by cases b <;> decide
theorem bI_1 {b : Bool} : bI b = 1 ↔ b = true := by cases b <;> decide
theorem bI_t : bI true = 1 := rfl
theorem bI_f : bI false = 0 := rfl
theorem nar_bI (b : Bool) : narrow .boolean (.int (bI b)) = .int (bI b) := by cases b <;> rfl
theorem bI_dec (P : Prop) [Decidable P] : (if P then (1 : Int32) else 0) = bI (decide P) := by by_cases h : P <;> simp [h, bI]
theorem bI_ne {b : Bool} : (¬ bI b = 0) ↔ b = true := by cases b <;> decide
theorem add_m1 (x : Int32) : x + Int32.ofInt (-1) = x - 1 := by rw [Int32.sub_eq_add_neg]; rfl
def varOf (c : Int32) : Int32 := if inB c 120 122 then c - 120 else -1
def lesserF (v b : Int32) : Int32 := if b + 1 ≤ (if 1 ≤ v then v else 1) then b + 1 else (if 1 ≤ v then v else 1)
def powerF (x : Int32) : Int32 := if x = 0 then 1 else if x = 1 then 5 else 25
def remF (a b : Int32) : Int32 := a - a / b * b
def numAt (a x : Int32) : Int32 := remF (a / powerF x) 5
theorem powerF_ne (x : Int32) : ¬ powerF x = 0 := by unfold powerF; split <;> (try split) <;> decide
def bitAt (s i : Int32) : Int32 := (s >>> (i &&& 31)) &&& 1
def adB (set from' to : Int32) : Bool := decide (from' &&& (set ^^^ (-1)) = 0) && decide ((set >>> (to &&& 31)) &&& 1 = 0)
def bitsF (s : Int32) : Int32 := l_sum (fun k => bitAt s (nI k)) 10
def solB (s i a : Int32) : Bool := decide (bitAt s (4 * i + a) = 1)
def divN (c o : Int32) : Nat → Int32
  | 0 => c
  | k + 1 => divN c o k / o
def o2i : Option Nat → Int32
  | none => -1
  | some k => nI k
theorem o2i_some {k : Nat} (hk : k < 2 ^ 31) : ¬ o2i (some k) = -1 := fun e => by
  have h1 := nI_toInt hk
  have e : nI k = -1 := e
  rw [e] at h1
  have : (-1 : Int32).toInt = -1 := by decide
  omega
/-- the first i from k on, m of them looked at, that P holds of -/
def lowF (P : Nat → Bool) : Nat → Nat → Option Nat
  | 0, _ => none
  | m + 1, k => if P k then some k else lowF P m (k + 1)
theorem lowF_some {P : Nat → Bool} : ∀ {m k r : Nat}, lowF P m k = some r → k ≤ r ∧ r < k + m ∧ P r = true
  | 0, k, r, h => by cases h
  | m + 1, k, r, h => by
    unfold lowF at h
    split at h
    · next hp => cases h; exact ⟨Nat.le_refl _, by omega, hp⟩
    · next hp =>
      obtain ⟨h1, h2, h3⟩ := lowF_some h
      exact ⟨by omega, by omega, h3⟩
theorem lowF_none {P : Nat → Bool} : ∀ {m k : Nat}, lowF P m k = none → ∀ r, k ≤ r → r < k + m → P r = false
  | 0, k, _, r, h1, h2 => by omega
  | m + 1, k, h, r, h1, h2 => by
    unfold lowF at h
    split at h
    · cases h
    · next hp =>
      by_cases e : r = k
      · subst e
        exact Bool.eq_false_iff.mpr hp
      · exact lowF_none h r (by omega) (by omega)
theorem bitAt_bt (x : Int32) {i : Nat} (hi : i < 32) : bitAt x (nI i) = bI (bt x i) := by
  apply b_ext
  intro j hj
  unfold bitAt
  rw [b_and, b_sshr i hi x hj]
  have h1 : ∀ j, j < 32 → bt 1 j = decide (j = 0) := by decide +kernel
  rw [h1 j hj]
  by_cases hj0 : j = 0
  · subst hj0
    rw [if_pos (by omega)]
    cases e : bt x i <;> simp [bI, e, b_0, h1 0 (by decide)]
  · have h2 : bt (bI (bt x i)) j = false := by
      cases bt x i
      · exact b_0 j
      · show bt 1 j = false
        rw [h1 j hj]
        simpa using hj0
    rw [h2]
    simp [hj0]
theorem bitAt_01 (x : Int32) {i : Nat} (hi : i < 32) : bitAt x (nI i) = 0 ∨ bitAt x (nI i) = 1 := by
  rw [bitAt_bt x hi]
  cases bt x i
  · exact Or.inl rfl
  · exact Or.inr rfl
theorem bt_bit {c i : Nat} (hc : c < 32) (hi : i < 32) : bt (1 <<< (nI c &&& 31)) i = decide (i = c) := by
  rw [b_shl c hc 1 hi]
  have h1 : ∀ j, j < 32 → bt 1 j = decide (j = 0) := by decide +kernel
  rw [h1 (i - c) (by omega)]
  by_cases h : i = c
  · subst h; simp
  · by_cases h2 : c ≤ i
    · have : ¬ i - c = 0 := by omega
      simp [h, h2, this]
    · simp [h, h2]
theorem bt_set (s : Int32) {c i : Nat} (hc : c < 32) (hi : i < 32) : bt (s ||| (1 <<< (nI c &&& 31))) i = (bt s i || decide (i = c)) := by
  rw [b_or, bt_bit hc hi]
/-- how many of the first ten bits are wanting -/
def muS (s : Int32) : Nat := (List.range 10).countP fun i => !bt s i
theorem muS_le (s : Int32) : muS s ≤ 10 := by
  have h := List.countP_le_length (p := fun i => !bt s i) (l := List.range 10)
  simpa [muS] using h
theorem countP_lt {α : Type} {p q : α → Bool} : ∀ {l : List α}, (∀ x ∈ l, p x = true → q x = true) → (∃ x ∈ l, q x = true ∧ p x = false) → l.countP p < l.countP q
  | [], _, h => by obtain ⟨x, hx, -⟩ := h; cases hx
  | a :: l, h1, h2 => by
    have hle : l.countP p ≤ l.countP q := List.countP_mono_left fun x hx => h1 x (List.mem_cons_of_mem _ hx)
    obtain ⟨x, hx, hq, hp⟩ := h2
    rcases List.mem_cons.mp hx with rfl | hx
    · rw [List.countP_cons_of_neg (by simp [hp]), List.countP_cons_of_pos hq]
      omega
    · have hlt := countP_lt (l := l) (fun x hx => h1 x (List.mem_cons_of_mem _ hx)) ⟨x, hx, hq, hp⟩
      by_cases ha : p a = true
      · rw [List.countP_cons_of_pos ha, List.countP_cons_of_pos (h1 a List.mem_cons_self ha)]
        omega
      · rw [List.countP_cons_of_neg ha]
        by_cases hb : q a = true
        · rw [List.countP_cons_of_pos hb]; omega
        · rw [List.countP_cons_of_neg hb]; exact hlt
theorem muS_set {s : Int32} {c : Nat} (hc : c < 10) (hb : bt s c = false) : muS (s ||| (1 <<< (nI c &&& 31))) < muS s := by
  unfold muS
  refine countP_lt (fun i hi h => ?_) ⟨c, List.mem_range.mpr hc, by simp [hb], ?_⟩
  · have hi := List.mem_range.mp hi
    rw [bt_set s (by omega) (by omega)] at h
    simp at h
    simp [h.1]
  · rw [bt_set s (by omega) (by omega)]
    simp
theorem adB_bt {s f : Int32} {c : Nat} (hc : c < 32) (h : adB s f (nI c) = true) : bt s c = false := by
  unfold adB at h
  rw [Bool.and_eq_true, decide_eq_true_eq, decide_eq_true_eq] at h
  have h2 : bitAt s (nI c) = 0 := h.2
  rw [bitAt_bt s hc] at h2
  exact bI_0.mp h2
/-! sets, rules, their closing -/
def isPrB (fi : Nat → Nat) (p : Int32) : Bool := inB p 0 (nI (fi 18) - 1)
def isPbB (fi : Nat → Nat) (p : Int32) : Bool := inB p 0 (nI (fi 27) - 1)
def isStB (fi : Nat → Nat) (s : Int32) : Bool := inB s 0 ((1 <<< (nI (fi 18) &&& 31)) - 1)
/-- which rule adds to a set -/
def rlP (ar : Nat → Nat → Int32) (s : Int32) : Nat → Bool := fun r => adB s (ar 16 r) (ar 17 r)
def nextR (fi : Nat → Nat) (ar : Nat → Nat → Int32) (s : Int32) : Option Nat := lowF (rlP ar s) (fi 21) 0
def stepS (ar : Nat → Nat → Int32) (s : Int32) (r : Nat) : Int32 := s ||| (1 <<< (ar 17 r &&& 31))
def cloN (fi : Nat → Nat) (ar : Nat → Nat → Int32) : Nat → Int32 → Int32
  | 0, s => s
  | m + 1, s => match nextR fi ar s with
    | none => s
    | some r => cloN fi ar m (stepS ar s r)
def cloF (fi : Nat → Nat) (ar : Nat → Nat → Int32) (s : Int32) : Int32 := cloN fi ar 10 s
/-- what holds of the court's numbers all through -/
def MOK (fi : Nat → Nat) (ar : Nat → Nat → Int32) : Prop := fi 1 ≤ 40 ∧ fi 18 ≤ 10 ∧ fi 21 ≤ 30 ∧ fi 24 ≤ 10 ∧ fi 27 ≤ 6 ∧ (∀ r, r < fi 21 → ∃ c, c < fi 18 ∧ ar 17 r = nI c) ∧
  (∀ p, p < fi 27 → ∃ i a : Nat, 1 ≤ i ∧ i ≤ 4 ∧ 1 ≤ a ∧ a ≤ 4 ∧ ar 20 p = nI i ∧ ar 21 p = nI a)
theorem nextR_ok {fi : Nat → Nat} {ar : Nat → Nat → Int32} (M : MOK fi ar) {s : Int32} {r : Nat} (h : nextR fi ar s = some r) : r < fi 21 ∧ r < 30 ∧ muS (stepS ar s r) < muS s := by
  obtain ⟨-, h2, h3, -, -, h6, -⟩ := M
  obtain ⟨-, h1, hp⟩ := lowF_some h
  have hr : r < fi 21 := by omega
  obtain ⟨c, hc, e⟩ := h6 r hr
  refine ⟨hr, by omega, ?_⟩
  unfold stepS
  unfold rlP at hp
  rw [e] at hp ⊢
  exact muS_set (by omega) (adB_bt (by omega) hp)
theorem cloN_0 {fi : Nat → Nat} {ar : Nat → Nat → Int32} (M : MOK fi ar) {s : Int32} (h : muS s = 0) : nextR fi ar s = none := by
  cases e : nextR fi ar s with
  | none => rfl
  | some r => have := (nextR_ok M e).2.2; omega
theorem cloN_st {fi : Nat → Nat} {ar : Nat → Nat → Int32} (M : MOK fi ar) : ∀ {m m' : Nat} {s : Int32}, muS s ≤ m → muS s ≤ m' → cloN fi ar m s = cloN fi ar m' s
  | 0, 0, s, _, _ => rfl
  | 0, m' + 1, s, h, _ => by
    unfold cloN
    rw [cloN_0 M (by omega)]
  | m + 1, 0, s, _, h => by
    unfold cloN
    rw [cloN_0 M (by omega)]
  | m + 1, m' + 1, s, h1, h2 => by
    unfold cloN
    cases e : nextR fi ar s with
    | none => rfl
    | some r =>
      have := (nextR_ok M e).2.2
      exact cloN_st M (by omega) (by omega)
theorem nextR_fi {fi fi' : Nat → Nat} {ar : Nat → Nat → Int32} (h : fi' 21 = fi 21) (s : Int32) : nextR fi' ar s = nextR fi ar s := by
  unfold nextR
  rw [h]
theorem cloN_fi {fi fi' : Nat → Nat} {ar : Nat → Nat → Int32} (h : fi' 21 = fi 21) : ∀ (m : Nat) (s : Int32), cloN fi' ar m s = cloN fi ar m s
  | 0, _ => rfl
  | m + 1, s => by
    unfold cloN
    rw [nextR_fi h]
    cases nextR fi ar s with
    | none => rfl
    | some r => exact cloN_fi h m _
theorem cloF_0 {fi : Nat → Nat} {ar : Nat → Nat → Int32} {p : Nat} (s : Int32) : cloF (fset fi 0 p) ar s = cloF fi ar s := cloN_fi rfl 10 s
theorem MOK_0 {fi : Nat → Nat} {ar : Nat → Nat → Int32} (M : MOK fi ar) {p : Nat} : MOK (fset fi 0 p) ar := M
def anyN (P : Nat → Bool) : Nat → Bool
  | 0 => false
  | k + 1 => anyN P k || P k
theorem anyN_s {P : Nat → Bool} {k : Nat} : anyN P (k + 1) = (anyN P k || P k) := rfl
theorem anyN_f {P : Nat → Bool} : ∀ {n : Nat}, anyN P n = false ↔ ∀ k, k < n → P k = false
  | 0 => ⟨fun _ k hk => absurd hk (by omega), fun _ => rfl⟩
  | n + 1 => by
    unfold anyN
    rw [Bool.or_eq_false_iff, anyN_f]
    constructor
    · rintro ⟨h1, h2⟩ k hk
      by_cases e : k = n
      · subst e; exact h2
      · exact h1 k (by omega)
    · intro h
      exact ⟨fun k hk => h k (by omega), h n (by omega)⟩
theorem anyN_t {P : Nat → Bool} {n k : Nat} (hk : k < n) (h : P k = true) : anyN P n = true := by
  cases e : anyN P n with
  | true => rfl
  | false => rw [anyN_f.mp e k hk] at h; cases h
/-- a model that has the one and not the other -/
def mdP (ar : Nat → Nat → Int32) (a b : Int32) : Nat → Bool := fun m => decide (bitAt (ar 18 m) a = 1) && decide (bitAt (ar 18 m) b = 0)
def knF (fi : Nat → Nat) (ar : Nat → Nat → Int32) (a b : Int32) : Int32 := if bitAt (cloF fi ar (1 <<< (a &&& 31))) b = 1 then 1 else if anyN (mdP ar a b) (fi 24) = true then -1 else 0
def opP (fi : Nat → Nat) (ar : Nat → Nat → Int32) (a b : Nat) : Int32 := if nI a = nI b then 0 else if knF fi ar (nI a) (nI b) = 0 then 1 else 0
def opF (fi : Nat → Nat) (ar : Nat → Nat → Int32) : Int32 := l_sum (fun a => l_sum (opP fi ar a) (fi 18)) (fi 18)
theorem knF_0 {fi : Nat → Nat} {ar : Nat → Nat → Int32} {p : Nat} (a b : Int32) : knF (fset fi 0 p) ar a b = knF fi ar a b := by
  unfold knF
  rw [cloF_0]
  rfl
theorem opF_0 {fi : Nat → Nat} {ar : Nat → Nat → Int32} {p : Nat} : opF (fset fi 0 p) ar = opF fi ar := by
  have e : opP (fset fi 0 p) ar = opP fi ar := by
    funext a b
    unfold opP
    rw [knF_0]
  unfold opF
  rw [e]
  rfl
/-- the best set among 0 .. k-1 -/
def lsN (fi : Nat → Nat) (ar : Nat → Nat → Int32) (goal pool : Int32) : Nat → Int32
  | 0 => -1
  | k + 1 => if (if nI k &&& (pool ^^^ (-1)) = 0 then (if lsN fi ar goal pool k = -1 then 1 else if bitsF (lsN fi ar goal pool k) ≤ bitsF (nI k) then 0 else 1) else (0 : Int32)) = 0 then lsN fi ar goal pool k else if bitAt (cloF fi ar (nI k)) goal = 1 then nI k else lsN fi ar goal pool k
theorem lsN_0 {fi : Nat → Nat} {ar : Nat → Nat → Int32} {p : Nat} (goal pool : Int32) : ∀ k, lsN (fset fi 0 p) ar goal pool k = lsN fi ar goal pool k
  | 0 => rfl
  | k + 1 => by
    unfold lsN
    rw [lsN_0 goal pool k, cloF_0]
theorem two_pow_nI : ∀ n, n ≤ 10 → (1 <<< (nI n &&& 31)) - 1 = nI (2 ^ n - 1) := by decide +kernel
theorem inB_nI {x : Int32} {N : Nat} (hN : N < 2 ^ 31) (h : inB x 0 (nI N) = true) : ∃ k, k ≤ N ∧ x = nI k := by
  unfold inB at h
  rw [Bool.and_eq_true, decide_eq_true_eq, decide_eq_true_eq] at h
  exact nI_of2 (nI_toInt hN) (Int32.not_lt.mpr h.1) h.2
theorem isStB_nI {fi : Nat → Nat} {s : Int32} (h : fi 18 ≤ 10) (hs : isStB fi s = true) : ∃ k, k < 2 ^ fi 18 ∧ k < 1024 ∧ s = nI k := by
  unfold isStB at hs
  rw [two_pow_nI _ h] at hs
  have h2 : 2 ^ fi 18 ≤ 2 ^ 10 := Nat.pow_le_pow_right (by decide) h
  have h3 : 0 < 2 ^ fi 18 := Nat.two_pow_pos _
  obtain ⟨k, hk, e⟩ := inB_nI (by omega) hs
  exact ⟨k, by omega, by omega, e⟩
theorem isPrB_nI {fi : Nat → Nat} {p : Int32} (h : fi 18 ≤ 10) (hs : isPrB fi p = true) : ∃ k, k < fi 18 ∧ p = nI k := by
  unfold isPrB at hs
  cases e : fi 18 with
  | zero =>
    rw [e] at hs
    unfold inB at hs
    rw [Bool.and_eq_true, decide_eq_true_eq, decide_eq_true_eq] at hs
    exact absurd (Int32.le_trans hs.1 hs.2) (by decide)
  | succ n =>
    rw [e, nI_pred] at hs
    obtain ⟨k, hk, e2⟩ := inB_nI (by omega) hs
    exact ⟨k, by omega, e2⟩
theorem isPbB_nI {fi : Nat → Nat} {p : Int32} (h : fi 27 ≤ 6) (hs : isPbB fi p = true) : ∃ k, k < fi 27 ∧ p = nI k := by
  unfold isPbB at hs
  cases e : fi 27 with
  | zero =>
    rw [e] at hs
    unfold inB at hs
    rw [Bool.and_eq_true, decide_eq_true_eq, decide_eq_true_eq] at hs
    exact absurd (Int32.le_trans hs.1 hs.2) (by decide)
  | succ n =>
    rw [e, nI_pred] at hs
    obtain ⟨k, hk, e2⟩ := inB_nI (by omega) hs
    exact ⟨k, by omega, e2⟩
/-! the court's calls: which exception (its place, 0 for none), what they answer -/
def knT (fi : Nat → Nat) (a b : Int32) : Nat := if (isPrB fi a && isPrB fi b) = false then 1 else if a = b then 2 else 0
def knV (fi : Nat → Nat) (ar : Nat → Nat → Int32) (a b : Int32) : Int32 := if knT fi a b = 0 then knF fi ar a b else 0
def lsT (fi : Nat → Nat) (goal pool : Int32) : Nat := if isPrB fi goal = false then 1 else if isStB fi pool = false then 2 else 0
def ruP (ar : Nat → Nat → Int32) (set goal : Int32) : Nat → Bool := fun m => adB (ar 18 m) set goal
def ruOk (fi : Nat → Nat) (set goal : Int32) : Bool := isPrB fi goal && (isStB fi set && decide (bitAt set goal = 0))
def ruC (fi : Nat → Nat) (ar : Nat → Nat → Int32) (set goal : Int32) (k : Nat) : Bool := decide (fi 21 < 30) && !anyN (ruP ar set goal) k
def ruT (fi : Nat → Nat) (ar : Nat → Nat → Int32) (set goal : Int32) : Nat := if isPrB fi goal = false then 1 else if ruOk fi set goal = false then 2 else if ruC fi ar set goal (fi 24) = true then 0 else 3
def ruA (fi : Nat → Nat) (ar : Nat → Nat → Int32) (set goal : Int32) : Nat → Nat → Int32 := aset (aset ar 16 (upd (ar 16) (fi 21) set)) 17 (upd (ar 17) (fi 21) goal)
def moC (fi : Nat → Nat) (ar : Nat → Nat → Int32) (set : Int32) (k : Nat) : Bool := decide (fi 24 < 10) && !anyN (rlP ar set) k
def moT (fi : Nat → Nat) (ar : Nat → Nat → Int32) (set : Int32) : Nat := if isStB fi set = false then 1 else if moC fi ar set (fi 21) = true then 0 else 2
def moA (fi : Nat → Nat) (ar : Nat → Nat → Int32) (set : Int32) : Nat → Nat → Int32 := aset ar 18 (upd (ar 18) (fi 24) set)
def opT (fi : Nat → Nat) (p t : Int32) : Nat := if isPrB fi p = false then 1 else if inB t 0 3 = true then 0 else 2
def cnF (fi : Nat → Nat) (ar : Nat → Nat → Int32) (p : Int32) : Int32 := l_sum (fun r => if ar 17 r = p then 1 else 0) (fi 21)
def hvF (fi : Nat → Nat) (ar : Nat → Nat → Int32) (p : Int32) : Int32 := l_sum (fun m => bitAt (ar 18 m) p) (fi 24)
def opV (fi : Nat → Nat) (ar : Nat → Nat → Int32) (p t : Int32) : Int32 := if opT fi p t = 0 then (if t = 0 then ar 14 p.toNatClampNeg else if t = 1 then ar 15 p.toNatClampNeg else if t = 2 then cnF fi ar p else hvF fi ar p) else 0
theorem gw_f {p : Nat} (h : bI (decide (nI p = 0)) = 0) : ¬ p = 0 := fun e => by
  subst e
  exact absurd h (by decide)
theorem gw_t {p : Nat} (h : ¬ bI (decide (nI p = 0)) = 0) (hp : p < 2 ^ 31) : p = 0 := (nI_eq hp (by decide)).mp (of_decide_eq_true (bI_ne.mp h))
theorem leN {N n : Nat} (hN : N < 2 ^ 31) (h : n < 2 ^ 31) : (if nI N ≤ nI n then (0 : Int32) else 1) = bI (decide (n < N)) := by
  by_cases e : n < N
  · rw [if_neg (nI_ge e hN)]
    simp [e, bI]
  · rw [if_pos (nI_le (by omega) h)]
    simp [e, bI]
theorem le30 {n : Nat} (h : n < 2 ^ 31) : (if (30 : Int32) ≤ nI n then (0 : Int32) else 1) = bI (decide (n < 30)) := leN (N := 30) (by decide) h
theorem le10 {n : Nat} (h : n < 2 ^ 31) : (if (10 : Int32) ≤ nI n then (0 : Int32) else 1) = bI (decide (n < 10)) := leN (N := 10) (by decide) h
theorem le6 {n : Nat} (h : n < 2 ^ 31) : (if (6 : Int32) ≤ nI n then (0 : Int32) else 1) = bI (decide (n < 6)) := leN (N := 6) (by decide) h
/-! problems -/
def allN (P : Nat → Bool) : Nat → Bool
  | 0 => true
  | k + 1 => allN P k && P k
theorem allN_s {P : Nat → Bool} {k : Nat} : allN P (k + 1) = (allN P k && P k) := rfl
theorem allN_t {P : Nat → Bool} : ∀ {n : Nat}, allN P n = true ↔ ∀ k, k < n → P k = true
  | 0 => ⟨fun _ k hk => absurd hk (by omega), fun _ => rfl⟩
  | n + 1 => by
    rw [allN_s, Bool.and_eq_true, allN_t]
    constructor
    · rintro ⟨h1, h2⟩ k hk
      by_cases e : k = n
      · subst e; exact h2
      · exact h1 k (by omega)
    · intro h
      exact ⟨fun k hk => h k (by omega), h n (by omega)⟩
def iN (ar : Nat → Nat → Int32) (p : Nat) : Nat := (ar 20 p).toNatClampNeg
def aN (ar : Nat → Nat → Int32) (p : Nat) : Nat := (ar 21 p).toNatClampNeg
theorem MOK_p {fi : Nat → Nat} {ar : Nat → Nat → Int32} (M : MOK fi ar) {p : Nat} (hp : p < fi 27) : 1 ≤ iN ar p ∧ iN ar p ≤ 4 ∧ 1 ≤ aN ar p ∧ aN ar p ≤ 4 ∧ ar 20 p = nI (iN ar p) ∧ ar 21 p = nI (aN ar p) := by
  obtain ⟨i, a, h1, h2, h3, h4, e1, e2⟩ := M.2.2.2.2.2.2 p hp
  have e3 : iN ar p = i := by unfold iN; rw [e1, nI_clamp (by omega)]
  have e4 : aN ar p = a := by unfold aN; rw [e2, nI_clamp (by omega)]
  rw [e3, e4]
  exact ⟨h1, h2, h3, h4, e1, e2⟩
/-- an instance of q serves one of p, by a back map -/
def dsP (ar : Nat → Nat → Int32) (p q : Nat) (inst its : Int32) (back : Nat → Int32) : Nat → Bool := fun a => !solB (ar 22 q) its (nI a) || solB (ar 22 p) inst (back a)
def dsF (ar : Nat → Nat → Int32) (p q : Nat) (inst its : Int32) (back : Nat → Int32) : Bool := allN (dsP ar p q inst its back) (aN ar q)
def givF (ar : Nat → Nat → Int32) (p : Nat) (code : Int32) (a : Nat) : Int32 := remF (divN code (ar 21 p) a) (ar 21 p)
def srF (ar : Nat → Nat → Int32) (p q : Nat) (inst : Int32) (back : Nat → Int32) : Option Nat := lowF (fun j => dsF ar p q inst (nI j) back) (iN ar q) 0
def cdP (ar : Nat → Nat → Int32) (p q c : Nat) : Nat → Bool := fun i => (srF ar p q (nI i) (givF ar p (nI c))).isSome
def cdF (ar : Nat → Nat → Int32) (p q : Nat) : Option Nat := lowF (fun c => allN (cdP ar p q c) (iN ar p)) (aN ar p ^ aN ar q) 0
theorem o2i_N {o : Option Nat} (h : ∀ r, o = some r → r < 2 ^ 31) : o2i o = -1 ↔ o.isSome = false := by
  cases o with
  | none => exact ⟨fun _ => rfl, fun _ => rfl⟩
  | some r => exact ⟨fun e => absurd e (o2i_some (h r rfl)), fun e => by cases e⟩
theorem srF_lt {ar : Nat → Nat → Int32} {p q r : Nat} {inst : Int32} {back : Nat → Int32} (h : srF ar p q inst back = some r) : r < iN ar q := by
  have := (lowF_some h).2.1
  omega
theorem cdF_lt {ar : Nat → Nat → Int32} {p q r : Nat} (h : cdF ar p q = some r) : r < aN ar p ^ aN ar q := by
  have := (lowF_some h).2.1
  omega
theorem pow_256 {a b : Nat} (h1 : a ≤ 4) (h2 : b ≤ 4) : a ^ b ≤ 256 := Nat.le_trans (Nat.pow_le_pow_left h1 b) (Nat.pow_le_pow_right (n := 4) (by decide) h2)
def reT (fi : Nat → Nat) (p q : Int32) : Nat := if (isPbB fi p && isPbB fi q) = true then 0 else 1
def reV (fi : Nat → Nat) (ar : Nat → Nat → Int32) (p q : Int32) : Int32 := if reT fi p q = 0 then o2i (cdF ar p.toNatClampNeg q.toNatClampNeg) else 0
def foB (fi : Nat → Nat) (ar : Nat → Nat → Int32) (p q i : Int32) : Bool := isPbB fi p && (isPbB fi q && inB i 0 (ar 20 p.toNatClampNeg - 1))
def foT (fi : Nat → Nat) (ar : Nat → Nat → Int32) (p q i : Int32) : Nat := if foB fi ar p q i = true then 0 else 1
def foV (fi : Nat → Nat) (ar : Nat → Nat → Int32) (p q i : Int32) : Int32 := if foT fi ar p q i = 0 then (match cdF ar p.toNatClampNeg q.toNatClampNeg with
  | none => -1
  | some c => o2i (srF ar p.toNatClampNeg q.toNatClampNeg i (givF ar p.toNatClampNeg (nI c)))) else 0
def obT (fi : Nat → Nat) (p t : Int32) : Nat := if isPbB fi p = false then 1 else if inB t 0 2 = true then 0 else 2
def obV (fi : Nat → Nat) (ar : Nat → Nat → Int32) (p t : Int32) : Int32 := if obT fi p t = 0 then (if t = 0 then ar 20 p.toNatClampNeg else if t = 1 then ar 21 p.toNatClampNeg else ar 22 p.toNatClampNeg) else 0
def rsI (r : Int32) (i : Nat) : Nat → Int32
  | 0 => r
  | k + 1 => rsI r i k &&& ((1 <<< ((4 * nI i + nI k) &&& 31)) ^^^ (-1))
def rsN (set : Int32) (A : Nat) : Nat → Int32
  | 0 => set
  | i + 1 => rsI (rsN set A i) i A
def pbH (set : Int32) (A i : Nat) : Bool := anyN (fun a => solB set (nI i) (nI a)) A
def pbA (set : Int32) (M A : Nat) : Bool := allN (pbH set A) M && decide (rsN set A M = 0)
def pbB (many of set : Int32) : Bool := inB many 1 4 && (inB of 1 4 && pbA set many.toNatClampNeg of.toNatClampNeg)
def pbT (fi : Nat → Nat) (many of set : Int32) : Nat := if pbB many of set = false then 1 else if fi 27 = 6 then 2 else 0
def pbAr (fi : Nat → Nat) (ar : Nat → Nat → Int32) (many of set : Int32) : Nat → Nat → Int32 := aset (aset (aset ar 20 (upd (ar 20) (fi 27) many)) 21 (upd (ar 21) (fi 27) of)) 22 (upd (ar 22) (fi 27) set)
def orN (f : Nat → Int32) : Nat → Int32
  | 0 => 0
  | k + 1 => orN f k ||| f k
def prP (ar : Nat → Nat → Int32) (p q i a : Nat) : Int32 := if bI (solB (ar 22 p) (nI i / ar 20 q) (nI a / ar 21 q)) = 0 then 0 else if bI (solB (ar 22 q) (nI i - nI i / ar 20 q * ar 20 q) (nI a - nI a / ar 21 q * ar 21 q)) = 0 then 0 else 1 <<< ((4 * nI i + nI a) &&& 31)
def prS (ar : Nat → Nat → Int32) (p q : Nat) : Int32 := orN (fun i => orN (prP ar p q i) (aN ar p * aN ar q)) (iN ar p * iN ar q)
def prC (fi : Nat → Nat) (ar : Nat → Nat → Int32) (p q : Nat) : Bool := decide (fi 27 < 6) && (decide (iN ar p * iN ar q ≤ 4) && decide (aN ar p * aN ar q ≤ 4))
def prT (fi : Nat → Nat) (ar : Nat → Nat → Int32) (p q : Int32) : Nat := if (isPbB fi p && isPbB fi q) = false then 1 else if prC fi ar p.toNatClampNeg q.toNatClampNeg = true then 0 else 2
def prAr (fi : Nat → Nat) (ar : Nat → Nat → Int32) (p q : Nat) : Nat → Nat → Int32 := pbAr fi ar (nI (iN ar p * iN ar q)) (nI (aN ar p * aN ar q)) (prS ar p q)
theorem inB14 {x : Int32} (h : inB x 1 4 = true) : ∃ k, 1 ≤ k ∧ k ≤ 4 ∧ x = nI k := by
  unfold inB at h
  rw [Bool.and_eq_true, decide_eq_true_eq, decide_eq_true_eq] at h
  have h0 : (0 : Int32) ≤ x := Int32.le_trans (by decide) h.1
  obtain ⟨k, hk, e⟩ := nI_of2 (M := 4) (n := 4) (by decide) (Int32.not_lt.mpr h0) h.2
  refine ⟨k, ?_, hk, e⟩
  have h1 := h.1
  rw [e] at h1
  exact (nI_leI (a := 1) (by decide) (by omega)).mp h1
theorem pb_in {fi : Nat → Nat} {p : Int32} (h6 : fi 27 ≤ 6) (h : ¬ bI (isPbB fi p) = 0) : vp_in p 6 := by
  obtain ⟨k, hk, rfl⟩ := isPbB_nI h6 (bI_ne.mp h)
  exact vp_in_nI (by omega) (by decide)
/-! games -/
def gv (set : Int32) : Nat → Nat → Nat → Bool
  | 0, _, n => decide (bitAt set (nI n) = 1)
  | m + 1, r, n => if r % 2 = 0 then gv set m (r + 1) (2 * n) || gv set m (r + 1) (2 * n + 1) else gv set m (r + 1) (2 * n) && gv set m (r + 1) (2 * n + 1)
def gaB (rounds set : Int32) : Bool := inB rounds 1 4 && inB set 0 (((1 : Int32) <<< (((1 : Int32) <<< (rounds &&& 31)) &&& 31)) - 1)
def gaT (rounds set : Int32) : Nat := if gaB rounds set = true then 0 else 1
def gaV (rounds set : Int32) : Bool := gaB rounds set && gv set rounds.toNatClampNeg 0 0
theorem two_pow : ∀ n, n ≤ 10 → (1 : Int32) <<< (nI n &&& 31) = nI (2 ^ n) := by decide +kernel
theorem vpn_bI (b : Bool) : vp_nar .boolean (bI b) = bI b := by cases b <;> rfl
theorem vpn_01 {x : Int32} (h : x = 0 ∨ x = 1) : vp_nar .boolean x = x := by rcases h with rfl | rfl <;> rfl
theorem aset_up {ar : Nat → Nat → Int32} {j k : Nat} {f : Nat → Int32} {x : Int32} : aset (aset ar j f) j (upd (aset ar j f j) k x) = aset ar j (upd f k x) := by
  funext i
  unfold aset
  by_cases h : i = j
  · subst h; simp
  · simp [h]
theorem aset_self {ar : Nat → Nat → Int32} {j : Nat} : aset ar j (ar j) = ar := by
  funext i
  unfold aset
  by_cases h : i = j
  · subst h; simp
  · simp [h]
/-! proofs -/
def stp (fi : Nat → Nat) (ar : Nat → Nat → Int32) (goal : Int32) : Nat → Int32 → List Nat
  | 0, _ => []
  | m + 1, s => if bitAt s goal = 0 then (match nextR fi ar s with
    | none => []
    | some r => r :: stp fi ar goal m (stepS ar s r)) else []
def ndF (ar : Nat → Nat → Int32) (goal : Int32) : List Nat → Int32
  | [] => 1 <<< (goal &&& 31)
  | r :: t => ndF ar goal t ||| (if bitAt (ndF ar goal t) (ar 17 r) = 1 then ar 16 r else 0)
def kpF (ar : Nat → Nat → Int32) (goal : Int32) : List Nat → List Nat
  | [] => []
  | r :: t => if bitAt (ndF ar goal t) (ar 17 r) = 1 then r :: kpF ar goal t else kpF ar goal t
def mkF (ar : Nat → Nat → Int32) (goal : Int32) : List Nat → List Int32
  | [] => []
  | r :: t => (if bitAt (ndF ar goal t) (ar 17 r) = 1 then nI r else -1) :: mkF ar goal t
def stF (fi : Nat → Nat) (ar : Nat → Nat → Int32) (s goal : Int32) : List Nat := stp fi ar goal 10 s
/-- an array holds a list from its start on -/
def HasI (f : Nat → Int32) (L : List Int32) : Prop := ∀ (j : Nat) (x : Int32), L[j]? = some x → f j = x
theorem stp_ok {fi : Nat → Nat} {ar : Nat → Nat → Int32} (M : MOK fi ar) {goal : Int32} : ∀ {m : Nat} {s : Int32}, (∀ r ∈ stp fi ar goal m s, r < fi 21) ∧ (stp fi ar goal m s).length ≤ m
  | 0, s => ⟨fun r hr => (by cases hr), Nat.le_refl _⟩
  | m + 1, s => by
    unfold stp
    by_cases h : bitAt s goal = 0
    · rw [if_pos h]
      cases e : nextR fi ar s with
      | none => exact ⟨fun r hr => (by cases hr), Nat.zero_le _⟩
      | some r =>
        obtain ⟨h1, h2⟩ := stp_ok M (goal := goal) (m := m) (s := stepS ar s r)
        refine ⟨fun q hq => ?_, by simp only [List.length_cons]; omega⟩
        rcases List.mem_cons.mp hq with rfl | hq
        · exact (nextR_ok M e).1
        · exact h1 q hq
    · rw [if_neg h]
      exact ⟨fun r hr => (by cases hr), Nat.zero_le _⟩
theorem mkF_len {ar : Nat → Nat → Int32} {goal : Int32} : ∀ L : List Nat, (mkF ar goal L).length = L.length
  | [] => rfl
  | r :: t => by simp [mkF, mkF_len t]
theorem nI_nm1 {r : Nat} (h : r < 2 ^ 31) : ¬ nI r = -1 := o2i_some h
theorem mkF_kp {ar : Nat → Nat → Int32} {goal : Int32} : ∀ {L : List Nat}, (∀ r ∈ L, r < 2 ^ 31) → (mkF ar goal L).filter (fun x => decide (¬ x = -1)) = (kpF ar goal L).map nI
  | [], _ => rfl
  | r :: t, h => by
    have ih := mkF_kp (ar := ar) (goal := goal) (L := t) (fun q hq => h q (List.mem_cons_of_mem _ hq))
    have hr := nI_nm1 (h r List.mem_cons_self)
    unfold mkF kpF
    by_cases hb : bitAt (ndF ar goal t) (ar 17 r) = 1
    · rw [if_pos hb, if_pos hb, List.filter_cons, if_pos (by simp [hr]), ih]
      rfl
    · rw [if_neg hb, if_neg hb, List.filter_cons, if_neg (by simp), ih]
theorem HasI.upd {f : Nat → Int32} {L : List Int32} {k : Nat} {x : Int32} (h : ∀ j y, j ≠ k → L[j]? = some y → f j = y) (hk : ∀ y, L[k]? = some y → x = y) : HasI (upd f k x) L := by
  intro j y hj
  by_cases e : j = k
  · subst e
    rw [pk_us]
    exact hk y hj
  · rw [pk_un e]
    exact h j y e hj
theorem drop_s {α : Type} {L : List α} {k : Nat} {r : α} (h : L[k]? = some r) : L.drop k = r :: L.drop (k + 1) := by
  obtain ⟨h1, h2⟩ := List.getElem?_eq_some_iff.mp h
  rw [List.drop_eq_getElem_cons h1, h2]
theorem take_s {α : Type} {L : List α} {k : Nat} {r : α} (h : L[k]? = some r) : L.take (k + 1) = L.take k ++ [r] := by
  rw [List.take_add_one, h]
  rfl
def pfT (fi : Nat → Nat) (s goal i : Int32) : Nat := if (isPrB fi goal && decide (¬ i < 0)) = false then 1 else if isStB fi s = true then 0 else 2
def pfV (fi : Nat → Nat) (ar : Nat → Nat → Int32) (s goal i : Int32) : Int32 := if pfT fi s goal i = 0 then (if bitAt (cloF fi ar s) goal = 0 then -1 else o2i ((kpF ar goal (stF fi ar s goal))[i.toNatClampNeg]?)) else 0
theorem stp_fi {fi fi' : Nat → Nat} {ar : Nat → Nat → Int32} {goal : Int32} (h : fi' 21 = fi 21) : ∀ (m : Nat) (s : Int32), stp fi' ar goal m s = stp fi ar goal m s
  | 0, _ => rfl
  | m + 1, s => by
    unfold stp
    rw [nextR_fi h]
    cases nextR fi ar s with
    | none => rfl
    | some r =>
      have e := stp_fi (ar := ar) (goal := goal) h m (stepS ar s r)
      simp only [e]
theorem stF_0 {fi : Nat → Nat} {ar : Nat → Nat → Int32} {p : Nat} {s goal : Int32} : stF (fset fi 0 p) ar s goal = stF fi ar s goal := stp_fi rfl 10 s
theorem kpF_len {ar : Nat → Nat → Int32} {goal : Int32} : ∀ L : List Nat, (kpF ar goal L).length ≤ L.length
  | [] => Nat.le_refl _
  | r :: t => by
    have := kpF_len (ar := ar) (goal := goal) t
    unfold kpF
    split <;> simp only [List.length_cons] <;> omega
/-! formulas by what they denote: sigma, pi, free, quantifiers, whether they are so (size, values) -/
abbrev DN : Type := Int32 × Int32 × Int32 × Int32 × (Int32 → (Nat → Int32) → Bool)
def dS (D : DN) : Int32 := D.1
def dP (D : DN) : Int32 := D.2.1
def dF (D : DN) : Int32 := D.2.2.1
def dQ (D : DN) : Int32 := D.2.2.2.1
def dE (D : DN) : Int32 → (Nat → Int32) → Bool := D.2.2.2.2
def oneB (v : Nat) : Int32 := 1 <<< (nI v &&& 31)
def maxI (a b : Int32) : Int32 := if b ≤ a then a else b
def atD (less : Bool) (l r : Nat) : DN := (0, 0, oneB l ||| oneB r, 0, fun _ e => if less then decide (e l < e r) else decide (e l = e r))
def notD (a : DN) : DN := (dP a, dS a, dF a, dQ a, fun z e => !dE a z e)
def andD (a b : DN) : DN := (maxI (dS a) (dS b), maxI (dP a) (dP b), dF a ||| dF b, dQ a + dQ b, fun z e => dE a z e && dE b z e)
def orD (a b : DN) : DN := (maxI (dS a) (dS b), maxI (dP a) (dP b), dF a ||| dF b, dQ a + dQ b, fun z e => dE a z e || dE b z e)
def thenD (a b : DN) : DN := orD (notD a) b
def setV (e : Nat → Int32) (v : Nat) (x : Int32) : Nat → Int32 := fun k => if k = v then x else e k
def quE (all : Bool) (v : Nat) (f : (Nat → Int32) → Bool) (e : Nat → Int32) (n : Nat) : Bool := if all then allN (fun k => f (setV e v (nI k))) n else anyN (fun k => f (setV e v (nI k))) n
/-- a quantifier without a bound, and with one -/
def quD (all : Bool) (v : Nat) (a : DN) : DN := (if all then lesserF (dP a) (dS a) + 1 else lesserF (dS a) (dP a), if all then lesserF (dP a) (dS a) else lesserF (dS a) (dP a) + 1, dF a &&& (oneB v ^^^ (-1)), 1 + dQ a, fun z e => quE all v (dE a z) e z.toNatClampNeg)
def qbD (all : Bool) (v u : Nat) (a : DN) : DN := (dS a, dP a, (dF a &&& (oneB v ^^^ (-1))) ||| oneB u, 1 + dQ a, fun z e => quE all v (dE a z) e (e u).toNatClampNeg)
/-- what make's words make, out of the parts that are there -/
def MF (L : List DN) (s o t n b : Int32) (D : DN) : Prop :=
  ((s = 0 ∨ s = 1) ∧ o = -1 ∧ t = -1 ∧ ∃ l r : Nat, l < 3 ∧ r < 3 ∧ n = nI l ∧ b = nI r ∧ D = atD (decide (s = 0)) l r) ∨
  (s = 2 ∧ t = -1 ∧ n = -1 ∧ b = -1 ∧ ∃ (q : Nat) (A : DN), L[q]? = some A ∧ o = nI q ∧ D = notD A) ∨
  (n = -1 ∧ b = -1 ∧ ∃ (q r : Nat) (A B : DN), L[q]? = some A ∧ L[r]? = some B ∧ o = nI q ∧ t = nI r ∧ ((s = 3 ∧ D = andD A B) ∨ (s = 4 ∧ D = orD A B) ∨ (s = 5 ∧ D = thenD A B))) ∨
  ((s = 6 ∨ s = 7) ∧ t = -1 ∧ b = -1 ∧ ∃ (v q : Nat) (A : DN), v < 3 ∧ n = nI v ∧ L[q]? = some A ∧ o = nI q ∧ D = quD (decide (s = 6)) v A) ∨
  ((s = 8 ∨ s = 9) ∧ t = -1 ∧ ∃ (v u q : Nat) (A : DN), v < 3 ∧ u < 3 ∧ n = nI v ∧ b = nI u ∧ L[q]? = some A ∧ o = nI q ∧ D = qbD (decide (s = 8)) v u A)
/-- the part p is there and denotes D -/
def PL (ar : Nat → Nat → Int32) (L : List DN) (p : Nat) (D : DN) : Prop := ar 7 p = dS D ∧ ar 8 p = dP D ∧ ar 9 p = dF D ∧ MF (L.take p) (ar 2 p) (ar 3 p) (ar 4 p) (ar 5 p) (ar 6 p) D
def PA (ar : Nat → Nat → Int32) (L : List DN) : Prop := ∀ (p : Nat) (D : DN), L[p]? = some D → PL ar L p D
abbrev T3 : Type := Int32 × Int32 × Int32
/-- the stack of what has begun, its top first -/
def SRl (ar : Nat → Nat → Int32) : List T3 → Prop
  | [] => True
  | x :: t => ar 10 t.length = x.1 ∧ ar 11 t.length = x.2.1 ∧ ar 12 t.length = x.2.2 ∧ SRl ar t
/-- a frame that stands whole, ahead of a formula -/
def FV (x : T3) : Prop := x = (2, -1, -1) ∨ (∃ v : Nat, v < 3 ∧ (x = (6, nI v, -1) ∨ x = (7, nI v, -1))) ∨ (∃ v u : Nat, v < 3 ∧ u < 3 ∧ (x = (8, nI v, nI u) ∨ x = (9, nI v, nI u))) ∨ x = (10, -1, -1) ∨ (∃ q : Nat, x = (3, nI q, -1) ∨ x = (4, nI q, -1) ∨ x = (5, nI q, -1))
def dn0 : DN := (0, 0, 0, 0, fun _ _ => false)
/-- a formula has ended as part q -/
def enC : List T3 → List DN → Nat → List T3 × Nat × List DN
  | [], L, _ => ([], 8, L)
  | (k, i, o) :: t, L, q => if k = 2 then enC t (L ++ [notD (L.getD q dn0)]) L.length
    else if k = 6 then enC t (L ++ [quD true i.toNatClampNeg (L.getD q dn0)]) L.length
    else if k = 7 then enC t (L ++ [quD false i.toNatClampNeg (L.getD q dn0)]) L.length
    else if k = 8 then enC t (L ++ [qbD true i.toNatClampNeg o.toNatClampNeg (L.getD q dn0)]) L.length
    else if k = 9 then enC t (L ++ [qbD false i.toNatClampNeg o.toNatClampNeg (L.getD q dn0)]) L.length
    else if k = 10 then ((10, nI q, o) :: t, 6, L)
    else ((k, i, nI q) :: t, 7, L)
theorem enC_cons {k i o : Int32} {t : List T3} {L : List DN} {q : Nat} : enC ((k, i, o) :: t) L q = if k = 2 then enC t (L ++ [notD (L.getD q dn0)]) L.length
    else if k = 6 then enC t (L ++ [quD true i.toNatClampNeg (L.getD q dn0)]) L.length
    else if k = 7 then enC t (L ++ [quD false i.toNatClampNeg (L.getD q dn0)]) L.length
    else if k = 8 then enC t (L ++ [qbD true i.toNatClampNeg o.toNatClampNeg (L.getD q dn0)]) L.length
    else if k = 9 then enC t (L ++ [qbD false i.toNatClampNeg o.toNatClampNeg (L.getD q dn0)]) L.length
    else if k = 10 then ((10, nI q, o) :: t, 6, L)
    else ((k, i, nI q) :: t, 7, L) := rfl
def msA (ar : Nat → Nat → Int32) (p : Nat) (D : DN) : Nat → Nat → Int32 := aset (aset (aset ar 7 (upd (ar 7) p (dS D))) 8 (upd (ar 8) p (dP D))) 9 (upd (ar 9) p (dF D))
def mk5 (ar : Nat → Nat → Int32) (p : Nat) (s o t n b : Int32) : Nat → Nat → Int32 := aset (aset (aset (aset (aset ar 2 (upd (ar 2) p s)) 3 (upd (ar 3) p o)) 4 (upd (ar 4) p t)) 5 (upd (ar 5) p n)) 6 (upd (ar 6) p b)
def mkA (ar : Nat → Nat → Int32) (p : Nat) (s o t n b : Int32) (D : DN) : Nat → Nat → Int32 := msA (mk5 ar p s o t n b) p D
def bgA (ar : Nat → Nat → Int32) (p : Nat) (s n b : Int32) : Nat → Nat → Int32 := aset (aset (aset ar 10 (upd (ar 10) p s)) 11 (upd (ar 11) p n)) 12 (upd (ar 12) p b)
/-- arrays but those of the reading are as they were -/
def Oth (ar ar' : Nat → Nat → Int32) : Prop := ∀ j, (j < 2 ∨ 12 < j) → ar' j = ar j
theorem Oth.rf {ar : Nat → Nat → Int32} : Oth ar ar := fun _ _ => rfl
theorem Oth.tr {a b c : Nat → Nat → Int32} (h1 : Oth a b) (h2 : Oth b c) : Oth a c := fun j hj => (h2 j hj).trans (h1 j hj)
theorem Oth.aset {ar : Nat → Nat → Int32} {j : Nat} {f : Nat → Int32} (hj : 2 ≤ j ∧ j ≤ 12) : Oth ar (aset ar j f) := fun i hi => aset_n (by omega)
theorem mkA_oth {ar : Nat → Nat → Int32} {p : Nat} {s o t n b : Int32} {D : DN} : Oth ar (mkA ar p s o t n b D) := by
  intro j hj
  unfold mkA msA mk5
  rw [aset_n (by omega), aset_n (by omega), aset_n (by omega), aset_n (by omega), aset_n (by omega), aset_n (by omega), aset_n (by omega), aset_n (by omega)]
theorem bgA_oth {ar : Nat → Nat → Int32} {p : Nat} {s n b : Int32} : Oth ar (bgA ar p s n b) := by
  intro j hj
  unfold bgA
  rw [aset_n (by omega), aset_n (by omega), aset_n (by omega)]
theorem SRl_eq {ar ar' : Nat → Nat → Int32} : ∀ {L : List T3}, (∀ i, i < L.length → ar' 10 i = ar 10 i ∧ ar' 11 i = ar 11 i ∧ ar' 12 i = ar 12 i) → SRl ar L → SRl ar' L
  | [], _, _ => trivial
  | x :: t, h, hs => by
    obtain ⟨h1, h2, h3, h4⟩ := hs
    obtain ⟨g1, g2, g3⟩ := h t.length (by simp)
    exact ⟨g1.trans h1, g2.trans h2, g3.trans h3, SRl_eq (fun i hi => h i (by simp; omega)) h4⟩
theorem SRl_mk {ar : Nat → Nat → Int32} {p : Nat} {s o t n b : Int32} {D : DN} {L : List T3} (h : SRl ar L) : SRl (mkA ar p s o t n b D) L := SRl_eq (ar := ar) (fun i _ => ⟨rfl, rfl, rfl⟩) h
theorem SRl_bg {ar : Nat → Nat → Int32} {s n b : Int32} {L : List T3} (h : SRl ar L) : SRl (bgA ar L.length s n b) ((s, n, b) :: L) := by
  refine ⟨pk_us, pk_us, pk_us, SRl_eq (ar := ar) (fun i hi => ⟨pk_un (by omega), pk_un (by omega), pk_un (by omega)⟩) h⟩
theorem MF_mono {L L' : List DN} (hL : ∀ (i : Nat) (A : DN), L[i]? = some A → L'[i]? = some A) {s o t n b : Int32} {D : DN} (h : MF L s o t n b D) : MF L' s o t n b D := by
  rcases h with h | ⟨h1, h2, h3, h4, q, A, h5, h6⟩ | ⟨h1, h2, q, r, A, B, h3, h4, h5⟩ | ⟨h1, h2, h3, v, q, A, h4, h5, h6, h7⟩ | ⟨h1, h2, v, u, q, A, h3, h4, h5, h6, h7, h8⟩
  · exact Or.inl h
  · exact Or.inr (Or.inl ⟨h1, h2, h3, h4, q, A, hL _ _ h5, h6⟩)
  · exact Or.inr (Or.inr (Or.inl ⟨h1, h2, q, r, A, B, hL _ _ h3, hL _ _ h4, h5⟩))
  · exact Or.inr (Or.inr (Or.inr (Or.inl ⟨h1, h2, h3, v, q, A, h4, h5, hL _ _ h6, h7⟩)))
  · exact Or.inr (Or.inr (Or.inr (Or.inr ⟨h1, h2, v, u, q, A, h3, h4, h5, h6, hL _ _ h7, h8⟩)))
theorem PA_mk {ar : Nat → Nat → Int32} {L : List DN} {s o t n b : Int32} {D : DN} (h : PA ar L) (hM : MF L s o t n b D) : PA (mkA ar L.length s o t n b D) (L ++ [D]) := by
  intro p E hp
  by_cases hpl : p < L.length
  · rw [List.getElem?_append_left hpl] at hp
    obtain ⟨h1, h2, h3, h4⟩ := h p E hp
    have hne : p ≠ L.length := by omega
    have k2 : mkA ar L.length s o t n b D 2 p = ar 2 p := pk_un hne
    have k3 : mkA ar L.length s o t n b D 3 p = ar 3 p := pk_un hne
    have k4 : mkA ar L.length s o t n b D 4 p = ar 4 p := pk_un hne
    have k5 : mkA ar L.length s o t n b D 5 p = ar 5 p := pk_un hne
    have k6 : mkA ar L.length s o t n b D 6 p = ar 6 p := pk_un hne
    have k7 : mkA ar L.length s o t n b D 7 p = ar 7 p := pk_un hne
    have k8 : mkA ar L.length s o t n b D 8 p = ar 8 p := pk_un hne
    have k9 : mkA ar L.length s o t n b D 9 p = ar 9 p := pk_un hne
    unfold PL
    rw [k2, k3, k4, k5, k6, k7, k8, k9, List.take_append_of_le_length (by omega)]
    exact ⟨h1, h2, h3, h4⟩
  · have hp1 : p = L.length := by
      have := (List.getElem?_eq_some_iff.mp hp).1
      simp at this
      omega
    subst hp1
    rw [List.getElem?_append_right (Nat.le_refl _), Nat.sub_self] at hp
    have e : D = E := Option.some.inj hp
    subst e
    have k2 : mkA ar L.length s o t n b D 2 L.length = s := pk_us
    have k3 : mkA ar L.length s o t n b D 3 L.length = o := pk_us
    have k4 : mkA ar L.length s o t n b D 4 L.length = t := pk_us
    have k5 : mkA ar L.length s o t n b D 5 L.length = n := pk_us
    have k6 : mkA ar L.length s o t n b D 6 L.length = b := pk_us
    have k7 : mkA ar L.length s o t n b D 7 L.length = dS D := pk_us
    have k8 : mkA ar L.length s o t n b D 8 L.length = dP D := pk_us
    have k9 : mkA ar L.length s o t n b D 9 L.length = dF D := pk_us
    unfold PL
    rw [k2, k3, k4, k5, k6, k7, k8, k9, List.take_append_of_le_length (Nat.le_refl _), List.take_length]
    exact ⟨rfl, rfl, rfl, hM⟩
theorem PA_eq {ar ar' : Nat → Nat → Int32} {L : List DN} (he : ∀ j, 2 ≤ j → j ≤ 9 → ar' j = ar j) (h : PA ar L) : PA ar' L := by
  intro p D hp
  unfold PL
  rw [he 2 (by decide) (by decide), he 3 (by decide) (by decide), he 4 (by decide) (by decide), he 5 (by decide) (by decide), he 6 (by decide) (by decide), he 7 (by decide) (by decide), he 8 (by decide) (by decide), he 9 (by decide) (by decide)]
  exact h p D hp
def EnS (fi fi' : Nat → Nat) (ar ar' : Nat → Nat → Int32) (c : List T3 × Nat × List DN) : Prop := fi' 12 = c.1.length ∧ fi' 16 = c.2.1 ∧ fi' 3 = c.2.2.length ∧ SRl ar' c.1 ∧ PA ar' c.2.2 ∧ Oth ar ar' ∧ ∀ k, k ≠ 3 → k ≠ 12 → k ≠ 16 → fi' k = fi k
theorem getD_of {L : List DN} {q : Nat} {A : DN} (h : L[q]? = some A) : L.getD q dn0 = A := by
  rw [List.getD_eq_getElem?_getD, h]
  rfl
/-! reading, letter by letter -/
def kindF (c : Int32) : Int32 := if c = 33 then 2 else if c = 38 then 3 else if c = 40 then 10 else if c = 60 then 0 else if c = 61 then 1 else if c = 62 then 5 else if c = 65 then 6 else if c = 69 then 7 else if c = 97 then 8 else if c = 101 then 9 else if c = 124 then 4 else -1
abbrev Cf : Type := List T3 × Nat × List DN
def biD (k : Int32) (a b : DN) : DN := if k = 3 then andD a b else if k = 4 then orD a b else thenD a b
/-- the step by a letter; none: it does not go on -/
def stC (c : Int32) : Cf → Option Cf
  | (S, 0, L) => if varOf c = -1 then (if kindF c = 2 ∨ kindF c = 10 then some ((kindF c, -1, -1) :: S, 0, L) else if inB (kindF c) 6 9 = true then some ((kindF c, -1, -1) :: S, (if kindF c < 8 then 3 else 4), L) else none) else some ((0, varOf c, -1) :: S, 1, L)
  | ((_, i, o) :: t, 1, L) => if kindF c = 0 ∨ kindF c = 1 then some ((kindF c, i, o) :: t, 2, L) else none
  | ((k, i, _) :: t, 2, L) => if varOf c = -1 then none else some (enC t (L ++ [atD (decide (k = 0)) i.toNatClampNeg (varOf c).toNatClampNeg]) L.length)
  | ((k, _, o) :: t, 3, L) => if varOf c = -1 then none else some ((k, varOf c, o) :: t, 0, L)
  | ((k, _, o) :: t, 4, L) => if varOf c = -1 then none else some ((k, varOf c, o) :: t, 5, L)
  | ((k, i, _) :: t, 5, L) => if varOf c = -1 then none else some ((k, i, varOf c) :: t, 0, L)
  | ((_, i, o) :: t, 6, L) => if inB (kindF c) 3 5 = true then some ((kindF c, i, o) :: t, 0, L) else none
  | ((k, i, o) :: t, 7, L) => if c = 41 then some (enC t (L ++ [biD k (L.getD i.toNatClampNeg dn0) (L.getD o.toNatClampNeg dn0)]) L.length) else none
  | _ => none
/-- a whole frame, its part below n -/
def FN (n : Nat) (x : T3) : Prop := x = (2, -1, -1) ∨ (∃ v : Nat, v < 3 ∧ (x = (6, nI v, -1) ∨ x = (7, nI v, -1))) ∨ (∃ v u : Nat, v < 3 ∧ u < 3 ∧ (x = (8, nI v, nI u) ∨ x = (9, nI v, nI u))) ∨ x = (10, -1, -1) ∨ (∃ q : Nat, q < n ∧ (x = (3, nI q, -1) ∨ x = (4, nI q, -1) ∨ x = (5, nI q, -1)))
theorem FN.fv {n : Nat} {x : T3} (h : FN n x) : FV x := by
  rcases h with h | h | h | h | ⟨q, -, h⟩
  · exact Or.inl h
  · exact Or.inr (Or.inl h)
  · exact Or.inr (Or.inr (Or.inl h))
  · exact Or.inr (Or.inr (Or.inr (Or.inl h)))
  · exact Or.inr (Or.inr (Or.inr (Or.inr ⟨q, h⟩)))
theorem FN.mono {n n' : Nat} (hn : n ≤ n') {x : T3} (h : FN n x) : FN n' x := by
  rcases h with h | h | h | h | ⟨q, hq, h⟩
  · exact Or.inl h
  · exact Or.inr (Or.inl h)
  · exact Or.inr (Or.inr (Or.inl h))
  · exact Or.inr (Or.inr (Or.inr (Or.inl h)))
  · exact Or.inr (Or.inr (Or.inr (Or.inr ⟨q, by omega, h⟩)))
/-- the frame that is not whole yet -/
def TO (n : Nat) (m : Nat) (x : T3) : Prop :=
  (m = 1 ∧ ∃ v : Nat, v < 3 ∧ x = (0, nI v, -1)) ∨
  (m = 2 ∧ ∃ v : Nat, v < 3 ∧ (x = (0, nI v, -1) ∨ x = (1, nI v, -1))) ∨
  (m = 3 ∧ (x = (6, -1, -1) ∨ x = (7, -1, -1))) ∨
  (m = 4 ∧ (x = (8, -1, -1) ∨ x = (9, -1, -1))) ∨
  (m = 5 ∧ ∃ v : Nat, v < 3 ∧ (x = (8, nI v, -1) ∨ x = (9, nI v, -1))) ∨
  (m = 6 ∧ ∃ q : Nat, q < n ∧ x = (10, nI q, -1)) ∨
  (m = 7 ∧ ∃ p q : Nat, p < n ∧ q < n ∧ (x = (3, nI p, nI q) ∨ x = (4, nI p, nI q) ∨ x = (5, nI p, nI q)))
def Wf (c : Cf) : Prop := (c.2.1 = 0 ∧ ∀ x ∈ c.1, FN c.2.2.length x) ∨ (c.2.1 = 8 ∧ c.1 = []) ∨ (∃ x t, c.1 = x :: t ∧ (∀ y ∈ t, FN c.2.2.length y) ∧ TO c.2.2.length c.2.1 x)
def sz (c : Cf) : Nat := c.1.length + c.2.2.length
theorem varOf_nI {c : Int32} (h : ¬ varOf c = -1) : ∃ v : Nat, v < 3 ∧ varOf c = nI v := by
  unfold varOf at h ⊢
  by_cases hb : inB c 120 122 = true
  · rw [if_pos hb]
    unfold inB at hb
    rw [Bool.and_eq_true, decide_eq_true_eq, decide_eq_true_eq] at hb
    have h0 : (0 : Int32) ≤ c := Int32.le_trans (by decide) hb.1
    obtain ⟨k, hk, e⟩ := nI_of2 (M := 122) (n := 122) (by decide) (Int32.not_lt.mpr h0) hb.2
    have h1 := hb.1
    rw [e] at h1
    have h2 : 120 ≤ k := (nI_leI (a := 120) (by decide) (by omega)).mp h1
    refine ⟨k - 120, by omega, ?_⟩
    rw [e]
    have h3 : k = 120 ∨ k = 121 ∨ k = 122 := by omega
    rcases h3 with rfl | rfl | rfl <;> rfl
  · rw [if_neg hb] at h
    exact absurd rfl h
theorem enC_wf : ∀ (S : List T3) (L : List DN) (q : Nat), (∀ x ∈ S, FN L.length x) → q < L.length → Wf (enC S L q) ∧ sz (enC S L q) ≤ S.length + L.length
  | [], L, q, h, hq => ⟨Or.inr (Or.inl ⟨rfl, rfl⟩), Nat.le_refl _⟩
  | (k, i, o) :: t, L, q, h, hq => by
    have ht : ∀ x ∈ t, FN L.length x := fun x hx => h x (List.mem_cons_of_mem _ hx)
    have st : ∀ D : DN, Wf (enC t (L ++ [D]) L.length) ∧ sz (enC t (L ++ [D]) L.length) ≤ ((k, i, o) :: t).length + L.length := fun D => by
      have e : (L ++ [D]).length = L.length + 1 := by simp
      obtain ⟨h1, h2⟩ := enC_wf t (L ++ [D]) L.length (fun x hx => by rw [e]; exact (ht x hx).mono (by omega)) (by omega)
      refine ⟨h1, ?_⟩
      rw [e] at h2
      show _ ≤ t.length + 1 + L.length
      omega
    rw [enC_cons]
    by_cases k2 : k = 2
    · rw [if_pos k2]; exact st _
    rw [if_neg k2]
    by_cases k6 : k = 6
    · rw [if_pos k6]; exact st _
    rw [if_neg k6]
    by_cases k7 : k = 7
    · rw [if_pos k7]; exact st _
    rw [if_neg k7]
    by_cases k8 : k = 8
    · rw [if_pos k8]; exact st _
    rw [if_neg k8]
    by_cases k9 : k = 9
    · rw [if_pos k9]; exact st _
    rw [if_neg k9]
    by_cases k10 : k = 10
    · rw [if_pos k10]
      refine ⟨Or.inr (Or.inr ⟨_, t, rfl, ht, Or.inr (Or.inr (Or.inr (Or.inr (Or.inr (Or.inl ⟨rfl, q, hq, ?_⟩)))))⟩), Nat.le_refl _⟩
      have := h (k, i, o) List.mem_cons_self
      rcases this with h | ⟨v, hv, h | h⟩ | ⟨v, u, hv, hu, h | h⟩ | h | ⟨p, hp, h | h | h⟩ <;> cases h <;> first | rfl | exact absurd rfl k2 | exact absurd rfl k6 | exact absurd rfl k7 | exact absurd rfl k8 | exact absurd rfl k9 | exact absurd k10 (by decide)
    · rw [if_neg k10]
      refine ⟨Or.inr (Or.inr ⟨_, t, rfl, ht, Or.inr (Or.inr (Or.inr (Or.inr (Or.inr (Or.inr ⟨rfl, ?_⟩)))))⟩), Nat.le_refl _⟩
      have := h (k, i, o) List.mem_cons_self
      rcases this with h | ⟨v, hv, h | h⟩ | ⟨v, u, hv, hu, h | h⟩ | h | ⟨p, hp, h | h | h⟩ <;> cases h
      · exact absurd rfl k2
      · exact absurd rfl k6
      · exact absurd rfl k7
      · exact absurd rfl k8
      · exact absurd rfl k9
      · exact absurd rfl k10
      · exact ⟨p, q, hp, hq, Or.inl rfl⟩
      · exact ⟨p, q, hp, hq, Or.inr (Or.inl rfl)⟩
      · exact ⟨p, q, hp, hq, Or.inr (Or.inr rfl)⟩
theorem stC_wf {c : Int32} : ∀ {C C' : Cf}, Wf C → stC c C = some C' → Wf C' ∧ sz C' ≤ sz C + 1 := by
  rintro ⟨S, m, L⟩ C' h e
  rcases h with ⟨hm, hS⟩ | ⟨hm, hS⟩ | ⟨x, t, hS, ht, hT⟩
  · have hm : m = 0 := hm
    have hS : ∀ x ∈ S, FN L.length x := hS
    subst hm
    by_cases hv : varOf c = -1
    · by_cases h2 : kindF c = 2 ∨ kindF c = 10
      · have e2 : some ((kindF c, -1, -1) :: S, 0, L) = some C' := by
          rw [← e]
          show _ = if varOf c = -1 then _ else _
          rw [if_pos hv, if_pos h2]
        cases e2
        refine ⟨Or.inl ⟨rfl, fun x hx => ?_⟩, by show S.length + 1 + L.length ≤ _; show _ ≤ S.length + L.length + 1; omega⟩
        rcases List.mem_cons.mp hx with rfl | hx
        · rcases h2 with h2 | h2 <;> rw [h2]
          · exact Or.inl rfl
          · exact Or.inr (Or.inr (Or.inr (Or.inl rfl)))
        · exact hS x hx
      · by_cases h3 : inB (kindF c) 6 9 = true
        · have e2 : some ((kindF c, -1, -1) :: S, (if kindF c < 8 then 3 else 4), L) = some C' := by
            rw [← e]
            show _ = if varOf c = -1 then _ else _
            rw [if_pos hv, if_neg h2, if_pos h3]
          cases e2
          refine ⟨Or.inr (Or.inr ⟨_, S, rfl, hS, ?_⟩), by show S.length + 1 + L.length ≤ S.length + L.length + 1; omega⟩
          have hk : ∀ k : Int32, inB k 6 9 = true → k = 6 ∨ k = 7 ∨ k = 8 ∨ k = 9 := fun k hb => by
            unfold inB at hb
            rw [Bool.and_eq_true, decide_eq_true_eq, decide_eq_true_eq] at hb
            have h0 : (0 : Int32) ≤ k := Int32.le_trans (by decide) hb.1
            obtain ⟨j, hj, e⟩ := nI_of2 (M := 9) (n := 9) (by decide) (Int32.not_lt.mpr h0) hb.2
            have h1 := hb.1
            rw [e] at h1
            have h2 : 6 ≤ j := (nI_leI (a := 6) (by decide) (by omega)).mp h1
            have h3 : j = 6 ∨ j = 7 ∨ j = 8 ∨ j = 9 := by omega
            rw [e]
            rcases h3 with rfl | rfl | rfl | rfl
            · exact Or.inl rfl
            · exact Or.inr (Or.inl rfl)
            · exact Or.inr (Or.inr (Or.inl rfl))
            · exact Or.inr (Or.inr (Or.inr rfl))
          rcases hk _ h3 with hk | hk | hk | hk <;> rw [hk]
          · exact Or.inr (Or.inr (Or.inl ⟨rfl, Or.inl rfl⟩))
          · exact Or.inr (Or.inr (Or.inl ⟨rfl, Or.inr rfl⟩))
          · exact Or.inr (Or.inr (Or.inr (Or.inl ⟨rfl, Or.inl rfl⟩)))
          · exact Or.inr (Or.inr (Or.inr (Or.inl ⟨rfl, Or.inr rfl⟩)))
        · have e2 : none = some C' := by
            rw [← e]
            show _ = if varOf c = -1 then _ else _
            rw [if_pos hv, if_neg h2, if_neg h3]
          cases e2
    · have e2 : some ((0, varOf c, -1) :: S, 1, L) = some C' := by
        rw [← e]
        show _ = if varOf c = -1 then _ else _
        rw [if_neg hv]
      cases e2
      obtain ⟨v, hv3, ev⟩ := varOf_nI hv
      exact ⟨Or.inr (Or.inr ⟨_, S, rfl, hS, Or.inl ⟨rfl, v, hv3, by rw [ev]⟩⟩), by show S.length + 1 + L.length ≤ S.length + L.length + 1; omega⟩
  · have hm : m = 8 := hm
    have hS : S = [] := hS
    subst hm
    subst hS
    cases e
  · have hS : S = x :: t := hS
    subst hS
    have hu : ∀ y ∈ t, FN L.length y := ht
    clear ht
    have en : ∀ D : DN, Wf (enC t (L ++ [D]) L.length) ∧ sz (enC t (L ++ [D]) L.length) ≤ (x :: t).length + L.length + 1 := fun D => by
      have e : (L ++ [D]).length = L.length + 1 := by simp
      obtain ⟨h1, h2⟩ := enC_wf t (L ++ [D]) L.length (fun x hx => by rw [e]; exact (hu x hx).mono (by omega)) (by omega)
      refine ⟨h1, ?_⟩
      rw [e] at h2
      show _ ≤ t.length + 1 + L.length + 1
      omega
    have sz0 : ∀ (y : T3) (m' : Nat), sz (y :: t, m', L) ≤ sz (x :: t, m, L) + 1 := fun y m' => by show t.length + 1 + L.length ≤ t.length + 1 + L.length + 1; omega
    have fz : ∀ (y : T3), FN L.length y → Wf (y :: t, 0, L) := fun y hy => Or.inl ⟨rfl, fun z hz => by
      rcases List.mem_cons.mp hz with rfl | hz
      · exact hy
      · exact hu z hz⟩
    obtain ⟨k, i, o⟩ := x
    rcases hT with ⟨hm, v, hv, hx⟩ | ⟨hm, v, hv, hx⟩ | ⟨hm, hx⟩ | ⟨hm, hx⟩ | ⟨hm, v, hv, hx⟩ | ⟨hm, q, hq, hx⟩ | ⟨hm, p, q, hp, hq, hx⟩
    · have hm : m = 1 := hm
      subst hm
      cases hx
      by_cases h1 : kindF c = 0 ∨ kindF c = 1
      · have e2 : some ((kindF c, nI v, -1) :: t, 2, L) = some C' := by
          rw [← e]
          show _ = if kindF c = 0 ∨ kindF c = 1 then _ else _
          rw [if_pos h1]
        cases e2
        refine ⟨Or.inr (Or.inr ⟨_, t, rfl, hu, Or.inr (Or.inl ⟨rfl, v, hv, ?_⟩)⟩), sz0 _ _⟩
        rcases h1 with h1 | h1 <;> rw [h1]
        · exact Or.inl rfl
        · exact Or.inr rfl
      · have e2 : none = some C' := by
          rw [← e]
          show _ = if kindF c = 0 ∨ kindF c = 1 then _ else _
          rw [if_neg h1]
        cases e2
    · have hm : m = 2 := hm
      subst hm
      by_cases h1 : varOf c = -1
      · have e2 : none = some C' := by
          rw [← e]
          show _ = if varOf c = -1 then _ else _
          rw [if_pos h1]
        cases e2
      · have e2 : some (enC t (L ++ [atD (decide (k = 0)) i.toNatClampNeg (varOf c).toNatClampNeg]) L.length) = some C' := by
          rw [← e]
          show _ = if varOf c = -1 then _ else _
          rw [if_neg h1]
        cases e2
        exact en _
    · have hm : m = 3 := hm
      subst hm
      by_cases h1 : varOf c = -1
      · have e2 : none = some C' := by
          rw [← e]
          show _ = if varOf c = -1 then _ else _
          rw [if_pos h1]
        cases e2
      · have e2 : some ((k, varOf c, o) :: t, 0, L) = some C' := by
          rw [← e]
          show _ = if varOf c = -1 then _ else _
          rw [if_neg h1]
        cases e2
        obtain ⟨v, hv3, ev⟩ := varOf_nI h1
        rw [ev]
        refine ⟨fz _ ?_, sz0 _ _⟩
        rcases hx with hx | hx <;> cases hx
        · exact Or.inr (Or.inl ⟨v, hv3, Or.inl rfl⟩)
        · exact Or.inr (Or.inl ⟨v, hv3, Or.inr rfl⟩)
    · have hm : m = 4 := hm
      subst hm
      by_cases h1 : varOf c = -1
      · have e2 : none = some C' := by
          rw [← e]
          show _ = if varOf c = -1 then _ else _
          rw [if_pos h1]
        cases e2
      · have e2 : some ((k, varOf c, o) :: t, 5, L) = some C' := by
          rw [← e]
          show _ = if varOf c = -1 then _ else _
          rw [if_neg h1]
        cases e2
        obtain ⟨v, hv3, ev⟩ := varOf_nI h1
        rw [ev]
        refine ⟨Or.inr (Or.inr ⟨_, t, rfl, hu, Or.inr (Or.inr (Or.inr (Or.inr (Or.inl ⟨rfl, v, hv3, ?_⟩))))⟩), sz0 _ _⟩
        rcases hx with hx | hx <;> cases hx
        · exact Or.inl rfl
        · exact Or.inr rfl
    · have hm : m = 5 := hm
      subst hm
      by_cases h1 : varOf c = -1
      · have e2 : none = some C' := by
          rw [← e]
          show _ = if varOf c = -1 then _ else _
          rw [if_pos h1]
        cases e2
      · have e2 : some ((k, i, varOf c) :: t, 0, L) = some C' := by
          rw [← e]
          show _ = if varOf c = -1 then _ else _
          rw [if_neg h1]
        cases e2
        obtain ⟨u, hu3, ev⟩ := varOf_nI h1
        rw [ev]
        refine ⟨fz _ ?_, sz0 _ _⟩
        rcases hx with hx | hx <;> cases hx
        · exact Or.inr (Or.inr (Or.inl ⟨v, u, hv, hu3, Or.inl rfl⟩))
        · exact Or.inr (Or.inr (Or.inl ⟨v, u, hv, hu3, Or.inr rfl⟩))
    · have hm : m = 6 := hm
      subst hm
      cases hx
      by_cases h1 : inB (kindF c) 3 5 = true
      · have e2 : some ((kindF c, nI q, -1) :: t, 0, L) = some C' := by
          rw [← e]
          show _ = if inB (kindF c) 3 5 = true then _ else _
          rw [if_pos h1]
        cases e2
        refine ⟨fz _ ?_, sz0 _ _⟩
        have hk : ∀ k : Int32, inB k 3 5 = true → k = 3 ∨ k = 4 ∨ k = 5 := fun k hb => by
          unfold inB at hb
          rw [Bool.and_eq_true, decide_eq_true_eq, decide_eq_true_eq] at hb
          have h0 : (0 : Int32) ≤ k := Int32.le_trans (by decide) hb.1
          obtain ⟨j, hj, e⟩ := nI_of2 (M := 5) (n := 5) (by decide) (Int32.not_lt.mpr h0) hb.2
          have h1 := hb.1
          rw [e] at h1
          have h2 : 3 ≤ j := (nI_leI (a := 3) (by decide) (by omega)).mp h1
          have h3 : j = 3 ∨ j = 4 ∨ j = 5 := by omega
          rw [e]
          rcases h3 with rfl | rfl | rfl
          · exact Or.inl rfl
          · exact Or.inr (Or.inl rfl)
          · exact Or.inr (Or.inr rfl)
        rcases hk _ h1 with hk | hk | hk <;> rw [hk]
        · exact Or.inr (Or.inr (Or.inr (Or.inr ⟨q, hq, Or.inl rfl⟩)))
        · exact Or.inr (Or.inr (Or.inr (Or.inr ⟨q, hq, Or.inr (Or.inl rfl)⟩)))
        · exact Or.inr (Or.inr (Or.inr (Or.inr ⟨q, hq, Or.inr (Or.inr rfl)⟩)))
      · have e2 : none = some C' := by
          rw [← e]
          show _ = if inB (kindF c) 3 5 = true then _ else _
          rw [if_neg h1]
        cases e2
    · have hm : m = 7 := hm
      subst hm
      by_cases h1 : c = 41
      · have e2 : some (enC t (L ++ [biD k (L.getD i.toNatClampNeg dn0) (L.getD o.toNatClampNeg dn0)]) L.length) = some C' := by
          rw [← e]
          show _ = if c = 41 then _ else _
          rw [if_pos h1]
        cases e2
        exact en _
      · have e2 : none = some C' := by
          rw [← e]
          show _ = if c = 41 then _ else _
          rw [if_neg h1]
        cases e2
