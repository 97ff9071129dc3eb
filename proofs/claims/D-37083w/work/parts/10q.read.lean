/-! 10q: reading: the parser and the steps -/
theorem varOf_kind {c : Int32} (h : ¬ varOf c = -1) : kindF c = -1 := by
  obtain ⟨v, hv, e⟩ := varOf_nI h
  have hb : inB c 120 122 = true := by
    cases hb : inB c 120 122 with
    | true => rfl
    | false => unfold varOf at h; rw [hb] at h; exact absurd rfl h
  unfold varOf at e
  rw [if_pos hb] at e
  have ec : c = nI v + 120 := by rw [← e]; rw [Int32.sub_eq_add_neg, Int32.add_assoc]; exact (Int32.add_zero c).symm
  rw [ec]
  have hv : v = 0 ∨ v = 1 ∨ v = 2 := by omega
  rcases hv with rfl | rfl | rfl <;> decide
/-- the parser: what the formula from k on denotes, and where it ends; none: where the fault is -/
def prs : Nat → (Nat → Int32) → Nat → Option DN × Nat
  | 0, _, k => (none, k)
  | f + 1, nx, k =>
    if nx k = 33 then (match prs f nx (k + 1) with
      | (some A, k1) => (some (notD A), k1)
      | (none, k1) => (none, k1))
    else if nx k = 40 then (match prs f nx (k + 1) with
      | (some A, k1) => if inB (kindF (nx k1)) 3 5 = true then (match prs f nx (k1 + 1) with
        | (some B, k2) => if nx k2 = 41 then (some (biD (kindF (nx k1)) A B), k2 + 1) else (none, k2)
        | (none, k2) => (none, k2)) else (none, k1)
      | (none, k1) => (none, k1))
    else if nx k = 65 ∨ nx k = 69 then (if varOf (nx (k + 1)) = -1 then (none, k + 1) else match prs f nx (k + 2) with
      | (some A, k1) => (some (quD (decide (nx k = 65)) (varOf (nx (k + 1))).toNatClampNeg A), k1)
      | (none, k1) => (none, k1))
    else if nx k = 97 ∨ nx k = 101 then (if varOf (nx (k + 1)) = -1 then (none, k + 1) else if varOf (nx (k + 2)) = -1 then (none, k + 2) else match prs f nx (k + 3) with
      | (some A, k1) => (some (qbD (decide (nx k = 97)) (varOf (nx (k + 1))).toNatClampNeg (varOf (nx (k + 2))).toNatClampNeg A), k1)
      | (none, k1) => (none, k1))
    else if varOf (nx k) = -1 then (none, k)
    else if nx (k + 1) = 60 ∨ nx (k + 1) = 61 then (if varOf (nx (k + 2)) = -1 then (none, k + 2) else (some (atD (decide (nx (k + 1) = 60)) (varOf (nx k)).toNatClampNeg (varOf (nx (k + 2))).toNatClampNeg), k + 3))
    else (none, k + 1)
def rnN (n : Nat) (nx : Nat → Int32) : Nat → Cf → Nat → Option Cf
  | 0, c, _ => some c
  | m + 1, c, j => if j < n then (match stC (nx j) c with
    | some c1 => rnN n nx m c1 (j + 1)
    | none => none) else none
/-- from a state, at a letter, to another one by steps -/
def Runs (n : Nat) (nx : Nat → Int32) (c : Cf) (j : Nat) (c' : Cf) (j' : Nat) : Prop := ∃ m, j' = j + m ∧ rnN n nx m c j = some c'
theorem Runs.refl {n : Nat} {nx : Nat → Int32} {c : Cf} {j : Nat} : Runs n nx c j c j := ⟨0, rfl, rfl⟩
theorem Runs.step {n : Nat} {nx : Nat → Int32} {c c1 c' : Cf} {j j' : Nat} (hj : j < n) (hs : stC (nx j) c = some c1) (hr : Runs n nx c1 (j + 1) c' j') : Runs n nx c j c' j' := by
  obtain ⟨m, h1, h2⟩ := hr
  refine ⟨m + 1, by omega, ?_⟩
  show (if j < n then _ else _) = _
  rw [if_pos hj, hs]
  exact h2
theorem rnN_s {n : Nat} {nx : Nat → Int32} {m : Nat} {c c' : Cf} {j : Nat} (h : rnN n nx (m + 1) c j = some c') : j < n ∧ ∃ c1, stC (nx j) c = some c1 ∧ rnN n nx m c1 (j + 1) = some c' := by
  have h : (if j < n then (match stC (nx j) c with
    | some c1 => rnN n nx m c1 (j + 1)
    | none => none) else none) = some c' := h
  by_cases hj : j < n
  · rw [if_pos hj] at h
    cases e : stC (nx j) c with
    | none => rw [e] at h; cases h
    | some c1 => rw [e] at h; exact ⟨hj, c1, rfl, h⟩
  · rw [if_neg hj] at h; cases h
theorem Runs.tr {n : Nat} {nx : Nat → Int32} {c c1 c' : Cf} {j j1 j' : Nat} (h : Runs n nx c j c1 j1) (h2 : Runs n nx c1 j1 c' j') : Runs n nx c j c' j' := by
  obtain ⟨m, e, h⟩ := h
  subst e
  induction m generalizing c j with
  | zero => cases h; exact h2
  | succ m ih =>
    obtain ⟨hj, c2, h3, h4⟩ := rnN_s h
    exact .step hj h3 (ih h4 (by rw [show j + 1 + m = j + (m + 1) by omega]; exact h2))
theorem Runs.one {n : Nat} {nx : Nat → Int32} {c c1 c' : Cf} {j j1 : Nat} (h : Runs n nx c j c1 j1) (hj : j1 < n) (hs : stC (nx j1) c1 = some c') : Runs n nx c j c' (j1 + 1) := h.tr (.step hj hs .refl)
theorem Runs.wf {n : Nat} {nx : Nat → Int32} {c c' : Cf} {j j' : Nat} (h : Runs n nx c j c' j') (a : Wf c) (b : sz c ≤ j) (hj : j ≤ n) : Wf c' ∧ sz c' ≤ j' ∧ j ≤ j' ∧ j' ≤ n := by
  obtain ⟨m, e, h⟩ := h
  subst e
  induction m generalizing c j with
  | zero => cases h; exact ⟨a, b, Nat.le_refl _, hj⟩
  | succ m ih =>
    obtain ⟨hj, c2, h3, h4⟩ := rnN_s h
    obtain ⟨h1, h2⟩ := stC_wf a h3
    obtain ⟨g1, g2, g3, g4⟩ := ih h1 (by omega) (by omega) h4
    exact ⟨g1, by omega, by omega, by omega⟩
/-- what the parser's answer says of the steps -/
def PrS (n : Nat) (nx : Nat → Int32) (S : List T3) (L : List DN) (k : Nat) (r : Option DN × Nat) : Prop := match r with
  | (some D, k') => ∃ M, Runs n nx (S, 0, L) k (enC S (L ++ M ++ [D]) (L ++ M).length) k'
  | (none, k') => ∃ c, Runs n nx (S, 0, L) k c k' ∧ (k' = n ∨ (k' < n ∧ stC (nx k') c = none)) ∧ c.2.1 ≠ 8
theorem kind_33 : ∀ {c : Int32}, c = 33 → varOf c = -1 ∧ kindF c = 2 := by rintro c rfl; decide
theorem kind_40 : ∀ {c : Int32}, c = 40 → varOf c = -1 ∧ kindF c = 10 := by rintro c rfl; decide
theorem FN_put {n : Nat} {S : List T3} {x : T3} (hx : FN n x) (h : ∀ y ∈ S, FN n y) : ∀ y ∈ x :: S, FN n y := fun y hy => by
  rcases List.mem_cons.mp hy with rfl | hy
  · exact hx
  · exact h y hy
theorem getD_mid {L M : List DN} {A : DN} : (L ++ [A] ++ M).getD L.length dn0 = A := getD_of (by simp)
theorem getD_end {L : List DN} {A : DN} : (L ++ [A]).getD L.length dn0 = A := getD_of (by simp)
theorem prs_run {n : Nat} {nx : Nat → Int32} (hn : n ≤ 40) (hx : ∀ k, n ≤ k → nx k = 32) : ∀ (f k : Nat) (S : List T3) (L : List DN), n < k + f → (∀ y ∈ S, FN L.length y) → S.length + L.length ≤ k → k ≤ n → PrS n nx S L k (prs f nx k) := by
  intro f
  induction f with
  | zero => intro k S L hf hS hz hk; exact absurd hf (by omega)
  | succ f ih =>
    intro k S L hf hS hz hk
    have wf0 : Wf (S, 0, L) := Or.inl ⟨rfl, hS⟩
    have lt : ∀ {j : Nat}, nx j ≠ 32 → j < n := fun {j} h => Nat.lt_of_not_le fun h2 => h (hx j h2)
    have stop : ∀ {c : Cf} {j : Nat}, j ≤ n → Runs n nx (S, 0, L) k c j → stC (nx j) c = none → c.2.1 ≠ 8 → PrS n nx S L k (none, j) := fun {c j} hj hr hs h8 => ⟨c, hr, by by_cases e : j = n; exact Or.inl e; exact Or.inr ⟨by omega, hs⟩, h8⟩
    show PrS n nx S L k (if nx k = 33 then _ else _)
    by_cases c33 : nx k = 33
    · rw [if_pos c33]
      obtain ⟨hv, hk2⟩ := kind_33 c33
      have kn : k < n := lt (by rw [c33]; decide)
      have s1 : Runs n nx (S, 0, L) k ((2, -1, -1) :: S, 0, L) (k + 1) := .step kn ((if_pos hv).trans ((if_pos (Or.inl hk2)).trans (by rw [hk2]))) .refl
      have h1 := ih (k + 1) ((2, -1, -1) :: S) L (by omega) (FN_put (Or.inl rfl) hS) (by show S.length + 1 + L.length ≤ k + 1; omega) (by omega)
      cases e : prs f nx (k + 1) with
      | mk o k1 =>
        rw [e] at h1
        cases o with
        | none =>
          obtain ⟨c, h2, h3, h4⟩ := h1
          exact ⟨c, s1.tr h2, h3, h4⟩
        | some A =>
          obtain ⟨M, h2⟩ := h1
          refine ⟨M ++ [A], ?_⟩
          have e2 : enC ((2, -1, -1) :: S) (L ++ M ++ [A]) (L ++ M).length = enC S (L ++ (M ++ [A]) ++ [notD A]) (L ++ (M ++ [A])).length := by
            rw [enC_cons, if_pos rfl, getD_end, ← List.append_assoc]
          rw [← e2]
          exact s1.tr h2
    rw [if_neg c33]
    by_cases c40 : nx k = 40
    · rw [if_pos c40]
      obtain ⟨hv, hk2⟩ := kind_40 c40
      have kn : k < n := lt (by rw [c40]; decide)
      have s1 : Runs n nx (S, 0, L) k ((10, -1, -1) :: S, 0, L) (k + 1) := .step kn ((if_pos hv).trans ((if_pos (Or.inr hk2)).trans (by rw [hk2]))) .refl
      have h1 := ih (k + 1) ((10, -1, -1) :: S) L (by omega) (FN_put (Or.inr (Or.inr (Or.inr (Or.inl rfl)))) hS) (by show S.length + 1 + L.length ≤ k + 1; omega) (by omega)
      cases e : prs f nx (k + 1) with
      | mk o k1 =>
        rw [e] at h1
        cases o with
        | none =>
          obtain ⟨c, h2, h3, h4⟩ := h1
          exact ⟨c, s1.tr h2, h3, h4⟩
        | some A =>
          obtain ⟨M, h2⟩ := h1
          have e2 : enC ((10, -1, -1) :: S) (L ++ M ++ [A]) (L ++ M).length = ((10, nI (L ++ M).length, -1) :: S, 6, L ++ M ++ [A]) := by
            rw [enC_cons, if_neg (by decide), if_neg (by decide), if_neg (by decide), if_neg (by decide), if_neg (by decide), if_pos rfl]
          rw [e2] at h2
          have r1 := s1.tr h2
          obtain ⟨w1, w2, w3, w4⟩ := r1.wf wf0 hz hk
          have hS2 : ∀ y ∈ S, FN (L ++ M ++ [A]).length y := fun y hy => (hS y hy).mono (by simp <;> omega)
          have w2 : S.length + 1 + (L ++ M ++ [A]).length ≤ k1 := w2
          show PrS n nx S L k (if inB (kindF (nx k1)) 3 5 = true then _ else _)
          by_cases hb : inB (kindF (nx k1)) 3 5 = true
          · rw [if_pos hb]
            have kn1 : k1 < n := lt (fun e => by rw [e] at hb; exact absurd hb (by decide))
            have s2 := r1.one kn1 (c' := ((kindF (nx k1), nI (L ++ M).length, -1) :: S, 0, L ++ M ++ [A])) (if_pos hb)
            obtain ⟨g1, g2, -, -⟩ := s2.wf wf0 hz hk
            have g3 : ∀ y ∈ (kindF (nx k1), nI (L ++ M).length, -1) :: S, FN (L ++ M ++ [A]).length y := by
              rcases g1 with ⟨-, h⟩ | ⟨h, -⟩ | ⟨x, t, hh, -, hT⟩
              · exact h
              · exact absurd (show (0 : Nat) = 8 from h) (by decide)
              · rcases hT with ⟨h, -⟩ | ⟨h, -⟩ | ⟨h, -⟩ | ⟨h, -⟩ | ⟨h, -⟩ | ⟨h, -⟩ | ⟨h, -⟩
                · exact absurd (show (0 : Nat) = 1 from h) (by decide)
                · exact absurd (show (0 : Nat) = 2 from h) (by decide)
                · exact absurd (show (0 : Nat) = 3 from h) (by decide)
                · exact absurd (show (0 : Nat) = 4 from h) (by decide)
                · exact absurd (show (0 : Nat) = 5 from h) (by decide)
                · exact absurd (show (0 : Nat) = 6 from h) (by decide)
                · exact absurd (show (0 : Nat) = 7 from h) (by decide)
            have h3 := ih (k1 + 1) ((kindF (nx k1), nI (L ++ M).length, -1) :: S) (L ++ M ++ [A]) (by omega) g3 g2 (by omega)
            have hk345 : kindF (nx k1) = 3 ∨ kindF (nx k1) = 4 ∨ kindF (nx k1) = 5 := by
              have := g3 _ List.mem_cons_self
              rcases this with h | ⟨v, hv, h | h⟩ | ⟨v, u, hv, hu, h | h⟩ | h | ⟨p, hp, h | h | h⟩ <;> injection h with ha hb2 <;> rw [ha] at hb <;> first | exact absurd hb (by decide) | exact Or.inl ha | exact Or.inr (Or.inl ha) | exact Or.inr (Or.inr ha)
            cases e4 : prs f nx (k1 + 1) with
            | mk o2 k2 =>
              rw [e4] at h3
              cases o2 with
              | none =>
                obtain ⟨c, h2, h3, h4⟩ := h3
                exact ⟨c, s2.tr h2, h3, h4⟩
              | some B =>
                obtain ⟨M2, h4⟩ := h3
                have e5 : enC ((kindF (nx k1), nI (L ++ M).length, -1) :: S) (L ++ M ++ [A] ++ M2 ++ [B]) (L ++ M ++ [A] ++ M2).length = ((kindF (nx k1), nI (L ++ M).length, nI (L ++ M ++ [A] ++ M2).length) :: S, 7, L ++ M ++ [A] ++ M2 ++ [B]) := by
                  rw [enC_cons]
                  rcases hk345 with h | h | h <;> rw [h, if_neg (by decide), if_neg (by decide), if_neg (by decide), if_neg (by decide), if_neg (by decide), if_neg (by decide)]
                rw [e5] at h4
                have r2 := s2.tr h4
                obtain ⟨w1, v2, v3, v4⟩ := r2.wf wf0 hz hk
                have v2 : S.length + 1 + (L ++ M ++ [A] ++ M2 ++ [B]).length ≤ k2 := v2
                have l1 : (L ++ M).length < 2 ^ 31 := by simp at v2 ⊢; omega
                have l2 : (L ++ M ++ [A] ++ M2).length < 2 ^ 31 := by simp at v2 ⊢; omega
                have e6 : stC (nx k2) ((kindF (nx k1), nI (L ++ M).length, nI (L ++ M ++ [A] ++ M2).length) :: S, 7, L ++ M ++ [A] ++ M2 ++ [B]) = if nx k2 = 41 then some (enC S (L ++ M ++ [A] ++ M2 ++ [B] ++ [biD (kindF (nx k1)) A B]) (L ++ M ++ [A] ++ M2 ++ [B]).length) else none := by
                  show (if nx k2 = 41 then _ else _) = _
                  rw [nI_clamp l1, nI_clamp l2, getD_end, List.append_assoc (L ++ M ++ [A]) M2 [B], getD_mid]
                show PrS n nx S L k (if nx k2 = 41 then _ else _)
                by_cases c41 : nx k2 = 41
                · rw [if_pos c41] at e6 ⊢
                  have kn2 : k2 < n := lt (by rw [c41]; decide)
                  refine ⟨M ++ [A] ++ M2 ++ [B], ?_⟩
                  have e7 : L ++ (M ++ [A] ++ M2 ++ [B]) = L ++ M ++ [A] ++ M2 ++ [B] := by simp
                  rw [e7]
                  exact r2.one kn2 e6
                · rw [if_neg c41] at e6 ⊢
                  exact stop v4 r2 e6 (show (7 : Nat) ≠ 8 by decide)
          · rw [if_neg hb]
            exact stop w4 r1 (if_neg hb) (show (6 : Nat) ≠ 8 by decide)
    rw [if_neg c40]
    by_cases cq : nx k = 65 ∨ nx k = 69
    · rw [if_pos cq]
      have kn : k < n := lt (by rcases cq with h | h <;> rw [h] <;> decide)
      have hkk : varOf (nx k) = -1 ∧ ¬ (kindF (nx k) = 2 ∨ kindF (nx k) = 10) ∧ inB (kindF (nx k)) 6 9 = true ∧ kindF (nx k) = (if nx k = 65 then 6 else 7) ∧ (if kindF (nx k) < 8 then 3 else 4) = 3 := by rcases cq with h | h <;> rw [h] <;> decide
      obtain ⟨a1, a2, a3, a4, a5⟩ := hkk
      have s1 : Runs n nx (S, 0, L) k ((kindF (nx k), -1, -1) :: S, 3, L) (k + 1) := .step kn ((if_pos a1).trans ((if_neg a2).trans ((if_pos a3).trans (by rw [a5])))) .refl
      show PrS n nx S L k (if varOf (nx (k + 1)) = -1 then _ else _)
      by_cases hv : varOf (nx (k + 1)) = -1
      · rw [if_pos hv]
        exact stop (by omega) s1 (if_pos hv) (show (3 : Nat) ≠ 8 by decide)
      · rw [if_neg hv]
        have kn1 : k + 1 < n := lt (fun e => by rw [e] at hv; exact absurd (by decide) hv)
        have s2 := s1.one kn1 (c' := ((kindF (nx k), varOf (nx (k + 1)), -1) :: S, 0, L)) (if_neg hv)
        obtain ⟨v, hv3, ev⟩ := varOf_nI hv
        rw [ev] at s2 ⊢
        rw [nI_clamp (by omega)]
        have hF : FN L.length (kindF (nx k), nI v, -1) := by
          rw [a4]
          rcases cq with h | h <;> rw [h]
          · exact Or.inr (Or.inl ⟨v, hv3, Or.inl rfl⟩)
          · exact Or.inr (Or.inl ⟨v, hv3, Or.inr rfl⟩)
        have h1 := ih (k + 2) ((kindF (nx k), nI v, -1) :: S) L (by omega) (FN_put hF hS) (by show S.length + 1 + L.length ≤ k + 2; omega) (by omega)
        cases e : prs f nx (k + 2) with
        | mk o k1 =>
          rw [e] at h1
          cases o with
          | none =>
            obtain ⟨c, h2, h3, h4⟩ := h1
            exact ⟨c, s2.tr h2, h3, h4⟩
          | some A =>
            obtain ⟨M, h2⟩ := h1
            refine ⟨M ++ [A], ?_⟩
            have e2 : enC ((kindF (nx k), nI v, -1) :: S) (L ++ M ++ [A]) (L ++ M).length = enC S (L ++ (M ++ [A]) ++ [quD (decide (nx k = 65)) v A]) (L ++ (M ++ [A])).length := by
              rw [enC_cons, getD_end, ← List.append_assoc, nI_clamp (by omega), a4]
              rcases cq with h | h <;> rw [h]
              · rw [if_neg (by decide), if_pos (by decide)]; rfl
              · rw [if_neg (by decide), if_neg (by decide), if_pos (by decide)]; rfl
            rw [← e2]
            exact s2.tr h2
    rw [if_neg cq]
    by_cases cb : nx k = 97 ∨ nx k = 101
    · rw [if_pos cb]
      have kn : k < n := lt (by rcases cb with h | h <;> rw [h] <;> decide)
      have hkk : varOf (nx k) = -1 ∧ ¬ (kindF (nx k) = 2 ∨ kindF (nx k) = 10) ∧ inB (kindF (nx k)) 6 9 = true ∧ kindF (nx k) = (if nx k = 97 then 8 else 9) ∧ (if kindF (nx k) < 8 then 3 else 4) = 4 := by rcases cb with h | h <;> rw [h] <;> decide
      obtain ⟨a1, a2, a3, a4, a5⟩ := hkk
      have s1 : Runs n nx (S, 0, L) k ((kindF (nx k), -1, -1) :: S, 4, L) (k + 1) := .step kn ((if_pos a1).trans ((if_neg a2).trans ((if_pos a3).trans (by rw [a5])))) .refl
      show PrS n nx S L k (if varOf (nx (k + 1)) = -1 then _ else _)
      by_cases hv : varOf (nx (k + 1)) = -1
      · rw [if_pos hv]
        exact stop (by omega) s1 (if_pos hv) (show (4 : Nat) ≠ 8 by decide)
      · rw [if_neg hv]
        have kn1 : k + 1 < n := lt (fun e => by rw [e] at hv; exact absurd (by decide) hv)
        have s2 := s1.one kn1 (c' := ((kindF (nx k), varOf (nx (k + 1)), -1) :: S, 5, L)) (if_neg hv)
        by_cases hu : varOf (nx (k + 2)) = -1
        · rw [if_pos hu]
          exact stop (by omega) s2 (if_pos hu) (show (5 : Nat) ≠ 8 by decide)
        · rw [if_neg hu]
          have kn2 : k + 2 < n := lt (fun e => by rw [e] at hu; exact absurd (by decide) hu)
          have s3 := s2.one kn2 (c' := ((kindF (nx k), varOf (nx (k + 1)), varOf (nx (k + 2))) :: S, 0, L)) (if_neg hu)
          obtain ⟨v, hv3, ev⟩ := varOf_nI hv
          obtain ⟨u, hu3, eu⟩ := varOf_nI hu
          rw [ev, eu] at s3
          rw [ev, eu, nI_clamp (by omega), nI_clamp (by omega)]
          have hF : FN L.length (kindF (nx k), nI v, nI u) := by
            rw [a4]
            rcases cb with h | h <;> rw [h]
            · exact Or.inr (Or.inr (Or.inl ⟨v, u, hv3, hu3, Or.inl rfl⟩))
            · exact Or.inr (Or.inr (Or.inl ⟨v, u, hv3, hu3, Or.inr rfl⟩))
          have h1 := ih (k + 3) ((kindF (nx k), nI v, nI u) :: S) L (by omega) (FN_put hF hS) (by show S.length + 1 + L.length ≤ k + 3; omega) (by omega)
          cases e : prs f nx (k + 3) with
          | mk o k1 =>
            rw [e] at h1
            cases o with
            | none =>
              obtain ⟨c, h2, h3, h4⟩ := h1
              exact ⟨c, s3.tr h2, h3, h4⟩
            | some A =>
              obtain ⟨M, h2⟩ := h1
              refine ⟨M ++ [A], ?_⟩
              have e2 : enC ((kindF (nx k), nI v, nI u) :: S) (L ++ M ++ [A]) (L ++ M).length = enC S (L ++ (M ++ [A]) ++ [qbD (decide (nx k = 97)) v u A]) (L ++ (M ++ [A])).length := by
                rw [enC_cons, getD_end, ← List.append_assoc, nI_clamp (by omega), nI_clamp (by omega), a4]
                rcases cb with h | h <;> rw [h]
                · rw [if_neg (by decide), if_neg (by decide), if_neg (by decide), if_pos (by decide)]; rfl
                · rw [if_neg (by decide), if_neg (by decide), if_neg (by decide), if_neg (by decide), if_pos (by decide)]; rfl
              rw [← e2]
              exact s3.tr h2
    rw [if_neg cb]
    by_cases hv : varOf (nx k) = -1
    · rw [if_pos hv]
      have hno : stC (nx k) (S, 0, L) = none := by
        refine (if_pos hv).trans ((if_neg ?_).trans (if_neg ?_))
        · intro h
          unfold kindF at h
          repeat' split at h
          all_goals first | (rcases h with h | h <;> exact absurd h (by decide)) | contradiction
        · intro h
          unfold kindF at h
          repeat' split at h
          all_goals first | exact absurd h (by decide) | contradiction | exact cq (Or.inl (by assumption)) | exact cq (Or.inr (by assumption)) | exact cb (Or.inl (by assumption)) | exact cb (Or.inr (by assumption))
      exact stop hk .refl hno (by show (0 : Nat) ≠ 8; decide)
    rw [if_neg hv]
    have kn : k < n := lt (fun e => by rw [e] at hv; exact absurd (by decide) hv)
    have s1 : Runs n nx (S, 0, L) k ((0, varOf (nx k), -1) :: S, 1, L) (k + 1) := .step kn (if_neg hv) .refl
    have hsg : ∀ c : Int32, (kindF c = 0 ∨ kindF c = 1) → c = 60 ∨ c = 61 := fun c h => by
      unfold kindF at h
      repeat' split at h
      all_goals first | (rcases h with h | h <;> exact absurd h (by decide)) | exact Or.inl (by assumption) | exact Or.inr (by assumption)
    by_cases cs : nx (k + 1) = 60 ∨ nx (k + 1) = 61
    · rw [if_pos cs]
      have kn1 : k + 1 < n := lt (by rcases cs with h | h <;> rw [h] <;> decide)
      have hk1 : (kindF (nx (k + 1)) = 0 ∨ kindF (nx (k + 1)) = 1) ∧ decide (kindF (nx (k + 1)) = 0) = decide (nx (k + 1) = 60) := by rcases cs with h | h <;> rw [h] <;> decide
      have s2 := s1.one kn1 (c' := ((kindF (nx (k + 1)), varOf (nx k), -1) :: S, 2, L)) (if_pos hk1.1)
      by_cases hu : varOf (nx (k + 2)) = -1
      · rw [if_pos hu]
        exact stop (by omega) s2 (if_pos hu) (show (2 : Nat) ≠ 8 by decide)
      · rw [if_neg hu]
        have kn2 : k + 2 < n := lt (fun e => by rw [e] at hu; exact absurd (by decide) hu)
        have s3 := s2.one kn2 (if_neg hu)
        rw [hk1.2] at s3
        refine ⟨[], ?_⟩
        rw [List.append_nil]
        exact s3
    · rw [if_neg cs]
      exact stop (by omega) s1 (if_neg (fun h => cs (hsg _ h))) (show (1 : Nat) ≠ 8 by decide)
