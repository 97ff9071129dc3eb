/-! 21: ReversalCourtModel: kindOf, letter, goesOn -/
set_option maxRecDepth 100000
section M11
variable {w : WD} {am fi : Nat → Nat} {ar : Nat → Nat → Int32} {h0 : AH}
theorem c_X2_kindOf (G : Good w) (d : Nat) {c : Int32} {h : AH} : Con w yX2_kindOf (ws_ yX2_kindOf cX2_kindOf 1 (some .int)) d 0 0 [.int c] h (Pi (kindF c) h) noX := by
  refine Con.of G [some (.int c)] (body := fun g C => ?_)
  by_cases h33 : c = 33
  · subst h33
    refine r_iload_0 (pc := 0) C dX2_kindOf_0 ?_
    refine r_lookup (pc := 1) (tgt := 104) C dX2_kindOf_1 (by decide) (off := 103) (by decide) (by decide) ?_
    refine r_iconst (pc := 104) (v := 2) C dX2_kindOf_104 (by decide) ?_
    refine r_iret (pc := 105) C dX2_kindOf_105 ?_
    exact ⟨rfl, rfl⟩
  by_cases h38 : c = 38
  · subst h38
    refine r_iload_0 (pc := 0) C dX2_kindOf_0 ?_
    refine r_lookup (pc := 1) (tgt := 106) C dX2_kindOf_1 (by decide) (off := 105) (by decide) (by decide) ?_
    refine r_iconst (pc := 106) (v := 3) C dX2_kindOf_106 (by decide) ?_
    refine r_iret (pc := 107) C dX2_kindOf_107 ?_
    exact ⟨rfl, rfl⟩
  by_cases h40 : c = 40
  · subst h40
    refine r_iload_0 (pc := 0) C dX2_kindOf_0 ?_
    refine r_lookup (pc := 1) (tgt := 124) C dX2_kindOf_1 (by decide) (off := 123) (by decide) (by decide) ?_
    refine r_bipush (pc := 124) (v := 10) C dX2_kindOf_124 (by decide) ?_
    refine r_iret (pc := 126) C dX2_kindOf_126 ?_
    exact ⟨rfl, rfl⟩
  by_cases h60 : c = 60
  · subst h60
    refine r_iload_0 (pc := 0) C dX2_kindOf_0 ?_
    refine r_lookup (pc := 1) (tgt := 100) C dX2_kindOf_1 (by decide) (off := 99) (by decide) (by decide) ?_
    refine r_iconst (pc := 100) (v := 0) C dX2_kindOf_100 (by decide) ?_
    refine r_iret (pc := 101) C dX2_kindOf_101 ?_
    exact ⟨rfl, rfl⟩
  by_cases h61 : c = 61
  · subst h61
    refine r_iload_0 (pc := 0) C dX2_kindOf_0 ?_
    refine r_lookup (pc := 1) (tgt := 102) C dX2_kindOf_1 (by decide) (off := 101) (by decide) (by decide) ?_
    refine r_iconst (pc := 102) (v := 1) C dX2_kindOf_102 (by decide) ?_
    refine r_iret (pc := 103) C dX2_kindOf_103 ?_
    exact ⟨rfl, rfl⟩
  by_cases h62 : c = 62
  · subst h62
    refine r_iload_0 (pc := 0) C dX2_kindOf_0 ?_
    refine r_lookup (pc := 1) (tgt := 110) C dX2_kindOf_1 (by decide) (off := 109) (by decide) (by decide) ?_
    refine r_iconst (pc := 110) (v := 5) C dX2_kindOf_110 (by decide) ?_
    refine r_iret (pc := 111) C dX2_kindOf_111 ?_
    exact ⟨rfl, rfl⟩
  by_cases h65 : c = 65
  · subst h65
    refine r_iload_0 (pc := 0) C dX2_kindOf_0 ?_
    refine r_lookup (pc := 1) (tgt := 112) C dX2_kindOf_1 (by decide) (off := 111) (by decide) (by decide) ?_
    refine r_bipush (pc := 112) (v := 6) C dX2_kindOf_112 (by decide) ?_
    refine r_iret (pc := 114) C dX2_kindOf_114 ?_
    exact ⟨rfl, rfl⟩
  by_cases h69 : c = 69
  · subst h69
    refine r_iload_0 (pc := 0) C dX2_kindOf_0 ?_
    refine r_lookup (pc := 1) (tgt := 115) C dX2_kindOf_1 (by decide) (off := 114) (by decide) (by decide) ?_
    refine r_bipush (pc := 115) (v := 7) C dX2_kindOf_115 (by decide) ?_
    refine r_iret (pc := 117) C dX2_kindOf_117 ?_
    exact ⟨rfl, rfl⟩
  by_cases h97 : c = 97
  · subst h97
    refine r_iload_0 (pc := 0) C dX2_kindOf_0 ?_
    refine r_lookup (pc := 1) (tgt := 118) C dX2_kindOf_1 (by decide) (off := 117) (by decide) (by decide) ?_
    refine r_bipush (pc := 118) (v := 8) C dX2_kindOf_118 (by decide) ?_
    refine r_iret (pc := 120) C dX2_kindOf_120 ?_
    exact ⟨rfl, rfl⟩
  by_cases h101 : c = 101
  · subst h101
    refine r_iload_0 (pc := 0) C dX2_kindOf_0 ?_
    refine r_lookup (pc := 1) (tgt := 121) C dX2_kindOf_1 (by decide) (off := 120) (by decide) (by decide) ?_
    refine r_bipush (pc := 121) (v := 9) C dX2_kindOf_121 (by decide) ?_
    refine r_iret (pc := 123) C dX2_kindOf_123 ?_
    exact ⟨rfl, rfl⟩
  by_cases h124 : c = 124
  · subst h124
    refine r_iload_0 (pc := 0) C dX2_kindOf_0 ?_
    refine r_lookup (pc := 1) (tgt := 108) C dX2_kindOf_1 (by decide) (off := 107) (by decide) (by decide) ?_
    refine r_iconst (pc := 108) (v := 4) C dX2_kindOf_108 (by decide) ?_
    refine r_iret (pc := 109) C dX2_kindOf_109 ?_
    exact ⟨rfl, rfl⟩
  have hi : ∀ k : Int32, c ≠ k → ¬ k.toInt = c.toInt := fun k h e => h (Int32.toInt_inj.mp e.symm)
  refine r_iload_0 (pc := 0) C dX2_kindOf_0 ?_
  refine r_lookup (pc := 1) (tgt := 127) C dX2_kindOf_1 (by decide) (off := 126) ?_ (by decide) ?_
  · show Op.lookupswitch.offset [(33, 103), (38, 105), (40, 123), (60, 99), (61, 101), (62, 109), (65, 111), (69, 114), (97, 117), (101, 120), (124, 107)] 126 c.toInt = 126
    simp only [Op.lookupswitch.offset]
    rw [if_neg (show ¬ (33 : Int) = c.toInt from hi 33 h33), if_neg (show ¬ (38 : Int) = c.toInt from hi 38 h38), if_neg (show ¬ (40 : Int) = c.toInt from hi 40 h40), if_neg (show ¬ (60 : Int) = c.toInt from hi 60 h60), if_neg (show ¬ (61 : Int) = c.toInt from hi 61 h61), if_neg (show ¬ (62 : Int) = c.toInt from hi 62 h62), if_neg (show ¬ (65 : Int) = c.toInt from hi 65 h65), if_neg (show ¬ (69 : Int) = c.toInt from hi 69 h69), if_neg (show ¬ (97 : Int) = c.toInt from hi 97 h97), if_neg (show ¬ (101 : Int) = c.toInt from hi 101 h101), if_neg (show ¬ (124 : Int) = c.toInt from hi 124 h124)]
  refine r_iconst (pc := 127) (v := -1) C dX2_kindOf_127 (by decide) ?_
  refine r_iret (pc := 128) C dX2_kindOf_128 ?_
  exact ⟨by unfold kindF; rw [if_neg h33, if_neg h38, if_neg h40, if_neg h60, if_neg h61, if_neg h62, if_neg h65, if_neg h69, if_neg h97, if_neg h101, if_neg h124], rfl⟩
theorem EnS.tr {fi fi1 fi' : Nat → Nat} {ar ar1 ar' : Nat → Nat → Int32} {c : Cf} (ho : Oth ar ar1) (hf : ∀ k, k ≠ 3 → k ≠ 12 → k ≠ 16 → fi1 k = fi k) (h : EnS fi1 fi' ar1 ar' c) : EnS fi fi' ar ar' c := by
  obtain ⟨h1, h2, h3, h4, h5, h6, h7⟩ := h
  exact ⟨h1, h2, h3, h4, h5, Oth.tr ho h6, fun k a b c => (h7 k a b c).trans (hf k a b c)⟩
theorem EnS.sz {fi fi' : Nat → Nat} {ar ar' : Nat → Nat → Int32} {c : Cf} (h : EnS fi fi' ar ar' c) : Oth ar ar' ∧ ∀ k, k ≠ 3 → k ≠ 12 → k ≠ 16 → fi' k = fi k := ⟨h.2.2.2.2.2.1, h.2.2.2.2.2.2⟩
theorem bg_pa {ar : Nat → Nat → Int32} {L : List DN} {p : Nat} {s n b : Int32} (h : PA ar L) : PA (bgA ar p s n b) L := PA_eq (fun j j1 j2 => by unfold bgA; rw [aset_n (by omega), aset_n (by omega), aset_n (by omega)]) h
theorem EnS_bg {S : List T3} {L : List DN} {m : Nat} {s n b : Int32} (h12 : fi 12 = S.length) (h3 : fi 3 = L.length) (hS : SRl ar S) (hA : PA ar L) : EnS fi (fset (fset fi 12 (fi 12 + 1)) 16 m) ar (bgA ar (fi 12) s n b) ((s, n, b) :: S, m, L) := by
  rw [h12]
  exact ⟨rfl, rfl, h3, SRl_bg hS, bg_pa hA, bgA_oth, fun k k1 k2 k3 => by rw [fset_n k3, fset_n k2]⟩
theorem EnS_bg0 {S : List T3} {L : List DN} {s n b : Int32} (h12 : fi 12 = S.length) (h16 : fi 16 = 0) (h3 : fi 3 = L.length) (hS : SRl ar S) (hA : PA ar L) : EnS fi (fset fi 12 (fi 12 + 1)) ar (bgA ar (fi 12) s n b) ((s, n, b) :: S, 0, L) := by
  rw [h12]
  exact ⟨rfl, h16, h3, SRl_bg hS, bg_pa hA, bgA_oth, fun k k1 k2 k3 => by rw [fset_n k2]⟩
theorem SRl_top {ar ar' : Nat → Nat → Int32} {x y : T3} {t : List T3} (h : SRl ar (x :: t)) (h1 : ar' 10 t.length = y.1) (h2 : ar' 11 t.length = y.2.1) (h3 : ar' 12 t.length = y.2.2) (ho : ∀ i, i < t.length → ar' 10 i = ar 10 i ∧ ar' 11 i = ar 11 i ∧ ar' 12 i = ar 12 i) : SRl ar' (y :: t) := ⟨h1, h2, h3, SRl_eq ho h.2.2.2⟩
theorem EnS_k {k i o s : Int32} {t : List T3} {L : List DN} {m : Nat} (h12 : fi 12 = t.length + 1) (h3 : fi 3 = L.length) (hS : SRl ar ((k, i, o) :: t)) (hA : PA ar L) : EnS fi (fset fi 16 m) ar (aset ar 10 (upd (ar 10) t.length s)) ((s, i, o) :: t, m, L) :=
  ⟨h12, rfl, h3, SRl_top hS pk_us hS.2.1 hS.2.2.1 (fun i hi => ⟨pk_un (by omega), rfl, rfl⟩), PA_eq (fun j j1 j2 => aset_n (by omega)) hA, Oth.aset (by decide), fun k k1 k2 k3 => by rw [fset_n k3]⟩
theorem EnS_i {k i o s : Int32} {t : List T3} {L : List DN} {m : Nat} (h12 : fi 12 = t.length + 1) (h3 : fi 3 = L.length) (hS : SRl ar ((k, i, o) :: t)) (hA : PA ar L) : EnS fi (fset fi 16 m) ar (aset ar 11 (upd (ar 11) t.length s)) ((k, s, o) :: t, m, L) :=
  ⟨h12, rfl, h3, SRl_top hS hS.1 pk_us hS.2.2.1 (fun i hi => ⟨rfl, pk_un (by omega), rfl⟩), PA_eq (fun j j1 j2 => aset_n (by omega)) hA, Oth.aset (by decide), fun k k1 k2 k3 => by rw [fset_n k3]⟩
theorem EnS_o {k i o s : Int32} {t : List T3} {L : List DN} {m : Nat} (h12 : fi 12 = t.length + 1) (h3 : fi 3 = L.length) (hS : SRl ar ((k, i, o) :: t)) (hA : PA ar L) : EnS fi (fset fi 16 m) ar (aset ar 12 (upd (ar 12) t.length s)) ((k, i, s) :: t, m, L) :=
  ⟨h12, rfl, h3, SRl_top hS hS.1 hS.2.1 pk_us (fun i hi => ⟨rfl, rfl, pk_un (by omega)⟩), PA_eq (fun j j1 j2 => aset_n (by omega)) hA, Oth.aset (by decide), fun k k1 k2 k3 => by rw [fset_n k3]⟩
theorem kE {g : MG} {Q : State → Prop} {pc' k n : Nat} {ls : List (Option Value)} {st : List Value} {P : (Nat → Nat) → (Nat → Nat → Int32) → Prop} (kk : ∀ fi' ar', P fi' ar' → wp w g Q pc' ls st (mput w am fi' ar' h0) k n) : ∀ v h', (v = none ∧ ∃ fi' ar', h' = mput w am fi' ar' h0 ∧ P fi' ar') → wp w g Q pc' ls (v.toList ++ st) h' k n := by
  rintro v h' ⟨rfl, fi', ar', rfl, hp⟩
  exact kk fi' ar' hp
theorem or_if {a b c : Int32} : (¬ (if a = b then (1 : Int32) else if a = c then 1 else 0) = 0) ↔ (a = b ∨ a = c) := by
  by_cases h1 : a = b <;> by_cases h2 : a = c <;> simp [h1, h2]
theorem Gok {c : Int32} {C0 c' : Cf} {fi' : Nat → Nat} {ar' : Nat → Nat → Int32} (hst : stC c C0 = some c') (E : EnS fi fi' ar ar' c') : (1 : Int32) = bI (stC c C0).isSome ∧ ∃ fi2 ar2, mput w am fi' ar' h0 = mput w am fi2 ar2 h0 ∧ (Oth ar ar2 ∧ ∀ k, k ≠ 3 → k ≠ 12 → k ≠ 16 → fi2 k = fi k) ∧ ∀ c', stC c C0 = some c' → EnS fi fi2 ar ar2 c' :=
  ⟨by rw [hst]; rfl, fi', ar', rfl, E.sz, fun c2 h => by rw [hst] at h; cases h; exact E⟩
theorem Gno {c : Int32} {C0 : Cf} {fi' : Nat → Nat} {ar' : Nat → Nat → Int32} (hst : stC c C0 = none) (E : Oth ar ar' ∧ ∀ k, k ≠ 3 → k ≠ 12 → k ≠ 16 → fi' k = fi k) : (0 : Int32) = bI (stC c C0).isSome ∧ ∃ fi2 ar2, mput w am fi' ar' h0 = mput w am fi2 ar2 h0 ∧ (Oth ar ar2 ∧ ∀ k, k ≠ 3 → k ≠ 12 → k ≠ 16 → fi2 k = fi k) ∧ ∀ c', stC c C0 = some c' → EnS fi fi2 ar ar2 c' :=
  ⟨by rw [hst]; rfl, fi', ar', rfl, E, fun c2 h => by rw [hst] at h; cases h⟩
theorem c_X2_startsWith (G : Good w) (d : Nat) (hd : 2 ≤ d) {c : Int32} {S : List T3} {L : List DN} (hI : MI am) (h12 : fi 12 = S.length) (h16 : fi 16 = 0) (h3 : fi 3 = L.length) (hS : SRl ar S) (hA : PA ar L) (hl : S.length + L.length < 40) : Con w yX2_startsWith (ws_ yX2_startsWith cX2_startsWith 3 (some .boolean)) d 0 0 [.ref (am 0), .int c] (mput w am fi ar h0) (Qi (fun r h' => r = bI (stC c (S, 0, L)).isSome ∧ ∃ fi' ar', h' = mput w am fi' ar' h0 ∧ (Oth ar ar' ∧ ∀ k, k ≠ 3 → k ≠ 12 → k ≠ 16 → fi' k = fi k) ∧ ∀ c', stC c (S, 0, L) = some c' → EnS fi fi' ar ar' c')) noX := by
  refine Con.of G [some (.ref (am 0)), some (.int c), none] (body := fun g C => ?_)
  have hb : fi 12 < 41 := by omega
  have e1 : ¬ varOf c = -1 → stC c ((S, 0, L)) = some ((0, varOf c, -1) :: S, 1, L) := fun h => if_neg h
  have e2 : varOf c = -1 → (kindF c = 2 ∨ kindF c = 10) → stC c ((S, 0, L)) = some ((kindF c, -1, -1) :: S, 0, L) := fun h h2 => (if_pos h).trans (if_pos h2)
  have e3 : varOf c = -1 → ¬ (kindF c = 2 ∨ kindF c = 10) → inB (kindF c) 6 9 = true → stC c ((S, 0, L)) = some ((kindF c, -1, -1) :: S, (if kindF c < 8 then 3 else 4), L) := fun h h2 h3 => (if_pos h).trans ((if_neg h2).trans (if_pos h3))
  have e4 : varOf c = -1 → ¬ (kindF c = 2 ∨ kindF c = 10) → ¬ inB (kindF c) 6 9 = true → stC c ((S, 0, L)) = none := fun h h2 h3 => (if_pos h).trans ((if_neg h2).trans (if_neg h3))
  refine r_iload_1 (pc := 0) C dX2_startsWith_0 ?_
  refine r_callS (pc := 1) (nA := 1) C (c_X2_kindOf G (d - 1)) (h1 := q1573) (h2 := q1574) (h3 := q61) (h4 := q1575)  (hd := dX2_startsWith_1) (kk := kP ?_) (kx := kN)
  refine r_istore_2 (pc := 4) C dX2_startsWith_4 ?_
  refine r_iload_1 (pc := 5) C dX2_startsWith_5 ?_
  refine r_callS (pc := 6) (nA := 1) C (c_X2_variableOf G (d - 1) (by omega)) (h1 := q1567) (h2 := q1568) (h3 := q61) (h4 := q1569)  (hd := dX2_startsWith_6) (kk := kP ?_) (kx := kN)
  refine r_iconst (pc := 9) (v := -1) C dX2_startsWith_9 (by decide) ?_
  refine r_iceq (pc := 10) (tgt := 31) C dX2_startsWith_10 (by decide) (fun c_10 => ?_) (fun c_10 => ?_)
  · refine r_iload_2 (pc := 31) C dX2_startsWith_31 ?_
    refine r_iconst (pc := 32) (v := 2) C dX2_startsWith_32 (by decide) ?_
    refine r_iceq (pc := 33) (tgt := 42) C dX2_startsWith_33 (by decide) (fun c_33 => ?_) (fun c_33 => ?_)
    · refine r_aload_0 (pc := 42) C dX2_startsWith_42 ?_
      refine r_iload_2 (pc := 43) C dX2_startsWith_43 ?_
      refine r_iconst (pc := 44) (v := -1) C dX2_startsWith_44 (by decide) ?_
      refine r_iconst (pc := 45) (v := -1) C dX2_startsWith_45 (by decide) ?_
      refine r_callV (pc := 46) (nA := 3) C (c_X2_begin G (d - 1) hI hb) (ha := (mput_at hI (j := 0) (by decide))) (hc := rfl) (h1 := q1600) (h2 := q1602) (h3 := qs29) (h4 := q61) (h5 := q1603)  (hd := dX2_startsWith_46) (kk := kPv ?_) (kx := kN)
      refine r_goto (pc := 49) (tgt := 90) C dX2_startsWith_49 (by decide) ?_
      refine r_iconst (pc := 90) (v := 1) C dX2_startsWith_90 (by decide) ?_
      refine r_zret (pc := 91) C dX2_startsWith_91 (by (repeat' split) <;> rfl) ?_
      first
        | exact ⟨_, rfl, Gok (e1 c_10) (EnS_bg h12 h3 hS hA)⟩
        | exact ⟨_, rfl, Gok (e3 c_10 hq (bI_ne.mp c_60)) (EnS_bg h12 h3 hS hA)⟩
        | exact ⟨_, rfl, Gok (e2 c_10 (Or.inl c_33)) (EnS_bg0 h12 h16 h3 hS hA)⟩
        | exact ⟨_, rfl, Gok (e2 c_10 (Or.inr c_39)) (EnS_bg0 h12 h16 h3 hS hA)⟩
    · refine r_iload_2 (pc := 36) C dX2_startsWith_36 ?_
      refine r_bipush (pc := 37) (v := 10) C dX2_startsWith_37 (by decide) ?_
      refine r_icne (pc := 39) (tgt := 52) C dX2_startsWith_39 (by decide) (fun c_39 => ?_) (fun c_39 => ?_)
      · refine r_iload_2 (pc := 52) C dX2_startsWith_52 ?_
        refine r_bipush (pc := 53) (v := 6) C dX2_startsWith_53 (by decide) ?_
        refine r_bipush (pc := 55) (v := 9) C dX2_startsWith_55 (by decide) ?_
        refine r_callS (pc := 57) (nA := 3) C (c_X2_in G (d - 1)) (h1 := q1570) (h2 := q1571) (h3 := q61) (h4 := q1572)  (hd := dX2_startsWith_57) (kk := kP ?_) (kx := kN)
        refine r_ifeq (pc := 60) (tgt := 88) C dX2_startsWith_60 (by decide) (fun c_60 => ?_) (fun c_60 => ?_)
        · have hq : ¬ (kindF c = 2 ∨ kindF c = 10) := fun h => h.elim (fun h => absurd h (by assumption)) (fun h => absurd h (by assumption))
          refine r_iconst (pc := 88) (v := 0) C dX2_startsWith_88 (by decide) ?_
          refine r_zret (pc := 89) C dX2_startsWith_89 (by (repeat' split) <;> rfl) ?_
          exact ⟨_, rfl, Gno (e4 c_10 hq (fun h => by rw [h] at c_60; exact absurd c_60 (by decide))) ⟨Oth.rf, fun _ _ _ _ => rfl⟩⟩
        · have hq : ¬ (kindF c = 2 ∨ kindF c = 10) := fun h => h.elim (fun h => absurd h (by assumption)) (fun h => absurd h (by assumption))
          refine r_aload_0 (pc := 63) C dX2_startsWith_63 ?_
          refine r_iload_2 (pc := 64) C dX2_startsWith_64 ?_
          refine r_iconst (pc := 65) (v := -1) C dX2_startsWith_65 (by decide) ?_
          refine r_iconst (pc := 66) (v := -1) C dX2_startsWith_66 (by decide) ?_
          refine r_callV (pc := 67) (nA := 3) C (c_X2_begin G (d - 1) hI hb) (ha := (mput_at hI (j := 0) (by decide))) (hc := rfl) (h1 := q1600) (h2 := q1602) (h3 := qs29) (h4 := q61) (h5 := q1603)  (hd := dX2_startsWith_67) (kk := kPv ?_) (kx := kN)
          refine r_aload_0 (pc := 70) C dX2_startsWith_70 ?_
          refine r_iload_2 (pc := 71) C dX2_startsWith_71 ?_
          refine r_bipush (pc := 72) (v := 8) C dX2_startsWith_72 (by decide) ?_
          refine r_icge (pc := 74) (tgt := 81) C dX2_startsWith_74 (by decide) (fun c_74 => ?_) (fun c_74 => ?_)
          · refine r_iconst (pc := 81) (v := 4) C dX2_startsWith_81 (by decide) ?_
            refine r_mp16 (pc := 82) (v := (if kindF c < 8 then 3 else 4)) C hI (by first | (rw [if_pos (Int32.not_le.mp (by assumption))]; rfl) | (rw [if_neg (Int32.not_lt.mpr (by assumption))]; rfl)) dX2_startsWith_82 ?_
            refine r_goto (pc := 85) (tgt := 90) C dX2_startsWith_85 (by decide) ?_
            refine r_iconst (pc := 90) (v := 1) C dX2_startsWith_90 (by decide) ?_
            refine r_zret (pc := 91) C dX2_startsWith_91 (by (repeat' split) <;> rfl) ?_
            first
              | exact ⟨_, rfl, Gok (e1 c_10) (EnS_bg h12 h3 hS hA)⟩
              | exact ⟨_, rfl, Gok (e3 c_10 hq (bI_ne.mp c_60)) (EnS_bg h12 h3 hS hA)⟩
              | exact ⟨_, rfl, Gok (e2 c_10 (Or.inl c_33)) (EnS_bg0 h12 h16 h3 hS hA)⟩
              | exact ⟨_, rfl, Gok (e2 c_10 (Or.inr c_39)) (EnS_bg0 h12 h16 h3 hS hA)⟩
          · refine r_iconst (pc := 77) (v := 3) C dX2_startsWith_77 (by decide) ?_
            refine r_goto (pc := 78) (tgt := 82) C dX2_startsWith_78 (by decide) ?_
            refine r_mp16 (pc := 82) (v := (if kindF c < 8 then 3 else 4)) C hI (by first | (rw [if_pos (Int32.not_le.mp (by assumption))]; rfl) | (rw [if_neg (Int32.not_lt.mpr (by assumption))]; rfl)) dX2_startsWith_82 ?_
            refine r_goto (pc := 85) (tgt := 90) C dX2_startsWith_85 (by decide) ?_
            refine r_iconst (pc := 90) (v := 1) C dX2_startsWith_90 (by decide) ?_
            refine r_zret (pc := 91) C dX2_startsWith_91 (by (repeat' split) <;> rfl) ?_
            first
              | exact ⟨_, rfl, Gok (e1 c_10) (EnS_bg h12 h3 hS hA)⟩
              | exact ⟨_, rfl, Gok (e3 c_10 hq (bI_ne.mp c_60)) (EnS_bg h12 h3 hS hA)⟩
              | exact ⟨_, rfl, Gok (e2 c_10 (Or.inl c_33)) (EnS_bg0 h12 h16 h3 hS hA)⟩
              | exact ⟨_, rfl, Gok (e2 c_10 (Or.inr c_39)) (EnS_bg0 h12 h16 h3 hS hA)⟩
      · refine r_aload_0 (pc := 42) C dX2_startsWith_42 ?_
        refine r_iload_2 (pc := 43) C dX2_startsWith_43 ?_
        refine r_iconst (pc := 44) (v := -1) C dX2_startsWith_44 (by decide) ?_
        refine r_iconst (pc := 45) (v := -1) C dX2_startsWith_45 (by decide) ?_
        refine r_callV (pc := 46) (nA := 3) C (c_X2_begin G (d - 1) hI hb) (ha := (mput_at hI (j := 0) (by decide))) (hc := rfl) (h1 := q1600) (h2 := q1602) (h3 := qs29) (h4 := q61) (h5 := q1603)  (hd := dX2_startsWith_46) (kk := kPv ?_) (kx := kN)
        refine r_goto (pc := 49) (tgt := 90) C dX2_startsWith_49 (by decide) ?_
        refine r_iconst (pc := 90) (v := 1) C dX2_startsWith_90 (by decide) ?_
        refine r_zret (pc := 91) C dX2_startsWith_91 (by (repeat' split) <;> rfl) ?_
        first
          | exact ⟨_, rfl, Gok (e1 c_10) (EnS_bg h12 h3 hS hA)⟩
          | exact ⟨_, rfl, Gok (e3 c_10 hq (bI_ne.mp c_60)) (EnS_bg h12 h3 hS hA)⟩
          | exact ⟨_, rfl, Gok (e2 c_10 (Or.inl c_33)) (EnS_bg0 h12 h16 h3 hS hA)⟩
          | exact ⟨_, rfl, Gok (e2 c_10 (Or.inr c_39)) (EnS_bg0 h12 h16 h3 hS hA)⟩
  · refine r_aload_0 (pc := 13) C dX2_startsWith_13 ?_
    refine r_iconst (pc := 14) (v := 0) C dX2_startsWith_14 (by decide) ?_
    refine r_iload_1 (pc := 15) C dX2_startsWith_15 ?_
    refine r_callS (pc := 16) (nA := 1) C (c_X2_variableOf G (d - 1) (by omega)) (h1 := q1567) (h2 := q1568) (h3 := q61) (h4 := q1569)  (hd := dX2_startsWith_16) (kk := kP ?_) (kx := kN)
    refine r_iconst (pc := 19) (v := -1) C dX2_startsWith_19 (by decide) ?_
    refine r_callV (pc := 20) (nA := 3) C (c_X2_begin G (d - 1) hI hb) (ha := (mput_at hI (j := 0) (by decide))) (hc := rfl) (h1 := q1600) (h2 := q1602) (h3 := qs29) (h4 := q61) (h5 := q1603)  (hd := dX2_startsWith_20) (kk := kPv ?_) (kx := kN)
    refine r_aload_0 (pc := 23) C dX2_startsWith_23 ?_
    refine r_iconst (pc := 24) (v := 1) C dX2_startsWith_24 (by decide) ?_
    refine r_mp16 (pc := 25) (v := 1) C hI rfl dX2_startsWith_25 ?_
    refine r_goto (pc := 28) (tgt := 90) C dX2_startsWith_28 (by decide) ?_
    refine r_iconst (pc := 90) (v := 1) C dX2_startsWith_90 (by decide) ?_
    refine r_zret (pc := 91) C dX2_startsWith_91 (by (repeat' split) <;> rfl) ?_
    first
      | exact ⟨_, rfl, Gok (e1 c_10) (EnS_bg h12 h3 hS hA)⟩
      | exact ⟨_, rfl, Gok (e3 c_10 hq (bI_ne.mp c_60)) (EnS_bg h12 h3 hS hA)⟩
      | exact ⟨_, rfl, Gok (e2 c_10 (Or.inl c_33)) (EnS_bg0 h12 h16 h3 hS hA)⟩
      | exact ⟨_, rfl, Gok (e2 c_10 (Or.inr c_39)) (EnS_bg0 h12 h16 h3 hS hA)⟩

theorem c_X2_names_2 (G : Good w) (d : Nat) (hd : 4 ≤ d) {c k : Int32} {t : List T3} {L : List DN} {v : Nat} (hv : v < 3) (hk : k = 0 ∨ k = 1) (ht : ∀ y ∈ t, FN L.length y) (hI : MI am) (h12 : fi 12 = t.length + 1) (h16 : fi 16 = 2) (h3 : fi 3 = L.length) (hA : PA ar L) (hl : t.length + 1 + L.length < 40) (hS : SRl ar ((k, nI v, -1) :: t)) : Con w yX2_names (ws_ yX2_names cX2_names 3 (some .boolean)) d 0 0 [.ref (am 0), .int c] (mput w am fi ar h0) (Qi (fun r h' => r = bI (stC c ((k, nI v, -1) :: t, 2, L)).isSome ∧ ∃ fi' ar', h' = mput w am fi' ar' h0 ∧ (Oth ar ar' ∧ ∀ k, k ≠ 3 → k ≠ 12 → k ≠ 16 → fi' k = fi k) ∧ ∀ c', stC c ((k, nI v, -1) :: t, 2, L) = some c' → EnS fi fi' ar ar' c')) noX := by
  refine Con.of G [some (.ref (am 0)), some (.int c), none] (body := fun g C => ?_)
  refine r_iload_1 (pc := 0) C dX2_names_0 ?_
  refine r_callS (pc := 1) (nA := 1) C (c_X2_variableOf G (d - 1) (by omega)) (h1 := q1567) (h2 := q1568) (h3 := q61) (h4 := q1569)  (hd := dX2_names_1) (kk := kP ?_) (kx := kN)
  refine r_istore_2 (pc := 4) C dX2_names_4 ?_
  refine r_iload_2 (pc := 5) C dX2_names_5 ?_
  refine r_iconst (pc := 6) (v := -1) C dX2_names_6 (by decide) ?_
  refine r_icne (pc := 7) (tgt := 12) C dX2_names_7 (by decide) (fun c_7 => ?_) (fun c_7 => ?_)
  · obtain ⟨u, hu, ev⟩ := varOf_nI c_7
    refine r_aload_0 (pc := 12) C dX2_names_12 ?_
    refine r_mg16 (pc := 13) C hI dX2_names_13 ?_
    rw [h16]
    refine r_iconst (pc := 16) (v := 2) C dX2_names_16 (by decide) ?_
    refine r_icne (pc := 17) (tgt := 62) C dX2_names_17 (by decide) (fun c_17 => ?_) (fun c_17 => ?_)
    · exact absurd rfl c_17 --halt
    · refine r_aload_0 (pc := 20) C dX2_names_20 ?_
      refine r_dup (pc := 21) C dX2_names_21 rfl ?_
      refine r_mg12 (pc := 22) C hI dX2_names_22 ?_
      refine r_iconst (pc := 25) (v := 1) C dX2_names_25 (by decide) ?_
      refine r_isub (pc := 26) C dX2_names_26 ?_
      refine r_mp12 (pc := 27) (v := t.length) C hI (by rw [h12]; exact nI_pred _) dX2_names_27 ?_
      refine r_aload_0 (pc := 30) C dX2_names_30 ?_
      refine r_aload_0 (pc := 31) C dX2_names_31 ?_
      refine r_aload_0 (pc := 32) C dX2_names_32 ?_
      refine r_mg13 (pc := 33) C hI dX2_names_33 ?_
      refine r_aload_0 (pc := 36) C dX2_names_36 ?_
      refine r_mg12 (pc := 37) C hI dX2_names_37 ?_
      rw [fset_s]
      refine r_mniald (pc := 40) C hI (by decide) (by decide) rfl (by simp only [mlen]; omega) (by decide) dX2_names_40 ?_
      rw [hS.1]
      refine r_iconst (pc := 41) (v := -1) C dX2_names_41 (by decide) ?_
      refine r_iconst (pc := 42) (v := -1) C dX2_names_42 (by decide) ?_
      refine r_aload_0 (pc := 43) C dX2_names_43 ?_
      refine r_mg14 (pc := 44) C hI dX2_names_44 ?_
      refine r_aload_0 (pc := 47) C dX2_names_47 ?_
      refine r_mg12 (pc := 48) C hI dX2_names_48 ?_
      rw [fset_s]
      refine r_mniald (pc := 51) C hI (by decide) (by decide) rfl (by simp only [mlen]; omega) (by decide) dX2_names_51 ?_
      rw [hS.2.1, ev]
      refine r_iload_2 (pc := 52) C dX2_names_52 ?_
      refine r_callV (pc := 53) (nA := 5) C (c_X2_make G (d - 1) (by omega) (L := L) (D := atD (decide (k = 0)) v u) hI (show fset fi 12 t.length 3 = L.length from h3) (by omega) hA (Or.inl ⟨hk, rfl, rfl, v, u, hv, hu, rfl, rfl, rfl⟩)) (ha := (mput_at hI (j := 0) (by decide))) (hc := rfl) (h1 := q1604) (h2 := q1606) (h3 := qs30) (h4 := q61) (h5 := q1607)  (hd := dX2_names_53) (kk := kP ?_) (kx := kN)
      refine r_callV (pc := 56) (nA := 1) C (c_X2_end G (d - 1) (by omega) (S := t) (L := L ++ [atD (decide (k = 0)) v u]) (q := L.length) hI rfl (by rw [List.length_append]; rfl) (by rw [List.length_append]; show L.length + 1 + t.length ≤ 40; omega) (SRl_mk hS.2.2.2) (fun y hy => (ht y hy).fv) (PA_mk hA (Or.inl ⟨hk, rfl, rfl, v, u, hv, hu, rfl, rfl, rfl⟩)) (by rw [List.length_append]; exact Nat.lt_succ_self _)) (ha := (mput_at hI (j := 0) (by decide))) (hc := rfl) (h1 := q1615) (h2 := q1617) (h3 := qs32) (h4 := q61) (h5 := q1618)  (hd := dX2_names_56) (kk := (kE fun fi2 ar2 hE => ?_)) (kx := kN)
      refine r_goto (pc := 59) (tgt := 119) C dX2_names_59 (by decide) ?_
      refine r_iconst (pc := 119) (v := 1) C dX2_names_119 (by decide) ?_
      refine r_zret (pc := 120) C dX2_names_120 (by (repeat' split) <;> rfl) ?_
      exact ⟨_, rfl, Gok ((if_neg c_7).trans (by rw [ev, nI_clamp (by omega), nI_clamp (by omega)])) (EnS.tr mkA_oth (fun k k1 k2 k3 => by rw [fset_n k1, fset_n k2]) hE)⟩
  · refine r_iconst (pc := 10) (v := 0) C dX2_names_10 (by decide) ?_
    refine r_zret (pc := 11) C dX2_names_11 (by (repeat' split) <;> rfl) ?_
    exact ⟨_, rfl, Gno (if_pos (by assumption)) ⟨Oth.rf, fun _ _ _ _ => rfl⟩⟩
theorem c_X2_names_3 (G : Good w) (d : Nat) (hd : 4 ≤ d) {c k : Int32} {t : List T3} {L : List DN} (hI : MI am) (h12 : fi 12 = t.length + 1) (h16 : fi 16 = 3) (h3 : fi 3 = L.length) (hA : PA ar L) (hl : t.length + 1 + L.length < 40) (hS : SRl ar ((k, -1, -1) :: t)) : Con w yX2_names (ws_ yX2_names cX2_names 3 (some .boolean)) d 0 0 [.ref (am 0), .int c] (mput w am fi ar h0) (Qi (fun r h' => r = bI (stC c ((k, -1, -1) :: t, 3, L)).isSome ∧ ∃ fi' ar', h' = mput w am fi' ar' h0 ∧ (Oth ar ar' ∧ ∀ k, k ≠ 3 → k ≠ 12 → k ≠ 16 → fi' k = fi k) ∧ ∀ c', stC c ((k, -1, -1) :: t, 3, L) = some c' → EnS fi fi' ar ar' c')) noX := by
  refine Con.of G [some (.ref (am 0)), some (.int c), none] (body := fun g C => ?_)
  refine r_iload_1 (pc := 0) C dX2_names_0 ?_
  refine r_callS (pc := 1) (nA := 1) C (c_X2_variableOf G (d - 1) (by omega)) (h1 := q1567) (h2 := q1568) (h3 := q61) (h4 := q1569)  (hd := dX2_names_1) (kk := kP ?_) (kx := kN)
  refine r_istore_2 (pc := 4) C dX2_names_4 ?_
  refine r_iload_2 (pc := 5) C dX2_names_5 ?_
  refine r_iconst (pc := 6) (v := -1) C dX2_names_6 (by decide) ?_
  refine r_icne (pc := 7) (tgt := 12) C dX2_names_7 (by decide) (fun c_7 => ?_) (fun c_7 => ?_)
  · obtain ⟨u, hu, ev⟩ := varOf_nI c_7
    refine r_aload_0 (pc := 12) C dX2_names_12 ?_
    refine r_mg16 (pc := 13) C hI dX2_names_13 ?_
    rw [h16]
    refine r_iconst (pc := 16) (v := 2) C dX2_names_16 (by decide) ?_
    refine r_icne (pc := 17) (tgt := 62) C dX2_names_17 (by decide) (fun c_17 => ?_) (fun c_17 => ?_)
    · refine r_aload_0 (pc := 62) C dX2_names_62 ?_
      refine r_mg16 (pc := 63) C hI dX2_names_63 ?_
      rw [h16]
      refine r_iconst (pc := 66) (v := 5) C dX2_names_66 (by decide) ?_
      refine r_icne (pc := 67) (tgt := 90) C dX2_names_67 (by decide) (fun c_67 => ?_) (fun c_67 => ?_)
      · refine r_aload_0 (pc := 90) C dX2_names_90 ?_
        refine r_mg14 (pc := 91) C hI dX2_names_91 ?_
        refine r_aload_0 (pc := 94) C dX2_names_94 ?_
        refine r_mg12 (pc := 95) C hI dX2_names_95 ?_
        rw [h12]
        refine r_iconst (pc := 98) (v := 1) C dX2_names_98 (by decide) ?_
        refine r_isub (pc := 99) C dX2_names_99 ?_
        rw [nI_pred]
        refine r_iload_2 (pc := 100) C dX2_names_100 ?_
        refine r_mniast (pc := 101) C hI (by decide) (by decide) rfl (by simp only [mlen]; omega) (by decide) dX2_names_101 ?_
        refine r_aload_0 (pc := 102) C dX2_names_102 ?_
        refine r_aload_0 (pc := 103) C dX2_names_103 ?_
        refine r_mg16 (pc := 104) C hI dX2_names_104 ?_
        rw [h16]
        refine r_iconst (pc := 107) (v := 4) C dX2_names_107 (by decide) ?_
        refine r_icne (pc := 108) (tgt := 115) C dX2_names_108 (by decide) (fun c_108 => ?_) (fun c_108 => ?_)
        · refine r_iconst (pc := 115) (v := 0) C dX2_names_115 (by decide) ?_
          refine r_mp16 (pc := 116) (v := 0) C hI rfl dX2_names_116 ?_
          refine r_iconst (pc := 119) (v := 1) C dX2_names_119 (by decide) ?_
          refine r_zret (pc := 120) C dX2_names_120 (by (repeat' split) <;> rfl) ?_
          exact ⟨_, rfl, Gok (if_neg c_7) (EnS_i h12 h3 hS hA)⟩
        · exact absurd c_108 (by decide) --halt
      · exact absurd c_67 (by decide) --halt
    · exact absurd c_17 (by decide) --halt
  · refine r_iconst (pc := 10) (v := 0) C dX2_names_10 (by decide) ?_
    refine r_zret (pc := 11) C dX2_names_11 (by (repeat' split) <;> rfl) ?_
    exact ⟨_, rfl, Gno (if_pos (by assumption)) ⟨Oth.rf, fun _ _ _ _ => rfl⟩⟩
theorem c_X2_names_4 (G : Good w) (d : Nat) (hd : 4 ≤ d) {c k : Int32} {t : List T3} {L : List DN} (hI : MI am) (h12 : fi 12 = t.length + 1) (h16 : fi 16 = 4) (h3 : fi 3 = L.length) (hA : PA ar L) (hl : t.length + 1 + L.length < 40) (hS : SRl ar ((k, -1, -1) :: t)) : Con w yX2_names (ws_ yX2_names cX2_names 3 (some .boolean)) d 0 0 [.ref (am 0), .int c] (mput w am fi ar h0) (Qi (fun r h' => r = bI (stC c ((k, -1, -1) :: t, 4, L)).isSome ∧ ∃ fi' ar', h' = mput w am fi' ar' h0 ∧ (Oth ar ar' ∧ ∀ k, k ≠ 3 → k ≠ 12 → k ≠ 16 → fi' k = fi k) ∧ ∀ c', stC c ((k, -1, -1) :: t, 4, L) = some c' → EnS fi fi' ar ar' c')) noX := by
  refine Con.of G [some (.ref (am 0)), some (.int c), none] (body := fun g C => ?_)
  refine r_iload_1 (pc := 0) C dX2_names_0 ?_
  refine r_callS (pc := 1) (nA := 1) C (c_X2_variableOf G (d - 1) (by omega)) (h1 := q1567) (h2 := q1568) (h3 := q61) (h4 := q1569)  (hd := dX2_names_1) (kk := kP ?_) (kx := kN)
  refine r_istore_2 (pc := 4) C dX2_names_4 ?_
  refine r_iload_2 (pc := 5) C dX2_names_5 ?_
  refine r_iconst (pc := 6) (v := -1) C dX2_names_6 (by decide) ?_
  refine r_icne (pc := 7) (tgt := 12) C dX2_names_7 (by decide) (fun c_7 => ?_) (fun c_7 => ?_)
  · obtain ⟨u, hu, ev⟩ := varOf_nI c_7
    refine r_aload_0 (pc := 12) C dX2_names_12 ?_
    refine r_mg16 (pc := 13) C hI dX2_names_13 ?_
    rw [h16]
    refine r_iconst (pc := 16) (v := 2) C dX2_names_16 (by decide) ?_
    refine r_icne (pc := 17) (tgt := 62) C dX2_names_17 (by decide) (fun c_17 => ?_) (fun c_17 => ?_)
    · refine r_aload_0 (pc := 62) C dX2_names_62 ?_
      refine r_mg16 (pc := 63) C hI dX2_names_63 ?_
      rw [h16]
      refine r_iconst (pc := 66) (v := 5) C dX2_names_66 (by decide) ?_
      refine r_icne (pc := 67) (tgt := 90) C dX2_names_67 (by decide) (fun c_67 => ?_) (fun c_67 => ?_)
      · refine r_aload_0 (pc := 90) C dX2_names_90 ?_
        refine r_mg14 (pc := 91) C hI dX2_names_91 ?_
        refine r_aload_0 (pc := 94) C dX2_names_94 ?_
        refine r_mg12 (pc := 95) C hI dX2_names_95 ?_
        rw [h12]
        refine r_iconst (pc := 98) (v := 1) C dX2_names_98 (by decide) ?_
        refine r_isub (pc := 99) C dX2_names_99 ?_
        rw [nI_pred]
        refine r_iload_2 (pc := 100) C dX2_names_100 ?_
        refine r_mniast (pc := 101) C hI (by decide) (by decide) rfl (by simp only [mlen]; omega) (by decide) dX2_names_101 ?_
        refine r_aload_0 (pc := 102) C dX2_names_102 ?_
        refine r_aload_0 (pc := 103) C dX2_names_103 ?_
        refine r_mg16 (pc := 104) C hI dX2_names_104 ?_
        rw [h16]
        refine r_iconst (pc := 107) (v := 4) C dX2_names_107 (by decide) ?_
        refine r_icne (pc := 108) (tgt := 115) C dX2_names_108 (by decide) (fun c_108 => ?_) (fun c_108 => ?_)
        · exact absurd rfl c_108 --halt
        · refine r_iconst (pc := 111) (v := 5) C dX2_names_111 (by decide) ?_
          refine r_goto (pc := 112) (tgt := 116) C dX2_names_112 (by decide) ?_
          refine r_mp16 (pc := 116) (v := 5) C hI rfl dX2_names_116 ?_
          refine r_iconst (pc := 119) (v := 1) C dX2_names_119 (by decide) ?_
          refine r_zret (pc := 120) C dX2_names_120 (by (repeat' split) <;> rfl) ?_
          exact ⟨_, rfl, Gok (if_neg c_7) (EnS_i h12 h3 hS hA)⟩
      · exact absurd c_67 (by decide) --halt
    · exact absurd c_17 (by decide) --halt
  · refine r_iconst (pc := 10) (v := 0) C dX2_names_10 (by decide) ?_
    refine r_zret (pc := 11) C dX2_names_11 (by (repeat' split) <;> rfl) ?_
    exact ⟨_, rfl, Gno (if_pos (by assumption)) ⟨Oth.rf, fun _ _ _ _ => rfl⟩⟩
theorem c_X2_names_5 (G : Good w) (d : Nat) (hd : 4 ≤ d) {c k : Int32} {t : List T3} {L : List DN} {v : Nat} (hv : v < 3) (hI : MI am) (h12 : fi 12 = t.length + 1) (h16 : fi 16 = 5) (h3 : fi 3 = L.length) (hA : PA ar L) (hl : t.length + 1 + L.length < 40) (hS : SRl ar ((k, nI v, -1) :: t)) : Con w yX2_names (ws_ yX2_names cX2_names 3 (some .boolean)) d 0 0 [.ref (am 0), .int c] (mput w am fi ar h0) (Qi (fun r h' => r = bI (stC c ((k, nI v, -1) :: t, 5, L)).isSome ∧ ∃ fi' ar', h' = mput w am fi' ar' h0 ∧ (Oth ar ar' ∧ ∀ k, k ≠ 3 → k ≠ 12 → k ≠ 16 → fi' k = fi k) ∧ ∀ c', stC c ((k, nI v, -1) :: t, 5, L) = some c' → EnS fi fi' ar ar' c')) noX := by
  refine Con.of G [some (.ref (am 0)), some (.int c), none] (body := fun g C => ?_)
  refine r_iload_1 (pc := 0) C dX2_names_0 ?_
  refine r_callS (pc := 1) (nA := 1) C (c_X2_variableOf G (d - 1) (by omega)) (h1 := q1567) (h2 := q1568) (h3 := q61) (h4 := q1569)  (hd := dX2_names_1) (kk := kP ?_) (kx := kN)
  refine r_istore_2 (pc := 4) C dX2_names_4 ?_
  refine r_iload_2 (pc := 5) C dX2_names_5 ?_
  refine r_iconst (pc := 6) (v := -1) C dX2_names_6 (by decide) ?_
  refine r_icne (pc := 7) (tgt := 12) C dX2_names_7 (by decide) (fun c_7 => ?_) (fun c_7 => ?_)
  · obtain ⟨u, hu, ev⟩ := varOf_nI c_7
    refine r_aload_0 (pc := 12) C dX2_names_12 ?_
    refine r_mg16 (pc := 13) C hI dX2_names_13 ?_
    rw [h16]
    refine r_iconst (pc := 16) (v := 2) C dX2_names_16 (by decide) ?_
    refine r_icne (pc := 17) (tgt := 62) C dX2_names_17 (by decide) (fun c_17 => ?_) (fun c_17 => ?_)
    · refine r_aload_0 (pc := 62) C dX2_names_62 ?_
      refine r_mg16 (pc := 63) C hI dX2_names_63 ?_
      rw [h16]
      refine r_iconst (pc := 66) (v := 5) C dX2_names_66 (by decide) ?_
      refine r_icne (pc := 67) (tgt := 90) C dX2_names_67 (by decide) (fun c_67 => ?_) (fun c_67 => ?_)
      · exact absurd rfl c_67 --halt
      · refine r_aload_0 (pc := 70) C dX2_names_70 ?_
        refine r_mg15 (pc := 71) C hI dX2_names_71 ?_
        refine r_aload_0 (pc := 74) C dX2_names_74 ?_
        refine r_mg12 (pc := 75) C hI dX2_names_75 ?_
        rw [h12]
        refine r_iconst (pc := 78) (v := 1) C dX2_names_78 (by decide) ?_
        refine r_isub (pc := 79) C dX2_names_79 ?_
        rw [nI_pred]
        refine r_iload_2 (pc := 80) C dX2_names_80 ?_
        refine r_mniast (pc := 81) C hI (by decide) (by decide) rfl (by simp only [mlen]; omega) (by decide) dX2_names_81 ?_
        refine r_aload_0 (pc := 82) C dX2_names_82 ?_
        refine r_iconst (pc := 83) (v := 0) C dX2_names_83 (by decide) ?_
        refine r_mp16 (pc := 84) (v := 0) C hI rfl dX2_names_84 ?_
        refine r_goto (pc := 87) (tgt := 119) C dX2_names_87 (by decide) ?_
        refine r_iconst (pc := 119) (v := 1) C dX2_names_119 (by decide) ?_
        refine r_zret (pc := 120) C dX2_names_120 (by (repeat' split) <;> rfl) ?_
        exact ⟨_, rfl, Gok (if_neg c_7) (EnS_o h12 h3 hS hA)⟩
    · exact absurd c_17 (by decide) --halt
  · refine r_iconst (pc := 10) (v := 0) C dX2_names_10 (by decide) ?_
    refine r_zret (pc := 11) C dX2_names_11 (by (repeat' split) <;> rfl) ?_
    exact ⟨_, rfl, Gno (if_pos (by assumption)) ⟨Oth.rf, fun _ _ _ _ => rfl⟩⟩
theorem c_X2_goesOn_0 (G : Good w) (d : Nat) (hd : 5 ≤ d) {c : Int32} {S : List T3} {L : List DN} (hI : MI am) (h12 : fi 12 = S.length) (h16 : fi 16 = 0) (h3 : fi 3 = L.length) (hS : SRl ar S) (hA : PA ar L) (hl : S.length + L.length < 40) : Con w yX2_goesOn (ws_ yX2_goesOn cX2_goesOn 3 (some .boolean)) d 0 0 [.ref (am 0), .int c] (mput w am fi ar h0) (Qi (fun r h' => r = bI (stC c (S, 0, L)).isSome ∧ ∃ fi' ar', h' = mput w am fi' ar' h0 ∧ (Oth ar ar' ∧ ∀ k, k ≠ 3 → k ≠ 12 → k ≠ 16 → fi' k = fi k) ∧ ∀ c', stC c (S, 0, L) = some c' → EnS fi fi' ar ar' c')) noX := by
  refine Con.of G [some (.ref (am 0)), some (.int c), none] (body := fun g C => ?_)
  refine r_iload_1 (pc := 0) C dX2_goesOn_0 ?_
  refine r_callS (pc := 1) (nA := 1) C (c_X2_kindOf G (d - 1)) (h1 := q1573) (h2 := q1574) (h3 := q61) (h4 := q1575)  (hd := dX2_goesOn_1) (kk := kP ?_) (kx := kN)
  refine r_istore_2 (pc := 4) C dX2_goesOn_4 ?_
  refine r_aload_0 (pc := 5) C dX2_goesOn_5 ?_
  refine r_mg16 (pc := 6) C hI dX2_goesOn_6 ?_
  rw [h16]
  refine r_tabIn (pc := 9) (tgt := 60) C dX2_goesOn_9 (by decide) (by decide) rfl (by decide) ?_
  refine r_aload_0 (pc := 60) C dX2_goesOn_60 ?_
  refine r_iload_1 (pc := 61) C dX2_goesOn_61 ?_
  refine r_callV (pc := 62) (nA := 1) C (c_X2_startsWith G (d - 1) (by omega) hI h12 h16 h3 hS hA hl) (ha := (mput_at hI (j := 0) (by decide))) (hc := rfl) (h1 := q1596) (h2 := q1598) (h3 := qs28) (h4 := q61) (h5 := q1599)  (hd := dX2_goesOn_62) (kk := (kI fun r h1 hr => ?_)) (kx := kN)
  have hr1 := hr.1
  refine r_zret (pc := 65) C dX2_goesOn_65 (by rw [hr1]; exact nar_bI _) ?_
  exact ⟨_, rfl, hr⟩
theorem c_X2_goesOn_1 (G : Good w) (d : Nat) (hd : 5 ≤ d) {c : Int32} {t : List T3} {L : List DN} {v : Nat} {k : Int32} (hI : MI am) (h12 : fi 12 = t.length + 1) (h16 : fi 16 = 1) (h3 : fi 3 = L.length) (hA : PA ar L) (hl : t.length + 1 + L.length < 40) (hS : SRl ar ((k, nI v, -1) :: t)) : Con w yX2_goesOn (ws_ yX2_goesOn cX2_goesOn 3 (some .boolean)) d 0 0 [.ref (am 0), .int c] (mput w am fi ar h0) (Qi (fun r h' => r = bI (stC c ((k, nI v, -1) :: t, 1, L)).isSome ∧ ∃ fi' ar', h' = mput w am fi' ar' h0 ∧ (Oth ar ar' ∧ ∀ k, k ≠ 3 → k ≠ 12 → k ≠ 16 → fi' k = fi k) ∧ ∀ c', stC c ((k, nI v, -1) :: t, 1, L) = some c' → EnS fi fi' ar ar' c')) noX := by
  refine Con.of G [some (.ref (am 0)), some (.int c), none] (body := fun g C => ?_)
  have e1 : (kindF c = 0 ∨ kindF c = 1) → stC c (((k, nI v, -1) :: t, 1, L)) = some ((kindF c, nI v, -1) :: t, 2, L) := fun h => if_pos h
  have e2 : ¬ (kindF c = 0 ∨ kindF c = 1) → stC c (((k, nI v, -1) :: t, 1, L)) = none := fun h => if_neg h
  refine r_iload_1 (pc := 0) C dX2_goesOn_0 ?_
  refine r_callS (pc := 1) (nA := 1) C (c_X2_kindOf G (d - 1)) (h1 := q1573) (h2 := q1574) (h3 := q61) (h4 := q1575)  (hd := dX2_goesOn_1) (kk := kP ?_) (kx := kN)
  refine r_istore_2 (pc := 4) C dX2_goesOn_4 ?_
  refine r_aload_0 (pc := 5) C dX2_goesOn_5 ?_
  refine r_mg16 (pc := 6) C hI dX2_goesOn_6 ?_
  rw [h16]
  refine r_tabIn (pc := 9) (tgt := 66) C dX2_goesOn_9 (by decide) (by decide) rfl (by decide) ?_
  refine r_aload_0 (pc := 66) C dX2_goesOn_66 ?_
  refine r_mg13 (pc := 67) C hI dX2_goesOn_67 ?_
  refine r_aload_0 (pc := 70) C dX2_goesOn_70 ?_
  refine r_mg12 (pc := 71) C hI dX2_goesOn_71 ?_
  rw [h12]
  refine r_iconst (pc := 74) (v := 1) C dX2_goesOn_74 (by decide) ?_
  refine r_isub (pc := 75) C dX2_goesOn_75 ?_
  rw [nI_pred]
  refine r_iload_2 (pc := 76) C dX2_goesOn_76 ?_
  refine r_mniast (pc := 77) C hI (by decide) (by decide) rfl (by simp only [mlen]; omega) (by decide) dX2_goesOn_77 ?_
  refine r_aload_0 (pc := 78) C dX2_goesOn_78 ?_
  refine r_iconst (pc := 79) (v := 2) C dX2_goesOn_79 (by decide) ?_
  refine r_mp16 (pc := 80) (v := 2) C hI rfl dX2_goesOn_80 ?_
  refine r_iload_2 (pc := 83) C dX2_goesOn_83 ?_
  refine r_ifeq (pc := 84) (tgt := 92) C dX2_goesOn_84 (by decide) (fun c_84 => ?_) (fun c_84 => ?_)
  · refine r_iconst (pc := 92) (v := 1) C dX2_goesOn_92 (by decide) ?_
    refine r_goto (pc := 93) (tgt := 97) C dX2_goesOn_93 (by decide) ?_
    refine r_zret (pc := 97) C dX2_goesOn_97 rfl ?_
    first
      | exact ⟨_, rfl, Gok (e1 (Or.inl c_84)) (EnS_k h12 h3 hS hA)⟩
      | exact ⟨_, rfl, Gok (e1 (Or.inr c_89)) (EnS_k h12 h3 hS hA)⟩
      | exact ⟨_, rfl, Gok (e1 (Or.inl c_84)) (EnS_k h12 h3 hS hA)⟩
      | exact ⟨_, rfl, Gno (e2 (fun h => h.elim (fun h => absurd h c_84) (fun h => absurd h c_89))) (EnS_k (s := kindF c) (m := 2) h12 h3 hS hA).sz⟩
  · refine r_iload_2 (pc := 87) C dX2_goesOn_87 ?_
    refine r_iconst (pc := 88) (v := 1) C dX2_goesOn_88 (by decide) ?_
    refine r_icne (pc := 89) (tgt := 96) C dX2_goesOn_89 (by decide) (fun c_89 => ?_) (fun c_89 => ?_)
    · refine r_iconst (pc := 96) (v := 0) C dX2_goesOn_96 (by decide) ?_
      refine r_zret (pc := 97) C dX2_goesOn_97 rfl ?_
      first
        | exact ⟨_, rfl, Gok (e1 (Or.inl c_84)) (EnS_k h12 h3 hS hA)⟩
        | exact ⟨_, rfl, Gok (e1 (Or.inr c_89)) (EnS_k h12 h3 hS hA)⟩
        | exact ⟨_, rfl, Gok (e1 (Or.inl c_84)) (EnS_k h12 h3 hS hA)⟩
        | exact ⟨_, rfl, Gno (e2 (fun h => h.elim (fun h => absurd h c_84) (fun h => absurd h c_89))) (EnS_k (s := kindF c) (m := 2) h12 h3 hS hA).sz⟩
    · refine r_iconst (pc := 92) (v := 1) C dX2_goesOn_92 (by decide) ?_
      refine r_goto (pc := 93) (tgt := 97) C dX2_goesOn_93 (by decide) ?_
      refine r_zret (pc := 97) C dX2_goesOn_97 rfl ?_
      first
        | exact ⟨_, rfl, Gok (e1 (Or.inl c_84)) (EnS_k h12 h3 hS hA)⟩
        | exact ⟨_, rfl, Gok (e1 (Or.inr c_89)) (EnS_k h12 h3 hS hA)⟩
        | exact ⟨_, rfl, Gok (e1 (Or.inl c_84)) (EnS_k h12 h3 hS hA)⟩
        | exact ⟨_, rfl, Gno (e2 (fun h => h.elim (fun h => absurd h c_84) (fun h => absurd h c_89))) (EnS_k (s := kindF c) (m := 2) h12 h3 hS hA).sz⟩
theorem c_X2_goesOn_2 (G : Good w) (d : Nat) (hd : 5 ≤ d) {c : Int32} {t : List T3} {L : List DN} {v : Nat} (hv : v < 3) {k : Int32} (hk : k = 0 ∨ k = 1) (ht : ∀ y ∈ t, FN L.length y) (hI : MI am) (h12 : fi 12 = t.length + 1) (h16 : fi 16 = 2) (h3 : fi 3 = L.length) (hA : PA ar L) (hl : t.length + 1 + L.length < 40) (hS : SRl ar ((k, nI v, -1) :: t)) : Con w yX2_goesOn (ws_ yX2_goesOn cX2_goesOn 3 (some .boolean)) d 0 0 [.ref (am 0), .int c] (mput w am fi ar h0) (Qi (fun r h' => r = bI (stC c ((k, nI v, -1) :: t, 2, L)).isSome ∧ ∃ fi' ar', h' = mput w am fi' ar' h0 ∧ (Oth ar ar' ∧ ∀ k, k ≠ 3 → k ≠ 12 → k ≠ 16 → fi' k = fi k) ∧ ∀ c', stC c ((k, nI v, -1) :: t, 2, L) = some c' → EnS fi fi' ar ar' c')) noX := by
  refine Con.of G [some (.ref (am 0)), some (.int c), none] (body := fun g C => ?_)
  refine r_iload_1 (pc := 0) C dX2_goesOn_0 ?_
  refine r_callS (pc := 1) (nA := 1) C (c_X2_kindOf G (d - 1)) (h1 := q1573) (h2 := q1574) (h3 := q61) (h4 := q1575)  (hd := dX2_goesOn_1) (kk := kP ?_) (kx := kN)
  refine r_istore_2 (pc := 4) C dX2_goesOn_4 ?_
  refine r_aload_0 (pc := 5) C dX2_goesOn_5 ?_
  refine r_mg16 (pc := 6) C hI dX2_goesOn_6 ?_
  rw [h16]
  refine r_tabIn (pc := 9) (tgt := 189) C dX2_goesOn_9 (by decide) (by decide) rfl (by decide) ?_
  refine r_aload_0 (pc := 189) C dX2_goesOn_189 ?_
  refine r_iload_1 (pc := 190) C dX2_goesOn_190 ?_
  refine r_callV (pc := 191) (nA := 1) C (c_X2_names_2 G (d - 1) (by omega) hv hk ht hI h12 h16 h3 hA hl hS) (ha := (mput_at hI (j := 0) (by decide))) (hc := rfl) (h1 := q1619) (h2 := q1621) (h3 := qs33) (h4 := q61) (h5 := q1622)  (hd := dX2_goesOn_191) (kk := (kI fun r h1 hr => ?_)) (kx := kN)
  have hr1 := hr.1
  refine r_zret (pc := 194) C dX2_goesOn_194 (by rw [hr1]; exact nar_bI _) ?_
  exact ⟨_, rfl, hr⟩
theorem c_X2_goesOn_3 (G : Good w) (d : Nat) (hd : 5 ≤ d) {c : Int32} {t : List T3} {L : List DN} {k : Int32} (hI : MI am) (h12 : fi 12 = t.length + 1) (h16 : fi 16 = 3) (h3 : fi 3 = L.length) (hA : PA ar L) (hl : t.length + 1 + L.length < 40) (hS : SRl ar ((k, -1, -1) :: t)) : Con w yX2_goesOn (ws_ yX2_goesOn cX2_goesOn 3 (some .boolean)) d 0 0 [.ref (am 0), .int c] (mput w am fi ar h0) (Qi (fun r h' => r = bI (stC c ((k, -1, -1) :: t, 3, L)).isSome ∧ ∃ fi' ar', h' = mput w am fi' ar' h0 ∧ (Oth ar ar' ∧ ∀ k, k ≠ 3 → k ≠ 12 → k ≠ 16 → fi' k = fi k) ∧ ∀ c', stC c ((k, -1, -1) :: t, 3, L) = some c' → EnS fi fi' ar ar' c')) noX := by
  refine Con.of G [some (.ref (am 0)), some (.int c), none] (body := fun g C => ?_)
  refine r_iload_1 (pc := 0) C dX2_goesOn_0 ?_
  refine r_callS (pc := 1) (nA := 1) C (c_X2_kindOf G (d - 1)) (h1 := q1573) (h2 := q1574) (h3 := q61) (h4 := q1575)  (hd := dX2_goesOn_1) (kk := kP ?_) (kx := kN)
  refine r_istore_2 (pc := 4) C dX2_goesOn_4 ?_
  refine r_aload_0 (pc := 5) C dX2_goesOn_5 ?_
  refine r_mg16 (pc := 6) C hI dX2_goesOn_6 ?_
  rw [h16]
  refine r_tabIn (pc := 9) (tgt := 189) C dX2_goesOn_9 (by decide) (by decide) rfl (by decide) ?_
  refine r_aload_0 (pc := 189) C dX2_goesOn_189 ?_
  refine r_iload_1 (pc := 190) C dX2_goesOn_190 ?_
  refine r_callV (pc := 191) (nA := 1) C (c_X2_names_3 G (d - 1) (by omega) hI h12 h16 h3 hA hl hS) (ha := (mput_at hI (j := 0) (by decide))) (hc := rfl) (h1 := q1619) (h2 := q1621) (h3 := qs33) (h4 := q61) (h5 := q1622)  (hd := dX2_goesOn_191) (kk := (kI fun r h1 hr => ?_)) (kx := kN)
  have hr1 := hr.1
  refine r_zret (pc := 194) C dX2_goesOn_194 (by rw [hr1]; exact nar_bI _) ?_
  exact ⟨_, rfl, hr⟩
theorem c_X2_goesOn_4 (G : Good w) (d : Nat) (hd : 5 ≤ d) {c : Int32} {t : List T3} {L : List DN} {k : Int32} (hI : MI am) (h12 : fi 12 = t.length + 1) (h16 : fi 16 = 4) (h3 : fi 3 = L.length) (hA : PA ar L) (hl : t.length + 1 + L.length < 40) (hS : SRl ar ((k, -1, -1) :: t)) : Con w yX2_goesOn (ws_ yX2_goesOn cX2_goesOn 3 (some .boolean)) d 0 0 [.ref (am 0), .int c] (mput w am fi ar h0) (Qi (fun r h' => r = bI (stC c ((k, -1, -1) :: t, 4, L)).isSome ∧ ∃ fi' ar', h' = mput w am fi' ar' h0 ∧ (Oth ar ar' ∧ ∀ k, k ≠ 3 → k ≠ 12 → k ≠ 16 → fi' k = fi k) ∧ ∀ c', stC c ((k, -1, -1) :: t, 4, L) = some c' → EnS fi fi' ar ar' c')) noX := by
  refine Con.of G [some (.ref (am 0)), some (.int c), none] (body := fun g C => ?_)
  refine r_iload_1 (pc := 0) C dX2_goesOn_0 ?_
  refine r_callS (pc := 1) (nA := 1) C (c_X2_kindOf G (d - 1)) (h1 := q1573) (h2 := q1574) (h3 := q61) (h4 := q1575)  (hd := dX2_goesOn_1) (kk := kP ?_) (kx := kN)
  refine r_istore_2 (pc := 4) C dX2_goesOn_4 ?_
  refine r_aload_0 (pc := 5) C dX2_goesOn_5 ?_
  refine r_mg16 (pc := 6) C hI dX2_goesOn_6 ?_
  rw [h16]
  refine r_tabIn (pc := 9) (tgt := 189) C dX2_goesOn_9 (by decide) (by decide) rfl (by decide) ?_
  refine r_aload_0 (pc := 189) C dX2_goesOn_189 ?_
  refine r_iload_1 (pc := 190) C dX2_goesOn_190 ?_
  refine r_callV (pc := 191) (nA := 1) C (c_X2_names_4 G (d - 1) (by omega) hI h12 h16 h3 hA hl hS) (ha := (mput_at hI (j := 0) (by decide))) (hc := rfl) (h1 := q1619) (h2 := q1621) (h3 := qs33) (h4 := q61) (h5 := q1622)  (hd := dX2_goesOn_191) (kk := (kI fun r h1 hr => ?_)) (kx := kN)
  have hr1 := hr.1
  refine r_zret (pc := 194) C dX2_goesOn_194 (by rw [hr1]; exact nar_bI _) ?_
  exact ⟨_, rfl, hr⟩
theorem c_X2_goesOn_5 (G : Good w) (d : Nat) (hd : 5 ≤ d) {c : Int32} {t : List T3} {L : List DN} {v : Nat} (hv : v < 3) {k : Int32} (hI : MI am) (h12 : fi 12 = t.length + 1) (h16 : fi 16 = 5) (h3 : fi 3 = L.length) (hA : PA ar L) (hl : t.length + 1 + L.length < 40) (hS : SRl ar ((k, nI v, -1) :: t)) : Con w yX2_goesOn (ws_ yX2_goesOn cX2_goesOn 3 (some .boolean)) d 0 0 [.ref (am 0), .int c] (mput w am fi ar h0) (Qi (fun r h' => r = bI (stC c ((k, nI v, -1) :: t, 5, L)).isSome ∧ ∃ fi' ar', h' = mput w am fi' ar' h0 ∧ (Oth ar ar' ∧ ∀ k, k ≠ 3 → k ≠ 12 → k ≠ 16 → fi' k = fi k) ∧ ∀ c', stC c ((k, nI v, -1) :: t, 5, L) = some c' → EnS fi fi' ar ar' c')) noX := by
  refine Con.of G [some (.ref (am 0)), some (.int c), none] (body := fun g C => ?_)
  refine r_iload_1 (pc := 0) C dX2_goesOn_0 ?_
  refine r_callS (pc := 1) (nA := 1) C (c_X2_kindOf G (d - 1)) (h1 := q1573) (h2 := q1574) (h3 := q61) (h4 := q1575)  (hd := dX2_goesOn_1) (kk := kP ?_) (kx := kN)
  refine r_istore_2 (pc := 4) C dX2_goesOn_4 ?_
  refine r_aload_0 (pc := 5) C dX2_goesOn_5 ?_
  refine r_mg16 (pc := 6) C hI dX2_goesOn_6 ?_
  rw [h16]
  refine r_tabIn (pc := 9) (tgt := 189) C dX2_goesOn_9 (by decide) (by decide) rfl (by decide) ?_
  refine r_aload_0 (pc := 189) C dX2_goesOn_189 ?_
  refine r_iload_1 (pc := 190) C dX2_goesOn_190 ?_
  refine r_callV (pc := 191) (nA := 1) C (c_X2_names_5 G (d - 1) (by omega) hv hI h12 h16 h3 hA hl hS) (ha := (mput_at hI (j := 0) (by decide))) (hc := rfl) (h1 := q1619) (h2 := q1621) (h3 := qs33) (h4 := q61) (h5 := q1622)  (hd := dX2_goesOn_191) (kk := (kI fun r h1 hr => ?_)) (kx := kN)
  have hr1 := hr.1
  refine r_zret (pc := 194) C dX2_goesOn_194 (by rw [hr1]; exact nar_bI _) ?_
  exact ⟨_, rfl, hr⟩
theorem c_X2_goesOn_6 (G : Good w) (d : Nat) (hd : 5 ≤ d) {c : Int32} {t : List T3} {L : List DN} {q : Nat} (hI : MI am) (h12 : fi 12 = t.length + 1) (h16 : fi 16 = 6) (h3 : fi 3 = L.length) (hA : PA ar L) (hl : t.length + 1 + L.length < 40) (hS : SRl ar ((10, nI q, -1) :: t)) : Con w yX2_goesOn (ws_ yX2_goesOn cX2_goesOn 3 (some .boolean)) d 0 0 [.ref (am 0), .int c] (mput w am fi ar h0) (Qi (fun r h' => r = bI (stC c ((10, nI q, -1) :: t, 6, L)).isSome ∧ ∃ fi' ar', h' = mput w am fi' ar' h0 ∧ (Oth ar ar' ∧ ∀ k, k ≠ 3 → k ≠ 12 → k ≠ 16 → fi' k = fi k) ∧ ∀ c', stC c ((10, nI q, -1) :: t, 6, L) = some c' → EnS fi fi' ar ar' c')) noX := by
  refine Con.of G [some (.ref (am 0)), some (.int c), none] (body := fun g C => ?_)
  refine r_iload_1 (pc := 0) C dX2_goesOn_0 ?_
  refine r_callS (pc := 1) (nA := 1) C (c_X2_kindOf G (d - 1)) (h1 := q1573) (h2 := q1574) (h3 := q61) (h4 := q1575)  (hd := dX2_goesOn_1) (kk := kP ?_) (kx := kN)
  refine r_istore_2 (pc := 4) C dX2_goesOn_4 ?_
  refine r_aload_0 (pc := 5) C dX2_goesOn_5 ?_
  refine r_mg16 (pc := 6) C hI dX2_goesOn_6 ?_
  rw [h16]
  refine r_tabIn (pc := 9) (tgt := 98) C dX2_goesOn_9 (by decide) (by decide) rfl (by decide) ?_
  refine r_aload_0 (pc := 98) C dX2_goesOn_98 ?_
  refine r_mg13 (pc := 99) C hI dX2_goesOn_99 ?_
  refine r_aload_0 (pc := 102) C dX2_goesOn_102 ?_
  refine r_mg12 (pc := 103) C hI dX2_goesOn_103 ?_
  rw [h12]
  refine r_iconst (pc := 106) (v := 1) C dX2_goesOn_106 (by decide) ?_
  refine r_isub (pc := 107) C dX2_goesOn_107 ?_
  rw [nI_pred]
  refine r_iload_2 (pc := 108) C dX2_goesOn_108 ?_
  refine r_mniast (pc := 109) C hI (by decide) (by decide) rfl (by simp only [mlen]; omega) (by decide) dX2_goesOn_109 ?_
  refine r_aload_0 (pc := 110) C dX2_goesOn_110 ?_
  refine r_iconst (pc := 111) (v := 0) C dX2_goesOn_111 (by decide) ?_
  refine r_mp16 (pc := 112) (v := 0) C hI rfl dX2_goesOn_112 ?_
  refine r_iload_2 (pc := 115) C dX2_goesOn_115 ?_
  refine r_iconst (pc := 116) (v := 3) C dX2_goesOn_116 (by decide) ?_
  refine r_iconst (pc := 117) (v := 5) C dX2_goesOn_117 (by decide) ?_
  refine r_callS (pc := 118) (nA := 3) C (c_X2_in G (d - 1)) (h1 := q1570) (h2 := q1571) (h3 := q61) (h4 := q1572)  (hd := dX2_goesOn_118) (kk := kP ?_) (kx := kN)
  refine r_zret (pc := 121) C dX2_goesOn_121 (nar_bI _) ?_
  by_cases hb : inB (kindF c) 3 5 = true
  · rw [hb]; exact ⟨_, rfl, Gok (if_pos hb) (EnS_k h12 h3 hS hA)⟩
  · have hb2 := Bool.eq_false_iff.mpr hb
    rw [hb2]; exact ⟨_, rfl, Gno (if_neg hb) (EnS_k (s := kindF c) (m := 0) h12 h3 hS hA).sz⟩
theorem c_X2_goesOn_7 (G : Good w) (d : Nat) (hd : 5 ≤ d) {c : Int32} {t : List T3} {L : List DN} {p q : Nat} (hp : p < L.length) (hq : q < L.length) {k : Int32} (hk : k = 3 ∨ k = 4 ∨ k = 5) (ht : ∀ y ∈ t, FN L.length y) (hI : MI am) (h12 : fi 12 = t.length + 1) (h16 : fi 16 = 7) (h3 : fi 3 = L.length) (hA : PA ar L) (hl : t.length + 1 + L.length < 40) (hS : SRl ar ((k, nI p, nI q) :: t)) : Con w yX2_goesOn (ws_ yX2_goesOn cX2_goesOn 3 (some .boolean)) d 0 0 [.ref (am 0), .int c] (mput w am fi ar h0) (Qi (fun r h' => r = bI (stC c ((k, nI p, nI q) :: t, 7, L)).isSome ∧ ∃ fi' ar', h' = mput w am fi' ar' h0 ∧ (Oth ar ar' ∧ ∀ k, k ≠ 3 → k ≠ 12 → k ≠ 16 → fi' k = fi k) ∧ ∀ c', stC c ((k, nI p, nI q) :: t, 7, L) = some c' → EnS fi fi' ar ar' c')) noX := by
  refine Con.of G [some (.ref (am 0)), some (.int c), none] (body := fun g C => ?_)
  obtain ⟨A, hqA⟩ : ∃ A, L[p]? = some A := ⟨_, List.getElem?_eq_getElem hp⟩
  obtain ⟨B, hqB⟩ : ∃ B, L[q]? = some B := ⟨_, List.getElem?_eq_getElem hq⟩
  have hM : MF L k (nI p) (nI q) (-1) (-1) (biD k A B) := Or.inr (Or.inr (Or.inl ⟨rfl, rfl, p, q, A, B, hqA, hqB, rfl, rfl, by rcases hk with rfl | rfl | rfl; exact Or.inl ⟨rfl, rfl⟩; exact Or.inr (Or.inl ⟨rfl, rfl⟩); exact Or.inr (Or.inr ⟨rfl, rfl⟩)⟩))
  have e1 : c = 41 → stC c (((k, nI p, nI q) :: t, 7, L)) = some (enC t (L ++ [biD k A B]) L.length) := fun h => (if_pos h).trans (by rw [nI_clamp (by omega), nI_clamp (by omega), getD_of hqA, getD_of hqB])
  have e2 : ¬ c = 41 → stC c (((k, nI p, nI q) :: t, 7, L)) = none := fun h => if_neg h
  refine r_iload_1 (pc := 0) C dX2_goesOn_0 ?_
  refine r_callS (pc := 1) (nA := 1) C (c_X2_kindOf G (d - 1)) (h1 := q1573) (h2 := q1574) (h3 := q61) (h4 := q1575)  (hd := dX2_goesOn_1) (kk := kP ?_) (kx := kN)
  refine r_istore_2 (pc := 4) C dX2_goesOn_4 ?_
  refine r_aload_0 (pc := 5) C dX2_goesOn_5 ?_
  refine r_mg16 (pc := 6) C hI dX2_goesOn_6 ?_
  rw [h16]
  refine r_tabIn (pc := 9) (tgt := 122) C dX2_goesOn_9 (by decide) (by decide) rfl (by decide) ?_
  refine r_iload_1 (pc := 122) C dX2_goesOn_122 ?_
  refine r_bipush (pc := 123) (v := 41) C dX2_goesOn_123 (by decide) ?_
  refine r_icne (pc := 125) (tgt := 175) C dX2_goesOn_125 (by decide) (fun c_125 => ?_) (fun c_125 => ?_)
  · refine r_iload_1 (pc := 175) C dX2_goesOn_175 ?_
    refine r_bipush (pc := 176) (v := 41) C dX2_goesOn_176 (by decide) ?_
    refine r_icne (pc := 178) (tgt := 185) C dX2_goesOn_178 (by decide) (fun c_178 => ?_) (fun c_178 => ?_)
    · refine r_iconst (pc := 185) (v := 0) C dX2_goesOn_185 (by decide) ?_
      refine r_zret (pc := 186) C dX2_goesOn_186 rfl ?_
      first
        | exact absurd c_125 c_178
        | exact absurd c_178 c_125
        | exact ⟨_, rfl, Gok (e1 c_178) (EnS.tr mkA_oth (fun k k1 k2 k3 => by rw [fset_n k1, fset_n k2]) hE)⟩
        | exact ⟨_, rfl, Gno (e2 c_178) ⟨Oth.rf, fun _ _ _ _ => rfl⟩⟩
    · refine r_iconst (pc := 181) (v := 1) C dX2_goesOn_181 (by decide) ?_
      refine r_goto (pc := 182) (tgt := 186) C dX2_goesOn_182 (by decide) ?_
      refine r_zret (pc := 186) C dX2_goesOn_186 rfl ?_
      first
        | exact absurd c_125 c_178
        | exact absurd c_178 c_125
        | exact ⟨_, rfl, Gok (e1 c_178) (EnS.tr mkA_oth (fun k k1 k2 k3 => by rw [fset_n k1, fset_n k2]) hE)⟩
        | exact ⟨_, rfl, Gno (e2 c_178) ⟨Oth.rf, fun _ _ _ _ => rfl⟩⟩
  · refine r_aload_0 (pc := 128) C dX2_goesOn_128 ?_
    refine r_dup (pc := 129) C dX2_goesOn_129 rfl ?_
    refine r_mg12 (pc := 130) C hI dX2_goesOn_130 ?_
    refine r_iconst (pc := 133) (v := 1) C dX2_goesOn_133 (by decide) ?_
    refine r_isub (pc := 134) C dX2_goesOn_134 ?_
    refine r_mp12 (pc := 135) (v := t.length) C hI (by rw [h12]; exact nI_pred _) dX2_goesOn_135 ?_
    refine r_aload_0 (pc := 138) C dX2_goesOn_138 ?_
    refine r_aload_0 (pc := 139) C dX2_goesOn_139 ?_
    refine r_aload_0 (pc := 140) C dX2_goesOn_140 ?_
    refine r_mg13 (pc := 141) C hI dX2_goesOn_141 ?_
    refine r_aload_0 (pc := 144) C dX2_goesOn_144 ?_
    refine r_mg12 (pc := 145) C hI dX2_goesOn_145 ?_
    rw [fset_s]
    refine r_mniald (pc := 148) C hI (by decide) (by decide) rfl (by simp only [mlen]; omega) (by decide) dX2_goesOn_148 ?_
    rw [hS.1]
    refine r_aload_0 (pc := 149) C dX2_goesOn_149 ?_
    refine r_mg14 (pc := 150) C hI dX2_goesOn_150 ?_
    refine r_aload_0 (pc := 153) C dX2_goesOn_153 ?_
    refine r_mg12 (pc := 154) C hI dX2_goesOn_154 ?_
    rw [fset_s]
    refine r_mniald (pc := 157) C hI (by decide) (by decide) rfl (by simp only [mlen]; omega) (by decide) dX2_goesOn_157 ?_
    rw [hS.2.1]
    refine r_aload_0 (pc := 158) C dX2_goesOn_158 ?_
    refine r_mg15 (pc := 159) C hI dX2_goesOn_159 ?_
    refine r_aload_0 (pc := 162) C dX2_goesOn_162 ?_
    refine r_mg12 (pc := 163) C hI dX2_goesOn_163 ?_
    rw [fset_s]
    refine r_mniald (pc := 166) C hI (by decide) (by decide) rfl (by simp only [mlen]; omega) (by decide) dX2_goesOn_166 ?_
    rw [hS.2.2.1]
    refine r_iconst (pc := 167) (v := -1) C dX2_goesOn_167 (by decide) ?_
    refine r_iconst (pc := 168) (v := -1) C dX2_goesOn_168 (by decide) ?_
    refine r_callV (pc := 169) (nA := 5) C (c_X2_make G (d - 1) (by omega) (L := L) (D := biD k A B) hI (show fset fi 12 t.length 3 = L.length from h3) (by omega) hA hM) (ha := (mput_at hI (j := 0) (by decide))) (hc := rfl) (h1 := q1604) (h2 := q1606) (h3 := qs30) (h4 := q61) (h5 := q1607)  (hd := dX2_goesOn_169) (kk := kP ?_) (kx := kN)
    refine r_callV (pc := 172) (nA := 1) C (c_X2_end G (d - 1) (by omega) (S := t) (L := L ++ [biD k A B]) (q := L.length) hI rfl (by rw [List.length_append]; rfl) (by rw [List.length_append]; show L.length + 1 + t.length ≤ 40; omega) (SRl_mk hS.2.2.2) (fun y hy => (ht y hy).fv) (PA_mk hA hM) (by rw [List.length_append]; exact Nat.lt_succ_self _)) (ha := (mput_at hI (j := 0) (by decide))) (hc := rfl) (h1 := q1615) (h2 := q1617) (h3 := qs32) (h4 := q61) (h5 := q1618)  (hd := dX2_goesOn_172) (kk := (kE fun fi2 ar2 hE => ?_)) (kx := kN)
    refine r_iload_1 (pc := 175) C dX2_goesOn_175 ?_
    refine r_bipush (pc := 176) (v := 41) C dX2_goesOn_176 (by decide) ?_
    refine r_icne (pc := 178) (tgt := 185) C dX2_goesOn_178 (by decide) (fun c_178 => ?_) (fun c_178 => ?_)
    · refine r_iconst (pc := 185) (v := 0) C dX2_goesOn_185 (by decide) ?_
      refine r_zret (pc := 186) C dX2_goesOn_186 rfl ?_
      first
        | exact absurd c_125 c_178
        | exact absurd c_178 c_125
        | exact ⟨_, rfl, Gok (e1 c_178) (EnS.tr mkA_oth (fun k k1 k2 k3 => by rw [fset_n k1, fset_n k2]) hE)⟩
        | exact ⟨_, rfl, Gno (e2 c_178) ⟨Oth.rf, fun _ _ _ _ => rfl⟩⟩
    · refine r_iconst (pc := 181) (v := 1) C dX2_goesOn_181 (by decide) ?_
      refine r_goto (pc := 182) (tgt := 186) C dX2_goesOn_182 (by decide) ?_
      refine r_zret (pc := 186) C dX2_goesOn_186 rfl ?_
      first
        | exact absurd c_125 c_178
        | exact absurd c_178 c_125
        | exact ⟨_, rfl, Gok (e1 c_178) (EnS.tr mkA_oth (fun k k1 k2 k3 => by rw [fset_n k1, fset_n k2]) hE)⟩
        | exact ⟨_, rfl, Gno (e2 c_178) ⟨Oth.rf, fun _ _ _ _ => rfl⟩⟩
theorem c_X2_goesOn_8 (G : Good w) (d : Nat) (hd : 5 ≤ d) {c : Int32} {L : List DN} (hI : MI am) (h16 : fi 16 = 8) : Con w yX2_goesOn (ws_ yX2_goesOn cX2_goesOn 3 (some .boolean)) d 0 0 [.ref (am 0), .int c] (mput w am fi ar h0) (Qi (fun r h' => r = bI (stC c ([], 8, L)).isSome ∧ ∃ fi' ar', h' = mput w am fi' ar' h0 ∧ (Oth ar ar' ∧ ∀ k, k ≠ 3 → k ≠ 12 → k ≠ 16 → fi' k = fi k) ∧ ∀ c', stC c ([], 8, L) = some c' → EnS fi fi' ar ar' c')) noX := by
  refine Con.of G [some (.ref (am 0)), some (.int c), none] (body := fun g C => ?_)
  refine r_iload_1 (pc := 0) C dX2_goesOn_0 ?_
  refine r_callS (pc := 1) (nA := 1) C (c_X2_kindOf G (d - 1)) (h1 := q1573) (h2 := q1574) (h3 := q61) (h4 := q1575)  (hd := dX2_goesOn_1) (kk := kP ?_) (kx := kN)
  refine r_istore_2 (pc := 4) C dX2_goesOn_4 ?_
  refine r_aload_0 (pc := 5) C dX2_goesOn_5 ?_
  refine r_mg16 (pc := 6) C hI dX2_goesOn_6 ?_
  rw [h16]
  refine r_tabIn (pc := 9) (tgt := 187) C dX2_goesOn_9 (by decide) (by decide) rfl (by decide) ?_
  refine r_iconst (pc := 187) (v := 0) C dX2_goesOn_187 (by decide) ?_
  refine r_zret (pc := 188) C dX2_goesOn_188 rfl ?_
  exact ⟨_, rfl, Gno rfl ⟨Oth.rf, fun _ _ _ _ => rfl⟩⟩
theorem c_X2_goesOn (G : Good w) (d : Nat) (hd : 5 ≤ d) {c : Int32} {C0 : Cf} (hI : MI am) (hW : Wf C0) (h12 : fi 12 = C0.1.length) (h16 : fi 16 = C0.2.1) (h3 : fi 3 = C0.2.2.length) (hS : SRl ar C0.1) (hA : PA ar C0.2.2) (hl : sz C0 < 40) : Con w yX2_goesOn (ws_ yX2_goesOn cX2_goesOn 3 (some .boolean)) d 0 0 [.ref (am 0), .int c] (mput w am fi ar h0) (Qi (fun r h' => r = bI (stC c C0).isSome ∧ ∃ fi' ar', h' = mput w am fi' ar' h0 ∧ (Oth ar ar' ∧ ∀ k, k ≠ 3 → k ≠ 12 → k ≠ 16 → fi' k = fi k) ∧ ∀ c', stC c C0 = some c' → EnS fi fi' ar ar' c')) noX := by
  obtain ⟨S, m, L⟩ := C0
  have h16 : fi 16 = m := h16
  have h3 : fi 3 = L.length := h3
  have hA : PA ar L := hA
  have h12 : fi 12 = S.length := h12
  have hS : SRl ar S := hS
  have hl : S.length + L.length < 40 := hl
  rcases hW with ⟨hm, -⟩ | ⟨hm, hs⟩ | ⟨x, t, hs, ht, hT⟩
  · have hm : m = 0 := hm
    subst hm
    exact c_X2_goesOn_0 G d hd hI h12 h16 h3 hS hA hl
  · have hm : m = 8 := hm
    subst hm
    have hs : S = [] := hs
    subst hs
    exact c_X2_goesOn_8 G d hd hI h16
  · have hs : S = x :: t := hs
    subst hs
    rcases hT with ⟨hm, v, hv, hx⟩ | ⟨hm, v, hv, hx⟩ | ⟨hm, hx⟩ | ⟨hm, hx⟩ | ⟨hm, v, hv, hx⟩ | ⟨hm, q, hq, hx⟩ | ⟨hm, p, q, hp, hq, hx⟩
    · have hm : m = 1 := hm
      subst hm
      subst hx
      exact c_X2_goesOn_1 G d hd hI h12 h16 h3 hA hl hS
    · have hm : m = 2 := hm
      subst hm
      rcases hx with hx | hx <;> subst hx
      · exact c_X2_goesOn_2 G d hd hv (Or.inl rfl) ht hI h12 h16 h3 hA hl hS
      · exact c_X2_goesOn_2 G d hd hv (Or.inr rfl) ht hI h12 h16 h3 hA hl hS
    · have hm : m = 3 := hm
      subst hm
      rcases hx with hx | hx <;> subst hx
      · exact c_X2_goesOn_3 G d hd hI h12 h16 h3 hA hl hS
      · exact c_X2_goesOn_3 G d hd hI h12 h16 h3 hA hl hS
    · have hm : m = 4 := hm
      subst hm
      rcases hx with hx | hx <;> subst hx
      · exact c_X2_goesOn_4 G d hd hI h12 h16 h3 hA hl hS
      · exact c_X2_goesOn_4 G d hd hI h12 h16 h3 hA hl hS
    · have hm : m = 5 := hm
      subst hm
      rcases hx with hx | hx <;> subst hx
      · exact c_X2_goesOn_5 G d hd hv hI h12 h16 h3 hA hl hS
      · exact c_X2_goesOn_5 G d hd hv hI h12 h16 h3 hA hl hS
    · have hm : m = 6 := hm
      subst hm
      subst hx
      exact c_X2_goesOn_6 G d hd hI h12 h16 h3 hA hl hS
    · have hm : m = 7 := hm
      subst hm
      rcases hx with hx | hx | hx <;> subst hx
      · exact c_X2_goesOn_7 G d hd hp hq (Or.inl rfl) ht hI h12 h16 h3 hA hl hS
      · exact c_X2_goesOn_7 G d hd hp hq (Or.inr (Or.inl rfl)) ht hI h12 h16 h3 hA hl hS
      · exact c_X2_goesOn_7 G d hd hp hq (Or.inr (Or.inr rfl)) ht hI h12 h16 h3 hA hl hS
end M11
