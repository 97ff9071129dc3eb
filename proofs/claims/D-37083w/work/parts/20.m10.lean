/-! 20: ReversalCourtModel: end -/
set_option maxRecDepth 100000
section M10
variable {w : WD} {am fi : Nat → Nat} {ar : Nat → Nat → Int32} {h0 : AH}
theorem end_loop (G : Good w) {d : Nat} (hd : 3 ≤ d) (hI : MI am) {g : MG} (C : Cx w g cX2_end yX2_end.cls none yX2_end.name 3 [] d 0 0) {z : Int32} (c : List T3 × Nat × List DN) : ∀ (S : List T3) (L : List DN) (q : Nat) (f1 : Nat → Nat) (a1 : Nat → Nat → Int32), f1 12 = S.length → f1 3 = L.length → L.length + S.length ≤ 40 → SRl a1 S → (∀ x ∈ S, FV x) → PA a1 L → q < L.length → Oth ar a1 → (∀ k, k ≠ 3 → k ≠ 12 → k ≠ 16 → f1 k = fi k) → enC S L q = c → wp w g (mQ w g 0 0 (fun x9 h' => x9 = none ∧ ∃ fi' ar', h' = mput w am fi' ar' h0 ∧ EnS fi fi' ar ar' c) noX) 2 [some (.ref (am 0)), some (.int z), some (.int (nI q))] [] (mput w am f1 a1 h0) 0 0 := by
  intro S
  induction S with
  | nil =>
    intro L q f1 a1 h12 h3 hl hS hV hA hq hO hf hc
    subst hc
    refine r_aload_0 (pc := 2) C dX2_end_2 ?_
    refine r_mg12 (pc := 3) C hI dX2_end_3 ?_
    rw [h12]
    refine r_ifle (pc := 6) (tgt := 92) C dX2_end_6 (by decide) (fun c_6 => ?_) (fun c_6 => ?_)
    · refine r_aload_0 (pc := 92) C dX2_end_92 ?_
      refine r_mg12 (pc := 93) C hI dX2_end_93 ?_
      rw [h12]
      refine r_ifne (pc := 96) (tgt := 108) C dX2_end_96 (by decide) (fun c_96 => ?_) (fun c_96 => ?_)
      · exact absurd rfl c_96 --halt
      · refine r_aload_0 (pc := 99) C dX2_end_99 ?_
        refine r_bipush (pc := 100) (v := 8) C dX2_end_100 (by decide) ?_
        refine r_mp16 (pc := 102) (v := 8) C hI rfl dX2_end_102 ?_
        refine r_goto (pc := 105) (tgt := 163) C dX2_end_105 (by decide) ?_
        refine r_vret (pc := 163) C dX2_end_163 ?_
        exact ⟨rfl, fset f1 16 8, a1, rfl, h12, rfl, h3, trivial, hA, hO, fun k k1 k2 k3 => by rw [fset_n k3]; exact hf k k1 k2 k3⟩
    · exact absurd (by decide) c_6 --halt
  | cons x t ih =>
    intro L q f1 a1 h12 h3 hl hS hV hA hq hO hf hc
    have k12 : f1 12 = t.length + 1 := h12
    have kl : L.length + (t.length + 1) ≤ 40 := hl
    clear h12 hl
    obtain ⟨s1, s2, s3, s4⟩ := hS
    have hVt : ∀ y ∈ t, FV y := fun y hy => hV y (List.mem_cons_of_mem _ hy)
    obtain ⟨A, hqA⟩ : ∃ A, L[q]? = some A := ⟨_, List.getElem?_eq_getElem hq⟩
    have hgd : L.getD q dn0 = A := getD_of hqA
    rcases hV x List.mem_cons_self with rfl | ⟨v, hv, rfl | rfl⟩ | ⟨v, u, hv, hu, rfl | rfl⟩ | rfl | ⟨p, rfl | rfl | rfl⟩
    · have s1 : a1 10 t.length = 2 := s1
      have s2 : a1 11 t.length = -1 := s2
      have s3 : a1 12 t.length = -1 := s3
      have hc : enC t (L ++ [notD A]) L.length = c := by
        rw [← hc, ← hgd]
        rw [enC_cons, if_pos rfl]
      have hM : MF L 2 (nI q) (-1) (-1) (-1) (notD A) := Or.inr (Or.inl ⟨rfl, rfl, rfl, rfl, q, A, hqA, rfl, rfl⟩)
      refine r_aload_0 (pc := 2) C dX2_end_2 ?_
      refine r_mg12 (pc := 3) C hI dX2_end_3 ?_
      rw [k12]
      refine r_ifle (pc := 6) (tgt := 92) C dX2_end_6 (by decide) (fun c_6 => ?_) (fun c_6 => ?_)
      · exact absurd c_6 (nI_nle (by omega) (by omega)) --halt
      · refine r_aload_0 (pc := 9) C dX2_end_9 ?_
        refine r_mg13 (pc := 10) C hI dX2_end_10 ?_
        refine r_aload_0 (pc := 13) C dX2_end_13 ?_
        refine r_mg12 (pc := 14) C hI dX2_end_14 ?_
        refine r_iconst (pc := 17) (v := 1) C dX2_end_17 (by decide) ?_
        refine r_isub (pc := 18) C dX2_end_18 ?_
        rw [k12, nI_pred]
        refine r_mniald (pc := 19) C hI (by decide) (by decide) rfl (by simp only [mlen]; omega) (by decide) dX2_end_19 ?_
        rw [s1]
        refine r_iconst (pc := 20) (v := 2) C dX2_end_20 (by decide) ?_
        refine r_iceq (pc := 21) (tgt := 45) C dX2_end_21 (by decide) (fun c_21 => ?_) (fun c_21 => ?_)
        · refine r_aload_0 (pc := 45) C dX2_end_45 ?_
          refine r_dup (pc := 46) C dX2_end_46 rfl ?_
          refine r_mg12 (pc := 47) C hI dX2_end_47 ?_
          refine r_iconst (pc := 50) (v := 1) C dX2_end_50 (by decide) ?_
          refine r_isub (pc := 51) C dX2_end_51 ?_
          refine r_mp12 (pc := 52) (v := t.length) C hI (by rw [k12]; exact nI_pred _) dX2_end_52 ?_
          refine r_aload_0 (pc := 55) C dX2_end_55 ?_
          refine r_aload_0 (pc := 56) C dX2_end_56 ?_
          refine r_mg13 (pc := 57) C hI dX2_end_57 ?_
          refine r_aload_0 (pc := 60) C dX2_end_60 ?_
          refine r_mg12 (pc := 61) C hI dX2_end_61 ?_
          rw [fset_s]
          refine r_mniald (pc := 64) C hI (by decide) (by decide) rfl (by simp only [mlen]; omega) (by decide) dX2_end_64 ?_
          rw [s1]
          refine r_iload_2 (pc := 65) C dX2_end_65 ?_
          refine r_iconst (pc := 66) (v := -1) C dX2_end_66 (by decide) ?_
          refine r_aload_0 (pc := 67) C dX2_end_67 ?_
          refine r_mg14 (pc := 68) C hI dX2_end_68 ?_
          refine r_aload_0 (pc := 71) C dX2_end_71 ?_
          refine r_mg12 (pc := 72) C hI dX2_end_72 ?_
          rw [fset_s]
          refine r_mniald (pc := 75) C hI (by decide) (by decide) rfl (by simp only [mlen]; omega) (by decide) dX2_end_75 ?_
          rw [s2]
          refine r_aload_0 (pc := 76) C dX2_end_76 ?_
          refine r_mg15 (pc := 77) C hI dX2_end_77 ?_
          refine r_aload_0 (pc := 80) C dX2_end_80 ?_
          refine r_mg12 (pc := 81) C hI dX2_end_81 ?_
          rw [fset_s]
          refine r_mniald (pc := 84) C hI (by decide) (by decide) rfl (by simp only [mlen]; omega) (by decide) dX2_end_84 ?_
          rw [s3]
          refine r_callV (pc := 85) (nA := 5) C (c_X2_make G (d - 1) (by omega) (L := L) hI (show fset f1 12 t.length 3 = L.length from h3) (by omega) hA hM) (ha := (mput_at hI (j := 0) (by decide))) (hc := rfl) (h1 := q1604) (h2 := q1606) (h3 := qs30) (h4 := q61) (h5 := q1607)  (hd := dX2_end_85) (kk := kP ?_) (kx := kN)
          refine r_istore_2 (pc := 88) C dX2_end_88 ?_
          refine r_goto (pc := 89) (tgt := 2) C dX2_end_89 (by decide) ?_
          exact ih (L ++ [notD A]) L.length _ _ rfl (by rw [List.length_append]; rfl) (by rw [List.length_append]; show L.length + 1 + t.length ≤ 40; omega) (SRl_mk s4) hVt (PA_mk hA hM) (by rw [List.length_append]; exact Nat.lt_succ_self _) (Oth.tr hO mkA_oth) (fun k k1 k2 k3 => by rw [fset_n k1, fset_n k2]; exact hf k k1 k2 k3) hc
        · exact absurd rfl c_21 --halt
    · have s1 : a1 10 t.length = 6 := s1
      have s2 : a1 11 t.length = nI v := s2
      have s3 : a1 12 t.length = -1 := s3
      have hc : enC t (L ++ [quD true v A]) L.length = c := by
        rw [← hc, ← hgd]
        rw [enC_cons]; rw [if_neg (by decide)]; rw [if_pos rfl, nI_clamp (by omega)]
      have hM : MF L 6 (nI q) (-1) (nI v) (-1) (quD true v A) := Or.inr (Or.inr (Or.inr (Or.inl ⟨Or.inl rfl, rfl, rfl, v, q, A, hv, rfl, hqA, rfl, rfl⟩)))
      refine r_aload_0 (pc := 2) C dX2_end_2 ?_
      refine r_mg12 (pc := 3) C hI dX2_end_3 ?_
      rw [k12]
      refine r_ifle (pc := 6) (tgt := 92) C dX2_end_6 (by decide) (fun c_6 => ?_) (fun c_6 => ?_)
      · exact absurd c_6 (nI_nle (by omega) (by omega)) --halt
      · refine r_aload_0 (pc := 9) C dX2_end_9 ?_
        refine r_mg13 (pc := 10) C hI dX2_end_10 ?_
        refine r_aload_0 (pc := 13) C dX2_end_13 ?_
        refine r_mg12 (pc := 14) C hI dX2_end_14 ?_
        refine r_iconst (pc := 17) (v := 1) C dX2_end_17 (by decide) ?_
        refine r_isub (pc := 18) C dX2_end_18 ?_
        rw [k12, nI_pred]
        refine r_mniald (pc := 19) C hI (by decide) (by decide) rfl (by simp only [mlen]; omega) (by decide) dX2_end_19 ?_
        rw [s1]
        refine r_iconst (pc := 20) (v := 2) C dX2_end_20 (by decide) ?_
        refine r_iceq (pc := 21) (tgt := 45) C dX2_end_21 (by decide) (fun c_21 => ?_) (fun c_21 => ?_)
        · exact absurd c_21 (by decide) --halt
        · refine r_aload_0 (pc := 24) C dX2_end_24 ?_
          refine r_mg13 (pc := 25) C hI dX2_end_25 ?_
          refine r_aload_0 (pc := 28) C dX2_end_28 ?_
          refine r_mg12 (pc := 29) C hI dX2_end_29 ?_
          refine r_iconst (pc := 32) (v := 1) C dX2_end_32 (by decide) ?_
          refine r_isub (pc := 33) C dX2_end_33 ?_
          rw [k12, nI_pred]
          refine r_mniald (pc := 34) C hI (by decide) (by decide) rfl (by simp only [mlen]; omega) (by decide) dX2_end_34 ?_
          rw [s1]
          refine r_bipush (pc := 35) (v := 6) C dX2_end_35 (by decide) ?_
          refine r_bipush (pc := 37) (v := 9) C dX2_end_37 (by decide) ?_
          refine r_callS (pc := 39) (nA := 3) C (c_X2_in G (d - 1)) (h1 := q1570) (h2 := q1571) (h3 := q61) (h4 := q1572)  (hd := dX2_end_39) (kk := kP ?_) (kx := kN)
          refine r_ifeq (pc := 42) (tgt := 92) C dX2_end_42 (by decide) (fun c_42 => ?_) (fun c_42 => ?_)
          · exact absurd c_42 (by decide) --halt
          · refine r_aload_0 (pc := 45) C dX2_end_45 ?_
            refine r_dup (pc := 46) C dX2_end_46 rfl ?_
            refine r_mg12 (pc := 47) C hI dX2_end_47 ?_
            refine r_iconst (pc := 50) (v := 1) C dX2_end_50 (by decide) ?_
            refine r_isub (pc := 51) C dX2_end_51 ?_
            refine r_mp12 (pc := 52) (v := t.length) C hI (by rw [k12]; exact nI_pred _) dX2_end_52 ?_
            refine r_aload_0 (pc := 55) C dX2_end_55 ?_
            refine r_aload_0 (pc := 56) C dX2_end_56 ?_
            refine r_mg13 (pc := 57) C hI dX2_end_57 ?_
            refine r_aload_0 (pc := 60) C dX2_end_60 ?_
            refine r_mg12 (pc := 61) C hI dX2_end_61 ?_
            rw [fset_s]
            refine r_mniald (pc := 64) C hI (by decide) (by decide) rfl (by simp only [mlen]; omega) (by decide) dX2_end_64 ?_
            rw [s1]
            refine r_iload_2 (pc := 65) C dX2_end_65 ?_
            refine r_iconst (pc := 66) (v := -1) C dX2_end_66 (by decide) ?_
            refine r_aload_0 (pc := 67) C dX2_end_67 ?_
            refine r_mg14 (pc := 68) C hI dX2_end_68 ?_
            refine r_aload_0 (pc := 71) C dX2_end_71 ?_
            refine r_mg12 (pc := 72) C hI dX2_end_72 ?_
            rw [fset_s]
            refine r_mniald (pc := 75) C hI (by decide) (by decide) rfl (by simp only [mlen]; omega) (by decide) dX2_end_75 ?_
            rw [s2]
            refine r_aload_0 (pc := 76) C dX2_end_76 ?_
            refine r_mg15 (pc := 77) C hI dX2_end_77 ?_
            refine r_aload_0 (pc := 80) C dX2_end_80 ?_
            refine r_mg12 (pc := 81) C hI dX2_end_81 ?_
            rw [fset_s]
            refine r_mniald (pc := 84) C hI (by decide) (by decide) rfl (by simp only [mlen]; omega) (by decide) dX2_end_84 ?_
            rw [s3]
            refine r_callV (pc := 85) (nA := 5) C (c_X2_make G (d - 1) (by omega) (L := L) hI (show fset f1 12 t.length 3 = L.length from h3) (by omega) hA hM) (ha := (mput_at hI (j := 0) (by decide))) (hc := rfl) (h1 := q1604) (h2 := q1606) (h3 := qs30) (h4 := q61) (h5 := q1607)  (hd := dX2_end_85) (kk := kP ?_) (kx := kN)
            refine r_istore_2 (pc := 88) C dX2_end_88 ?_
            refine r_goto (pc := 89) (tgt := 2) C dX2_end_89 (by decide) ?_
            exact ih (L ++ [quD true v A]) L.length _ _ rfl (by rw [List.length_append]; rfl) (by rw [List.length_append]; show L.length + 1 + t.length ≤ 40; omega) (SRl_mk s4) hVt (PA_mk hA hM) (by rw [List.length_append]; exact Nat.lt_succ_self _) (Oth.tr hO mkA_oth) (fun k k1 k2 k3 => by rw [fset_n k1, fset_n k2]; exact hf k k1 k2 k3) hc
    · have s1 : a1 10 t.length = 7 := s1
      have s2 : a1 11 t.length = nI v := s2
      have s3 : a1 12 t.length = -1 := s3
      have hc : enC t (L ++ [quD false v A]) L.length = c := by
        rw [← hc, ← hgd]
        rw [enC_cons]; rw [if_neg (by decide)]; rw [if_neg (by decide)]; rw [if_pos rfl, nI_clamp (by omega)]
      have hM : MF L 7 (nI q) (-1) (nI v) (-1) (quD false v A) := Or.inr (Or.inr (Or.inr (Or.inl ⟨Or.inr rfl, rfl, rfl, v, q, A, hv, rfl, hqA, rfl, rfl⟩)))
      refine r_aload_0 (pc := 2) C dX2_end_2 ?_
      refine r_mg12 (pc := 3) C hI dX2_end_3 ?_
      rw [k12]
      refine r_ifle (pc := 6) (tgt := 92) C dX2_end_6 (by decide) (fun c_6 => ?_) (fun c_6 => ?_)
      · exact absurd c_6 (nI_nle (by omega) (by omega)) --halt
      · refine r_aload_0 (pc := 9) C dX2_end_9 ?_
        refine r_mg13 (pc := 10) C hI dX2_end_10 ?_
        refine r_aload_0 (pc := 13) C dX2_end_13 ?_
        refine r_mg12 (pc := 14) C hI dX2_end_14 ?_
        refine r_iconst (pc := 17) (v := 1) C dX2_end_17 (by decide) ?_
        refine r_isub (pc := 18) C dX2_end_18 ?_
        rw [k12, nI_pred]
        refine r_mniald (pc := 19) C hI (by decide) (by decide) rfl (by simp only [mlen]; omega) (by decide) dX2_end_19 ?_
        rw [s1]
        refine r_iconst (pc := 20) (v := 2) C dX2_end_20 (by decide) ?_
        refine r_iceq (pc := 21) (tgt := 45) C dX2_end_21 (by decide) (fun c_21 => ?_) (fun c_21 => ?_)
        · exact absurd c_21 (by decide) --halt
        · refine r_aload_0 (pc := 24) C dX2_end_24 ?_
          refine r_mg13 (pc := 25) C hI dX2_end_25 ?_
          refine r_aload_0 (pc := 28) C dX2_end_28 ?_
          refine r_mg12 (pc := 29) C hI dX2_end_29 ?_
          refine r_iconst (pc := 32) (v := 1) C dX2_end_32 (by decide) ?_
          refine r_isub (pc := 33) C dX2_end_33 ?_
          rw [k12, nI_pred]
          refine r_mniald (pc := 34) C hI (by decide) (by decide) rfl (by simp only [mlen]; omega) (by decide) dX2_end_34 ?_
          rw [s1]
          refine r_bipush (pc := 35) (v := 6) C dX2_end_35 (by decide) ?_
          refine r_bipush (pc := 37) (v := 9) C dX2_end_37 (by decide) ?_
          refine r_callS (pc := 39) (nA := 3) C (c_X2_in G (d - 1)) (h1 := q1570) (h2 := q1571) (h3 := q61) (h4 := q1572)  (hd := dX2_end_39) (kk := kP ?_) (kx := kN)
          refine r_ifeq (pc := 42) (tgt := 92) C dX2_end_42 (by decide) (fun c_42 => ?_) (fun c_42 => ?_)
          · exact absurd c_42 (by decide) --halt
          · refine r_aload_0 (pc := 45) C dX2_end_45 ?_
            refine r_dup (pc := 46) C dX2_end_46 rfl ?_
            refine r_mg12 (pc := 47) C hI dX2_end_47 ?_
            refine r_iconst (pc := 50) (v := 1) C dX2_end_50 (by decide) ?_
            refine r_isub (pc := 51) C dX2_end_51 ?_
            refine r_mp12 (pc := 52) (v := t.length) C hI (by rw [k12]; exact nI_pred _) dX2_end_52 ?_
            refine r_aload_0 (pc := 55) C dX2_end_55 ?_
            refine r_aload_0 (pc := 56) C dX2_end_56 ?_
            refine r_mg13 (pc := 57) C hI dX2_end_57 ?_
            refine r_aload_0 (pc := 60) C dX2_end_60 ?_
            refine r_mg12 (pc := 61) C hI dX2_end_61 ?_
            rw [fset_s]
            refine r_mniald (pc := 64) C hI (by decide) (by decide) rfl (by simp only [mlen]; omega) (by decide) dX2_end_64 ?_
            rw [s1]
            refine r_iload_2 (pc := 65) C dX2_end_65 ?_
            refine r_iconst (pc := 66) (v := -1) C dX2_end_66 (by decide) ?_
            refine r_aload_0 (pc := 67) C dX2_end_67 ?_
            refine r_mg14 (pc := 68) C hI dX2_end_68 ?_
            refine r_aload_0 (pc := 71) C dX2_end_71 ?_
            refine r_mg12 (pc := 72) C hI dX2_end_72 ?_
            rw [fset_s]
            refine r_mniald (pc := 75) C hI (by decide) (by decide) rfl (by simp only [mlen]; omega) (by decide) dX2_end_75 ?_
            rw [s2]
            refine r_aload_0 (pc := 76) C dX2_end_76 ?_
            refine r_mg15 (pc := 77) C hI dX2_end_77 ?_
            refine r_aload_0 (pc := 80) C dX2_end_80 ?_
            refine r_mg12 (pc := 81) C hI dX2_end_81 ?_
            rw [fset_s]
            refine r_mniald (pc := 84) C hI (by decide) (by decide) rfl (by simp only [mlen]; omega) (by decide) dX2_end_84 ?_
            rw [s3]
            refine r_callV (pc := 85) (nA := 5) C (c_X2_make G (d - 1) (by omega) (L := L) hI (show fset f1 12 t.length 3 = L.length from h3) (by omega) hA hM) (ha := (mput_at hI (j := 0) (by decide))) (hc := rfl) (h1 := q1604) (h2 := q1606) (h3 := qs30) (h4 := q61) (h5 := q1607)  (hd := dX2_end_85) (kk := kP ?_) (kx := kN)
            refine r_istore_2 (pc := 88) C dX2_end_88 ?_
            refine r_goto (pc := 89) (tgt := 2) C dX2_end_89 (by decide) ?_
            exact ih (L ++ [quD false v A]) L.length _ _ rfl (by rw [List.length_append]; rfl) (by rw [List.length_append]; show L.length + 1 + t.length ≤ 40; omega) (SRl_mk s4) hVt (PA_mk hA hM) (by rw [List.length_append]; exact Nat.lt_succ_self _) (Oth.tr hO mkA_oth) (fun k k1 k2 k3 => by rw [fset_n k1, fset_n k2]; exact hf k k1 k2 k3) hc
    · have s1 : a1 10 t.length = 8 := s1
      have s2 : a1 11 t.length = nI v := s2
      have s3 : a1 12 t.length = nI u := s3
      have hc : enC t (L ++ [qbD true v u A]) L.length = c := by
        rw [← hc, ← hgd]
        rw [enC_cons]; rw [if_neg (by decide)]; rw [if_neg (by decide)]; rw [if_neg (by decide)]; rw [if_pos rfl, nI_clamp (by omega)]; rw [nI_clamp (by omega)]
      have hM : MF L 8 (nI q) (-1) (nI v) (nI u) (qbD true v u A) := Or.inr (Or.inr (Or.inr (Or.inr ⟨Or.inl rfl, rfl, v, u, q, A, hv, hu, rfl, rfl, hqA, rfl, rfl⟩)))
      refine r_aload_0 (pc := 2) C dX2_end_2 ?_
      refine r_mg12 (pc := 3) C hI dX2_end_3 ?_
      rw [k12]
      refine r_ifle (pc := 6) (tgt := 92) C dX2_end_6 (by decide) (fun c_6 => ?_) (fun c_6 => ?_)
      · exact absurd c_6 (nI_nle (by omega) (by omega)) --halt
      · refine r_aload_0 (pc := 9) C dX2_end_9 ?_
        refine r_mg13 (pc := 10) C hI dX2_end_10 ?_
        refine r_aload_0 (pc := 13) C dX2_end_13 ?_
        refine r_mg12 (pc := 14) C hI dX2_end_14 ?_
        refine r_iconst (pc := 17) (v := 1) C dX2_end_17 (by decide) ?_
        refine r_isub (pc := 18) C dX2_end_18 ?_
        rw [k12, nI_pred]
        refine r_mniald (pc := 19) C hI (by decide) (by decide) rfl (by simp only [mlen]; omega) (by decide) dX2_end_19 ?_
        rw [s1]
        refine r_iconst (pc := 20) (v := 2) C dX2_end_20 (by decide) ?_
        refine r_iceq (pc := 21) (tgt := 45) C dX2_end_21 (by decide) (fun c_21 => ?_) (fun c_21 => ?_)
        · exact absurd c_21 (by decide) --halt
        · refine r_aload_0 (pc := 24) C dX2_end_24 ?_
          refine r_mg13 (pc := 25) C hI dX2_end_25 ?_
          refine r_aload_0 (pc := 28) C dX2_end_28 ?_
          refine r_mg12 (pc := 29) C hI dX2_end_29 ?_
          refine r_iconst (pc := 32) (v := 1) C dX2_end_32 (by decide) ?_
          refine r_isub (pc := 33) C dX2_end_33 ?_
          rw [k12, nI_pred]
          refine r_mniald (pc := 34) C hI (by decide) (by decide) rfl (by simp only [mlen]; omega) (by decide) dX2_end_34 ?_
          rw [s1]
          refine r_bipush (pc := 35) (v := 6) C dX2_end_35 (by decide) ?_
          refine r_bipush (pc := 37) (v := 9) C dX2_end_37 (by decide) ?_
          refine r_callS (pc := 39) (nA := 3) C (c_X2_in G (d - 1)) (h1 := q1570) (h2 := q1571) (h3 := q61) (h4 := q1572)  (hd := dX2_end_39) (kk := kP ?_) (kx := kN)
          refine r_ifeq (pc := 42) (tgt := 92) C dX2_end_42 (by decide) (fun c_42 => ?_) (fun c_42 => ?_)
          · exact absurd c_42 (by decide) --halt
          · refine r_aload_0 (pc := 45) C dX2_end_45 ?_
            refine r_dup (pc := 46) C dX2_end_46 rfl ?_
            refine r_mg12 (pc := 47) C hI dX2_end_47 ?_
            refine r_iconst (pc := 50) (v := 1) C dX2_end_50 (by decide) ?_
            refine r_isub (pc := 51) C dX2_end_51 ?_
            refine r_mp12 (pc := 52) (v := t.length) C hI (by rw [k12]; exact nI_pred _) dX2_end_52 ?_
            refine r_aload_0 (pc := 55) C dX2_end_55 ?_
            refine r_aload_0 (pc := 56) C dX2_end_56 ?_
            refine r_mg13 (pc := 57) C hI dX2_end_57 ?_
            refine r_aload_0 (pc := 60) C dX2_end_60 ?_
            refine r_mg12 (pc := 61) C hI dX2_end_61 ?_
            rw [fset_s]
            refine r_mniald (pc := 64) C hI (by decide) (by decide) rfl (by simp only [mlen]; omega) (by decide) dX2_end_64 ?_
            rw [s1]
            refine r_iload_2 (pc := 65) C dX2_end_65 ?_
            refine r_iconst (pc := 66) (v := -1) C dX2_end_66 (by decide) ?_
            refine r_aload_0 (pc := 67) C dX2_end_67 ?_
            refine r_mg14 (pc := 68) C hI dX2_end_68 ?_
            refine r_aload_0 (pc := 71) C dX2_end_71 ?_
            refine r_mg12 (pc := 72) C hI dX2_end_72 ?_
            rw [fset_s]
            refine r_mniald (pc := 75) C hI (by decide) (by decide) rfl (by simp only [mlen]; omega) (by decide) dX2_end_75 ?_
            rw [s2]
            refine r_aload_0 (pc := 76) C dX2_end_76 ?_
            refine r_mg15 (pc := 77) C hI dX2_end_77 ?_
            refine r_aload_0 (pc := 80) C dX2_end_80 ?_
            refine r_mg12 (pc := 81) C hI dX2_end_81 ?_
            rw [fset_s]
            refine r_mniald (pc := 84) C hI (by decide) (by decide) rfl (by simp only [mlen]; omega) (by decide) dX2_end_84 ?_
            rw [s3]
            refine r_callV (pc := 85) (nA := 5) C (c_X2_make G (d - 1) (by omega) (L := L) hI (show fset f1 12 t.length 3 = L.length from h3) (by omega) hA hM) (ha := (mput_at hI (j := 0) (by decide))) (hc := rfl) (h1 := q1604) (h2 := q1606) (h3 := qs30) (h4 := q61) (h5 := q1607)  (hd := dX2_end_85) (kk := kP ?_) (kx := kN)
            refine r_istore_2 (pc := 88) C dX2_end_88 ?_
            refine r_goto (pc := 89) (tgt := 2) C dX2_end_89 (by decide) ?_
            exact ih (L ++ [qbD true v u A]) L.length _ _ rfl (by rw [List.length_append]; rfl) (by rw [List.length_append]; show L.length + 1 + t.length ≤ 40; omega) (SRl_mk s4) hVt (PA_mk hA hM) (by rw [List.length_append]; exact Nat.lt_succ_self _) (Oth.tr hO mkA_oth) (fun k k1 k2 k3 => by rw [fset_n k1, fset_n k2]; exact hf k k1 k2 k3) hc
    · have s1 : a1 10 t.length = 9 := s1
      have s2 : a1 11 t.length = nI v := s2
      have s3 : a1 12 t.length = nI u := s3
      have hc : enC t (L ++ [qbD false v u A]) L.length = c := by
        rw [← hc, ← hgd]
        rw [enC_cons]; rw [if_neg (by decide)]; rw [if_neg (by decide)]; rw [if_neg (by decide)]; rw [if_neg (by decide)]; rw [if_pos rfl, nI_clamp (by omega)]; rw [nI_clamp (by omega)]
      have hM : MF L 9 (nI q) (-1) (nI v) (nI u) (qbD false v u A) := Or.inr (Or.inr (Or.inr (Or.inr ⟨Or.inr rfl, rfl, v, u, q, A, hv, hu, rfl, rfl, hqA, rfl, rfl⟩)))
      refine r_aload_0 (pc := 2) C dX2_end_2 ?_
      refine r_mg12 (pc := 3) C hI dX2_end_3 ?_
      rw [k12]
      refine r_ifle (pc := 6) (tgt := 92) C dX2_end_6 (by decide) (fun c_6 => ?_) (fun c_6 => ?_)
      · exact absurd c_6 (nI_nle (by omega) (by omega)) --halt
      · refine r_aload_0 (pc := 9) C dX2_end_9 ?_
        refine r_mg13 (pc := 10) C hI dX2_end_10 ?_
        refine r_aload_0 (pc := 13) C dX2_end_13 ?_
        refine r_mg12 (pc := 14) C hI dX2_end_14 ?_
        refine r_iconst (pc := 17) (v := 1) C dX2_end_17 (by decide) ?_
        refine r_isub (pc := 18) C dX2_end_18 ?_
        rw [k12, nI_pred]
        refine r_mniald (pc := 19) C hI (by decide) (by decide) rfl (by simp only [mlen]; omega) (by decide) dX2_end_19 ?_
        rw [s1]
        refine r_iconst (pc := 20) (v := 2) C dX2_end_20 (by decide) ?_
        refine r_iceq (pc := 21) (tgt := 45) C dX2_end_21 (by decide) (fun c_21 => ?_) (fun c_21 => ?_)
        · exact absurd c_21 (by decide) --halt
        · refine r_aload_0 (pc := 24) C dX2_end_24 ?_
          refine r_mg13 (pc := 25) C hI dX2_end_25 ?_
          refine r_aload_0 (pc := 28) C dX2_end_28 ?_
          refine r_mg12 (pc := 29) C hI dX2_end_29 ?_
          refine r_iconst (pc := 32) (v := 1) C dX2_end_32 (by decide) ?_
          refine r_isub (pc := 33) C dX2_end_33 ?_
          rw [k12, nI_pred]
          refine r_mniald (pc := 34) C hI (by decide) (by decide) rfl (by simp only [mlen]; omega) (by decide) dX2_end_34 ?_
          rw [s1]
          refine r_bipush (pc := 35) (v := 6) C dX2_end_35 (by decide) ?_
          refine r_bipush (pc := 37) (v := 9) C dX2_end_37 (by decide) ?_
          refine r_callS (pc := 39) (nA := 3) C (c_X2_in G (d - 1)) (h1 := q1570) (h2 := q1571) (h3 := q61) (h4 := q1572)  (hd := dX2_end_39) (kk := kP ?_) (kx := kN)
          refine r_ifeq (pc := 42) (tgt := 92) C dX2_end_42 (by decide) (fun c_42 => ?_) (fun c_42 => ?_)
          · exact absurd c_42 (by decide) --halt
          · refine r_aload_0 (pc := 45) C dX2_end_45 ?_
            refine r_dup (pc := 46) C dX2_end_46 rfl ?_
            refine r_mg12 (pc := 47) C hI dX2_end_47 ?_
            refine r_iconst (pc := 50) (v := 1) C dX2_end_50 (by decide) ?_
            refine r_isub (pc := 51) C dX2_end_51 ?_
            refine r_mp12 (pc := 52) (v := t.length) C hI (by rw [k12]; exact nI_pred _) dX2_end_52 ?_
            refine r_aload_0 (pc := 55) C dX2_end_55 ?_
            refine r_aload_0 (pc := 56) C dX2_end_56 ?_
            refine r_mg13 (pc := 57) C hI dX2_end_57 ?_
            refine r_aload_0 (pc := 60) C dX2_end_60 ?_
            refine r_mg12 (pc := 61) C hI dX2_end_61 ?_
            rw [fset_s]
            refine r_mniald (pc := 64) C hI (by decide) (by decide) rfl (by simp only [mlen]; omega) (by decide) dX2_end_64 ?_
            rw [s1]
            refine r_iload_2 (pc := 65) C dX2_end_65 ?_
            refine r_iconst (pc := 66) (v := -1) C dX2_end_66 (by decide) ?_
            refine r_aload_0 (pc := 67) C dX2_end_67 ?_
            refine r_mg14 (pc := 68) C hI dX2_end_68 ?_
            refine r_aload_0 (pc := 71) C dX2_end_71 ?_
            refine r_mg12 (pc := 72) C hI dX2_end_72 ?_
            rw [fset_s]
            refine r_mniald (pc := 75) C hI (by decide) (by decide) rfl (by simp only [mlen]; omega) (by decide) dX2_end_75 ?_
            rw [s2]
            refine r_aload_0 (pc := 76) C dX2_end_76 ?_
            refine r_mg15 (pc := 77) C hI dX2_end_77 ?_
            refine r_aload_0 (pc := 80) C dX2_end_80 ?_
            refine r_mg12 (pc := 81) C hI dX2_end_81 ?_
            rw [fset_s]
            refine r_mniald (pc := 84) C hI (by decide) (by decide) rfl (by simp only [mlen]; omega) (by decide) dX2_end_84 ?_
            rw [s3]
            refine r_callV (pc := 85) (nA := 5) C (c_X2_make G (d - 1) (by omega) (L := L) hI (show fset f1 12 t.length 3 = L.length from h3) (by omega) hA hM) (ha := (mput_at hI (j := 0) (by decide))) (hc := rfl) (h1 := q1604) (h2 := q1606) (h3 := qs30) (h4 := q61) (h5 := q1607)  (hd := dX2_end_85) (kk := kP ?_) (kx := kN)
            refine r_istore_2 (pc := 88) C dX2_end_88 ?_
            refine r_goto (pc := 89) (tgt := 2) C dX2_end_89 (by decide) ?_
            exact ih (L ++ [qbD false v u A]) L.length _ _ rfl (by rw [List.length_append]; rfl) (by rw [List.length_append]; show L.length + 1 + t.length ≤ 40; omega) (SRl_mk s4) hVt (PA_mk hA hM) (by rw [List.length_append]; exact Nat.lt_succ_self _) (Oth.tr hO mkA_oth) (fun k k1 k2 k3 => by rw [fset_n k1, fset_n k2]; exact hf k k1 k2 k3) hc
    · have s1 : a1 10 t.length = 10 := s1
      have s2 : a1 11 t.length = -1 := s2
      have s3 : a1 12 t.length = -1 := s3
      have hc : ((10, nI q, -1) :: t, 6, L) = c := by
        rw [← hc]
        rw [enC_cons]; rfl
      subst hc
      refine r_aload_0 (pc := 2) C dX2_end_2 ?_
      refine r_mg12 (pc := 3) C hI dX2_end_3 ?_
      rw [k12]
      refine r_ifle (pc := 6) (tgt := 92) C dX2_end_6 (by decide) (fun c_6 => ?_) (fun c_6 => ?_)
      · exact absurd c_6 (nI_nle (by omega) (by omega)) --halt
      · refine r_aload_0 (pc := 9) C dX2_end_9 ?_
        refine r_mg13 (pc := 10) C hI dX2_end_10 ?_
        refine r_aload_0 (pc := 13) C dX2_end_13 ?_
        refine r_mg12 (pc := 14) C hI dX2_end_14 ?_
        refine r_iconst (pc := 17) (v := 1) C dX2_end_17 (by decide) ?_
        refine r_isub (pc := 18) C dX2_end_18 ?_
        rw [k12, nI_pred]
        refine r_mniald (pc := 19) C hI (by decide) (by decide) rfl (by simp only [mlen]; omega) (by decide) dX2_end_19 ?_
        rw [s1]
        refine r_iconst (pc := 20) (v := 2) C dX2_end_20 (by decide) ?_
        refine r_iceq (pc := 21) (tgt := 45) C dX2_end_21 (by decide) (fun c_21 => ?_) (fun c_21 => ?_)
        · exact absurd c_21 (by decide) --halt
        · refine r_aload_0 (pc := 24) C dX2_end_24 ?_
          refine r_mg13 (pc := 25) C hI dX2_end_25 ?_
          refine r_aload_0 (pc := 28) C dX2_end_28 ?_
          refine r_mg12 (pc := 29) C hI dX2_end_29 ?_
          refine r_iconst (pc := 32) (v := 1) C dX2_end_32 (by decide) ?_
          refine r_isub (pc := 33) C dX2_end_33 ?_
          rw [k12, nI_pred]
          refine r_mniald (pc := 34) C hI (by decide) (by decide) rfl (by simp only [mlen]; omega) (by decide) dX2_end_34 ?_
          rw [s1]
          refine r_bipush (pc := 35) (v := 6) C dX2_end_35 (by decide) ?_
          refine r_bipush (pc := 37) (v := 9) C dX2_end_37 (by decide) ?_
          refine r_callS (pc := 39) (nA := 3) C (c_X2_in G (d - 1)) (h1 := q1570) (h2 := q1571) (h3 := q61) (h4 := q1572)  (hd := dX2_end_39) (kk := kP ?_) (kx := kN)
          refine r_ifeq (pc := 42) (tgt := 92) C dX2_end_42 (by decide) (fun c_42 => ?_) (fun c_42 => ?_)
          · refine r_aload_0 (pc := 92) C dX2_end_92 ?_
            refine r_mg12 (pc := 93) C hI dX2_end_93 ?_
            rw [k12]
            refine r_ifne (pc := 96) (tgt := 108) C dX2_end_96 (by decide) (fun c_96 => ?_) (fun c_96 => ?_)
            · refine r_aload_0 (pc := 108) C dX2_end_108 ?_
              refine r_mg13 (pc := 109) C hI dX2_end_109 ?_
              refine r_aload_0 (pc := 112) C dX2_end_112 ?_
              refine r_mg12 (pc := 113) C hI dX2_end_113 ?_
              refine r_iconst (pc := 116) (v := 1) C dX2_end_116 (by decide) ?_
              refine r_isub (pc := 117) C dX2_end_117 ?_
              rw [k12, nI_pred]
              refine r_mniald (pc := 118) C hI (by decide) (by decide) rfl (by simp only [mlen]; omega) (by decide) dX2_end_118 ?_
              rw [s1]
              refine r_bipush (pc := 119) (v := 10) C dX2_end_119 (by decide) ?_
              refine r_icne (pc := 121) (tgt := 145) C dX2_end_121 (by decide) (fun c_121 => ?_) (fun c_121 => ?_)
              · exact absurd rfl c_121 --halt
              · refine r_aload_0 (pc := 124) C dX2_end_124 ?_
                refine r_mg14 (pc := 125) C hI dX2_end_125 ?_
                refine r_aload_0 (pc := 128) C dX2_end_128 ?_
                refine r_mg12 (pc := 129) C hI dX2_end_129 ?_
                refine r_iconst (pc := 132) (v := 1) C dX2_end_132 (by decide) ?_
                refine r_isub (pc := 133) C dX2_end_133 ?_
                rw [k12, nI_pred]
                refine r_iload_2 (pc := 134) C dX2_end_134 ?_
                refine r_mniast (pc := 135) C hI (by decide) (by decide) rfl (by simp only [mlen]; omega) (by decide) dX2_end_135 ?_
                refine r_aload_0 (pc := 136) C dX2_end_136 ?_
                refine r_bipush (pc := 137) (v := 6) C dX2_end_137 (by decide) ?_
                refine r_mp16 (pc := 139) (v := 6) C hI rfl dX2_end_139 ?_
                refine r_goto (pc := 142) (tgt := 163) C dX2_end_142 (by decide) ?_
                refine r_vret (pc := 163) C dX2_end_163 ?_
                refine ⟨rfl, fset f1 16 6, aset a1 11 (upd (a1 11) t.length (nI q)), rfl, k12, rfl, h3, ⟨s1, pk_us, s3, ?_⟩, PA_eq (ar := a1) (fun j j1 j2 => aset_n (by omega)) hA, Oth.tr hO (Oth.aset (by decide)), fun k k1 k2 k3 => by rw [fset_n k3]; exact hf k k1 k2 k3⟩
                exact SRl_eq (ar := a1) (fun i hi => ⟨rfl, pk_un (by omega), rfl⟩) s4
            · exact absurd c_96 (nI_ne0 (by omega) (by omega)) --halt
          · exact absurd (by decide) c_42 --halt
    · have s1 : a1 10 t.length = 3 := s1
      have s2 : a1 11 t.length = nI p := s2
      have s3 : a1 12 t.length = -1 := s3
      have hc : ((3, nI p, nI q) :: t, 7, L) = c := by
        rw [← hc]
        rw [enC_cons]; rfl
      subst hc
      refine r_aload_0 (pc := 2) C dX2_end_2 ?_
      refine r_mg12 (pc := 3) C hI dX2_end_3 ?_
      rw [k12]
      refine r_ifle (pc := 6) (tgt := 92) C dX2_end_6 (by decide) (fun c_6 => ?_) (fun c_6 => ?_)
      · exact absurd c_6 (nI_nle (by omega) (by omega)) --halt
      · refine r_aload_0 (pc := 9) C dX2_end_9 ?_
        refine r_mg13 (pc := 10) C hI dX2_end_10 ?_
        refine r_aload_0 (pc := 13) C dX2_end_13 ?_
        refine r_mg12 (pc := 14) C hI dX2_end_14 ?_
        refine r_iconst (pc := 17) (v := 1) C dX2_end_17 (by decide) ?_
        refine r_isub (pc := 18) C dX2_end_18 ?_
        rw [k12, nI_pred]
        refine r_mniald (pc := 19) C hI (by decide) (by decide) rfl (by simp only [mlen]; omega) (by decide) dX2_end_19 ?_
        rw [s1]
        refine r_iconst (pc := 20) (v := 2) C dX2_end_20 (by decide) ?_
        refine r_iceq (pc := 21) (tgt := 45) C dX2_end_21 (by decide) (fun c_21 => ?_) (fun c_21 => ?_)
        · exact absurd c_21 (by decide) --halt
        · refine r_aload_0 (pc := 24) C dX2_end_24 ?_
          refine r_mg13 (pc := 25) C hI dX2_end_25 ?_
          refine r_aload_0 (pc := 28) C dX2_end_28 ?_
          refine r_mg12 (pc := 29) C hI dX2_end_29 ?_
          refine r_iconst (pc := 32) (v := 1) C dX2_end_32 (by decide) ?_
          refine r_isub (pc := 33) C dX2_end_33 ?_
          rw [k12, nI_pred]
          refine r_mniald (pc := 34) C hI (by decide) (by decide) rfl (by simp only [mlen]; omega) (by decide) dX2_end_34 ?_
          rw [s1]
          refine r_bipush (pc := 35) (v := 6) C dX2_end_35 (by decide) ?_
          refine r_bipush (pc := 37) (v := 9) C dX2_end_37 (by decide) ?_
          refine r_callS (pc := 39) (nA := 3) C (c_X2_in G (d - 1)) (h1 := q1570) (h2 := q1571) (h3 := q61) (h4 := q1572)  (hd := dX2_end_39) (kk := kP ?_) (kx := kN)
          refine r_ifeq (pc := 42) (tgt := 92) C dX2_end_42 (by decide) (fun c_42 => ?_) (fun c_42 => ?_)
          · refine r_aload_0 (pc := 92) C dX2_end_92 ?_
            refine r_mg12 (pc := 93) C hI dX2_end_93 ?_
            rw [k12]
            refine r_ifne (pc := 96) (tgt := 108) C dX2_end_96 (by decide) (fun c_96 => ?_) (fun c_96 => ?_)
            · refine r_aload_0 (pc := 108) C dX2_end_108 ?_
              refine r_mg13 (pc := 109) C hI dX2_end_109 ?_
              refine r_aload_0 (pc := 112) C dX2_end_112 ?_
              refine r_mg12 (pc := 113) C hI dX2_end_113 ?_
              refine r_iconst (pc := 116) (v := 1) C dX2_end_116 (by decide) ?_
              refine r_isub (pc := 117) C dX2_end_117 ?_
              rw [k12, nI_pred]
              refine r_mniald (pc := 118) C hI (by decide) (by decide) rfl (by simp only [mlen]; omega) (by decide) dX2_end_118 ?_
              rw [s1]
              refine r_bipush (pc := 119) (v := 10) C dX2_end_119 (by decide) ?_
              refine r_icne (pc := 121) (tgt := 145) C dX2_end_121 (by decide) (fun c_121 => ?_) (fun c_121 => ?_)
              · refine r_aload_0 (pc := 145) C dX2_end_145 ?_
                refine r_mg15 (pc := 146) C hI dX2_end_146 ?_
                refine r_aload_0 (pc := 149) C dX2_end_149 ?_
                refine r_mg12 (pc := 150) C hI dX2_end_150 ?_
                refine r_iconst (pc := 153) (v := 1) C dX2_end_153 (by decide) ?_
                refine r_isub (pc := 154) C dX2_end_154 ?_
                rw [k12, nI_pred]
                refine r_iload_2 (pc := 155) C dX2_end_155 ?_
                refine r_mniast (pc := 156) C hI (by decide) (by decide) rfl (by simp only [mlen]; omega) (by decide) dX2_end_156 ?_
                refine r_aload_0 (pc := 157) C dX2_end_157 ?_
                refine r_bipush (pc := 158) (v := 7) C dX2_end_158 (by decide) ?_
                refine r_mp16 (pc := 160) (v := 7) C hI rfl dX2_end_160 ?_
                refine r_vret (pc := 163) C dX2_end_163 ?_
                refine ⟨rfl, fset f1 16 7, aset a1 12 (upd (a1 12) t.length (nI q)), rfl, k12, rfl, h3, ⟨s1, s2, pk_us, ?_⟩, PA_eq (ar := a1) (fun j j1 j2 => aset_n (by omega)) hA, Oth.tr hO (Oth.aset (by decide)), fun k k1 k2 k3 => by rw [fset_n k3]; exact hf k k1 k2 k3⟩
                exact SRl_eq (ar := a1) (fun i hi => ⟨rfl, rfl, pk_un (by omega)⟩) s4
              · exact absurd c_121 (by decide) --halt
            · exact absurd c_96 (nI_ne0 (by omega) (by omega)) --halt
          · exact absurd (by decide) c_42 --halt
    · have s1 : a1 10 t.length = 4 := s1
      have s2 : a1 11 t.length = nI p := s2
      have s3 : a1 12 t.length = -1 := s3
      have hc : ((4, nI p, nI q) :: t, 7, L) = c := by
        rw [← hc]
        rw [enC_cons]; rfl
      subst hc
      refine r_aload_0 (pc := 2) C dX2_end_2 ?_
      refine r_mg12 (pc := 3) C hI dX2_end_3 ?_
      rw [k12]
      refine r_ifle (pc := 6) (tgt := 92) C dX2_end_6 (by decide) (fun c_6 => ?_) (fun c_6 => ?_)
      · exact absurd c_6 (nI_nle (by omega) (by omega)) --halt
      · refine r_aload_0 (pc := 9) C dX2_end_9 ?_
        refine r_mg13 (pc := 10) C hI dX2_end_10 ?_
        refine r_aload_0 (pc := 13) C dX2_end_13 ?_
        refine r_mg12 (pc := 14) C hI dX2_end_14 ?_
        refine r_iconst (pc := 17) (v := 1) C dX2_end_17 (by decide) ?_
        refine r_isub (pc := 18) C dX2_end_18 ?_
        rw [k12, nI_pred]
        refine r_mniald (pc := 19) C hI (by decide) (by decide) rfl (by simp only [mlen]; omega) (by decide) dX2_end_19 ?_
        rw [s1]
        refine r_iconst (pc := 20) (v := 2) C dX2_end_20 (by decide) ?_
        refine r_iceq (pc := 21) (tgt := 45) C dX2_end_21 (by decide) (fun c_21 => ?_) (fun c_21 => ?_)
        · exact absurd c_21 (by decide) --halt
        · refine r_aload_0 (pc := 24) C dX2_end_24 ?_
          refine r_mg13 (pc := 25) C hI dX2_end_25 ?_
          refine r_aload_0 (pc := 28) C dX2_end_28 ?_
          refine r_mg12 (pc := 29) C hI dX2_end_29 ?_
          refine r_iconst (pc := 32) (v := 1) C dX2_end_32 (by decide) ?_
          refine r_isub (pc := 33) C dX2_end_33 ?_
          rw [k12, nI_pred]
          refine r_mniald (pc := 34) C hI (by decide) (by decide) rfl (by simp only [mlen]; omega) (by decide) dX2_end_34 ?_
          rw [s1]
          refine r_bipush (pc := 35) (v := 6) C dX2_end_35 (by decide) ?_
          refine r_bipush (pc := 37) (v := 9) C dX2_end_37 (by decide) ?_
          refine r_callS (pc := 39) (nA := 3) C (c_X2_in G (d - 1)) (h1 := q1570) (h2 := q1571) (h3 := q61) (h4 := q1572)  (hd := dX2_end_39) (kk := kP ?_) (kx := kN)
          refine r_ifeq (pc := 42) (tgt := 92) C dX2_end_42 (by decide) (fun c_42 => ?_) (fun c_42 => ?_)
          · refine r_aload_0 (pc := 92) C dX2_end_92 ?_
            refine r_mg12 (pc := 93) C hI dX2_end_93 ?_
            rw [k12]
            refine r_ifne (pc := 96) (tgt := 108) C dX2_end_96 (by decide) (fun c_96 => ?_) (fun c_96 => ?_)
            · refine r_aload_0 (pc := 108) C dX2_end_108 ?_
              refine r_mg13 (pc := 109) C hI dX2_end_109 ?_
              refine r_aload_0 (pc := 112) C dX2_end_112 ?_
              refine r_mg12 (pc := 113) C hI dX2_end_113 ?_
              refine r_iconst (pc := 116) (v := 1) C dX2_end_116 (by decide) ?_
              refine r_isub (pc := 117) C dX2_end_117 ?_
              rw [k12, nI_pred]
              refine r_mniald (pc := 118) C hI (by decide) (by decide) rfl (by simp only [mlen]; omega) (by decide) dX2_end_118 ?_
              rw [s1]
              refine r_bipush (pc := 119) (v := 10) C dX2_end_119 (by decide) ?_
              refine r_icne (pc := 121) (tgt := 145) C dX2_end_121 (by decide) (fun c_121 => ?_) (fun c_121 => ?_)
              · refine r_aload_0 (pc := 145) C dX2_end_145 ?_
                refine r_mg15 (pc := 146) C hI dX2_end_146 ?_
                refine r_aload_0 (pc := 149) C dX2_end_149 ?_
                refine r_mg12 (pc := 150) C hI dX2_end_150 ?_
                refine r_iconst (pc := 153) (v := 1) C dX2_end_153 (by decide) ?_
                refine r_isub (pc := 154) C dX2_end_154 ?_
                rw [k12, nI_pred]
                refine r_iload_2 (pc := 155) C dX2_end_155 ?_
                refine r_mniast (pc := 156) C hI (by decide) (by decide) rfl (by simp only [mlen]; omega) (by decide) dX2_end_156 ?_
                refine r_aload_0 (pc := 157) C dX2_end_157 ?_
                refine r_bipush (pc := 158) (v := 7) C dX2_end_158 (by decide) ?_
                refine r_mp16 (pc := 160) (v := 7) C hI rfl dX2_end_160 ?_
                refine r_vret (pc := 163) C dX2_end_163 ?_
                refine ⟨rfl, fset f1 16 7, aset a1 12 (upd (a1 12) t.length (nI q)), rfl, k12, rfl, h3, ⟨s1, s2, pk_us, ?_⟩, PA_eq (ar := a1) (fun j j1 j2 => aset_n (by omega)) hA, Oth.tr hO (Oth.aset (by decide)), fun k k1 k2 k3 => by rw [fset_n k3]; exact hf k k1 k2 k3⟩
                exact SRl_eq (ar := a1) (fun i hi => ⟨rfl, rfl, pk_un (by omega)⟩) s4
              · exact absurd c_121 (by decide) --halt
            · exact absurd c_96 (nI_ne0 (by omega) (by omega)) --halt
          · exact absurd (by decide) c_42 --halt
    · have s1 : a1 10 t.length = 5 := s1
      have s2 : a1 11 t.length = nI p := s2
      have s3 : a1 12 t.length = -1 := s3
      have hc : ((5, nI p, nI q) :: t, 7, L) = c := by
        rw [← hc]
        rw [enC_cons]; rfl
      subst hc
      refine r_aload_0 (pc := 2) C dX2_end_2 ?_
      refine r_mg12 (pc := 3) C hI dX2_end_3 ?_
      rw [k12]
      refine r_ifle (pc := 6) (tgt := 92) C dX2_end_6 (by decide) (fun c_6 => ?_) (fun c_6 => ?_)
      · exact absurd c_6 (nI_nle (by omega) (by omega)) --halt
      · refine r_aload_0 (pc := 9) C dX2_end_9 ?_
        refine r_mg13 (pc := 10) C hI dX2_end_10 ?_
        refine r_aload_0 (pc := 13) C dX2_end_13 ?_
        refine r_mg12 (pc := 14) C hI dX2_end_14 ?_
        refine r_iconst (pc := 17) (v := 1) C dX2_end_17 (by decide) ?_
        refine r_isub (pc := 18) C dX2_end_18 ?_
        rw [k12, nI_pred]
        refine r_mniald (pc := 19) C hI (by decide) (by decide) rfl (by simp only [mlen]; omega) (by decide) dX2_end_19 ?_
        rw [s1]
        refine r_iconst (pc := 20) (v := 2) C dX2_end_20 (by decide) ?_
        refine r_iceq (pc := 21) (tgt := 45) C dX2_end_21 (by decide) (fun c_21 => ?_) (fun c_21 => ?_)
        · exact absurd c_21 (by decide) --halt
        · refine r_aload_0 (pc := 24) C dX2_end_24 ?_
          refine r_mg13 (pc := 25) C hI dX2_end_25 ?_
          refine r_aload_0 (pc := 28) C dX2_end_28 ?_
          refine r_mg12 (pc := 29) C hI dX2_end_29 ?_
          refine r_iconst (pc := 32) (v := 1) C dX2_end_32 (by decide) ?_
          refine r_isub (pc := 33) C dX2_end_33 ?_
          rw [k12, nI_pred]
          refine r_mniald (pc := 34) C hI (by decide) (by decide) rfl (by simp only [mlen]; omega) (by decide) dX2_end_34 ?_
          rw [s1]
          refine r_bipush (pc := 35) (v := 6) C dX2_end_35 (by decide) ?_
          refine r_bipush (pc := 37) (v := 9) C dX2_end_37 (by decide) ?_
          refine r_callS (pc := 39) (nA := 3) C (c_X2_in G (d - 1)) (h1 := q1570) (h2 := q1571) (h3 := q61) (h4 := q1572)  (hd := dX2_end_39) (kk := kP ?_) (kx := kN)
          refine r_ifeq (pc := 42) (tgt := 92) C dX2_end_42 (by decide) (fun c_42 => ?_) (fun c_42 => ?_)
          · refine r_aload_0 (pc := 92) C dX2_end_92 ?_
            refine r_mg12 (pc := 93) C hI dX2_end_93 ?_
            rw [k12]
            refine r_ifne (pc := 96) (tgt := 108) C dX2_end_96 (by decide) (fun c_96 => ?_) (fun c_96 => ?_)
            · refine r_aload_0 (pc := 108) C dX2_end_108 ?_
              refine r_mg13 (pc := 109) C hI dX2_end_109 ?_
              refine r_aload_0 (pc := 112) C dX2_end_112 ?_
              refine r_mg12 (pc := 113) C hI dX2_end_113 ?_
              refine r_iconst (pc := 116) (v := 1) C dX2_end_116 (by decide) ?_
              refine r_isub (pc := 117) C dX2_end_117 ?_
              rw [k12, nI_pred]
              refine r_mniald (pc := 118) C hI (by decide) (by decide) rfl (by simp only [mlen]; omega) (by decide) dX2_end_118 ?_
              rw [s1]
              refine r_bipush (pc := 119) (v := 10) C dX2_end_119 (by decide) ?_
              refine r_icne (pc := 121) (tgt := 145) C dX2_end_121 (by decide) (fun c_121 => ?_) (fun c_121 => ?_)
              · refine r_aload_0 (pc := 145) C dX2_end_145 ?_
                refine r_mg15 (pc := 146) C hI dX2_end_146 ?_
                refine r_aload_0 (pc := 149) C dX2_end_149 ?_
                refine r_mg12 (pc := 150) C hI dX2_end_150 ?_
                refine r_iconst (pc := 153) (v := 1) C dX2_end_153 (by decide) ?_
                refine r_isub (pc := 154) C dX2_end_154 ?_
                rw [k12, nI_pred]
                refine r_iload_2 (pc := 155) C dX2_end_155 ?_
                refine r_mniast (pc := 156) C hI (by decide) (by decide) rfl (by simp only [mlen]; omega) (by decide) dX2_end_156 ?_
                refine r_aload_0 (pc := 157) C dX2_end_157 ?_
                refine r_bipush (pc := 158) (v := 7) C dX2_end_158 (by decide) ?_
                refine r_mp16 (pc := 160) (v := 7) C hI rfl dX2_end_160 ?_
                refine r_vret (pc := 163) C dX2_end_163 ?_
                refine ⟨rfl, fset f1 16 7, aset a1 12 (upd (a1 12) t.length (nI q)), rfl, k12, rfl, h3, ⟨s1, s2, pk_us, ?_⟩, PA_eq (ar := a1) (fun j j1 j2 => aset_n (by omega)) hA, Oth.tr hO (Oth.aset (by decide)), fun k k1 k2 k3 => by rw [fset_n k3]; exact hf k k1 k2 k3⟩
                exact SRl_eq (ar := a1) (fun i hi => ⟨rfl, rfl, pk_un (by omega)⟩) s4
              · exact absurd c_121 (by decide) --halt
            · exact absurd c_96 (nI_ne0 (by omega) (by omega)) --halt
          · exact absurd (by decide) c_42 --halt
theorem c_X2_end (G : Good w) (d : Nat) (hd : 3 ≤ d) {S : List T3} {L : List DN} {q : Nat} (hI : MI am) (h12 : fi 12 = S.length) (h3 : fi 3 = L.length) (hl : L.length + S.length ≤ 40) (hS : SRl ar S) (hV : ∀ x ∈ S, FV x) (hA : PA ar L) (hq : q < L.length) : Con w yX2_end (ws_ yX2_end cX2_end 3 none) d 0 0 [.ref (am 0), .int (nI q)] (mput w am fi ar h0) (fun x9 h' => x9 = none ∧ ∃ fi' ar', h' = mput w am fi' ar' h0 ∧ EnS fi fi' ar ar' (enC S L q)) noX := by
  refine Con.of G [some (.ref (am 0)), some (.int (nI q)), none] (body := fun g C => ?_)
  refine r_iload_1 (pc := 0) C dX2_end_0 ?_
  refine r_istore_2 (pc := 1) C dX2_end_1 ?_
  exact end_loop G hd hI C _ S L q fi ar h12 h3 hl hS hV hA hq Oth.rf (fun _ _ _ _ => rfl) rfl
end M10
