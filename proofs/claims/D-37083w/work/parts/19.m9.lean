/-! 19: ReversalCourtModel: measure, make -/
set_option maxRecDepth 100000
section M9
variable {w : WD} {am fi : Nat → Nat} {ar : Nat → Nat → Int32} {h0 : AH}

theorem c_X2_measure_lt (G : Good w) (d : Nat) (hd : 1 ≤ d) {p : Nat} (hI : MI am) (hp : p < 40) {v : Nat} (hv : v < 3) {u : Nat} (hu : u < 3) (e2 : ar 2 p = 0) (e3 : ar 3 p = -1) (e4 : ar 4 p = -1) (e5 : ar 5 p = nI v) (e6 : ar 6 p = nI u) : Con w yX2_measure (ws_ yX2_measure cX2_measure 9 none) d 0 0 [.ref (am 0), .int (nI p)] (mput w am fi ar h0) (fun x9 h' => x9 = none ∧ h' = mput w am fi (msA ar p (atD true v u)) h0) noX := by
  refine Con.of G [some (.ref (am 0)), some (.int (nI p)), none, none, none, none, none, none, none] (body := fun g C => ?_)
  refine r_aload_0 (pc := 0) C dX2_measure_0 ?_
  refine r_mg5 (pc := 1) C hI dX2_measure_1 ?_
  refine r_iload_1 (pc := 4) C dX2_measure_4 ?_
  refine r_mniald (pc := 5) C hI (by decide) (by decide) rfl (by simp only [mlen]; omega) (by decide) dX2_measure_5 ?_
  rw [e3]
  refine r_istore_2 (pc := 6) C dX2_measure_6 ?_
  refine r_aload_0 (pc := 7) C dX2_measure_7 ?_
  refine r_mg6 (pc := 8) C hI dX2_measure_8 ?_
  refine r_iload_1 (pc := 11) C dX2_measure_11 ?_
  refine r_mniald (pc := 12) C hI (by decide) (by decide) rfl (by simp only [mlen]; omega) (by decide) dX2_measure_12 ?_
  rw [e4]
  refine r_istore_3 (pc := 13) C dX2_measure_13 ?_
  refine r_iload_2 (pc := 14) C dX2_measure_14 ?_
  refine r_iconst (pc := 15) (v := -1) C dX2_measure_15 (by decide) ?_
  refine r_icne (pc := 16) (tgt := 23) C dX2_measure_16 (by decide) (fun c_16 => ?_) (fun c_16 => ?_)
  · exact absurd rfl c_16 --halt
  · refine r_iconst (pc := 19) (v := 0) C dX2_measure_19 (by decide) ?_
    refine r_goto (pc := 20) (tgt := 29) C dX2_measure_20 (by decide) ?_
    refine r_istore_4 (pc := 29) C dX2_measure_29 ?_
    refine r_iload_2 (pc := 31) C dX2_measure_31 ?_
    refine r_iconst (pc := 32) (v := -1) C dX2_measure_32 (by decide) ?_
    refine r_icne (pc := 33) (tgt := 40) C dX2_measure_33 (by decide) (fun c_33 => ?_) (fun c_33 => ?_)
    · exact absurd rfl c_33 --halt
    · refine r_iconst (pc := 36) (v := 0) C dX2_measure_36 (by decide) ?_
      refine r_goto (pc := 37) (tgt := 46) C dX2_measure_37 (by decide) ?_
      refine r_istore_5 (pc := 46) C dX2_measure_46 ?_
      refine r_iload_2 (pc := 48) C dX2_measure_48 ?_
      refine r_iconst (pc := 49) (v := -1) C dX2_measure_49 (by decide) ?_
      refine r_icne (pc := 50) (tgt := 57) C dX2_measure_50 (by decide) (fun c_50 => ?_) (fun c_50 => ?_)
      · exact absurd rfl c_50 --halt
      · refine r_iconst (pc := 53) (v := 0) C dX2_measure_53 (by decide) ?_
        refine r_goto (pc := 54) (tgt := 63) C dX2_measure_54 (by decide) ?_
        refine r_istore_6 (pc := 63) C dX2_measure_63 ?_
        refine r_aload_0 (pc := 65) C dX2_measure_65 ?_
        refine r_mg7 (pc := 66) C hI dX2_measure_66 ?_
        refine r_iload_1 (pc := 69) C dX2_measure_69 ?_
        refine r_mniald (pc := 70) C hI (by decide) (by decide) rfl (by simp only [mlen]; omega) (by decide) dX2_measure_70 ?_
        rw [e5]
        refine r_iconst (pc := 71) (v := -1) C dX2_measure_71 (by decide) ?_
        refine r_icne (pc := 72) (tgt := 79) C dX2_measure_72 (by decide) (fun c_72 => ?_) (fun c_72 => ?_)
        · refine r_iconst (pc := 79) (v := 1) C dX2_measure_79 (by decide) ?_
          refine r_aload_0 (pc := 80) C dX2_measure_80 ?_
          refine r_mg7 (pc := 81) C hI dX2_measure_81 ?_
          refine r_iload_1 (pc := 84) C dX2_measure_84 ?_
          refine r_mniald (pc := 85) C hI (by decide) (by decide) rfl (by simp only [mlen]; omega) (by decide) dX2_measure_85 ?_
          rw [e5]
          refine r_ishl (pc := 86) C dX2_measure_86 ?_
          refine r_istore_7 (pc := 87) C dX2_measure_87 ?_
          refine r_aload_0 (pc := 89) C dX2_measure_89 ?_
          refine r_mg8 (pc := 90) C hI dX2_measure_90 ?_
          refine r_iload_1 (pc := 93) C dX2_measure_93 ?_
          refine r_mniald (pc := 94) C hI (by decide) (by decide) rfl (by simp only [mlen]; omega) (by decide) dX2_measure_94 ?_
          rw [e6]
          refine r_iconst (pc := 95) (v := -1) C dX2_measure_95 (by decide) ?_
          refine r_icne (pc := 96) (tgt := 103) C dX2_measure_96 (by decide) (fun c_96 => ?_) (fun c_96 => ?_)
          · refine r_iconst (pc := 103) (v := 1) C dX2_measure_103 (by decide) ?_
            refine r_aload_0 (pc := 104) C dX2_measure_104 ?_
            refine r_mg8 (pc := 105) C hI dX2_measure_105 ?_
            refine r_iload_1 (pc := 108) C dX2_measure_108 ?_
            refine r_mniald (pc := 109) C hI (by decide) (by decide) rfl (by simp only [mlen]; omega) (by decide) dX2_measure_109 ?_
            rw [e6]
            refine r_ishl (pc := 110) C dX2_measure_110 ?_
            refine r_istore_8 (pc := 111) C dX2_measure_111 ?_
            refine r_aload_0 (pc := 113) C dX2_measure_113 ?_
            refine r_mg4 (pc := 114) C hI dX2_measure_114 ?_
            refine r_iload_1 (pc := 117) C dX2_measure_117 ?_
            refine r_mniald (pc := 118) C hI (by decide) (by decide) rfl (by simp only [mlen]; omega) (by decide) dX2_measure_118 ?_
            rw [e2]
            refine r_tabIn (pc := 119) (tgt := 164) C dX2_measure_119 (by decide) (by decide) rfl (by decide) ?_
            refine r_iload_7 (pc := 164) C dX2_measure_164 ?_
            refine r_iload_8 (pc := 166) C dX2_measure_166 ?_
            refine r_ior (pc := 168) C dX2_measure_168 ?_
            refine r_istore_6 (pc := 169) C dX2_measure_169 ?_
            refine r_goto (pc := 171) (tgt := 367) C dX2_measure_171 (by decide) ?_
            refine r_aload_0 (pc := 367) C dX2_measure_367 ?_
            refine r_mg9 (pc := 368) C hI dX2_measure_368 ?_
            refine r_iload_1 (pc := 371) C dX2_measure_371 ?_
            refine r_iload_4 (pc := 372) C dX2_measure_372 ?_
            refine r_mniast (pc := 374) C hI (by decide) (by decide) rfl (by simp only [mlen]; omega) (by decide) dX2_measure_374 ?_
            refine r_aload_0 (pc := 375) C dX2_measure_375 ?_
            refine r_mg10 (pc := 376) C hI dX2_measure_376 ?_
            refine r_iload_1 (pc := 379) C dX2_measure_379 ?_
            refine r_iload_5 (pc := 380) C dX2_measure_380 ?_
            refine r_mniast (pc := 382) C hI (by decide) (by decide) rfl (by simp only [mlen]; omega) (by decide) dX2_measure_382 ?_
            refine r_aload_0 (pc := 383) C dX2_measure_383 ?_
            refine r_mg11 (pc := 384) C hI dX2_measure_384 ?_
            refine r_iload_1 (pc := 387) C dX2_measure_387 ?_
            refine r_iload_6 (pc := 388) C dX2_measure_388 ?_
            refine r_mniast (pc := 390) C hI (by decide) (by decide) rfl (by simp only [mlen]; omega) (by decide) dX2_measure_390 ?_
            refine r_vret (pc := 391) C dX2_measure_391 ?_
            exact ⟨rfl, rfl⟩
          · exact absurd c_96 (nI_nm1 (by omega)) --halt
        · exact absurd c_72 (nI_nm1 (by omega)) --halt
theorem c_X2_measure_eq (G : Good w) (d : Nat) (hd : 1 ≤ d) {p : Nat} (hI : MI am) (hp : p < 40) {v : Nat} (hv : v < 3) {u : Nat} (hu : u < 3) (e2 : ar 2 p = 1) (e3 : ar 3 p = -1) (e4 : ar 4 p = -1) (e5 : ar 5 p = nI v) (e6 : ar 6 p = nI u) : Con w yX2_measure (ws_ yX2_measure cX2_measure 9 none) d 0 0 [.ref (am 0), .int (nI p)] (mput w am fi ar h0) (fun x9 h' => x9 = none ∧ h' = mput w am fi (msA ar p (atD false v u)) h0) noX := by
  refine Con.of G [some (.ref (am 0)), some (.int (nI p)), none, none, none, none, none, none, none] (body := fun g C => ?_)
  refine r_aload_0 (pc := 0) C dX2_measure_0 ?_
  refine r_mg5 (pc := 1) C hI dX2_measure_1 ?_
  refine r_iload_1 (pc := 4) C dX2_measure_4 ?_
  refine r_mniald (pc := 5) C hI (by decide) (by decide) rfl (by simp only [mlen]; omega) (by decide) dX2_measure_5 ?_
  rw [e3]
  refine r_istore_2 (pc := 6) C dX2_measure_6 ?_
  refine r_aload_0 (pc := 7) C dX2_measure_7 ?_
  refine r_mg6 (pc := 8) C hI dX2_measure_8 ?_
  refine r_iload_1 (pc := 11) C dX2_measure_11 ?_
  refine r_mniald (pc := 12) C hI (by decide) (by decide) rfl (by simp only [mlen]; omega) (by decide) dX2_measure_12 ?_
  rw [e4]
  refine r_istore_3 (pc := 13) C dX2_measure_13 ?_
  refine r_iload_2 (pc := 14) C dX2_measure_14 ?_
  refine r_iconst (pc := 15) (v := -1) C dX2_measure_15 (by decide) ?_
  refine r_icne (pc := 16) (tgt := 23) C dX2_measure_16 (by decide) (fun c_16 => ?_) (fun c_16 => ?_)
  · exact absurd rfl c_16 --halt
  · refine r_iconst (pc := 19) (v := 0) C dX2_measure_19 (by decide) ?_
    refine r_goto (pc := 20) (tgt := 29) C dX2_measure_20 (by decide) ?_
    refine r_istore_4 (pc := 29) C dX2_measure_29 ?_
    refine r_iload_2 (pc := 31) C dX2_measure_31 ?_
    refine r_iconst (pc := 32) (v := -1) C dX2_measure_32 (by decide) ?_
    refine r_icne (pc := 33) (tgt := 40) C dX2_measure_33 (by decide) (fun c_33 => ?_) (fun c_33 => ?_)
    · exact absurd rfl c_33 --halt
    · refine r_iconst (pc := 36) (v := 0) C dX2_measure_36 (by decide) ?_
      refine r_goto (pc := 37) (tgt := 46) C dX2_measure_37 (by decide) ?_
      refine r_istore_5 (pc := 46) C dX2_measure_46 ?_
      refine r_iload_2 (pc := 48) C dX2_measure_48 ?_
      refine r_iconst (pc := 49) (v := -1) C dX2_measure_49 (by decide) ?_
      refine r_icne (pc := 50) (tgt := 57) C dX2_measure_50 (by decide) (fun c_50 => ?_) (fun c_50 => ?_)
      · exact absurd rfl c_50 --halt
      · refine r_iconst (pc := 53) (v := 0) C dX2_measure_53 (by decide) ?_
        refine r_goto (pc := 54) (tgt := 63) C dX2_measure_54 (by decide) ?_
        refine r_istore_6 (pc := 63) C dX2_measure_63 ?_
        refine r_aload_0 (pc := 65) C dX2_measure_65 ?_
        refine r_mg7 (pc := 66) C hI dX2_measure_66 ?_
        refine r_iload_1 (pc := 69) C dX2_measure_69 ?_
        refine r_mniald (pc := 70) C hI (by decide) (by decide) rfl (by simp only [mlen]; omega) (by decide) dX2_measure_70 ?_
        rw [e5]
        refine r_iconst (pc := 71) (v := -1) C dX2_measure_71 (by decide) ?_
        refine r_icne (pc := 72) (tgt := 79) C dX2_measure_72 (by decide) (fun c_72 => ?_) (fun c_72 => ?_)
        · refine r_iconst (pc := 79) (v := 1) C dX2_measure_79 (by decide) ?_
          refine r_aload_0 (pc := 80) C dX2_measure_80 ?_
          refine r_mg7 (pc := 81) C hI dX2_measure_81 ?_
          refine r_iload_1 (pc := 84) C dX2_measure_84 ?_
          refine r_mniald (pc := 85) C hI (by decide) (by decide) rfl (by simp only [mlen]; omega) (by decide) dX2_measure_85 ?_
          rw [e5]
          refine r_ishl (pc := 86) C dX2_measure_86 ?_
          refine r_istore_7 (pc := 87) C dX2_measure_87 ?_
          refine r_aload_0 (pc := 89) C dX2_measure_89 ?_
          refine r_mg8 (pc := 90) C hI dX2_measure_90 ?_
          refine r_iload_1 (pc := 93) C dX2_measure_93 ?_
          refine r_mniald (pc := 94) C hI (by decide) (by decide) rfl (by simp only [mlen]; omega) (by decide) dX2_measure_94 ?_
          rw [e6]
          refine r_iconst (pc := 95) (v := -1) C dX2_measure_95 (by decide) ?_
          refine r_icne (pc := 96) (tgt := 103) C dX2_measure_96 (by decide) (fun c_96 => ?_) (fun c_96 => ?_)
          · refine r_iconst (pc := 103) (v := 1) C dX2_measure_103 (by decide) ?_
            refine r_aload_0 (pc := 104) C dX2_measure_104 ?_
            refine r_mg8 (pc := 105) C hI dX2_measure_105 ?_
            refine r_iload_1 (pc := 108) C dX2_measure_108 ?_
            refine r_mniald (pc := 109) C hI (by decide) (by decide) rfl (by simp only [mlen]; omega) (by decide) dX2_measure_109 ?_
            rw [e6]
            refine r_ishl (pc := 110) C dX2_measure_110 ?_
            refine r_istore_8 (pc := 111) C dX2_measure_111 ?_
            refine r_aload_0 (pc := 113) C dX2_measure_113 ?_
            refine r_mg4 (pc := 114) C hI dX2_measure_114 ?_
            refine r_iload_1 (pc := 117) C dX2_measure_117 ?_
            refine r_mniald (pc := 118) C hI (by decide) (by decide) rfl (by simp only [mlen]; omega) (by decide) dX2_measure_118 ?_
            rw [e2]
            refine r_tabIn (pc := 119) (tgt := 164) C dX2_measure_119 (by decide) (by decide) rfl (by decide) ?_
            refine r_iload_7 (pc := 164) C dX2_measure_164 ?_
            refine r_iload_8 (pc := 166) C dX2_measure_166 ?_
            refine r_ior (pc := 168) C dX2_measure_168 ?_
            refine r_istore_6 (pc := 169) C dX2_measure_169 ?_
            refine r_goto (pc := 171) (tgt := 367) C dX2_measure_171 (by decide) ?_
            refine r_aload_0 (pc := 367) C dX2_measure_367 ?_
            refine r_mg9 (pc := 368) C hI dX2_measure_368 ?_
            refine r_iload_1 (pc := 371) C dX2_measure_371 ?_
            refine r_iload_4 (pc := 372) C dX2_measure_372 ?_
            refine r_mniast (pc := 374) C hI (by decide) (by decide) rfl (by simp only [mlen]; omega) (by decide) dX2_measure_374 ?_
            refine r_aload_0 (pc := 375) C dX2_measure_375 ?_
            refine r_mg10 (pc := 376) C hI dX2_measure_376 ?_
            refine r_iload_1 (pc := 379) C dX2_measure_379 ?_
            refine r_iload_5 (pc := 380) C dX2_measure_380 ?_
            refine r_mniast (pc := 382) C hI (by decide) (by decide) rfl (by simp only [mlen]; omega) (by decide) dX2_measure_382 ?_
            refine r_aload_0 (pc := 383) C dX2_measure_383 ?_
            refine r_mg11 (pc := 384) C hI dX2_measure_384 ?_
            refine r_iload_1 (pc := 387) C dX2_measure_387 ?_
            refine r_iload_6 (pc := 388) C dX2_measure_388 ?_
            refine r_mniast (pc := 390) C hI (by decide) (by decide) rfl (by simp only [mlen]; omega) (by decide) dX2_measure_390 ?_
            refine r_vret (pc := 391) C dX2_measure_391 ?_
            exact ⟨rfl, rfl⟩
          · exact absurd c_96 (nI_nm1 (by omega)) --halt
        · exact absurd c_72 (nI_nm1 (by omega)) --halt
theorem c_X2_measure_not (G : Good w) (d : Nat) (hd : 1 ≤ d) {p : Nat} (hI : MI am) (hp : p < 40) {q : Nat} {A : DN} (hq : q < 40) (a7 : ar 7 q = dS A) (a8 : ar 8 q = dP A) (a9 : ar 9 q = dF A) (e2 : ar 2 p = 2) (e3 : ar 3 p = nI q) (e4 : ar 4 p = -1) (e5 : ar 5 p = -1) (e6 : ar 6 p = -1) : Con w yX2_measure (ws_ yX2_measure cX2_measure 9 none) d 0 0 [.ref (am 0), .int (nI p)] (mput w am fi ar h0) (fun x9 h' => x9 = none ∧ h' = mput w am fi (msA ar p (notD A)) h0) noX := by
  refine Con.of G [some (.ref (am 0)), some (.int (nI p)), none, none, none, none, none, none, none] (body := fun g C => ?_)
  refine r_aload_0 (pc := 0) C dX2_measure_0 ?_
  refine r_mg5 (pc := 1) C hI dX2_measure_1 ?_
  refine r_iload_1 (pc := 4) C dX2_measure_4 ?_
  refine r_mniald (pc := 5) C hI (by decide) (by decide) rfl (by simp only [mlen]; omega) (by decide) dX2_measure_5 ?_
  rw [e3]
  refine r_istore_2 (pc := 6) C dX2_measure_6 ?_
  refine r_aload_0 (pc := 7) C dX2_measure_7 ?_
  refine r_mg6 (pc := 8) C hI dX2_measure_8 ?_
  refine r_iload_1 (pc := 11) C dX2_measure_11 ?_
  refine r_mniald (pc := 12) C hI (by decide) (by decide) rfl (by simp only [mlen]; omega) (by decide) dX2_measure_12 ?_
  rw [e4]
  refine r_istore_3 (pc := 13) C dX2_measure_13 ?_
  refine r_iload_2 (pc := 14) C dX2_measure_14 ?_
  refine r_iconst (pc := 15) (v := -1) C dX2_measure_15 (by decide) ?_
  refine r_icne (pc := 16) (tgt := 23) C dX2_measure_16 (by decide) (fun c_16 => ?_) (fun c_16 => ?_)
  · refine r_aload_0 (pc := 23) C dX2_measure_23 ?_
    refine r_mg9 (pc := 24) C hI dX2_measure_24 ?_
    refine r_iload_2 (pc := 27) C dX2_measure_27 ?_
    refine r_mniald (pc := 28) C hI (by decide) (by decide) rfl (by simp only [mlen]; omega) (by decide) dX2_measure_28 ?_
    rw [a7]
    refine r_istore_4 (pc := 29) C dX2_measure_29 ?_
    refine r_iload_2 (pc := 31) C dX2_measure_31 ?_
    refine r_iconst (pc := 32) (v := -1) C dX2_measure_32 (by decide) ?_
    refine r_icne (pc := 33) (tgt := 40) C dX2_measure_33 (by decide) (fun c_33 => ?_) (fun c_33 => ?_)
    · refine r_aload_0 (pc := 40) C dX2_measure_40 ?_
      refine r_mg10 (pc := 41) C hI dX2_measure_41 ?_
      refine r_iload_2 (pc := 44) C dX2_measure_44 ?_
      refine r_mniald (pc := 45) C hI (by decide) (by decide) rfl (by simp only [mlen]; omega) (by decide) dX2_measure_45 ?_
      rw [a8]
      refine r_istore_5 (pc := 46) C dX2_measure_46 ?_
      refine r_iload_2 (pc := 48) C dX2_measure_48 ?_
      refine r_iconst (pc := 49) (v := -1) C dX2_measure_49 (by decide) ?_
      refine r_icne (pc := 50) (tgt := 57) C dX2_measure_50 (by decide) (fun c_50 => ?_) (fun c_50 => ?_)
      · refine r_aload_0 (pc := 57) C dX2_measure_57 ?_
        refine r_mg11 (pc := 58) C hI dX2_measure_58 ?_
        refine r_iload_2 (pc := 61) C dX2_measure_61 ?_
        refine r_mniald (pc := 62) C hI (by decide) (by decide) rfl (by simp only [mlen]; omega) (by decide) dX2_measure_62 ?_
        rw [a9]
        refine r_istore_6 (pc := 63) C dX2_measure_63 ?_
        refine r_aload_0 (pc := 65) C dX2_measure_65 ?_
        refine r_mg7 (pc := 66) C hI dX2_measure_66 ?_
        refine r_iload_1 (pc := 69) C dX2_measure_69 ?_
        refine r_mniald (pc := 70) C hI (by decide) (by decide) rfl (by simp only [mlen]; omega) (by decide) dX2_measure_70 ?_
        rw [e5]
        refine r_iconst (pc := 71) (v := -1) C dX2_measure_71 (by decide) ?_
        refine r_icne (pc := 72) (tgt := 79) C dX2_measure_72 (by decide) (fun c_72 => ?_) (fun c_72 => ?_)
        · exact absurd rfl c_72 --halt
        · refine r_iconst (pc := 75) (v := 0) C dX2_measure_75 (by decide) ?_
          refine r_goto (pc := 76) (tgt := 87) C dX2_measure_76 (by decide) ?_
          refine r_istore_7 (pc := 87) C dX2_measure_87 ?_
          refine r_aload_0 (pc := 89) C dX2_measure_89 ?_
          refine r_mg8 (pc := 90) C hI dX2_measure_90 ?_
          refine r_iload_1 (pc := 93) C dX2_measure_93 ?_
          refine r_mniald (pc := 94) C hI (by decide) (by decide) rfl (by simp only [mlen]; omega) (by decide) dX2_measure_94 ?_
          rw [e6]
          refine r_iconst (pc := 95) (v := -1) C dX2_measure_95 (by decide) ?_
          refine r_icne (pc := 96) (tgt := 103) C dX2_measure_96 (by decide) (fun c_96 => ?_) (fun c_96 => ?_)
          · exact absurd rfl c_96 --halt
          · refine r_iconst (pc := 99) (v := 0) C dX2_measure_99 (by decide) ?_
            refine r_goto (pc := 100) (tgt := 111) C dX2_measure_100 (by decide) ?_
            refine r_istore_8 (pc := 111) C dX2_measure_111 ?_
            refine r_aload_0 (pc := 113) C dX2_measure_113 ?_
            refine r_mg4 (pc := 114) C hI dX2_measure_114 ?_
            refine r_iload_1 (pc := 117) C dX2_measure_117 ?_
            refine r_mniald (pc := 118) C hI (by decide) (by decide) rfl (by simp only [mlen]; omega) (by decide) dX2_measure_118 ?_
            rw [e2]
            refine r_tabIn (pc := 119) (tgt := 174) C dX2_measure_119 (by decide) (by decide) rfl (by decide) ?_
            refine r_aload_0 (pc := 174) C dX2_measure_174 ?_
            refine r_mg10 (pc := 175) C hI dX2_measure_175 ?_
            refine r_iload_2 (pc := 178) C dX2_measure_178 ?_
            refine r_mniald (pc := 179) C hI (by decide) (by decide) rfl (by simp only [mlen]; omega) (by decide) dX2_measure_179 ?_
            rw [a8]
            refine r_istore_4 (pc := 180) C dX2_measure_180 ?_
            refine r_aload_0 (pc := 182) C dX2_measure_182 ?_
            refine r_mg9 (pc := 183) C hI dX2_measure_183 ?_
            refine r_iload_2 (pc := 186) C dX2_measure_186 ?_
            refine r_mniald (pc := 187) C hI (by decide) (by decide) rfl (by simp only [mlen]; omega) (by decide) dX2_measure_187 ?_
            rw [a7]
            refine r_istore_5 (pc := 188) C dX2_measure_188 ?_
            refine r_goto (pc := 190) (tgt := 367) C dX2_measure_190 (by decide) ?_
            refine r_aload_0 (pc := 367) C dX2_measure_367 ?_
            refine r_mg9 (pc := 368) C hI dX2_measure_368 ?_
            refine r_iload_1 (pc := 371) C dX2_measure_371 ?_
            refine r_iload_4 (pc := 372) C dX2_measure_372 ?_
            refine r_mniast (pc := 374) C hI (by decide) (by decide) rfl (by simp only [mlen]; omega) (by decide) dX2_measure_374 ?_
            refine r_aload_0 (pc := 375) C dX2_measure_375 ?_
            refine r_mg10 (pc := 376) C hI dX2_measure_376 ?_
            refine r_iload_1 (pc := 379) C dX2_measure_379 ?_
            refine r_iload_5 (pc := 380) C dX2_measure_380 ?_
            refine r_mniast (pc := 382) C hI (by decide) (by decide) rfl (by simp only [mlen]; omega) (by decide) dX2_measure_382 ?_
            refine r_aload_0 (pc := 383) C dX2_measure_383 ?_
            refine r_mg11 (pc := 384) C hI dX2_measure_384 ?_
            refine r_iload_1 (pc := 387) C dX2_measure_387 ?_
            refine r_iload_6 (pc := 388) C dX2_measure_388 ?_
            refine r_mniast (pc := 390) C hI (by decide) (by decide) rfl (by simp only [mlen]; omega) (by decide) dX2_measure_390 ?_
            refine r_vret (pc := 391) C dX2_measure_391 ?_
            exact ⟨rfl, rfl⟩
      · exact absurd c_50 (nI_nm1 (by omega)) --halt
    · exact absurd c_33 (nI_nm1 (by omega)) --halt
  · exact absurd c_16 (nI_nm1 (by omega)) --halt
theorem c_X2_measure_and (G : Good w) (d : Nat) (hd : 1 ≤ d) {p : Nat} (hI : MI am) (hp : p < 40) {q : Nat} {A : DN} (hq : q < 40) (a7 : ar 7 q = dS A) (a8 : ar 8 q = dP A) (a9 : ar 9 q = dF A) {r : Nat} {B : DN} (hr : r < 40) (b7 : ar 7 r = dS B) (b8 : ar 8 r = dP B) (b9 : ar 9 r = dF B) (e2 : ar 2 p = 3) (e3 : ar 3 p = nI q) (e4 : ar 4 p = nI r) (e5 : ar 5 p = -1) (e6 : ar 6 p = -1) : Con w yX2_measure (ws_ yX2_measure cX2_measure 9 none) d 0 0 [.ref (am 0), .int (nI p)] (mput w am fi ar h0) (fun x9 h' => x9 = none ∧ h' = mput w am fi (msA ar p (andD A B)) h0) noX := by
  refine Con.of G [some (.ref (am 0)), some (.int (nI p)), none, none, none, none, none, none, none] (body := fun g C => ?_)
  refine r_aload_0 (pc := 0) C dX2_measure_0 ?_
  refine r_mg5 (pc := 1) C hI dX2_measure_1 ?_
  refine r_iload_1 (pc := 4) C dX2_measure_4 ?_
  refine r_mniald (pc := 5) C hI (by decide) (by decide) rfl (by simp only [mlen]; omega) (by decide) dX2_measure_5 ?_
  rw [e3]
  refine r_istore_2 (pc := 6) C dX2_measure_6 ?_
  refine r_aload_0 (pc := 7) C dX2_measure_7 ?_
  refine r_mg6 (pc := 8) C hI dX2_measure_8 ?_
  refine r_iload_1 (pc := 11) C dX2_measure_11 ?_
  refine r_mniald (pc := 12) C hI (by decide) (by decide) rfl (by simp only [mlen]; omega) (by decide) dX2_measure_12 ?_
  rw [e4]
  refine r_istore_3 (pc := 13) C dX2_measure_13 ?_
  refine r_iload_2 (pc := 14) C dX2_measure_14 ?_
  refine r_iconst (pc := 15) (v := -1) C dX2_measure_15 (by decide) ?_
  refine r_icne (pc := 16) (tgt := 23) C dX2_measure_16 (by decide) (fun c_16 => ?_) (fun c_16 => ?_)
  · refine r_aload_0 (pc := 23) C dX2_measure_23 ?_
    refine r_mg9 (pc := 24) C hI dX2_measure_24 ?_
    refine r_iload_2 (pc := 27) C dX2_measure_27 ?_
    refine r_mniald (pc := 28) C hI (by decide) (by decide) rfl (by simp only [mlen]; omega) (by decide) dX2_measure_28 ?_
    rw [a7]
    refine r_istore_4 (pc := 29) C dX2_measure_29 ?_
    refine r_iload_2 (pc := 31) C dX2_measure_31 ?_
    refine r_iconst (pc := 32) (v := -1) C dX2_measure_32 (by decide) ?_
    refine r_icne (pc := 33) (tgt := 40) C dX2_measure_33 (by decide) (fun c_33 => ?_) (fun c_33 => ?_)
    · refine r_aload_0 (pc := 40) C dX2_measure_40 ?_
      refine r_mg10 (pc := 41) C hI dX2_measure_41 ?_
      refine r_iload_2 (pc := 44) C dX2_measure_44 ?_
      refine r_mniald (pc := 45) C hI (by decide) (by decide) rfl (by simp only [mlen]; omega) (by decide) dX2_measure_45 ?_
      rw [a8]
      refine r_istore_5 (pc := 46) C dX2_measure_46 ?_
      refine r_iload_2 (pc := 48) C dX2_measure_48 ?_
      refine r_iconst (pc := 49) (v := -1) C dX2_measure_49 (by decide) ?_
      refine r_icne (pc := 50) (tgt := 57) C dX2_measure_50 (by decide) (fun c_50 => ?_) (fun c_50 => ?_)
      · refine r_aload_0 (pc := 57) C dX2_measure_57 ?_
        refine r_mg11 (pc := 58) C hI dX2_measure_58 ?_
        refine r_iload_2 (pc := 61) C dX2_measure_61 ?_
        refine r_mniald (pc := 62) C hI (by decide) (by decide) rfl (by simp only [mlen]; omega) (by decide) dX2_measure_62 ?_
        rw [a9]
        refine r_istore_6 (pc := 63) C dX2_measure_63 ?_
        refine r_aload_0 (pc := 65) C dX2_measure_65 ?_
        refine r_mg7 (pc := 66) C hI dX2_measure_66 ?_
        refine r_iload_1 (pc := 69) C dX2_measure_69 ?_
        refine r_mniald (pc := 70) C hI (by decide) (by decide) rfl (by simp only [mlen]; omega) (by decide) dX2_measure_70 ?_
        rw [e5]
        refine r_iconst (pc := 71) (v := -1) C dX2_measure_71 (by decide) ?_
        refine r_icne (pc := 72) (tgt := 79) C dX2_measure_72 (by decide) (fun c_72 => ?_) (fun c_72 => ?_)
        · exact absurd rfl c_72 --halt
        · refine r_iconst (pc := 75) (v := 0) C dX2_measure_75 (by decide) ?_
          refine r_goto (pc := 76) (tgt := 87) C dX2_measure_76 (by decide) ?_
          refine r_istore_7 (pc := 87) C dX2_measure_87 ?_
          refine r_aload_0 (pc := 89) C dX2_measure_89 ?_
          refine r_mg8 (pc := 90) C hI dX2_measure_90 ?_
          refine r_iload_1 (pc := 93) C dX2_measure_93 ?_
          refine r_mniald (pc := 94) C hI (by decide) (by decide) rfl (by simp only [mlen]; omega) (by decide) dX2_measure_94 ?_
          rw [e6]
          refine r_iconst (pc := 95) (v := -1) C dX2_measure_95 (by decide) ?_
          refine r_icne (pc := 96) (tgt := 103) C dX2_measure_96 (by decide) (fun c_96 => ?_) (fun c_96 => ?_)
          · exact absurd rfl c_96 --halt
          · refine r_iconst (pc := 99) (v := 0) C dX2_measure_99 (by decide) ?_
            refine r_goto (pc := 100) (tgt := 111) C dX2_measure_100 (by decide) ?_
            refine r_istore_8 (pc := 111) C dX2_measure_111 ?_
            refine r_aload_0 (pc := 113) C dX2_measure_113 ?_
            refine r_mg4 (pc := 114) C hI dX2_measure_114 ?_
            refine r_iload_1 (pc := 117) C dX2_measure_117 ?_
            refine r_mniald (pc := 118) C hI (by decide) (by decide) rfl (by simp only [mlen]; omega) (by decide) dX2_measure_118 ?_
            rw [e2]
            refine r_tabIn (pc := 119) (tgt := 193) C dX2_measure_119 (by decide) (by decide) rfl (by decide) ?_
            refine r_aload_0 (pc := 193) C dX2_measure_193 ?_
            refine r_mg4 (pc := 194) C hI dX2_measure_194 ?_
            refine r_iload_1 (pc := 197) C dX2_measure_197 ?_
            refine r_mniald (pc := 198) C hI (by decide) (by decide) rfl (by simp only [mlen]; omega) (by decide) dX2_measure_198 ?_
            rw [e2]
            refine r_iconst (pc := 199) (v := 5) C dX2_measure_199 (by decide) ?_
            refine r_icne (pc := 200) (tgt := 212) C dX2_measure_200 (by decide) (fun c_200 => ?_) (fun c_200 => ?_)
            · refine r_iload_4 (pc := 212) C dX2_measure_212 ?_
              refine r_istore_4 (pc := 214) C dX2_measure_214 ?_
              refine r_aload_0 (pc := 216) C dX2_measure_216 ?_
              refine r_mg4 (pc := 217) C hI dX2_measure_217 ?_
              refine r_iload_1 (pc := 220) C dX2_measure_220 ?_
              refine r_mniald (pc := 221) C hI (by decide) (by decide) rfl (by simp only [mlen]; omega) (by decide) dX2_measure_221 ?_
              rw [e2]
              refine r_iconst (pc := 222) (v := 5) C dX2_measure_222 (by decide) ?_
              refine r_icne (pc := 223) (tgt := 235) C dX2_measure_223 (by decide) (fun c_223 => ?_) (fun c_223 => ?_)
              · refine r_iload_5 (pc := 235) C dX2_measure_235 ?_
                refine r_istore_5 (pc := 237) C dX2_measure_237 ?_
                refine r_aload_0 (pc := 239) C dX2_measure_239 ?_
                refine r_mg9 (pc := 240) C hI dX2_measure_240 ?_
                refine r_iload_3 (pc := 243) C dX2_measure_243 ?_
                refine r_mniald (pc := 244) C hI (by decide) (by decide) rfl (by simp only [mlen]; omega) (by decide) dX2_measure_244 ?_
                rw [b7]
                refine r_iload_4 (pc := 245) C dX2_measure_245 ?_
                refine r_icleM (pc := 247) (tgt := 259) C 261 ?_ ?_ dX2_measure_247 (by decide) (fun c_247 j_247 => ?_) (fun c_247 j_247 => ?_) ?_
                rotate_left 2
                · refine r_iload_4 (pc := 259) C dX2_measure_259 ?_
                  exact j_247
                · refine r_aload_0 (pc := 250) C dX2_measure_250 ?_
                  refine r_mg9 (pc := 251) C hI dX2_measure_251 ?_
                  refine r_iload_3 (pc := 254) C dX2_measure_254 ?_
                  refine r_mniald (pc := 255) C hI (by decide) (by decide) rfl (by simp only [mlen]; omega) (by decide) dX2_measure_255 ?_
                  rw [b7]
                  refine r_goto (pc := 256) (tgt := 261) C dX2_measure_256 (by decide) ?_
                  exact j_247
                refine r_istore_4 (pc := 261) C dX2_measure_261 ?_
                refine r_aload_0 (pc := 263) C dX2_measure_263 ?_
                refine r_mg10 (pc := 264) C hI dX2_measure_264 ?_
                refine r_iload_3 (pc := 267) C dX2_measure_267 ?_
                refine r_mniald (pc := 268) C hI (by decide) (by decide) rfl (by simp only [mlen]; omega) (by decide) dX2_measure_268 ?_
                rw [b8]
                refine r_iload_5 (pc := 269) C dX2_measure_269 ?_
                refine r_icleM (pc := 271) (tgt := 283) C 285 ?_ ?_ dX2_measure_271 (by decide) (fun c_271 j_271 => ?_) (fun c_271 j_271 => ?_) ?_
                rotate_left 2
                · refine r_iload_5 (pc := 283) C dX2_measure_283 ?_
                  exact j_271
                · refine r_aload_0 (pc := 274) C dX2_measure_274 ?_
                  refine r_mg10 (pc := 275) C hI dX2_measure_275 ?_
                  refine r_iload_3 (pc := 278) C dX2_measure_278 ?_
                  refine r_mniald (pc := 279) C hI (by decide) (by decide) rfl (by simp only [mlen]; omega) (by decide) dX2_measure_279 ?_
                  rw [b8]
                  refine r_goto (pc := 280) (tgt := 285) C dX2_measure_280 (by decide) ?_
                  exact j_271
                refine r_istore_5 (pc := 285) C dX2_measure_285 ?_
                refine r_iload_6 (pc := 287) C dX2_measure_287 ?_
                refine r_aload_0 (pc := 289) C dX2_measure_289 ?_
                refine r_mg11 (pc := 290) C hI dX2_measure_290 ?_
                refine r_iload_3 (pc := 293) C dX2_measure_293 ?_
                refine r_mniald (pc := 294) C hI (by decide) (by decide) rfl (by simp only [mlen]; omega) (by decide) dX2_measure_294 ?_
                rw [b9]
                refine r_ior (pc := 295) C dX2_measure_295 ?_
                refine r_istore_6 (pc := 296) C dX2_measure_296 ?_
                refine r_goto (pc := 298) (tgt := 367) C dX2_measure_298 (by decide) ?_
                refine r_aload_0 (pc := 367) C dX2_measure_367 ?_
                refine r_mg9 (pc := 368) C hI dX2_measure_368 ?_
                refine r_iload_1 (pc := 371) C dX2_measure_371 ?_
                refine r_iload_4 (pc := 372) C dX2_measure_372 ?_
                refine r_mniast (pc := 374) C hI (by decide) (by decide) rfl (by simp only [mlen]; omega) (by decide) dX2_measure_374 ?_
                refine r_aload_0 (pc := 375) C dX2_measure_375 ?_
                refine r_mg10 (pc := 376) C hI dX2_measure_376 ?_
                refine r_iload_1 (pc := 379) C dX2_measure_379 ?_
                refine r_iload_5 (pc := 380) C dX2_measure_380 ?_
                refine r_mniast (pc := 382) C hI (by decide) (by decide) rfl (by simp only [mlen]; omega) (by decide) dX2_measure_382 ?_
                refine r_aload_0 (pc := 383) C dX2_measure_383 ?_
                refine r_mg11 (pc := 384) C hI dX2_measure_384 ?_
                refine r_iload_1 (pc := 387) C dX2_measure_387 ?_
                refine r_iload_6 (pc := 388) C dX2_measure_388 ?_
                refine r_mniast (pc := 390) C hI (by decide) (by decide) rfl (by simp only [mlen]; omega) (by decide) dX2_measure_390 ?_
                refine r_vret (pc := 391) C dX2_measure_391 ?_
                exact ⟨rfl, rfl⟩
              · exact absurd c_223 (by decide) --halt
            · exact absurd c_200 (by decide) --halt
      · exact absurd c_50 (nI_nm1 (by omega)) --halt
    · exact absurd c_33 (nI_nm1 (by omega)) --halt
  · exact absurd c_16 (nI_nm1 (by omega)) --halt
theorem c_X2_measure_or (G : Good w) (d : Nat) (hd : 1 ≤ d) {p : Nat} (hI : MI am) (hp : p < 40) {q : Nat} {A : DN} (hq : q < 40) (a7 : ar 7 q = dS A) (a8 : ar 8 q = dP A) (a9 : ar 9 q = dF A) {r : Nat} {B : DN} (hr : r < 40) (b7 : ar 7 r = dS B) (b8 : ar 8 r = dP B) (b9 : ar 9 r = dF B) (e2 : ar 2 p = 4) (e3 : ar 3 p = nI q) (e4 : ar 4 p = nI r) (e5 : ar 5 p = -1) (e6 : ar 6 p = -1) : Con w yX2_measure (ws_ yX2_measure cX2_measure 9 none) d 0 0 [.ref (am 0), .int (nI p)] (mput w am fi ar h0) (fun x9 h' => x9 = none ∧ h' = mput w am fi (msA ar p (orD A B)) h0) noX := by
  refine Con.of G [some (.ref (am 0)), some (.int (nI p)), none, none, none, none, none, none, none] (body := fun g C => ?_)
  refine r_aload_0 (pc := 0) C dX2_measure_0 ?_
  refine r_mg5 (pc := 1) C hI dX2_measure_1 ?_
  refine r_iload_1 (pc := 4) C dX2_measure_4 ?_
  refine r_mniald (pc := 5) C hI (by decide) (by decide) rfl (by simp only [mlen]; omega) (by decide) dX2_measure_5 ?_
  rw [e3]
  refine r_istore_2 (pc := 6) C dX2_measure_6 ?_
  refine r_aload_0 (pc := 7) C dX2_measure_7 ?_
  refine r_mg6 (pc := 8) C hI dX2_measure_8 ?_
  refine r_iload_1 (pc := 11) C dX2_measure_11 ?_
  refine r_mniald (pc := 12) C hI (by decide) (by decide) rfl (by simp only [mlen]; omega) (by decide) dX2_measure_12 ?_
  rw [e4]
  refine r_istore_3 (pc := 13) C dX2_measure_13 ?_
  refine r_iload_2 (pc := 14) C dX2_measure_14 ?_
  refine r_iconst (pc := 15) (v := -1) C dX2_measure_15 (by decide) ?_
  refine r_icne (pc := 16) (tgt := 23) C dX2_measure_16 (by decide) (fun c_16 => ?_) (fun c_16 => ?_)
  · refine r_aload_0 (pc := 23) C dX2_measure_23 ?_
    refine r_mg9 (pc := 24) C hI dX2_measure_24 ?_
    refine r_iload_2 (pc := 27) C dX2_measure_27 ?_
    refine r_mniald (pc := 28) C hI (by decide) (by decide) rfl (by simp only [mlen]; omega) (by decide) dX2_measure_28 ?_
    rw [a7]
    refine r_istore_4 (pc := 29) C dX2_measure_29 ?_
    refine r_iload_2 (pc := 31) C dX2_measure_31 ?_
    refine r_iconst (pc := 32) (v := -1) C dX2_measure_32 (by decide) ?_
    refine r_icne (pc := 33) (tgt := 40) C dX2_measure_33 (by decide) (fun c_33 => ?_) (fun c_33 => ?_)
    · refine r_aload_0 (pc := 40) C dX2_measure_40 ?_
      refine r_mg10 (pc := 41) C hI dX2_measure_41 ?_
      refine r_iload_2 (pc := 44) C dX2_measure_44 ?_
      refine r_mniald (pc := 45) C hI (by decide) (by decide) rfl (by simp only [mlen]; omega) (by decide) dX2_measure_45 ?_
      rw [a8]
      refine r_istore_5 (pc := 46) C dX2_measure_46 ?_
      refine r_iload_2 (pc := 48) C dX2_measure_48 ?_
      refine r_iconst (pc := 49) (v := -1) C dX2_measure_49 (by decide) ?_
      refine r_icne (pc := 50) (tgt := 57) C dX2_measure_50 (by decide) (fun c_50 => ?_) (fun c_50 => ?_)
      · refine r_aload_0 (pc := 57) C dX2_measure_57 ?_
        refine r_mg11 (pc := 58) C hI dX2_measure_58 ?_
        refine r_iload_2 (pc := 61) C dX2_measure_61 ?_
        refine r_mniald (pc := 62) C hI (by decide) (by decide) rfl (by simp only [mlen]; omega) (by decide) dX2_measure_62 ?_
        rw [a9]
        refine r_istore_6 (pc := 63) C dX2_measure_63 ?_
        refine r_aload_0 (pc := 65) C dX2_measure_65 ?_
        refine r_mg7 (pc := 66) C hI dX2_measure_66 ?_
        refine r_iload_1 (pc := 69) C dX2_measure_69 ?_
        refine r_mniald (pc := 70) C hI (by decide) (by decide) rfl (by simp only [mlen]; omega) (by decide) dX2_measure_70 ?_
        rw [e5]
        refine r_iconst (pc := 71) (v := -1) C dX2_measure_71 (by decide) ?_
        refine r_icne (pc := 72) (tgt := 79) C dX2_measure_72 (by decide) (fun c_72 => ?_) (fun c_72 => ?_)
        · exact absurd rfl c_72 --halt
        · refine r_iconst (pc := 75) (v := 0) C dX2_measure_75 (by decide) ?_
          refine r_goto (pc := 76) (tgt := 87) C dX2_measure_76 (by decide) ?_
          refine r_istore_7 (pc := 87) C dX2_measure_87 ?_
          refine r_aload_0 (pc := 89) C dX2_measure_89 ?_
          refine r_mg8 (pc := 90) C hI dX2_measure_90 ?_
          refine r_iload_1 (pc := 93) C dX2_measure_93 ?_
          refine r_mniald (pc := 94) C hI (by decide) (by decide) rfl (by simp only [mlen]; omega) (by decide) dX2_measure_94 ?_
          rw [e6]
          refine r_iconst (pc := 95) (v := -1) C dX2_measure_95 (by decide) ?_
          refine r_icne (pc := 96) (tgt := 103) C dX2_measure_96 (by decide) (fun c_96 => ?_) (fun c_96 => ?_)
          · exact absurd rfl c_96 --halt
          · refine r_iconst (pc := 99) (v := 0) C dX2_measure_99 (by decide) ?_
            refine r_goto (pc := 100) (tgt := 111) C dX2_measure_100 (by decide) ?_
            refine r_istore_8 (pc := 111) C dX2_measure_111 ?_
            refine r_aload_0 (pc := 113) C dX2_measure_113 ?_
            refine r_mg4 (pc := 114) C hI dX2_measure_114 ?_
            refine r_iload_1 (pc := 117) C dX2_measure_117 ?_
            refine r_mniald (pc := 118) C hI (by decide) (by decide) rfl (by simp only [mlen]; omega) (by decide) dX2_measure_118 ?_
            rw [e2]
            refine r_tabIn (pc := 119) (tgt := 193) C dX2_measure_119 (by decide) (by decide) rfl (by decide) ?_
            refine r_aload_0 (pc := 193) C dX2_measure_193 ?_
            refine r_mg4 (pc := 194) C hI dX2_measure_194 ?_
            refine r_iload_1 (pc := 197) C dX2_measure_197 ?_
            refine r_mniald (pc := 198) C hI (by decide) (by decide) rfl (by simp only [mlen]; omega) (by decide) dX2_measure_198 ?_
            rw [e2]
            refine r_iconst (pc := 199) (v := 5) C dX2_measure_199 (by decide) ?_
            refine r_icne (pc := 200) (tgt := 212) C dX2_measure_200 (by decide) (fun c_200 => ?_) (fun c_200 => ?_)
            · refine r_iload_4 (pc := 212) C dX2_measure_212 ?_
              refine r_istore_4 (pc := 214) C dX2_measure_214 ?_
              refine r_aload_0 (pc := 216) C dX2_measure_216 ?_
              refine r_mg4 (pc := 217) C hI dX2_measure_217 ?_
              refine r_iload_1 (pc := 220) C dX2_measure_220 ?_
              refine r_mniald (pc := 221) C hI (by decide) (by decide) rfl (by simp only [mlen]; omega) (by decide) dX2_measure_221 ?_
              rw [e2]
              refine r_iconst (pc := 222) (v := 5) C dX2_measure_222 (by decide) ?_
              refine r_icne (pc := 223) (tgt := 235) C dX2_measure_223 (by decide) (fun c_223 => ?_) (fun c_223 => ?_)
              · refine r_iload_5 (pc := 235) C dX2_measure_235 ?_
                refine r_istore_5 (pc := 237) C dX2_measure_237 ?_
                refine r_aload_0 (pc := 239) C dX2_measure_239 ?_
                refine r_mg9 (pc := 240) C hI dX2_measure_240 ?_
                refine r_iload_3 (pc := 243) C dX2_measure_243 ?_
                refine r_mniald (pc := 244) C hI (by decide) (by decide) rfl (by simp only [mlen]; omega) (by decide) dX2_measure_244 ?_
                rw [b7]
                refine r_iload_4 (pc := 245) C dX2_measure_245 ?_
                refine r_icleM (pc := 247) (tgt := 259) C 261 ?_ ?_ dX2_measure_247 (by decide) (fun c_247 j_247 => ?_) (fun c_247 j_247 => ?_) ?_
                rotate_left 2
                · refine r_iload_4 (pc := 259) C dX2_measure_259 ?_
                  exact j_247
                · refine r_aload_0 (pc := 250) C dX2_measure_250 ?_
                  refine r_mg9 (pc := 251) C hI dX2_measure_251 ?_
                  refine r_iload_3 (pc := 254) C dX2_measure_254 ?_
                  refine r_mniald (pc := 255) C hI (by decide) (by decide) rfl (by simp only [mlen]; omega) (by decide) dX2_measure_255 ?_
                  rw [b7]
                  refine r_goto (pc := 256) (tgt := 261) C dX2_measure_256 (by decide) ?_
                  exact j_247
                refine r_istore_4 (pc := 261) C dX2_measure_261 ?_
                refine r_aload_0 (pc := 263) C dX2_measure_263 ?_
                refine r_mg10 (pc := 264) C hI dX2_measure_264 ?_
                refine r_iload_3 (pc := 267) C dX2_measure_267 ?_
                refine r_mniald (pc := 268) C hI (by decide) (by decide) rfl (by simp only [mlen]; omega) (by decide) dX2_measure_268 ?_
                rw [b8]
                refine r_iload_5 (pc := 269) C dX2_measure_269 ?_
                refine r_icleM (pc := 271) (tgt := 283) C 285 ?_ ?_ dX2_measure_271 (by decide) (fun c_271 j_271 => ?_) (fun c_271 j_271 => ?_) ?_
                rotate_left 2
                · refine r_iload_5 (pc := 283) C dX2_measure_283 ?_
                  exact j_271
                · refine r_aload_0 (pc := 274) C dX2_measure_274 ?_
                  refine r_mg10 (pc := 275) C hI dX2_measure_275 ?_
                  refine r_iload_3 (pc := 278) C dX2_measure_278 ?_
                  refine r_mniald (pc := 279) C hI (by decide) (by decide) rfl (by simp only [mlen]; omega) (by decide) dX2_measure_279 ?_
                  rw [b8]
                  refine r_goto (pc := 280) (tgt := 285) C dX2_measure_280 (by decide) ?_
                  exact j_271
                refine r_istore_5 (pc := 285) C dX2_measure_285 ?_
                refine r_iload_6 (pc := 287) C dX2_measure_287 ?_
                refine r_aload_0 (pc := 289) C dX2_measure_289 ?_
                refine r_mg11 (pc := 290) C hI dX2_measure_290 ?_
                refine r_iload_3 (pc := 293) C dX2_measure_293 ?_
                refine r_mniald (pc := 294) C hI (by decide) (by decide) rfl (by simp only [mlen]; omega) (by decide) dX2_measure_294 ?_
                rw [b9]
                refine r_ior (pc := 295) C dX2_measure_295 ?_
                refine r_istore_6 (pc := 296) C dX2_measure_296 ?_
                refine r_goto (pc := 298) (tgt := 367) C dX2_measure_298 (by decide) ?_
                refine r_aload_0 (pc := 367) C dX2_measure_367 ?_
                refine r_mg9 (pc := 368) C hI dX2_measure_368 ?_
                refine r_iload_1 (pc := 371) C dX2_measure_371 ?_
                refine r_iload_4 (pc := 372) C dX2_measure_372 ?_
                refine r_mniast (pc := 374) C hI (by decide) (by decide) rfl (by simp only [mlen]; omega) (by decide) dX2_measure_374 ?_
                refine r_aload_0 (pc := 375) C dX2_measure_375 ?_
                refine r_mg10 (pc := 376) C hI dX2_measure_376 ?_
                refine r_iload_1 (pc := 379) C dX2_measure_379 ?_
                refine r_iload_5 (pc := 380) C dX2_measure_380 ?_
                refine r_mniast (pc := 382) C hI (by decide) (by decide) rfl (by simp only [mlen]; omega) (by decide) dX2_measure_382 ?_
                refine r_aload_0 (pc := 383) C dX2_measure_383 ?_
                refine r_mg11 (pc := 384) C hI dX2_measure_384 ?_
                refine r_iload_1 (pc := 387) C dX2_measure_387 ?_
                refine r_iload_6 (pc := 388) C dX2_measure_388 ?_
                refine r_mniast (pc := 390) C hI (by decide) (by decide) rfl (by simp only [mlen]; omega) (by decide) dX2_measure_390 ?_
                refine r_vret (pc := 391) C dX2_measure_391 ?_
                exact ⟨rfl, rfl⟩
              · exact absurd c_223 (by decide) --halt
            · exact absurd c_200 (by decide) --halt
      · exact absurd c_50 (nI_nm1 (by omega)) --halt
    · exact absurd c_33 (nI_nm1 (by omega)) --halt
  · exact absurd c_16 (nI_nm1 (by omega)) --halt
theorem c_X2_measure_then (G : Good w) (d : Nat) (hd : 1 ≤ d) {p : Nat} (hI : MI am) (hp : p < 40) {q : Nat} {A : DN} (hq : q < 40) (a7 : ar 7 q = dS A) (a8 : ar 8 q = dP A) (a9 : ar 9 q = dF A) {r : Nat} {B : DN} (hr : r < 40) (b7 : ar 7 r = dS B) (b8 : ar 8 r = dP B) (b9 : ar 9 r = dF B) (e2 : ar 2 p = 5) (e3 : ar 3 p = nI q) (e4 : ar 4 p = nI r) (e5 : ar 5 p = -1) (e6 : ar 6 p = -1) : Con w yX2_measure (ws_ yX2_measure cX2_measure 9 none) d 0 0 [.ref (am 0), .int (nI p)] (mput w am fi ar h0) (fun x9 h' => x9 = none ∧ h' = mput w am fi (msA ar p (thenD A B)) h0) noX := by
  refine Con.of G [some (.ref (am 0)), some (.int (nI p)), none, none, none, none, none, none, none] (body := fun g C => ?_)
  refine r_aload_0 (pc := 0) C dX2_measure_0 ?_
  refine r_mg5 (pc := 1) C hI dX2_measure_1 ?_
  refine r_iload_1 (pc := 4) C dX2_measure_4 ?_
  refine r_mniald (pc := 5) C hI (by decide) (by decide) rfl (by simp only [mlen]; omega) (by decide) dX2_measure_5 ?_
  rw [e3]
  refine r_istore_2 (pc := 6) C dX2_measure_6 ?_
  refine r_aload_0 (pc := 7) C dX2_measure_7 ?_
  refine r_mg6 (pc := 8) C hI dX2_measure_8 ?_
  refine r_iload_1 (pc := 11) C dX2_measure_11 ?_
  refine r_mniald (pc := 12) C hI (by decide) (by decide) rfl (by simp only [mlen]; omega) (by decide) dX2_measure_12 ?_
  rw [e4]
  refine r_istore_3 (pc := 13) C dX2_measure_13 ?_
  refine r_iload_2 (pc := 14) C dX2_measure_14 ?_
  refine r_iconst (pc := 15) (v := -1) C dX2_measure_15 (by decide) ?_
  refine r_icne (pc := 16) (tgt := 23) C dX2_measure_16 (by decide) (fun c_16 => ?_) (fun c_16 => ?_)
  · refine r_aload_0 (pc := 23) C dX2_measure_23 ?_
    refine r_mg9 (pc := 24) C hI dX2_measure_24 ?_
    refine r_iload_2 (pc := 27) C dX2_measure_27 ?_
    refine r_mniald (pc := 28) C hI (by decide) (by decide) rfl (by simp only [mlen]; omega) (by decide) dX2_measure_28 ?_
    rw [a7]
    refine r_istore_4 (pc := 29) C dX2_measure_29 ?_
    refine r_iload_2 (pc := 31) C dX2_measure_31 ?_
    refine r_iconst (pc := 32) (v := -1) C dX2_measure_32 (by decide) ?_
    refine r_icne (pc := 33) (tgt := 40) C dX2_measure_33 (by decide) (fun c_33 => ?_) (fun c_33 => ?_)
    · refine r_aload_0 (pc := 40) C dX2_measure_40 ?_
      refine r_mg10 (pc := 41) C hI dX2_measure_41 ?_
      refine r_iload_2 (pc := 44) C dX2_measure_44 ?_
      refine r_mniald (pc := 45) C hI (by decide) (by decide) rfl (by simp only [mlen]; omega) (by decide) dX2_measure_45 ?_
      rw [a8]
      refine r_istore_5 (pc := 46) C dX2_measure_46 ?_
      refine r_iload_2 (pc := 48) C dX2_measure_48 ?_
      refine r_iconst (pc := 49) (v := -1) C dX2_measure_49 (by decide) ?_
      refine r_icne (pc := 50) (tgt := 57) C dX2_measure_50 (by decide) (fun c_50 => ?_) (fun c_50 => ?_)
      · refine r_aload_0 (pc := 57) C dX2_measure_57 ?_
        refine r_mg11 (pc := 58) C hI dX2_measure_58 ?_
        refine r_iload_2 (pc := 61) C dX2_measure_61 ?_
        refine r_mniald (pc := 62) C hI (by decide) (by decide) rfl (by simp only [mlen]; omega) (by decide) dX2_measure_62 ?_
        rw [a9]
        refine r_istore_6 (pc := 63) C dX2_measure_63 ?_
        refine r_aload_0 (pc := 65) C dX2_measure_65 ?_
        refine r_mg7 (pc := 66) C hI dX2_measure_66 ?_
        refine r_iload_1 (pc := 69) C dX2_measure_69 ?_
        refine r_mniald (pc := 70) C hI (by decide) (by decide) rfl (by simp only [mlen]; omega) (by decide) dX2_measure_70 ?_
        rw [e5]
        refine r_iconst (pc := 71) (v := -1) C dX2_measure_71 (by decide) ?_
        refine r_icne (pc := 72) (tgt := 79) C dX2_measure_72 (by decide) (fun c_72 => ?_) (fun c_72 => ?_)
        · exact absurd rfl c_72 --halt
        · refine r_iconst (pc := 75) (v := 0) C dX2_measure_75 (by decide) ?_
          refine r_goto (pc := 76) (tgt := 87) C dX2_measure_76 (by decide) ?_
          refine r_istore_7 (pc := 87) C dX2_measure_87 ?_
          refine r_aload_0 (pc := 89) C dX2_measure_89 ?_
          refine r_mg8 (pc := 90) C hI dX2_measure_90 ?_
          refine r_iload_1 (pc := 93) C dX2_measure_93 ?_
          refine r_mniald (pc := 94) C hI (by decide) (by decide) rfl (by simp only [mlen]; omega) (by decide) dX2_measure_94 ?_
          rw [e6]
          refine r_iconst (pc := 95) (v := -1) C dX2_measure_95 (by decide) ?_
          refine r_icne (pc := 96) (tgt := 103) C dX2_measure_96 (by decide) (fun c_96 => ?_) (fun c_96 => ?_)
          · exact absurd rfl c_96 --halt
          · refine r_iconst (pc := 99) (v := 0) C dX2_measure_99 (by decide) ?_
            refine r_goto (pc := 100) (tgt := 111) C dX2_measure_100 (by decide) ?_
            refine r_istore_8 (pc := 111) C dX2_measure_111 ?_
            refine r_aload_0 (pc := 113) C dX2_measure_113 ?_
            refine r_mg4 (pc := 114) C hI dX2_measure_114 ?_
            refine r_iload_1 (pc := 117) C dX2_measure_117 ?_
            refine r_mniald (pc := 118) C hI (by decide) (by decide) rfl (by simp only [mlen]; omega) (by decide) dX2_measure_118 ?_
            rw [e2]
            refine r_tabIn (pc := 119) (tgt := 193) C dX2_measure_119 (by decide) (by decide) rfl (by decide) ?_
            refine r_aload_0 (pc := 193) C dX2_measure_193 ?_
            refine r_mg4 (pc := 194) C hI dX2_measure_194 ?_
            refine r_iload_1 (pc := 197) C dX2_measure_197 ?_
            refine r_mniald (pc := 198) C hI (by decide) (by decide) rfl (by simp only [mlen]; omega) (by decide) dX2_measure_198 ?_
            rw [e2]
            refine r_iconst (pc := 199) (v := 5) C dX2_measure_199 (by decide) ?_
            refine r_icne (pc := 200) (tgt := 212) C dX2_measure_200 (by decide) (fun c_200 => ?_) (fun c_200 => ?_)
            · exact absurd rfl c_200 --halt
            · refine r_aload_0 (pc := 203) C dX2_measure_203 ?_
              refine r_mg10 (pc := 204) C hI dX2_measure_204 ?_
              refine r_iload_2 (pc := 207) C dX2_measure_207 ?_
              refine r_mniald (pc := 208) C hI (by decide) (by decide) rfl (by simp only [mlen]; omega) (by decide) dX2_measure_208 ?_
              rw [a8]
              refine r_goto (pc := 209) (tgt := 214) C dX2_measure_209 (by decide) ?_
              refine r_istore_4 (pc := 214) C dX2_measure_214 ?_
              refine r_aload_0 (pc := 216) C dX2_measure_216 ?_
              refine r_mg4 (pc := 217) C hI dX2_measure_217 ?_
              refine r_iload_1 (pc := 220) C dX2_measure_220 ?_
              refine r_mniald (pc := 221) C hI (by decide) (by decide) rfl (by simp only [mlen]; omega) (by decide) dX2_measure_221 ?_
              rw [e2]
              refine r_iconst (pc := 222) (v := 5) C dX2_measure_222 (by decide) ?_
              refine r_icne (pc := 223) (tgt := 235) C dX2_measure_223 (by decide) (fun c_223 => ?_) (fun c_223 => ?_)
              · exact absurd rfl c_223 --halt
              · refine r_aload_0 (pc := 226) C dX2_measure_226 ?_
                refine r_mg9 (pc := 227) C hI dX2_measure_227 ?_
                refine r_iload_2 (pc := 230) C dX2_measure_230 ?_
                refine r_mniald (pc := 231) C hI (by decide) (by decide) rfl (by simp only [mlen]; omega) (by decide) dX2_measure_231 ?_
                rw [a7]
                refine r_goto (pc := 232) (tgt := 237) C dX2_measure_232 (by decide) ?_
                refine r_istore_5 (pc := 237) C dX2_measure_237 ?_
                refine r_aload_0 (pc := 239) C dX2_measure_239 ?_
                refine r_mg9 (pc := 240) C hI dX2_measure_240 ?_
                refine r_iload_3 (pc := 243) C dX2_measure_243 ?_
                refine r_mniald (pc := 244) C hI (by decide) (by decide) rfl (by simp only [mlen]; omega) (by decide) dX2_measure_244 ?_
                rw [b7]
                refine r_iload_4 (pc := 245) C dX2_measure_245 ?_
                refine r_icleM (pc := 247) (tgt := 259) C 261 ?_ ?_ dX2_measure_247 (by decide) (fun c_247 j_247 => ?_) (fun c_247 j_247 => ?_) ?_
                rotate_left 2
                · refine r_iload_4 (pc := 259) C dX2_measure_259 ?_
                  exact j_247
                · refine r_aload_0 (pc := 250) C dX2_measure_250 ?_
                  refine r_mg9 (pc := 251) C hI dX2_measure_251 ?_
                  refine r_iload_3 (pc := 254) C dX2_measure_254 ?_
                  refine r_mniald (pc := 255) C hI (by decide) (by decide) rfl (by simp only [mlen]; omega) (by decide) dX2_measure_255 ?_
                  rw [b7]
                  refine r_goto (pc := 256) (tgt := 261) C dX2_measure_256 (by decide) ?_
                  exact j_247
                refine r_istore_4 (pc := 261) C dX2_measure_261 ?_
                refine r_aload_0 (pc := 263) C dX2_measure_263 ?_
                refine r_mg10 (pc := 264) C hI dX2_measure_264 ?_
                refine r_iload_3 (pc := 267) C dX2_measure_267 ?_
                refine r_mniald (pc := 268) C hI (by decide) (by decide) rfl (by simp only [mlen]; omega) (by decide) dX2_measure_268 ?_
                rw [b8]
                refine r_iload_5 (pc := 269) C dX2_measure_269 ?_
                refine r_icleM (pc := 271) (tgt := 283) C 285 ?_ ?_ dX2_measure_271 (by decide) (fun c_271 j_271 => ?_) (fun c_271 j_271 => ?_) ?_
                rotate_left 2
                · refine r_iload_5 (pc := 283) C dX2_measure_283 ?_
                  exact j_271
                · refine r_aload_0 (pc := 274) C dX2_measure_274 ?_
                  refine r_mg10 (pc := 275) C hI dX2_measure_275 ?_
                  refine r_iload_3 (pc := 278) C dX2_measure_278 ?_
                  refine r_mniald (pc := 279) C hI (by decide) (by decide) rfl (by simp only [mlen]; omega) (by decide) dX2_measure_279 ?_
                  rw [b8]
                  refine r_goto (pc := 280) (tgt := 285) C dX2_measure_280 (by decide) ?_
                  exact j_271
                refine r_istore_5 (pc := 285) C dX2_measure_285 ?_
                refine r_iload_6 (pc := 287) C dX2_measure_287 ?_
                refine r_aload_0 (pc := 289) C dX2_measure_289 ?_
                refine r_mg11 (pc := 290) C hI dX2_measure_290 ?_
                refine r_iload_3 (pc := 293) C dX2_measure_293 ?_
                refine r_mniald (pc := 294) C hI (by decide) (by decide) rfl (by simp only [mlen]; omega) (by decide) dX2_measure_294 ?_
                rw [b9]
                refine r_ior (pc := 295) C dX2_measure_295 ?_
                refine r_istore_6 (pc := 296) C dX2_measure_296 ?_
                refine r_goto (pc := 298) (tgt := 367) C dX2_measure_298 (by decide) ?_
                refine r_aload_0 (pc := 367) C dX2_measure_367 ?_
                refine r_mg9 (pc := 368) C hI dX2_measure_368 ?_
                refine r_iload_1 (pc := 371) C dX2_measure_371 ?_
                refine r_iload_4 (pc := 372) C dX2_measure_372 ?_
                refine r_mniast (pc := 374) C hI (by decide) (by decide) rfl (by simp only [mlen]; omega) (by decide) dX2_measure_374 ?_
                refine r_aload_0 (pc := 375) C dX2_measure_375 ?_
                refine r_mg10 (pc := 376) C hI dX2_measure_376 ?_
                refine r_iload_1 (pc := 379) C dX2_measure_379 ?_
                refine r_iload_5 (pc := 380) C dX2_measure_380 ?_
                refine r_mniast (pc := 382) C hI (by decide) (by decide) rfl (by simp only [mlen]; omega) (by decide) dX2_measure_382 ?_
                refine r_aload_0 (pc := 383) C dX2_measure_383 ?_
                refine r_mg11 (pc := 384) C hI dX2_measure_384 ?_
                refine r_iload_1 (pc := 387) C dX2_measure_387 ?_
                refine r_iload_6 (pc := 388) C dX2_measure_388 ?_
                refine r_mniast (pc := 390) C hI (by decide) (by decide) rfl (by simp only [mlen]; omega) (by decide) dX2_measure_390 ?_
                refine r_vret (pc := 391) C dX2_measure_391 ?_
                exact ⟨rfl, rfl⟩
      · exact absurd c_50 (nI_nm1 (by omega)) --halt
    · exact absurd c_33 (nI_nm1 (by omega)) --halt
  · exact absurd c_16 (nI_nm1 (by omega)) --halt
theorem c_X2_measure_all (G : Good w) (d : Nat) (hd : 1 ≤ d) {p : Nat} (hI : MI am) (hp : p < 40) {q : Nat} {A : DN} (hq : q < 40) (a7 : ar 7 q = dS A) (a8 : ar 8 q = dP A) (a9 : ar 9 q = dF A) {v : Nat} (hv : v < 3) (e2 : ar 2 p = 6) (e3 : ar 3 p = nI q) (e4 : ar 4 p = -1) (e5 : ar 5 p = nI v) (e6 : ar 6 p = -1) : Con w yX2_measure (ws_ yX2_measure cX2_measure 9 none) d 0 0 [.ref (am 0), .int (nI p)] (mput w am fi ar h0) (fun x9 h' => x9 = none ∧ h' = mput w am fi (msA ar p (quD true v A)) h0) noX := by
  refine Con.of G [some (.ref (am 0)), some (.int (nI p)), none, none, none, none, none, none, none] (body := fun g C => ?_)
  refine r_aload_0 (pc := 0) C dX2_measure_0 ?_
  refine r_mg5 (pc := 1) C hI dX2_measure_1 ?_
  refine r_iload_1 (pc := 4) C dX2_measure_4 ?_
  refine r_mniald (pc := 5) C hI (by decide) (by decide) rfl (by simp only [mlen]; omega) (by decide) dX2_measure_5 ?_
  rw [e3]
  refine r_istore_2 (pc := 6) C dX2_measure_6 ?_
  refine r_aload_0 (pc := 7) C dX2_measure_7 ?_
  refine r_mg6 (pc := 8) C hI dX2_measure_8 ?_
  refine r_iload_1 (pc := 11) C dX2_measure_11 ?_
  refine r_mniald (pc := 12) C hI (by decide) (by decide) rfl (by simp only [mlen]; omega) (by decide) dX2_measure_12 ?_
  rw [e4]
  refine r_istore_3 (pc := 13) C dX2_measure_13 ?_
  refine r_iload_2 (pc := 14) C dX2_measure_14 ?_
  refine r_iconst (pc := 15) (v := -1) C dX2_measure_15 (by decide) ?_
  refine r_icne (pc := 16) (tgt := 23) C dX2_measure_16 (by decide) (fun c_16 => ?_) (fun c_16 => ?_)
  · refine r_aload_0 (pc := 23) C dX2_measure_23 ?_
    refine r_mg9 (pc := 24) C hI dX2_measure_24 ?_
    refine r_iload_2 (pc := 27) C dX2_measure_27 ?_
    refine r_mniald (pc := 28) C hI (by decide) (by decide) rfl (by simp only [mlen]; omega) (by decide) dX2_measure_28 ?_
    rw [a7]
    refine r_istore_4 (pc := 29) C dX2_measure_29 ?_
    refine r_iload_2 (pc := 31) C dX2_measure_31 ?_
    refine r_iconst (pc := 32) (v := -1) C dX2_measure_32 (by decide) ?_
    refine r_icne (pc := 33) (tgt := 40) C dX2_measure_33 (by decide) (fun c_33 => ?_) (fun c_33 => ?_)
    · refine r_aload_0 (pc := 40) C dX2_measure_40 ?_
      refine r_mg10 (pc := 41) C hI dX2_measure_41 ?_
      refine r_iload_2 (pc := 44) C dX2_measure_44 ?_
      refine r_mniald (pc := 45) C hI (by decide) (by decide) rfl (by simp only [mlen]; omega) (by decide) dX2_measure_45 ?_
      rw [a8]
      refine r_istore_5 (pc := 46) C dX2_measure_46 ?_
      refine r_iload_2 (pc := 48) C dX2_measure_48 ?_
      refine r_iconst (pc := 49) (v := -1) C dX2_measure_49 (by decide) ?_
      refine r_icne (pc := 50) (tgt := 57) C dX2_measure_50 (by decide) (fun c_50 => ?_) (fun c_50 => ?_)
      · refine r_aload_0 (pc := 57) C dX2_measure_57 ?_
        refine r_mg11 (pc := 58) C hI dX2_measure_58 ?_
        refine r_iload_2 (pc := 61) C dX2_measure_61 ?_
        refine r_mniald (pc := 62) C hI (by decide) (by decide) rfl (by simp only [mlen]; omega) (by decide) dX2_measure_62 ?_
        rw [a9]
        refine r_istore_6 (pc := 63) C dX2_measure_63 ?_
        refine r_aload_0 (pc := 65) C dX2_measure_65 ?_
        refine r_mg7 (pc := 66) C hI dX2_measure_66 ?_
        refine r_iload_1 (pc := 69) C dX2_measure_69 ?_
        refine r_mniald (pc := 70) C hI (by decide) (by decide) rfl (by simp only [mlen]; omega) (by decide) dX2_measure_70 ?_
        rw [e5]
        refine r_iconst (pc := 71) (v := -1) C dX2_measure_71 (by decide) ?_
        refine r_icne (pc := 72) (tgt := 79) C dX2_measure_72 (by decide) (fun c_72 => ?_) (fun c_72 => ?_)
        · refine r_iconst (pc := 79) (v := 1) C dX2_measure_79 (by decide) ?_
          refine r_aload_0 (pc := 80) C dX2_measure_80 ?_
          refine r_mg7 (pc := 81) C hI dX2_measure_81 ?_
          refine r_iload_1 (pc := 84) C dX2_measure_84 ?_
          refine r_mniald (pc := 85) C hI (by decide) (by decide) rfl (by simp only [mlen]; omega) (by decide) dX2_measure_85 ?_
          rw [e5]
          refine r_ishl (pc := 86) C dX2_measure_86 ?_
          refine r_istore_7 (pc := 87) C dX2_measure_87 ?_
          refine r_aload_0 (pc := 89) C dX2_measure_89 ?_
          refine r_mg8 (pc := 90) C hI dX2_measure_90 ?_
          refine r_iload_1 (pc := 93) C dX2_measure_93 ?_
          refine r_mniald (pc := 94) C hI (by decide) (by decide) rfl (by simp only [mlen]; omega) (by decide) dX2_measure_94 ?_
          rw [e6]
          refine r_iconst (pc := 95) (v := -1) C dX2_measure_95 (by decide) ?_
          refine r_icne (pc := 96) (tgt := 103) C dX2_measure_96 (by decide) (fun c_96 => ?_) (fun c_96 => ?_)
          · exact absurd rfl c_96 --halt
          · refine r_iconst (pc := 99) (v := 0) C dX2_measure_99 (by decide) ?_
            refine r_goto (pc := 100) (tgt := 111) C dX2_measure_100 (by decide) ?_
            refine r_istore_8 (pc := 111) C dX2_measure_111 ?_
            refine r_aload_0 (pc := 113) C dX2_measure_113 ?_
            refine r_mg4 (pc := 114) C hI dX2_measure_114 ?_
            refine r_iload_1 (pc := 117) C dX2_measure_117 ?_
            refine r_mniald (pc := 118) C hI (by decide) (by decide) rfl (by simp only [mlen]; omega) (by decide) dX2_measure_118 ?_
            rw [e2]
            refine r_tabIn (pc := 119) (tgt := 328) C dX2_measure_119 (by decide) (by decide) rfl (by decide) ?_
            refine r_iload_5 (pc := 328) C dX2_measure_328 ?_
            refine r_iload_4 (pc := 330) C dX2_measure_330 ?_
            refine r_callS (pc := 332) (nA := 2) C (c_X2_lesser G (d - 1)) (h1 := q1612) (h2 := q1613) (h3 := q61) (h4 := q1614)  (hd := dX2_measure_332) (kk := kP ?_) (kx := kN)
            refine r_istore_5 (pc := 335) C dX2_measure_335 ?_
            refine r_iload_5 (pc := 337) C dX2_measure_337 ?_
            refine r_iconst (pc := 339) (v := 1) C dX2_measure_339 (by decide) ?_
            refine r_iadd (pc := 340) C dX2_measure_340 ?_
            refine r_istore_4 (pc := 341) C dX2_measure_341 ?_
            refine r_iload_6 (pc := 343) C dX2_measure_343 ?_
            refine r_iload_7 (pc := 345) C dX2_measure_345 ?_
            refine r_iconst (pc := 347) (v := -1) C dX2_measure_347 (by decide) ?_
            refine r_ixor (pc := 348) C dX2_measure_348 ?_
            refine r_iand (pc := 349) C dX2_measure_349 ?_
            refine r_istore_6 (pc := 350) C dX2_measure_350 ?_
            refine r_goto (pc := 352) (tgt := 367) C dX2_measure_352 (by decide) ?_
            refine r_aload_0 (pc := 367) C dX2_measure_367 ?_
            refine r_mg9 (pc := 368) C hI dX2_measure_368 ?_
            refine r_iload_1 (pc := 371) C dX2_measure_371 ?_
            refine r_iload_4 (pc := 372) C dX2_measure_372 ?_
            refine r_mniast (pc := 374) C hI (by decide) (by decide) rfl (by simp only [mlen]; omega) (by decide) dX2_measure_374 ?_
            refine r_aload_0 (pc := 375) C dX2_measure_375 ?_
            refine r_mg10 (pc := 376) C hI dX2_measure_376 ?_
            refine r_iload_1 (pc := 379) C dX2_measure_379 ?_
            refine r_iload_5 (pc := 380) C dX2_measure_380 ?_
            refine r_mniast (pc := 382) C hI (by decide) (by decide) rfl (by simp only [mlen]; omega) (by decide) dX2_measure_382 ?_
            refine r_aload_0 (pc := 383) C dX2_measure_383 ?_
            refine r_mg11 (pc := 384) C hI dX2_measure_384 ?_
            refine r_iload_1 (pc := 387) C dX2_measure_387 ?_
            refine r_iload_6 (pc := 388) C dX2_measure_388 ?_
            refine r_mniast (pc := 390) C hI (by decide) (by decide) rfl (by simp only [mlen]; omega) (by decide) dX2_measure_390 ?_
            refine r_vret (pc := 391) C dX2_measure_391 ?_
            exact ⟨rfl, rfl⟩
        · exact absurd c_72 (nI_nm1 (by omega)) --halt
      · exact absurd c_50 (nI_nm1 (by omega)) --halt
    · exact absurd c_33 (nI_nm1 (by omega)) --halt
  · exact absurd c_16 (nI_nm1 (by omega)) --halt
theorem c_X2_measure_some (G : Good w) (d : Nat) (hd : 1 ≤ d) {p : Nat} (hI : MI am) (hp : p < 40) {q : Nat} {A : DN} (hq : q < 40) (a7 : ar 7 q = dS A) (a8 : ar 8 q = dP A) (a9 : ar 9 q = dF A) {v : Nat} (hv : v < 3) (e2 : ar 2 p = 7) (e3 : ar 3 p = nI q) (e4 : ar 4 p = -1) (e5 : ar 5 p = nI v) (e6 : ar 6 p = -1) : Con w yX2_measure (ws_ yX2_measure cX2_measure 9 none) d 0 0 [.ref (am 0), .int (nI p)] (mput w am fi ar h0) (fun x9 h' => x9 = none ∧ h' = mput w am fi (msA ar p (quD false v A)) h0) noX := by
  refine Con.of G [some (.ref (am 0)), some (.int (nI p)), none, none, none, none, none, none, none] (body := fun g C => ?_)
  refine r_aload_0 (pc := 0) C dX2_measure_0 ?_
  refine r_mg5 (pc := 1) C hI dX2_measure_1 ?_
  refine r_iload_1 (pc := 4) C dX2_measure_4 ?_
  refine r_mniald (pc := 5) C hI (by decide) (by decide) rfl (by simp only [mlen]; omega) (by decide) dX2_measure_5 ?_
  rw [e3]
  refine r_istore_2 (pc := 6) C dX2_measure_6 ?_
  refine r_aload_0 (pc := 7) C dX2_measure_7 ?_
  refine r_mg6 (pc := 8) C hI dX2_measure_8 ?_
  refine r_iload_1 (pc := 11) C dX2_measure_11 ?_
  refine r_mniald (pc := 12) C hI (by decide) (by decide) rfl (by simp only [mlen]; omega) (by decide) dX2_measure_12 ?_
  rw [e4]
  refine r_istore_3 (pc := 13) C dX2_measure_13 ?_
  refine r_iload_2 (pc := 14) C dX2_measure_14 ?_
  refine r_iconst (pc := 15) (v := -1) C dX2_measure_15 (by decide) ?_
  refine r_icne (pc := 16) (tgt := 23) C dX2_measure_16 (by decide) (fun c_16 => ?_) (fun c_16 => ?_)
  · refine r_aload_0 (pc := 23) C dX2_measure_23 ?_
    refine r_mg9 (pc := 24) C hI dX2_measure_24 ?_
    refine r_iload_2 (pc := 27) C dX2_measure_27 ?_
    refine r_mniald (pc := 28) C hI (by decide) (by decide) rfl (by simp only [mlen]; omega) (by decide) dX2_measure_28 ?_
    rw [a7]
    refine r_istore_4 (pc := 29) C dX2_measure_29 ?_
    refine r_iload_2 (pc := 31) C dX2_measure_31 ?_
    refine r_iconst (pc := 32) (v := -1) C dX2_measure_32 (by decide) ?_
    refine r_icne (pc := 33) (tgt := 40) C dX2_measure_33 (by decide) (fun c_33 => ?_) (fun c_33 => ?_)
    · refine r_aload_0 (pc := 40) C dX2_measure_40 ?_
      refine r_mg10 (pc := 41) C hI dX2_measure_41 ?_
      refine r_iload_2 (pc := 44) C dX2_measure_44 ?_
      refine r_mniald (pc := 45) C hI (by decide) (by decide) rfl (by simp only [mlen]; omega) (by decide) dX2_measure_45 ?_
      rw [a8]
      refine r_istore_5 (pc := 46) C dX2_measure_46 ?_
      refine r_iload_2 (pc := 48) C dX2_measure_48 ?_
      refine r_iconst (pc := 49) (v := -1) C dX2_measure_49 (by decide) ?_
      refine r_icne (pc := 50) (tgt := 57) C dX2_measure_50 (by decide) (fun c_50 => ?_) (fun c_50 => ?_)
      · refine r_aload_0 (pc := 57) C dX2_measure_57 ?_
        refine r_mg11 (pc := 58) C hI dX2_measure_58 ?_
        refine r_iload_2 (pc := 61) C dX2_measure_61 ?_
        refine r_mniald (pc := 62) C hI (by decide) (by decide) rfl (by simp only [mlen]; omega) (by decide) dX2_measure_62 ?_
        rw [a9]
        refine r_istore_6 (pc := 63) C dX2_measure_63 ?_
        refine r_aload_0 (pc := 65) C dX2_measure_65 ?_
        refine r_mg7 (pc := 66) C hI dX2_measure_66 ?_
        refine r_iload_1 (pc := 69) C dX2_measure_69 ?_
        refine r_mniald (pc := 70) C hI (by decide) (by decide) rfl (by simp only [mlen]; omega) (by decide) dX2_measure_70 ?_
        rw [e5]
        refine r_iconst (pc := 71) (v := -1) C dX2_measure_71 (by decide) ?_
        refine r_icne (pc := 72) (tgt := 79) C dX2_measure_72 (by decide) (fun c_72 => ?_) (fun c_72 => ?_)
        · refine r_iconst (pc := 79) (v := 1) C dX2_measure_79 (by decide) ?_
          refine r_aload_0 (pc := 80) C dX2_measure_80 ?_
          refine r_mg7 (pc := 81) C hI dX2_measure_81 ?_
          refine r_iload_1 (pc := 84) C dX2_measure_84 ?_
          refine r_mniald (pc := 85) C hI (by decide) (by decide) rfl (by simp only [mlen]; omega) (by decide) dX2_measure_85 ?_
          rw [e5]
          refine r_ishl (pc := 86) C dX2_measure_86 ?_
          refine r_istore_7 (pc := 87) C dX2_measure_87 ?_
          refine r_aload_0 (pc := 89) C dX2_measure_89 ?_
          refine r_mg8 (pc := 90) C hI dX2_measure_90 ?_
          refine r_iload_1 (pc := 93) C dX2_measure_93 ?_
          refine r_mniald (pc := 94) C hI (by decide) (by decide) rfl (by simp only [mlen]; omega) (by decide) dX2_measure_94 ?_
          rw [e6]
          refine r_iconst (pc := 95) (v := -1) C dX2_measure_95 (by decide) ?_
          refine r_icne (pc := 96) (tgt := 103) C dX2_measure_96 (by decide) (fun c_96 => ?_) (fun c_96 => ?_)
          · exact absurd rfl c_96 --halt
          · refine r_iconst (pc := 99) (v := 0) C dX2_measure_99 (by decide) ?_
            refine r_goto (pc := 100) (tgt := 111) C dX2_measure_100 (by decide) ?_
            refine r_istore_8 (pc := 111) C dX2_measure_111 ?_
            refine r_aload_0 (pc := 113) C dX2_measure_113 ?_
            refine r_mg4 (pc := 114) C hI dX2_measure_114 ?_
            refine r_iload_1 (pc := 117) C dX2_measure_117 ?_
            refine r_mniald (pc := 118) C hI (by decide) (by decide) rfl (by simp only [mlen]; omega) (by decide) dX2_measure_118 ?_
            rw [e2]
            refine r_tabIn (pc := 119) (tgt := 301) C dX2_measure_119 (by decide) (by decide) rfl (by decide) ?_
            refine r_iload_4 (pc := 301) C dX2_measure_301 ?_
            refine r_iload_5 (pc := 303) C dX2_measure_303 ?_
            refine r_callS (pc := 305) (nA := 2) C (c_X2_lesser G (d - 1)) (h1 := q1612) (h2 := q1613) (h3 := q61) (h4 := q1614)  (hd := dX2_measure_305) (kk := kP ?_) (kx := kN)
            refine r_istore_4 (pc := 308) C dX2_measure_308 ?_
            refine r_iload_4 (pc := 310) C dX2_measure_310 ?_
            refine r_iconst (pc := 312) (v := 1) C dX2_measure_312 (by decide) ?_
            refine r_iadd (pc := 313) C dX2_measure_313 ?_
            refine r_istore_5 (pc := 314) C dX2_measure_314 ?_
            refine r_iload_6 (pc := 316) C dX2_measure_316 ?_
            refine r_iload_7 (pc := 318) C dX2_measure_318 ?_
            refine r_iconst (pc := 320) (v := -1) C dX2_measure_320 (by decide) ?_
            refine r_ixor (pc := 321) C dX2_measure_321 ?_
            refine r_iand (pc := 322) C dX2_measure_322 ?_
            refine r_istore_6 (pc := 323) C dX2_measure_323 ?_
            refine r_goto (pc := 325) (tgt := 367) C dX2_measure_325 (by decide) ?_
            refine r_aload_0 (pc := 367) C dX2_measure_367 ?_
            refine r_mg9 (pc := 368) C hI dX2_measure_368 ?_
            refine r_iload_1 (pc := 371) C dX2_measure_371 ?_
            refine r_iload_4 (pc := 372) C dX2_measure_372 ?_
            refine r_mniast (pc := 374) C hI (by decide) (by decide) rfl (by simp only [mlen]; omega) (by decide) dX2_measure_374 ?_
            refine r_aload_0 (pc := 375) C dX2_measure_375 ?_
            refine r_mg10 (pc := 376) C hI dX2_measure_376 ?_
            refine r_iload_1 (pc := 379) C dX2_measure_379 ?_
            refine r_iload_5 (pc := 380) C dX2_measure_380 ?_
            refine r_mniast (pc := 382) C hI (by decide) (by decide) rfl (by simp only [mlen]; omega) (by decide) dX2_measure_382 ?_
            refine r_aload_0 (pc := 383) C dX2_measure_383 ?_
            refine r_mg11 (pc := 384) C hI dX2_measure_384 ?_
            refine r_iload_1 (pc := 387) C dX2_measure_387 ?_
            refine r_iload_6 (pc := 388) C dX2_measure_388 ?_
            refine r_mniast (pc := 390) C hI (by decide) (by decide) rfl (by simp only [mlen]; omega) (by decide) dX2_measure_390 ?_
            refine r_vret (pc := 391) C dX2_measure_391 ?_
            exact ⟨rfl, rfl⟩
        · exact absurd c_72 (nI_nm1 (by omega)) --halt
      · exact absurd c_50 (nI_nm1 (by omega)) --halt
    · exact absurd c_33 (nI_nm1 (by omega)) --halt
  · exact absurd c_16 (nI_nm1 (by omega)) --halt
theorem c_X2_measure_allb (G : Good w) (d : Nat) (hd : 1 ≤ d) {p : Nat} (hI : MI am) (hp : p < 40) {q : Nat} {A : DN} (hq : q < 40) (a7 : ar 7 q = dS A) (a8 : ar 8 q = dP A) (a9 : ar 9 q = dF A) {v : Nat} (hv : v < 3) {u : Nat} (hu : u < 3) (e2 : ar 2 p = 8) (e3 : ar 3 p = nI q) (e4 : ar 4 p = -1) (e5 : ar 5 p = nI v) (e6 : ar 6 p = nI u) : Con w yX2_measure (ws_ yX2_measure cX2_measure 9 none) d 0 0 [.ref (am 0), .int (nI p)] (mput w am fi ar h0) (fun x9 h' => x9 = none ∧ h' = mput w am fi (msA ar p (qbD true v u A)) h0) noX := by
  refine Con.of G [some (.ref (am 0)), some (.int (nI p)), none, none, none, none, none, none, none] (body := fun g C => ?_)
  refine r_aload_0 (pc := 0) C dX2_measure_0 ?_
  refine r_mg5 (pc := 1) C hI dX2_measure_1 ?_
  refine r_iload_1 (pc := 4) C dX2_measure_4 ?_
  refine r_mniald (pc := 5) C hI (by decide) (by decide) rfl (by simp only [mlen]; omega) (by decide) dX2_measure_5 ?_
  rw [e3]
  refine r_istore_2 (pc := 6) C dX2_measure_6 ?_
  refine r_aload_0 (pc := 7) C dX2_measure_7 ?_
  refine r_mg6 (pc := 8) C hI dX2_measure_8 ?_
  refine r_iload_1 (pc := 11) C dX2_measure_11 ?_
  refine r_mniald (pc := 12) C hI (by decide) (by decide) rfl (by simp only [mlen]; omega) (by decide) dX2_measure_12 ?_
  rw [e4]
  refine r_istore_3 (pc := 13) C dX2_measure_13 ?_
  refine r_iload_2 (pc := 14) C dX2_measure_14 ?_
  refine r_iconst (pc := 15) (v := -1) C dX2_measure_15 (by decide) ?_
  refine r_icne (pc := 16) (tgt := 23) C dX2_measure_16 (by decide) (fun c_16 => ?_) (fun c_16 => ?_)
  · refine r_aload_0 (pc := 23) C dX2_measure_23 ?_
    refine r_mg9 (pc := 24) C hI dX2_measure_24 ?_
    refine r_iload_2 (pc := 27) C dX2_measure_27 ?_
    refine r_mniald (pc := 28) C hI (by decide) (by decide) rfl (by simp only [mlen]; omega) (by decide) dX2_measure_28 ?_
    rw [a7]
    refine r_istore_4 (pc := 29) C dX2_measure_29 ?_
    refine r_iload_2 (pc := 31) C dX2_measure_31 ?_
    refine r_iconst (pc := 32) (v := -1) C dX2_measure_32 (by decide) ?_
    refine r_icne (pc := 33) (tgt := 40) C dX2_measure_33 (by decide) (fun c_33 => ?_) (fun c_33 => ?_)
    · refine r_aload_0 (pc := 40) C dX2_measure_40 ?_
      refine r_mg10 (pc := 41) C hI dX2_measure_41 ?_
      refine r_iload_2 (pc := 44) C dX2_measure_44 ?_
      refine r_mniald (pc := 45) C hI (by decide) (by decide) rfl (by simp only [mlen]; omega) (by decide) dX2_measure_45 ?_
      rw [a8]
      refine r_istore_5 (pc := 46) C dX2_measure_46 ?_
      refine r_iload_2 (pc := 48) C dX2_measure_48 ?_
      refine r_iconst (pc := 49) (v := -1) C dX2_measure_49 (by decide) ?_
      refine r_icne (pc := 50) (tgt := 57) C dX2_measure_50 (by decide) (fun c_50 => ?_) (fun c_50 => ?_)
      · refine r_aload_0 (pc := 57) C dX2_measure_57 ?_
        refine r_mg11 (pc := 58) C hI dX2_measure_58 ?_
        refine r_iload_2 (pc := 61) C dX2_measure_61 ?_
        refine r_mniald (pc := 62) C hI (by decide) (by decide) rfl (by simp only [mlen]; omega) (by decide) dX2_measure_62 ?_
        rw [a9]
        refine r_istore_6 (pc := 63) C dX2_measure_63 ?_
        refine r_aload_0 (pc := 65) C dX2_measure_65 ?_
        refine r_mg7 (pc := 66) C hI dX2_measure_66 ?_
        refine r_iload_1 (pc := 69) C dX2_measure_69 ?_
        refine r_mniald (pc := 70) C hI (by decide) (by decide) rfl (by simp only [mlen]; omega) (by decide) dX2_measure_70 ?_
        rw [e5]
        refine r_iconst (pc := 71) (v := -1) C dX2_measure_71 (by decide) ?_
        refine r_icne (pc := 72) (tgt := 79) C dX2_measure_72 (by decide) (fun c_72 => ?_) (fun c_72 => ?_)
        · refine r_iconst (pc := 79) (v := 1) C dX2_measure_79 (by decide) ?_
          refine r_aload_0 (pc := 80) C dX2_measure_80 ?_
          refine r_mg7 (pc := 81) C hI dX2_measure_81 ?_
          refine r_iload_1 (pc := 84) C dX2_measure_84 ?_
          refine r_mniald (pc := 85) C hI (by decide) (by decide) rfl (by simp only [mlen]; omega) (by decide) dX2_measure_85 ?_
          rw [e5]
          refine r_ishl (pc := 86) C dX2_measure_86 ?_
          refine r_istore_7 (pc := 87) C dX2_measure_87 ?_
          refine r_aload_0 (pc := 89) C dX2_measure_89 ?_
          refine r_mg8 (pc := 90) C hI dX2_measure_90 ?_
          refine r_iload_1 (pc := 93) C dX2_measure_93 ?_
          refine r_mniald (pc := 94) C hI (by decide) (by decide) rfl (by simp only [mlen]; omega) (by decide) dX2_measure_94 ?_
          rw [e6]
          refine r_iconst (pc := 95) (v := -1) C dX2_measure_95 (by decide) ?_
          refine r_icne (pc := 96) (tgt := 103) C dX2_measure_96 (by decide) (fun c_96 => ?_) (fun c_96 => ?_)
          · refine r_iconst (pc := 103) (v := 1) C dX2_measure_103 (by decide) ?_
            refine r_aload_0 (pc := 104) C dX2_measure_104 ?_
            refine r_mg8 (pc := 105) C hI dX2_measure_105 ?_
            refine r_iload_1 (pc := 108) C dX2_measure_108 ?_
            refine r_mniald (pc := 109) C hI (by decide) (by decide) rfl (by simp only [mlen]; omega) (by decide) dX2_measure_109 ?_
            rw [e6]
            refine r_ishl (pc := 110) C dX2_measure_110 ?_
            refine r_istore_8 (pc := 111) C dX2_measure_111 ?_
            refine r_aload_0 (pc := 113) C dX2_measure_113 ?_
            refine r_mg4 (pc := 114) C hI dX2_measure_114 ?_
            refine r_iload_1 (pc := 117) C dX2_measure_117 ?_
            refine r_mniald (pc := 118) C hI (by decide) (by decide) rfl (by simp only [mlen]; omega) (by decide) dX2_measure_118 ?_
            rw [e2]
            refine r_tabOut (pc := 119) (tgt := 355) C dX2_measure_119 (Or.inr (by decide)) (by decide) ?_
            refine r_iload_6 (pc := 355) C dX2_measure_355 ?_
            refine r_iload_7 (pc := 357) C dX2_measure_357 ?_
            refine r_iconst (pc := 359) (v := -1) C dX2_measure_359 (by decide) ?_
            refine r_ixor (pc := 360) C dX2_measure_360 ?_
            refine r_iand (pc := 361) C dX2_measure_361 ?_
            refine r_iload_8 (pc := 362) C dX2_measure_362 ?_
            refine r_ior (pc := 364) C dX2_measure_364 ?_
            refine r_istore_6 (pc := 365) C dX2_measure_365 ?_
            refine r_aload_0 (pc := 367) C dX2_measure_367 ?_
            refine r_mg9 (pc := 368) C hI dX2_measure_368 ?_
            refine r_iload_1 (pc := 371) C dX2_measure_371 ?_
            refine r_iload_4 (pc := 372) C dX2_measure_372 ?_
            refine r_mniast (pc := 374) C hI (by decide) (by decide) rfl (by simp only [mlen]; omega) (by decide) dX2_measure_374 ?_
            refine r_aload_0 (pc := 375) C dX2_measure_375 ?_
            refine r_mg10 (pc := 376) C hI dX2_measure_376 ?_
            refine r_iload_1 (pc := 379) C dX2_measure_379 ?_
            refine r_iload_5 (pc := 380) C dX2_measure_380 ?_
            refine r_mniast (pc := 382) C hI (by decide) (by decide) rfl (by simp only [mlen]; omega) (by decide) dX2_measure_382 ?_
            refine r_aload_0 (pc := 383) C dX2_measure_383 ?_
            refine r_mg11 (pc := 384) C hI dX2_measure_384 ?_
            refine r_iload_1 (pc := 387) C dX2_measure_387 ?_
            refine r_iload_6 (pc := 388) C dX2_measure_388 ?_
            refine r_mniast (pc := 390) C hI (by decide) (by decide) rfl (by simp only [mlen]; omega) (by decide) dX2_measure_390 ?_
            refine r_vret (pc := 391) C dX2_measure_391 ?_
            exact ⟨rfl, rfl⟩
          · exact absurd c_96 (nI_nm1 (by omega)) --halt
        · exact absurd c_72 (nI_nm1 (by omega)) --halt
      · exact absurd c_50 (nI_nm1 (by omega)) --halt
    · exact absurd c_33 (nI_nm1 (by omega)) --halt
  · exact absurd c_16 (nI_nm1 (by omega)) --halt
theorem c_X2_measure_someb (G : Good w) (d : Nat) (hd : 1 ≤ d) {p : Nat} (hI : MI am) (hp : p < 40) {q : Nat} {A : DN} (hq : q < 40) (a7 : ar 7 q = dS A) (a8 : ar 8 q = dP A) (a9 : ar 9 q = dF A) {v : Nat} (hv : v < 3) {u : Nat} (hu : u < 3) (e2 : ar 2 p = 9) (e3 : ar 3 p = nI q) (e4 : ar 4 p = -1) (e5 : ar 5 p = nI v) (e6 : ar 6 p = nI u) : Con w yX2_measure (ws_ yX2_measure cX2_measure 9 none) d 0 0 [.ref (am 0), .int (nI p)] (mput w am fi ar h0) (fun x9 h' => x9 = none ∧ h' = mput w am fi (msA ar p (qbD false v u A)) h0) noX := by
  refine Con.of G [some (.ref (am 0)), some (.int (nI p)), none, none, none, none, none, none, none] (body := fun g C => ?_)
  refine r_aload_0 (pc := 0) C dX2_measure_0 ?_
  refine r_mg5 (pc := 1) C hI dX2_measure_1 ?_
  refine r_iload_1 (pc := 4) C dX2_measure_4 ?_
  refine r_mniald (pc := 5) C hI (by decide) (by decide) rfl (by simp only [mlen]; omega) (by decide) dX2_measure_5 ?_
  rw [e3]
  refine r_istore_2 (pc := 6) C dX2_measure_6 ?_
  refine r_aload_0 (pc := 7) C dX2_measure_7 ?_
  refine r_mg6 (pc := 8) C hI dX2_measure_8 ?_
  refine r_iload_1 (pc := 11) C dX2_measure_11 ?_
  refine r_mniald (pc := 12) C hI (by decide) (by decide) rfl (by simp only [mlen]; omega) (by decide) dX2_measure_12 ?_
  rw [e4]
  refine r_istore_3 (pc := 13) C dX2_measure_13 ?_
  refine r_iload_2 (pc := 14) C dX2_measure_14 ?_
  refine r_iconst (pc := 15) (v := -1) C dX2_measure_15 (by decide) ?_
  refine r_icne (pc := 16) (tgt := 23) C dX2_measure_16 (by decide) (fun c_16 => ?_) (fun c_16 => ?_)
  · refine r_aload_0 (pc := 23) C dX2_measure_23 ?_
    refine r_mg9 (pc := 24) C hI dX2_measure_24 ?_
    refine r_iload_2 (pc := 27) C dX2_measure_27 ?_
    refine r_mniald (pc := 28) C hI (by decide) (by decide) rfl (by simp only [mlen]; omega) (by decide) dX2_measure_28 ?_
    rw [a7]
    refine r_istore_4 (pc := 29) C dX2_measure_29 ?_
    refine r_iload_2 (pc := 31) C dX2_measure_31 ?_
    refine r_iconst (pc := 32) (v := -1) C dX2_measure_32 (by decide) ?_
    refine r_icne (pc := 33) (tgt := 40) C dX2_measure_33 (by decide) (fun c_33 => ?_) (fun c_33 => ?_)
    · refine r_aload_0 (pc := 40) C dX2_measure_40 ?_
      refine r_mg10 (pc := 41) C hI dX2_measure_41 ?_
      refine r_iload_2 (pc := 44) C dX2_measure_44 ?_
      refine r_mniald (pc := 45) C hI (by decide) (by decide) rfl (by simp only [mlen]; omega) (by decide) dX2_measure_45 ?_
      rw [a8]
      refine r_istore_5 (pc := 46) C dX2_measure_46 ?_
      refine r_iload_2 (pc := 48) C dX2_measure_48 ?_
      refine r_iconst (pc := 49) (v := -1) C dX2_measure_49 (by decide) ?_
      refine r_icne (pc := 50) (tgt := 57) C dX2_measure_50 (by decide) (fun c_50 => ?_) (fun c_50 => ?_)
      · refine r_aload_0 (pc := 57) C dX2_measure_57 ?_
        refine r_mg11 (pc := 58) C hI dX2_measure_58 ?_
        refine r_iload_2 (pc := 61) C dX2_measure_61 ?_
        refine r_mniald (pc := 62) C hI (by decide) (by decide) rfl (by simp only [mlen]; omega) (by decide) dX2_measure_62 ?_
        rw [a9]
        refine r_istore_6 (pc := 63) C dX2_measure_63 ?_
        refine r_aload_0 (pc := 65) C dX2_measure_65 ?_
        refine r_mg7 (pc := 66) C hI dX2_measure_66 ?_
        refine r_iload_1 (pc := 69) C dX2_measure_69 ?_
        refine r_mniald (pc := 70) C hI (by decide) (by decide) rfl (by simp only [mlen]; omega) (by decide) dX2_measure_70 ?_
        rw [e5]
        refine r_iconst (pc := 71) (v := -1) C dX2_measure_71 (by decide) ?_
        refine r_icne (pc := 72) (tgt := 79) C dX2_measure_72 (by decide) (fun c_72 => ?_) (fun c_72 => ?_)
        · refine r_iconst (pc := 79) (v := 1) C dX2_measure_79 (by decide) ?_
          refine r_aload_0 (pc := 80) C dX2_measure_80 ?_
          refine r_mg7 (pc := 81) C hI dX2_measure_81 ?_
          refine r_iload_1 (pc := 84) C dX2_measure_84 ?_
          refine r_mniald (pc := 85) C hI (by decide) (by decide) rfl (by simp only [mlen]; omega) (by decide) dX2_measure_85 ?_
          rw [e5]
          refine r_ishl (pc := 86) C dX2_measure_86 ?_
          refine r_istore_7 (pc := 87) C dX2_measure_87 ?_
          refine r_aload_0 (pc := 89) C dX2_measure_89 ?_
          refine r_mg8 (pc := 90) C hI dX2_measure_90 ?_
          refine r_iload_1 (pc := 93) C dX2_measure_93 ?_
          refine r_mniald (pc := 94) C hI (by decide) (by decide) rfl (by simp only [mlen]; omega) (by decide) dX2_measure_94 ?_
          rw [e6]
          refine r_iconst (pc := 95) (v := -1) C dX2_measure_95 (by decide) ?_
          refine r_icne (pc := 96) (tgt := 103) C dX2_measure_96 (by decide) (fun c_96 => ?_) (fun c_96 => ?_)
          · refine r_iconst (pc := 103) (v := 1) C dX2_measure_103 (by decide) ?_
            refine r_aload_0 (pc := 104) C dX2_measure_104 ?_
            refine r_mg8 (pc := 105) C hI dX2_measure_105 ?_
            refine r_iload_1 (pc := 108) C dX2_measure_108 ?_
            refine r_mniald (pc := 109) C hI (by decide) (by decide) rfl (by simp only [mlen]; omega) (by decide) dX2_measure_109 ?_
            rw [e6]
            refine r_ishl (pc := 110) C dX2_measure_110 ?_
            refine r_istore_8 (pc := 111) C dX2_measure_111 ?_
            refine r_aload_0 (pc := 113) C dX2_measure_113 ?_
            refine r_mg4 (pc := 114) C hI dX2_measure_114 ?_
            refine r_iload_1 (pc := 117) C dX2_measure_117 ?_
            refine r_mniald (pc := 118) C hI (by decide) (by decide) rfl (by simp only [mlen]; omega) (by decide) dX2_measure_118 ?_
            rw [e2]
            refine r_tabOut (pc := 119) (tgt := 355) C dX2_measure_119 (Or.inr (by decide)) (by decide) ?_
            refine r_iload_6 (pc := 355) C dX2_measure_355 ?_
            refine r_iload_7 (pc := 357) C dX2_measure_357 ?_
            refine r_iconst (pc := 359) (v := -1) C dX2_measure_359 (by decide) ?_
            refine r_ixor (pc := 360) C dX2_measure_360 ?_
            refine r_iand (pc := 361) C dX2_measure_361 ?_
            refine r_iload_8 (pc := 362) C dX2_measure_362 ?_
            refine r_ior (pc := 364) C dX2_measure_364 ?_
            refine r_istore_6 (pc := 365) C dX2_measure_365 ?_
            refine r_aload_0 (pc := 367) C dX2_measure_367 ?_
            refine r_mg9 (pc := 368) C hI dX2_measure_368 ?_
            refine r_iload_1 (pc := 371) C dX2_measure_371 ?_
            refine r_iload_4 (pc := 372) C dX2_measure_372 ?_
            refine r_mniast (pc := 374) C hI (by decide) (by decide) rfl (by simp only [mlen]; omega) (by decide) dX2_measure_374 ?_
            refine r_aload_0 (pc := 375) C dX2_measure_375 ?_
            refine r_mg10 (pc := 376) C hI dX2_measure_376 ?_
            refine r_iload_1 (pc := 379) C dX2_measure_379 ?_
            refine r_iload_5 (pc := 380) C dX2_measure_380 ?_
            refine r_mniast (pc := 382) C hI (by decide) (by decide) rfl (by simp only [mlen]; omega) (by decide) dX2_measure_382 ?_
            refine r_aload_0 (pc := 383) C dX2_measure_383 ?_
            refine r_mg11 (pc := 384) C hI dX2_measure_384 ?_
            refine r_iload_1 (pc := 387) C dX2_measure_387 ?_
            refine r_iload_6 (pc := 388) C dX2_measure_388 ?_
            refine r_mniast (pc := 390) C hI (by decide) (by decide) rfl (by simp only [mlen]; omega) (by decide) dX2_measure_390 ?_
            refine r_vret (pc := 391) C dX2_measure_391 ?_
            exact ⟨rfl, rfl⟩
          · exact absurd c_96 (nI_nm1 (by omega)) --halt
        · exact absurd c_72 (nI_nm1 (by omega)) --halt
      · exact absurd c_50 (nI_nm1 (by omega)) --halt
    · exact absurd c_33 (nI_nm1 (by omega)) --halt
  · exact absurd c_16 (nI_nm1 (by omega)) --halt
theorem c_X2_measure (G : Good w) (d : Nat) (hd : 1 ≤ d) {p : Nat} {L : List DN} {D : DN} (hI : MI am) (hp : p < 40) (hL : L.length ≤ 40) (hA : ∀ (q : Nat) (A : DN), L[q]? = some A → ar 7 q = dS A ∧ ar 8 q = dP A ∧ ar 9 q = dF A) (hM : MF L (ar 2 p) (ar 3 p) (ar 4 p) (ar 5 p) (ar 6 p) D) : Con w yX2_measure (ws_ yX2_measure cX2_measure 9 none) d 0 0 [.ref (am 0), .int (nI p)] (mput w am fi ar h0) (fun x9 h' => x9 = none ∧ h' = mput w am fi (msA ar p D) h0) noX := by
  have lt : ∀ (q : Nat) (A : DN), L[q]? = some A → q < 40 := fun q A h => by have := (List.getElem?_eq_some_iff.mp h).1; omega
  rcases hM with ⟨h1, h2, h3, l, r, hl, hr, h4, h5, rfl⟩ | ⟨h1, h2, h3, h4, q, A, h5, h6, rfl⟩ | ⟨h1, h2, q, r, A, B, h3, h4, h5, h6, h7⟩ | ⟨h1, h2, h3, v, q, A, h4, h5, h6, h7, rfl⟩ | ⟨h1, h2, v, u, q, A, h3, h4, h5, h6, h7, h8, rfl⟩
  · rcases h1 with h1 | h1
    · rw [h1]; exact c_X2_measure_lt G d hd hI hp hl hr h1 h2 h3 h4 h5
    · rw [h1]; exact c_X2_measure_eq G d hd hI hp hl hr h1 h2 h3 h4 h5
  · obtain ⟨a7, a8, a9⟩ := hA q A h5
    exact c_X2_measure_not G d hd hI hp (lt _ _ h5) a7 a8 a9 h1 h6 h2 h3 h4
  · obtain ⟨a7, a8, a9⟩ := hA q A h3
    obtain ⟨b7, b8, b9⟩ := hA r B h4
    rcases h7 with ⟨h7, rfl⟩ | ⟨h7, rfl⟩ | ⟨h7, rfl⟩
    · exact c_X2_measure_and G d hd hI hp (lt _ _ h3) a7 a8 a9 (lt _ _ h4) b7 b8 b9 h7 h5 h6 h1 h2
    · exact c_X2_measure_or G d hd hI hp (lt _ _ h3) a7 a8 a9 (lt _ _ h4) b7 b8 b9 h7 h5 h6 h1 h2
    · exact c_X2_measure_then G d hd hI hp (lt _ _ h3) a7 a8 a9 (lt _ _ h4) b7 b8 b9 h7 h5 h6 h1 h2
  · obtain ⟨a7, a8, a9⟩ := hA q A h6
    rcases h1 with h1 | h1
    · rw [h1]; exact c_X2_measure_all G d hd hI hp (lt _ _ h6) a7 a8 a9 h4 h1 h7 h2 h5 h3
    · rw [h1]; exact c_X2_measure_some G d hd hI hp (lt _ _ h6) a7 a8 a9 h4 h1 h7 h2 h5 h3
  · obtain ⟨a7, a8, a9⟩ := hA q A h7
    rcases h1 with h1 | h1
    · rw [h1]; exact c_X2_measure_allb G d hd hI hp (lt _ _ h7) a7 a8 a9 h3 h4 h1 h8 h2 h5 h6
    · rw [h1]; exact c_X2_measure_someb G d hd hI hp (lt _ _ h7) a7 a8 a9 h3 h4 h1 h8 h2 h5 h6
theorem c_X2_make (G : Good w) (d : Nat) (hd : 2 ≤ d) {L : List DN} {D : DN} {s o t n b : Int32} (hI : MI am) (hp : fi 3 = L.length) (hL : L.length < 40) (hA : PA ar L) (hM : MF L s o t n b D) : Con w yX2_make (ws_ yX2_make cX2_make 6 (some .int)) d 0 0 [.ref (am 0), .int s, .int o, .int t, .int n, .int b] (mput w am fi ar h0) (Pi (nI L.length) (mput w am (fset fi 3 (L.length + 1)) (mkA ar L.length s o t n b D) h0)) noX := by
  refine Con.of G [some (.ref (am 0)), some (.int s), some (.int o), some (.int t), some (.int n), some (.int b)] (body := fun g C => ?_)
  have hpl : fi 3 < 40 := by omega
  rw [← hp]
  refine r_aload_0 (pc := 0) C dX2_make_0 ?_
  refine r_mg4 (pc := 1) C hI dX2_make_1 ?_
  refine r_aload_0 (pc := 4) C dX2_make_4 ?_
  refine r_mg3 (pc := 5) C hI dX2_make_5 ?_
  refine r_iload_1 (pc := 8) C dX2_make_8 ?_
  refine r_mniast (pc := 9) C hI (by decide) (by decide) rfl (by simp only [mlen]; omega) (by decide) dX2_make_9 ?_
  refine r_aload_0 (pc := 10) C dX2_make_10 ?_
  refine r_mg5 (pc := 11) C hI dX2_make_11 ?_
  refine r_aload_0 (pc := 14) C dX2_make_14 ?_
  refine r_mg3 (pc := 15) C hI dX2_make_15 ?_
  refine r_iload_2 (pc := 18) C dX2_make_18 ?_
  refine r_mniast (pc := 19) C hI (by decide) (by decide) rfl (by simp only [mlen]; omega) (by decide) dX2_make_19 ?_
  refine r_aload_0 (pc := 20) C dX2_make_20 ?_
  refine r_mg6 (pc := 21) C hI dX2_make_21 ?_
  refine r_aload_0 (pc := 24) C dX2_make_24 ?_
  refine r_mg3 (pc := 25) C hI dX2_make_25 ?_
  refine r_iload_3 (pc := 28) C dX2_make_28 ?_
  refine r_mniast (pc := 29) C hI (by decide) (by decide) rfl (by simp only [mlen]; omega) (by decide) dX2_make_29 ?_
  refine r_aload_0 (pc := 30) C dX2_make_30 ?_
  refine r_mg7 (pc := 31) C hI dX2_make_31 ?_
  refine r_aload_0 (pc := 34) C dX2_make_34 ?_
  refine r_mg3 (pc := 35) C hI dX2_make_35 ?_
  refine r_iload_4 (pc := 38) C dX2_make_38 ?_
  refine r_mniast (pc := 40) C hI (by decide) (by decide) rfl (by simp only [mlen]; omega) (by decide) dX2_make_40 ?_
  refine r_aload_0 (pc := 41) C dX2_make_41 ?_
  refine r_mg8 (pc := 42) C hI dX2_make_42 ?_
  refine r_aload_0 (pc := 45) C dX2_make_45 ?_
  refine r_mg3 (pc := 46) C hI dX2_make_46 ?_
  refine r_iload_5 (pc := 49) C dX2_make_49 ?_
  refine r_mniast (pc := 51) C hI (by decide) (by decide) rfl (by simp only [mlen]; omega) (by decide) dX2_make_51 ?_
  refine r_aload_0 (pc := 52) C dX2_make_52 ?_
  refine r_aload_0 (pc := 53) C dX2_make_53 ?_
  refine r_mg3 (pc := 54) C hI dX2_make_54 ?_
  have hM2 : MF L (mk5 ar (fi 3) s o t n b 2 (fi 3)) (mk5 ar (fi 3) s o t n b 3 (fi 3)) (mk5 ar (fi 3) s o t n b 4 (fi 3)) (mk5 ar (fi 3) s o t n b 5 (fi 3)) (mk5 ar (fi 3) s o t n b 6 (fi 3)) D := by
    rw [show mk5 ar (fi 3) s o t n b 2 (fi 3) = s from pk_us, show mk5 ar (fi 3) s o t n b 3 (fi 3) = o from pk_us, show mk5 ar (fi 3) s o t n b 4 (fi 3) = t from pk_us, show mk5 ar (fi 3) s o t n b 5 (fi 3) = n from pk_us, show mk5 ar (fi 3) s o t n b 6 (fi 3) = b from pk_us]
    exact hM
  have hA2 : ∀ (q : Nat) (A : DN), L[q]? = some A → mk5 ar (fi 3) s o t n b 7 q = dS A ∧ mk5 ar (fi 3) s o t n b 8 q = dP A ∧ mk5 ar (fi 3) s o t n b 9 q = dF A := fun q A h => ⟨(hA q A h).1, (hA q A h).2.1, (hA q A h).2.2.1⟩
  refine r_callV (pc := 57) (nA := 1) C (c_X2_measure G (d - 1) (by omega) hI hpl (by omega) hA2 hM2) (ha := (mput_at hI (j := 0) (by decide))) (hc := rfl) (h1 := q1608) (h2 := q1610) (h3 := qs31) (h4 := q61) (h5 := q1611)  (hd := dX2_make_57) (kk := kPv ?_) (kx := kN)
  refine r_aload_0 (pc := 60) C dX2_make_60 ?_
  refine r_dup (pc := 61) C dX2_make_61 rfl ?_
  refine r_mg3 (pc := 62) C hI dX2_make_62 ?_
  refine r_iconst (pc := 65) (v := 1) C dX2_make_65 (by decide) ?_
  refine r_iadd (pc := 66) C dX2_make_66 ?_
  refine r_mp3 (pc := 67) (v := _) C hI (nI_1 _) dX2_make_67 ?_
  refine r_aload_0 (pc := 70) C dX2_make_70 ?_
  refine r_mg3 (pc := 71) C hI dX2_make_71 ?_
  refine r_iconst (pc := 74) (v := 1) C dX2_make_74 (by decide) ?_
  refine r_isub (pc := 75) C dX2_make_75 ?_
  refine r_iret (pc := 76) C dX2_make_76 ?_
  exact ⟨congrArg some (congrArg Value.int (nI_pred _)), rfl⟩
theorem c_X2_begin (G : Good w) (d : Nat) {s n b : Int32} (hI : MI am) (hp : fi 12 < 41) : Con w yX2_begin (ws_ yX2_begin cX2_begin 4 none) d 0 0 [.ref (am 0), .int s, .int n, .int b] (mput w am fi ar h0) (fun x9 h' => x9 = none ∧ h' = mput w am (fset fi 12 (fi 12 + 1)) (bgA ar (fi 12) s n b) h0) noX := by
  refine Con.of G [some (.ref (am 0)), some (.int s), some (.int n), some (.int b)] (body := fun g C => ?_)
  refine r_aload_0 (pc := 0) C dX2_begin_0 ?_
  refine r_mg13 (pc := 1) C hI dX2_begin_1 ?_
  refine r_aload_0 (pc := 4) C dX2_begin_4 ?_
  refine r_mg12 (pc := 5) C hI dX2_begin_5 ?_
  refine r_iload_1 (pc := 8) C dX2_begin_8 ?_
  refine r_mniast (pc := 9) C hI (by decide) (by decide) rfl (by simp only [mlen]; omega) (by decide) dX2_begin_9 ?_
  refine r_aload_0 (pc := 10) C dX2_begin_10 ?_
  refine r_mg14 (pc := 11) C hI dX2_begin_11 ?_
  refine r_aload_0 (pc := 14) C dX2_begin_14 ?_
  refine r_mg12 (pc := 15) C hI dX2_begin_15 ?_
  refine r_iload_2 (pc := 18) C dX2_begin_18 ?_
  refine r_mniast (pc := 19) C hI (by decide) (by decide) rfl (by simp only [mlen]; omega) (by decide) dX2_begin_19 ?_
  refine r_aload_0 (pc := 20) C dX2_begin_20 ?_
  refine r_mg15 (pc := 21) C hI dX2_begin_21 ?_
  refine r_aload_0 (pc := 24) C dX2_begin_24 ?_
  refine r_mg12 (pc := 25) C hI dX2_begin_25 ?_
  refine r_iload_3 (pc := 28) C dX2_begin_28 ?_
  refine r_mniast (pc := 29) C hI (by decide) (by decide) rfl (by simp only [mlen]; omega) (by decide) dX2_begin_29 ?_
  refine r_aload_0 (pc := 30) C dX2_begin_30 ?_
  refine r_dup (pc := 31) C dX2_begin_31 rfl ?_
  refine r_mg12 (pc := 32) C hI dX2_begin_32 ?_
  refine r_iconst (pc := 35) (v := 1) C dX2_begin_35 (by decide) ?_
  refine r_iadd (pc := 36) C dX2_begin_36 ?_
  refine r_mp12 (pc := 37) (v := _) C hI (nI_1 _) dX2_begin_37 ?_
  refine r_vret (pc := 40) C dX2_begin_40 ?_
  exact ⟨rfl, rfl⟩
end M9
