/-! ### the acts: reach, heavy, days -/
section L6a
variable {L : Lt} {σ σ' : St} {S : Sg} {ρ ρ' : Rw}
def rcP (ρ : Rw) (kd p q : Nat) : Bool := decide (FT ρ kd p q < 1000000)
set_option maxRecDepth 8000 in
theorem x_reachFrom (h : Lok L) (hI : Inv ρ) {kd p : Nat} (hp9 : p < 7) (hT : ∀ p q, p < 7 → q < 7 → σ (30 + p) q = Int32.ofNat (FT ρ kd p q)) : F_X0_reachFrom (some (L.1 0)) (Int32.ofNat p) (hp L σ) = some (Int32.ofNat (bset (rcP ρ kd p) 7)) := by
  have hw := hI.2.2.2.2.2.2.2.1
  unfold F_X0_reachFrom
  rw [if_pos (x_tg h)]
  refine lpF (Lp := fun f j a => F_X0_reachFrom_L4 f (some (L.1 0)) (Int32.ofNat p) (Int32.ofNat a) (Int32.ofNat j) (hp L σ)) (st := bS (rcP ρ kd p)) (fin := fun a => some (Int32.ofNat a)) (N := 7) (fun f a => ?_) (fun f j a hj => ?_) (by unfold fu; omega) 0
  · simp (discharger := first | assumption | omega | decide) only [x_tg, w_tg, m_tg, ↓reduceIte, Option.bind_some, ↓x_0b, ↓x_1b, ↓x_2b, ↓x_3b, ↓x_4b, ↓x_5b, ↓x_6b, ↓x_7b, ↓x_8b, ↓x_9b, ↓x_10b, ↓x_11b, ↓x_12b, ↓x_13b, ↓x_14b, ↓x_15b, ↓x_16b, ↓x_17b, ↓x_18b, ↓x_19b, ↓xp_2b, ↓xp_6b, ↓xp_14b, ↓xp_17b, ↓xp_18b, ↓xp_19b, ↓X_f0b, ↓X_f2b, ↓X_f4b, ↓X_f8b, ↓wf_1b, ↓wf_3b, ↓wf_5b, ↓wf_6b, ↓wf_7b, ↓wf_9b, ↓wt_1_0b, ↓wt_1_1b, ↓wt_1_2b, ↓wt_1_3b, ↓wt_1_4b, ↓wt_11_0b, ↓wt_11_1b, ↓wt_11_2b, ↓wt_11_3b, ↓wt_11_4b, ↓wt_21_0b, ↓wt_21_1b, ↓wt_31_0b, ↓wt_31_1b, ↓wt_31_2b, ↓wt_31_3b, ↓wt_31_4b, ↓wt_31_5b, ↓wt_31_6b, ↓wt_41_0b, ↓wt_41_1b, ↓wt_41_2b, ↓wt_41_3b, ↓wt_41_4b, ↓wt_41_5b, ↓wt_41_6b, ↓wt_1b, ↓wt_11b, ↓wt_21b, ↓wt_31b, ↓wt_41b, ↓X_c0b, ↓X_c1b, ↓X_c2b, ↓X_c3b, ↓X_c4b, ↓X_e0b, ↓X_e1b, ↓X_e2b, ↓X_e3b, ↓X_e4b, ↓X_cb, ↓X_eb, ↓X_w0b, ↓X_w1b, ↓X_hb, ↓X_yb, ↓X_rb, ↓wp_0b, ↓wp_2b, ↓wp_4b, ↓wp_8b, ↓ws_2b, ↓ws_3b, ↓ws_4b, ↓ws_5b, ↓ws_6b, ↓ws_12b, ↓ws_13b, ↓ws_14b, ↓ws_15b, ↓ws_16b, ↓ws_22b, ↓ws_23b, ↓ws_51b, ↓wS_yb, ↓wS_rb, ↓wS_cb, ↓wS_eb, F_X0_reachFrom_J31, F_X0_reachFrom_B4, F_X0_reachFrom_L4, F_X0_reachFrom, show (7 : Int32) ≤ Int32.ofNat 7 by decide]
  · have hd : ¬ (7 : Int32) ≤ Int32.ofNat j := by rw [li_7, ofN_le (by omega) (by omega)]; omega
    have rt := T_row (n := p) (σ := σ) (tz := 10) (z := 30) h (Or.inr ⟨rfl, rfl⟩) hp9
    have rg : aI (hp L σ) (some (L.1 (30 + p))) 100 (Int32.ofNat j) = some (Int32.ofNat (FT ρ kd p j)) := by
      rw [T_get0 (tz := 10) h (Or.inr ⟨rfl, rfl⟩) hp9 hj, hT p j hp9 hj]
    have hle := FT_le (kd := kd) hw hp9 hj
    have hs := sh_n j (by omega)
    by_cases hq : FT ρ kd p j < 1000000
    · have hn : ¬ 1000000 ≤ FT ρ kd p j := by omega
      simp (discharger := first | assumption | omega | decide) only [x_tg, w_tg, m_tg, ↓reduceIte, Option.bind_some, ↓x_0b, ↓x_1b, ↓x_2b, ↓x_3b, ↓x_4b, ↓x_5b, ↓x_6b, ↓x_7b, ↓x_8b, ↓x_9b, ↓x_10b, ↓x_11b, ↓x_12b, ↓x_13b, ↓x_14b, ↓x_15b, ↓x_16b, ↓x_17b, ↓x_18b, ↓x_19b, ↓xp_2b, ↓xp_6b, ↓xp_14b, ↓xp_17b, ↓xp_18b, ↓xp_19b, ↓X_f0b, ↓X_f2b, ↓X_f4b, ↓X_f8b, ↓wf_1b, ↓wf_3b, ↓wf_5b, ↓wf_6b, ↓wf_7b, ↓wf_9b, ↓wt_1_0b, ↓wt_1_1b, ↓wt_1_2b, ↓wt_1_3b, ↓wt_1_4b, ↓wt_11_0b, ↓wt_11_1b, ↓wt_11_2b, ↓wt_11_3b, ↓wt_11_4b, ↓wt_21_0b, ↓wt_21_1b, ↓wt_31_0b, ↓wt_31_1b, ↓wt_31_2b, ↓wt_31_3b, ↓wt_31_4b, ↓wt_31_5b, ↓wt_31_6b, ↓wt_41_0b, ↓wt_41_1b, ↓wt_41_2b, ↓wt_41_3b, ↓wt_41_4b, ↓wt_41_5b, ↓wt_41_6b, ↓wt_1b, ↓wt_11b, ↓wt_21b, ↓wt_31b, ↓wt_41b, ↓X_c0b, ↓X_c1b, ↓X_c2b, ↓X_c3b, ↓X_c4b, ↓X_e0b, ↓X_e1b, ↓X_e2b, ↓X_e3b, ↓X_e4b, ↓X_cb, ↓X_eb, ↓X_w0b, ↓X_w1b, ↓X_hb, ↓X_yb, ↓X_rb, ↓wp_0b, ↓wp_2b, ↓wp_4b, ↓wp_8b, ↓ws_2b, ↓ws_3b, ↓ws_4b, ↓ws_5b, ↓ws_6b, ↓ws_12b, ↓ws_13b, ↓ws_14b, ↓ws_15b, ↓ws_16b, ↓ws_22b, ↓ws_23b, ↓ws_51b, ↓wS_yb, ↓wS_rb, ↓wS_cb, ↓wS_eb, F_X0_reachFrom_J31, F_X0_reachFrom_B4, F_X0_reachFrom_L4, F_X0_reachFrom, hd, ↓bn9 rt, ↓bn9 rg, li_1000000, ofN_le, hn, hs, ofNs]
      simp [bS, rcP, hq, ← ofN_or]
    · have hn : 1000000 ≤ FT ρ kd p j := by omega
      simp (discharger := first | assumption | omega | decide) only [x_tg, w_tg, m_tg, ↓reduceIte, Option.bind_some, ↓x_0b, ↓x_1b, ↓x_2b, ↓x_3b, ↓x_4b, ↓x_5b, ↓x_6b, ↓x_7b, ↓x_8b, ↓x_9b, ↓x_10b, ↓x_11b, ↓x_12b, ↓x_13b, ↓x_14b, ↓x_15b, ↓x_16b, ↓x_17b, ↓x_18b, ↓x_19b, ↓xp_2b, ↓xp_6b, ↓xp_14b, ↓xp_17b, ↓xp_18b, ↓xp_19b, ↓X_f0b, ↓X_f2b, ↓X_f4b, ↓X_f8b, ↓wf_1b, ↓wf_3b, ↓wf_5b, ↓wf_6b, ↓wf_7b, ↓wf_9b, ↓wt_1_0b, ↓wt_1_1b, ↓wt_1_2b, ↓wt_1_3b, ↓wt_1_4b, ↓wt_11_0b, ↓wt_11_1b, ↓wt_11_2b, ↓wt_11_3b, ↓wt_11_4b, ↓wt_21_0b, ↓wt_21_1b, ↓wt_31_0b, ↓wt_31_1b, ↓wt_31_2b, ↓wt_31_3b, ↓wt_31_4b, ↓wt_31_5b, ↓wt_31_6b, ↓wt_41_0b, ↓wt_41_1b, ↓wt_41_2b, ↓wt_41_3b, ↓wt_41_4b, ↓wt_41_5b, ↓wt_41_6b, ↓wt_1b, ↓wt_11b, ↓wt_21b, ↓wt_31b, ↓wt_41b, ↓X_c0b, ↓X_c1b, ↓X_c2b, ↓X_c3b, ↓X_c4b, ↓X_e0b, ↓X_e1b, ↓X_e2b, ↓X_e3b, ↓X_e4b, ↓X_cb, ↓X_eb, ↓X_w0b, ↓X_w1b, ↓X_hb, ↓X_yb, ↓X_rb, ↓wp_0b, ↓wp_2b, ↓wp_4b, ↓wp_8b, ↓ws_2b, ↓ws_3b, ↓ws_4b, ↓ws_5b, ↓ws_6b, ↓ws_12b, ↓ws_13b, ↓ws_14b, ↓ws_15b, ↓ws_16b, ↓ws_22b, ↓ws_23b, ↓ws_51b, ↓wS_yb, ↓wS_rb, ↓wS_cb, ↓wS_eb, F_X0_reachFrom_J31, F_X0_reachFrom_B4, F_X0_reachFrom_L4, F_X0_reachFrom, hd, ↓bn9 rt, ↓bn9 rg, li_1000000, ofN_le, hn, hs, ofNs]
      simp [bS, rcP, hq]
set_option maxRecDepth 8000 in
theorem op_reach (hR : RR L σ S) (x1 : Int32) : STEP L σ (F_X0_reach (some (L.1 0)) x1) (F_X13_reach (some (L.1 1000)) x1) := by
  have h := hR.1.1
  have hW := hR.1.2.1
  have hC := hR.1.2.2.1
  have hP := hR.1.2.2.2.1
  have hI := hR.2.2.1.1
  have hb : isW 200 = true := rfl
  rcases icC hI x1 with ⟨e1, c, hc, hc6, rfl⟩ | e1
  · obtain ⟨k1, k2, k3, k4, k5, k6, k7⟩ := hI.2.2.2.1 c hc
    have hw9 := hI.2.2.2.2.2.2.2.1
    have gx := x_tellsFor h hW hw9 hc6 k4 k1
    have hW1 := WX_tX (V := nT (FT S.1 (kdO S.1 c))) (tz := 10) (z := 30) (Or.inr ⟨rfl, rfl⟩) (Nat.le_refl 200) hW
    have k2' := (X_c1 h hb hW1 hc6).trans (congrArg some k2)
    have gr := x_reachFrom (σ := tX σ 30 (nT (FT S.1 (kdO S.1 c)))) h hI k5 (kd := kdO S.1 c) (fun p q hp9 hq => by unfold tX; rw [if_pos (by omega)]; unfold nT; congr 2; omega)
    refine STEP_ret hR (r := Int32.ofNat (bset (rcP S.1 (kdO S.1 c) (plO S.1 c)) 7)) ⟨_, ?_, ag_tX (tz := 10) (Or.inr ⟨rfl, rfl⟩) (nT (FT S.1 (kdO S.1 c))), fun i hi => tX_ge (by omega)⟩ (fun σ1 hM => ⟨tM σ1 (nT (FT S.1 (kdO S.1 c))), ?_, ag_tM _ _, fun i hi => tM_ne (by omega)⟩)
    · simp (discharger := first | assumption | omega | decide) only [x_tg, w_tg, m_tg, ↓reduceIte, Option.bind_some, ↓x_0b, ↓x_1b, ↓x_2b, ↓x_3b, ↓x_4b, ↓x_5b, ↓x_6b, ↓x_7b, ↓x_8b, ↓x_9b, ↓x_10b, ↓x_11b, ↓x_12b, ↓x_13b, ↓x_14b, ↓x_15b, ↓x_16b, ↓x_17b, ↓x_18b, ↓x_19b, ↓xp_2b, ↓xp_6b, ↓xp_14b, ↓xp_17b, ↓xp_18b, ↓xp_19b, ↓X_f0b, ↓X_f2b, ↓X_f4b, ↓X_f8b, ↓wf_1b, ↓wf_3b, ↓wf_5b, ↓wf_6b, ↓wf_7b, ↓wf_9b, ↓wt_1_0b, ↓wt_1_1b, ↓wt_1_2b, ↓wt_1_3b, ↓wt_1_4b, ↓wt_11_0b, ↓wt_11_1b, ↓wt_11_2b, ↓wt_11_3b, ↓wt_11_4b, ↓wt_21_0b, ↓wt_21_1b, ↓wt_31_0b, ↓wt_31_1b, ↓wt_31_2b, ↓wt_31_3b, ↓wt_31_4b, ↓wt_31_5b, ↓wt_31_6b, ↓wt_41_0b, ↓wt_41_1b, ↓wt_41_2b, ↓wt_41_3b, ↓wt_41_4b, ↓wt_41_5b, ↓wt_41_6b, ↓wt_1b, ↓wt_11b, ↓wt_21b, ↓wt_31b, ↓wt_41b, ↓X_c0b, ↓X_c1b, ↓X_c2b, ↓X_c3b, ↓X_c4b, ↓X_e0b, ↓X_e1b, ↓X_e2b, ↓X_e3b, ↓X_e4b, ↓X_cb, ↓X_eb, ↓X_w0b, ↓X_w1b, ↓X_hb, ↓X_yb, ↓X_rb, ↓wp_0b, ↓wp_2b, ↓wp_4b, ↓wp_8b, ↓ws_2b, ↓ws_3b, ↓ws_4b, ↓ws_5b, ↓ws_6b, ↓ws_12b, ↓ws_13b, ↓ws_14b, ↓ws_15b, ↓ws_16b, ↓ws_22b, ↓ws_23b, ↓ws_51b, ↓wS_yb, ↓wS_rb, ↓wS_cb, ↓wS_eb, ↓x_isCarrierb, ↓x_isErrandb, ↓x_isWareb, ↓x_isSetb, ↓x_isFewb, F_X0_isKind, F_X0_isPlace, F_X0_isPrice, F_X0_isSheet, F_X0_isSpot, F_X13_isKind, F_X13_isPlace, F_X13_isSheet, F_X13_isSpot, within_eq, one_and, zero_and, one_ne, not_true_eq_false, not_false_eq_true, F_X0_reach, e1, ↓bn9 gx, ↓bn9 k2', ↓bn9 gr]
    · have hM2 := hM.2.1
      have gm := m_findFar h hM2 hw9 k4
      rw [← k1] at gm
      have hM3 := WM_tM (V := nT (FT S.1 (kdO S.1 c))) hM2
      have ml : F_X13_reach_L29 fu (some (L.1 1000)) (Int32.ofNat c) 0 0 (hp L (tM σ1 (nT (FT S.1 (kdO S.1 c))))) = some (Int32.ofNat (bset (rcP S.1 (kdO S.1 c) (plO S.1 c)) 7), hp L (tM σ1 (nT (FT S.1 (kdO S.1 c))))) := by
        refine lpF (Lp := fun f j a => F_X13_reach_L29 f (some (L.1 1000)) (Int32.ofNat c) (Int32.ofNat a) (Int32.ofNat j) (hp L (tM σ1 (nT (FT S.1 (kdO S.1 c)))))) (st := bS (rcP S.1 (kdO S.1 c) (plO S.1 c))) (fin := fun a => some (Int32.ofNat a, hp L (tM σ1 (nT (FT S.1 (kdO S.1 c)))))) (N := 7) (fun f a => ?_) (fun f j a hj => ?_) (by unfold fu; omega) 0
        · simp (discharger := first | assumption | omega | decide) only [x_tg, w_tg, m_tg, ↓reduceIte, Option.bind_some, ↓m_0b, ↓m_1b, ↓m_2b, ↓m_3b, ↓m_4b, ↓m_5b, ↓m_6b, ↓m_7b, ↓m_8b, ↓m_9b, ↓m_10b, ↓m_11b, ↓m_12b, ↓m_13b, ↓m_14b, ↓m_15b, ↓m_16b, ↓m_17b, ↓m_18b, ↓m_19b, ↓m_20b, ↓m_21b, ↓m_22b, ↓m_23b, ↓m_24b, ↓m_25b, ↓m_26b, ↓m_27b, ↓m_28b, ↓m_29b, ↓mp_3b, ↓mp_6b, ↓mp_10b, ↓mp_11b, ↓mp_12b, ↓mp_14b, ↓mp_15b, ↓mp_16b, ↓mp_17b, ↓mp_18b, ↓mp_19b, ↓mp_22b, ↓mp_23b, ↓mp_24b, ↓mp_25b, ↓M_42b, ↓M_43b, ↓M_44b, ↓M_45b, ↓cIs_0b, ↓cIs_1b, ↓cIs_2b, ↓cIs_3b, ↓cIs_4b, ↓eIs_0b, ↓eIs_1b, ↓eIs_2b, ↓eIs_3b, ↓eIs_4b, ↓cIs_nb, ↓eIs_nb, ↓M_rb, ↓M_cAt_0b, ↓M_cAt_1b, ↓M_cAt_2b, ↓M_cAt_3b, ↓M_cAt_4b, ↓M_eAt_0b, ↓M_eAt_1b, ↓M_eAt_2b, ↓M_eAt_3b, ↓M_eAt_4b, ↓M_wAt_0b, ↓M_wAt_1b, cAt_0, cAt_1, cAt_2, cAt_3, cAt_4, eAt_0, eAt_1, eAt_2, eAt_3, eAt_4, wAt_0, wAt_1, cAt_n, eAt_n, wAt_n, F_X13_reach_L29, F_X13_reach_B29, show (7 : Int32) ≤ Int32.ofNat 7 by decide]
        · have hd : ¬ (7 : Int32) ≤ Int32.ofNat j := by rw [li_7, ofN_le (by omega) (by omega)]; omega
          have rg := MT_get (σ := σ1) (V := nT (FT S.1 (kdO S.1 c))) h k5 hj
          rw [← ix7] at rg
          have k2m := (cIs_1 h hM3 hc6).trans (congrArg some k2)
          have hle := FT_le (kd := kdO S.1 c) hw9 k5 hj
          have hs := sh_n j (by omega)
          by_cases hq : FT S.1 (kdO S.1 c) (plO S.1 c) j < 1000000
          · have hn : ¬ 1000000 ≤ FT S.1 (kdO S.1 c) (plO S.1 c) j := by omega
            simp (discharger := first | assumption | omega | decide) only [x_tg, w_tg, m_tg, ↓reduceIte, Option.bind_some, ↓m_0b, ↓m_1b, ↓m_2b, ↓m_3b, ↓m_4b, ↓m_5b, ↓m_6b, ↓m_7b, ↓m_8b, ↓m_9b, ↓m_10b, ↓m_11b, ↓m_12b, ↓m_13b, ↓m_14b, ↓m_15b, ↓m_16b, ↓m_17b, ↓m_18b, ↓m_19b, ↓m_20b, ↓m_21b, ↓m_22b, ↓m_23b, ↓m_24b, ↓m_25b, ↓m_26b, ↓m_27b, ↓m_28b, ↓m_29b, ↓mp_3b, ↓mp_6b, ↓mp_10b, ↓mp_11b, ↓mp_12b, ↓mp_14b, ↓mp_15b, ↓mp_16b, ↓mp_17b, ↓mp_18b, ↓mp_19b, ↓mp_22b, ↓mp_23b, ↓mp_24b, ↓mp_25b, ↓M_42b, ↓M_43b, ↓M_44b, ↓M_45b, ↓cIs_0b, ↓cIs_1b, ↓cIs_2b, ↓cIs_3b, ↓cIs_4b, ↓eIs_0b, ↓eIs_1b, ↓eIs_2b, ↓eIs_3b, ↓eIs_4b, ↓cIs_nb, ↓eIs_nb, ↓M_rb, ↓M_cAt_0b, ↓M_cAt_1b, ↓M_cAt_2b, ↓M_cAt_3b, ↓M_cAt_4b, ↓M_eAt_0b, ↓M_eAt_1b, ↓M_eAt_2b, ↓M_eAt_3b, ↓M_eAt_4b, ↓M_wAt_0b, ↓M_wAt_1b, cAt_0, cAt_1, cAt_2, cAt_3, cAt_4, eAt_0, eAt_1, eAt_2, eAt_3, eAt_4, wAt_0, wAt_1, cAt_n, eAt_n, wAt_n, F_X13_reach_J64, F_X13_reach_B29, F_X13_reach_L29, F_X13_reach, hd, ↓bn9 k2m, ↓bn9 rg, nT, li_1000000, ofN_le, hn, hs, ofNs]
            simp [bS, rcP, hq, ← ofN_or]
          · have hn : 1000000 ≤ FT S.1 (kdO S.1 c) (plO S.1 c) j := by omega
            simp (discharger := first | assumption | omega | decide) only [x_tg, w_tg, m_tg, ↓reduceIte, Option.bind_some, ↓m_0b, ↓m_1b, ↓m_2b, ↓m_3b, ↓m_4b, ↓m_5b, ↓m_6b, ↓m_7b, ↓m_8b, ↓m_9b, ↓m_10b, ↓m_11b, ↓m_12b, ↓m_13b, ↓m_14b, ↓m_15b, ↓m_16b, ↓m_17b, ↓m_18b, ↓m_19b, ↓m_20b, ↓m_21b, ↓m_22b, ↓m_23b, ↓m_24b, ↓m_25b, ↓m_26b, ↓m_27b, ↓m_28b, ↓m_29b, ↓mp_3b, ↓mp_6b, ↓mp_10b, ↓mp_11b, ↓mp_12b, ↓mp_14b, ↓mp_15b, ↓mp_16b, ↓mp_17b, ↓mp_18b, ↓mp_19b, ↓mp_22b, ↓mp_23b, ↓mp_24b, ↓mp_25b, ↓M_42b, ↓M_43b, ↓M_44b, ↓M_45b, ↓cIs_0b, ↓cIs_1b, ↓cIs_2b, ↓cIs_3b, ↓cIs_4b, ↓eIs_0b, ↓eIs_1b, ↓eIs_2b, ↓eIs_3b, ↓eIs_4b, ↓cIs_nb, ↓eIs_nb, ↓M_rb, ↓M_cAt_0b, ↓M_cAt_1b, ↓M_cAt_2b, ↓M_cAt_3b, ↓M_cAt_4b, ↓M_eAt_0b, ↓M_eAt_1b, ↓M_eAt_2b, ↓M_eAt_3b, ↓M_eAt_4b, ↓M_wAt_0b, ↓M_wAt_1b, cAt_0, cAt_1, cAt_2, cAt_3, cAt_4, eAt_0, eAt_1, eAt_2, eAt_3, eAt_4, wAt_0, wAt_1, cAt_n, eAt_n, wAt_n, F_X13_reach_J64, F_X13_reach_B29, F_X13_reach_L29, F_X13_reach, hd, ↓bn9 k2m, ↓bn9 rg, nT, li_1000000, ofN_le, hn, hs, ofNs]
            simp [bS, rcP, hq]
      simp (discharger := first | assumption | omega | decide) only [x_tg, w_tg, m_tg, ↓reduceIte, Option.bind_some, ↓m_0b, ↓m_1b, ↓m_2b, ↓m_3b, ↓m_4b, ↓m_5b, ↓m_6b, ↓m_7b, ↓m_8b, ↓m_9b, ↓m_10b, ↓m_11b, ↓m_12b, ↓m_13b, ↓m_14b, ↓m_15b, ↓m_16b, ↓m_17b, ↓m_18b, ↓m_19b, ↓m_20b, ↓m_21b, ↓m_22b, ↓m_23b, ↓m_24b, ↓m_25b, ↓m_26b, ↓m_27b, ↓m_28b, ↓m_29b, ↓mp_3b, ↓mp_6b, ↓mp_10b, ↓mp_11b, ↓mp_12b, ↓mp_14b, ↓mp_15b, ↓mp_16b, ↓mp_17b, ↓mp_18b, ↓mp_19b, ↓mp_22b, ↓mp_23b, ↓mp_24b, ↓mp_25b, ↓M_42b, ↓M_43b, ↓M_44b, ↓M_45b, ↓cIs_0b, ↓cIs_1b, ↓cIs_2b, ↓cIs_3b, ↓cIs_4b, ↓eIs_0b, ↓eIs_1b, ↓eIs_2b, ↓eIs_3b, ↓eIs_4b, ↓cIs_nb, ↓eIs_nb, ↓M_rb, ↓M_cAt_0b, ↓M_cAt_1b, ↓M_cAt_2b, ↓M_cAt_3b, ↓M_cAt_4b, ↓M_eAt_0b, ↓M_eAt_1b, ↓M_eAt_2b, ↓M_eAt_3b, ↓M_eAt_4b, ↓M_wAt_0b, ↓M_wAt_1b, cAt_0, cAt_1, cAt_2, cAt_3, cAt_4, eAt_0, eAt_1, eAt_2, eAt_3, eAt_4, wAt_0, wAt_1, cAt_n, eAt_n, wAt_n, ↓m_isCarrierb, ↓m_isErrandb, ↓m_isWareb, ↓m_isFewb, F_X0_isKind, F_X0_isPlace, F_X0_isPrice, F_X0_isSheet, F_X0_isSpot, F_X13_isKind, F_X13_isPlace, F_X13_isSheet, F_X13_isSpot, within_eq, one_and, zero_and, one_ne, not_true_eq_false, not_false_eq_true, F_X13_reach, e1, ↓bn9 gm, ml]
  · exact STEP_fnd hR (k := 0) (xv := 0) (mv := -1000001) (by omega) rfl (by decide) ⟨σ, by simp (discharger := first | assumption | omega | decide) only [x_tg, w_tg, m_tg, ↓reduceIte, Option.bind_some, ↓x_0b, ↓x_1b, ↓x_2b, ↓x_3b, ↓x_4b, ↓x_5b, ↓x_6b, ↓x_7b, ↓x_8b, ↓x_9b, ↓x_10b, ↓x_11b, ↓x_12b, ↓x_13b, ↓x_14b, ↓x_15b, ↓x_16b, ↓x_17b, ↓x_18b, ↓x_19b, ↓xp_2b, ↓xp_6b, ↓xp_14b, ↓xp_17b, ↓xp_18b, ↓xp_19b, ↓X_f0b, ↓X_f2b, ↓X_f4b, ↓X_f8b, ↓wf_1b, ↓wf_3b, ↓wf_5b, ↓wf_6b, ↓wf_7b, ↓wf_9b, ↓wt_1_0b, ↓wt_1_1b, ↓wt_1_2b, ↓wt_1_3b, ↓wt_1_4b, ↓wt_11_0b, ↓wt_11_1b, ↓wt_11_2b, ↓wt_11_3b, ↓wt_11_4b, ↓wt_21_0b, ↓wt_21_1b, ↓wt_31_0b, ↓wt_31_1b, ↓wt_31_2b, ↓wt_31_3b, ↓wt_31_4b, ↓wt_31_5b, ↓wt_31_6b, ↓wt_41_0b, ↓wt_41_1b, ↓wt_41_2b, ↓wt_41_3b, ↓wt_41_4b, ↓wt_41_5b, ↓wt_41_6b, ↓wt_1b, ↓wt_11b, ↓wt_21b, ↓wt_31b, ↓wt_41b, ↓X_c0b, ↓X_c1b, ↓X_c2b, ↓X_c3b, ↓X_c4b, ↓X_e0b, ↓X_e1b, ↓X_e2b, ↓X_e3b, ↓X_e4b, ↓X_cb, ↓X_eb, ↓X_w0b, ↓X_w1b, ↓X_hb, ↓X_yb, ↓X_rb, ↓wp_0b, ↓wp_2b, ↓wp_4b, ↓wp_8b, ↓ws_2b, ↓ws_3b, ↓ws_4b, ↓ws_5b, ↓ws_6b, ↓ws_12b, ↓ws_13b, ↓ws_14b, ↓ws_15b, ↓ws_16b, ↓ws_22b, ↓ws_23b, ↓ws_51b, ↓wS_yb, ↓wS_rb, ↓wS_cb, ↓wS_eb, ↓x_isCarrierb, ↓x_isErrandb, ↓x_isWareb, ↓x_isSetb, ↓x_isFewb, F_X0_isKind, F_X0_isPlace, F_X0_isPrice, F_X0_isSheet, F_X0_isSpot, F_X13_isKind, F_X13_isPlace, F_X13_isSheet, F_X13_isSpot, within_eq, one_and, zero_and, one_ne, not_true_eq_false, not_false_eq_true, F_X0_reach, e1], ag_refl _, xf_refl _⟩ (fun σ1 hM => by have hM2 := hM.2.1; exact ⟨σ1, by simp (discharger := first | assumption | omega | decide) only [x_tg, w_tg, m_tg, ↓reduceIte, Option.bind_some, ↓m_0b, ↓m_1b, ↓m_2b, ↓m_3b, ↓m_4b, ↓m_5b, ↓m_6b, ↓m_7b, ↓m_8b, ↓m_9b, ↓m_10b, ↓m_11b, ↓m_12b, ↓m_13b, ↓m_14b, ↓m_15b, ↓m_16b, ↓m_17b, ↓m_18b, ↓m_19b, ↓m_20b, ↓m_21b, ↓m_22b, ↓m_23b, ↓m_24b, ↓m_25b, ↓m_26b, ↓m_27b, ↓m_28b, ↓m_29b, ↓mp_3b, ↓mp_6b, ↓mp_10b, ↓mp_11b, ↓mp_12b, ↓mp_14b, ↓mp_15b, ↓mp_16b, ↓mp_17b, ↓mp_18b, ↓mp_19b, ↓mp_22b, ↓mp_23b, ↓mp_24b, ↓mp_25b, ↓M_42b, ↓M_43b, ↓M_44b, ↓M_45b, ↓cIs_0b, ↓cIs_1b, ↓cIs_2b, ↓cIs_3b, ↓cIs_4b, ↓eIs_0b, ↓eIs_1b, ↓eIs_2b, ↓eIs_3b, ↓eIs_4b, ↓cIs_nb, ↓eIs_nb, ↓M_rb, ↓M_cAt_0b, ↓M_cAt_1b, ↓M_cAt_2b, ↓M_cAt_3b, ↓M_cAt_4b, ↓M_eAt_0b, ↓M_eAt_1b, ↓M_eAt_2b, ↓M_eAt_3b, ↓M_eAt_4b, ↓M_wAt_0b, ↓M_wAt_1b, cAt_0, cAt_1, cAt_2, cAt_3, cAt_4, eAt_0, eAt_1, eAt_2, eAt_3, eAt_4, wAt_0, wAt_1, cAt_n, eAt_n, wAt_n, ↓m_isCarrierb, ↓m_isErrandb, ↓m_isWareb, ↓m_isFewb, F_X0_isKind, F_X0_isPlace, F_X0_isPrice, F_X0_isSheet, F_X0_isSpot, F_X13_isKind, F_X13_isPlace, F_X13_isSheet, F_X13_isSpot, within_eq, one_and, zero_and, one_ne, not_true_eq_false, not_false_eq_true, F_X13_reach, e1], ag_refl _, mf_refl _⟩)
def hvP (ρ : Rw) (s B W e : Nat) : Bool := s.testBit e && decide (B < W + nv (ρ (86 + 5 * e + 0)) / 2)
set_option maxRecDepth 8000 in
theorem sub_neg {a b : Nat} (ha : a < 1000000) (hb : b < 1000000) : (0 : Int32) ≤ Int32.ofNat a - Int32.ofNat b ↔ b ≤ a := by
  rw [Int32.le_iff_toInt_le, Int32.toInt_sub, toI (by omega), toI (by omega), show (0 : Int32).toInt = 0 from rfl]
  rw [show ((a : Int) - b).bmod (2 ^ 32) = (a : Int) - b from by apply Int.bmod_eq_of_le <;> omega]
  omega
set_option maxRecDepth 8000 in
theorem op_heavy (hR : RR L σ S) (x1 x2 : Int32) : STEP L σ (F_X0_heavy (some (L.1 0)) x1 x2) (F_X13_heavy (some (L.1 1000)) x1 x2) := by
  have h := hR.1.1
  have hW := hR.1.2.1
  have hC := hR.1.2.2.1
  have hP := hR.1.2.2.2.1
  have hI := hR.2.2.1.1
  have hb : isW 200 = true := rfl
  rcases icC hI x1 with ⟨e1, c, hc, hc6, rfl⟩ | e1
  · rcases isV_cs hI x2 with ⟨e2, s, hs, hs8, rfl⟩ | e2
    · obtain ⟨k1, k2, k3, k4, k5, k6, k7⟩ := hI.2.2.2.1 c hc
      have h8 := hI.2.1.2
      have hN := hI.2.1.1
      have g3 := x_bearsOf h hW hC hc6 k4 k1 k3 (by omega)
      have g2 := x_weight h hb hW hI.2.1.1 h8 (ERR_lb hI) hs8
      have hwt := wt_le hI s (NE S.1) (Nat.le_refl _)
      have hbr : brs (kdO S.1 c) (stO S.1 c) < 1000 := by unfold brs; split; omega; split <;> omega
      generalize hB : brs (kdO S.1 c) (stO S.1 c) = B at *
      generalize hWt : wt S.1 s (NE S.1) = W at *
      have hsn := sub_neg (a := B) (b := W) (by omega) (by omega)
      by_cases hle : W ≤ B
      · have n1 : (0 : Int32) ≤ Int32.ofNat B - Int32.ofNat W := hsn.mpr hle
        have esub : Int32.ofNat B - Int32.ofNat W = Int32.ofNat (B - W) := ofN_sub hle
        have m0 : ∀ σ1, MR L σ1 S → F_X13_heavy_L53 fu (some (L.1 1000)) (Int32.ofNat c) (Int32.ofNat s) (Int32.ofNat W) 0 0 (hp L σ1) = some (Int32.ofNat (bset (hvP S.1 s B W) (NE S.1)), hp L σ1) := by
          intro σ1 hM
          have hM2 := hM.2.1
          have mb := m_bears h hM2 hc6 k4 k1 k3 (by omega)
          rw [hB] at mb
          refine lpF (Lp := fun f j a => F_X13_heavy_L53 f (some (L.1 1000)) (Int32.ofNat c) (Int32.ofNat s) (Int32.ofNat W) (Int32.ofNat a) (Int32.ofNat j) (hp L σ1)) (st := bS (hvP S.1 s B W)) (fin := fun a => some (Int32.ofNat a, hp L σ1)) (N := NE S.1) (fun f a => ?_) (fun f j a hj => ?_) (by unfold fu; omega) 0
          · simp (discharger := first | assumption | omega | decide) only [x_tg, w_tg, m_tg, ↓reduceIte, Option.bind_some, ↓m_0b, ↓m_1b, ↓m_2b, ↓m_3b, ↓m_4b, ↓m_5b, ↓m_6b, ↓m_7b, ↓m_8b, ↓m_9b, ↓m_10b, ↓m_11b, ↓m_12b, ↓m_13b, ↓m_14b, ↓m_15b, ↓m_16b, ↓m_17b, ↓m_18b, ↓m_19b, ↓m_20b, ↓m_21b, ↓m_22b, ↓m_23b, ↓m_24b, ↓m_25b, ↓m_26b, ↓m_27b, ↓m_28b, ↓m_29b, ↓mp_3b, ↓mp_6b, ↓mp_10b, ↓mp_11b, ↓mp_12b, ↓mp_14b, ↓mp_15b, ↓mp_16b, ↓mp_17b, ↓mp_18b, ↓mp_19b, ↓mp_22b, ↓mp_23b, ↓mp_24b, ↓mp_25b, ↓M_42b, ↓M_43b, ↓M_44b, ↓M_45b, ↓cIs_0b, ↓cIs_1b, ↓cIs_2b, ↓cIs_3b, ↓cIs_4b, ↓eIs_0b, ↓eIs_1b, ↓eIs_2b, ↓eIs_3b, ↓eIs_4b, ↓cIs_nb, ↓eIs_nb, ↓M_rb, ↓M_cAt_0b, ↓M_cAt_1b, ↓M_cAt_2b, ↓M_cAt_3b, ↓M_cAt_4b, ↓M_eAt_0b, ↓M_eAt_1b, ↓M_eAt_2b, ↓M_eAt_3b, ↓M_eAt_4b, ↓M_wAt_0b, ↓M_wAt_1b, cAt_0, cAt_1, cAt_2, cAt_3, cAt_4, eAt_0, eAt_1, eAt_2, eAt_3, eAt_4, wAt_0, wAt_1, cAt_n, eAt_n, wAt_n, F_X13_heavy_L53, F_X13_heavy_B53, hN, ofN_le, Nat.le_refl]
          · have hd : ¬ NE S.1 ≤ j := by omega
            have hh := has_n s hs8 j (by omega)
            rw [← hasM] at hh
            have hsh := sh_n j (by omega)
            obtain ⟨lb, fr, to, e0, _, _, hlb, _⟩ := (hI.2.2.2.2.1 j hj).1
            have ge := (eIs_0 h hM2 (show j < 8 by omega)).trans (congrArg some e0)
            have ed : Int32.ofNat lb / 2 = Int32.ofNat (lb / 2) := ofN_div (b := 2) (by omega) (by omega)
            have nl : nv (S.1 (86 + 5 * j)) = lb := by have q := e0; rw [Nat.add_zero] at q; rw [q, nv_of (by omega)]
            by_cases hbt : s.testBit j = true
            · rw [if_pos hbt] at hh
              by_cases hc9 : W + lb / 2 ≤ B
              · simp (discharger := first | assumption | omega | decide) only [x_tg, w_tg, m_tg, ↓reduceIte, Option.bind_some, ↓m_0b, ↓m_1b, ↓m_2b, ↓m_3b, ↓m_4b, ↓m_5b, ↓m_6b, ↓m_7b, ↓m_8b, ↓m_9b, ↓m_10b, ↓m_11b, ↓m_12b, ↓m_13b, ↓m_14b, ↓m_15b, ↓m_16b, ↓m_17b, ↓m_18b, ↓m_19b, ↓m_20b, ↓m_21b, ↓m_22b, ↓m_23b, ↓m_24b, ↓m_25b, ↓m_26b, ↓m_27b, ↓m_28b, ↓m_29b, ↓mp_3b, ↓mp_6b, ↓mp_10b, ↓mp_11b, ↓mp_12b, ↓mp_14b, ↓mp_15b, ↓mp_16b, ↓mp_17b, ↓mp_18b, ↓mp_19b, ↓mp_22b, ↓mp_23b, ↓mp_24b, ↓mp_25b, ↓M_42b, ↓M_43b, ↓M_44b, ↓M_45b, ↓cIs_0b, ↓cIs_1b, ↓cIs_2b, ↓cIs_3b, ↓cIs_4b, ↓eIs_0b, ↓eIs_1b, ↓eIs_2b, ↓eIs_3b, ↓eIs_4b, ↓cIs_nb, ↓eIs_nb, ↓M_rb, ↓M_cAt_0b, ↓M_cAt_1b, ↓M_cAt_2b, ↓M_cAt_3b, ↓M_cAt_4b, ↓M_eAt_0b, ↓M_eAt_1b, ↓M_eAt_2b, ↓M_eAt_3b, ↓M_eAt_4b, ↓M_wAt_0b, ↓M_wAt_1b, cAt_0, cAt_1, cAt_2, cAt_3, cAt_4, eAt_0, eAt_1, eAt_2, eAt_3, eAt_4, wAt_0, wAt_1, cAt_n, eAt_n, wAt_n, F_X13_heavy_J103, F_X13_heavy_J102, F_X13_heavy_B53, F_X13_heavy_L53, F_X13_heavy_J18, F_X13_heavy, hN, ofN_le, hd, hh, one_ne, ↓bn9 ge, ↓bn9 mb, ed, ofN_add, hc9, ofNs]
                simp [bS, hvP, hbt, nl, show ¬ B < W + lb / 2 by omega]
              · simp (discharger := first | assumption | omega | decide) only [x_tg, w_tg, m_tg, ↓reduceIte, Option.bind_some, ↓m_0b, ↓m_1b, ↓m_2b, ↓m_3b, ↓m_4b, ↓m_5b, ↓m_6b, ↓m_7b, ↓m_8b, ↓m_9b, ↓m_10b, ↓m_11b, ↓m_12b, ↓m_13b, ↓m_14b, ↓m_15b, ↓m_16b, ↓m_17b, ↓m_18b, ↓m_19b, ↓m_20b, ↓m_21b, ↓m_22b, ↓m_23b, ↓m_24b, ↓m_25b, ↓m_26b, ↓m_27b, ↓m_28b, ↓m_29b, ↓mp_3b, ↓mp_6b, ↓mp_10b, ↓mp_11b, ↓mp_12b, ↓mp_14b, ↓mp_15b, ↓mp_16b, ↓mp_17b, ↓mp_18b, ↓mp_19b, ↓mp_22b, ↓mp_23b, ↓mp_24b, ↓mp_25b, ↓M_42b, ↓M_43b, ↓M_44b, ↓M_45b, ↓cIs_0b, ↓cIs_1b, ↓cIs_2b, ↓cIs_3b, ↓cIs_4b, ↓eIs_0b, ↓eIs_1b, ↓eIs_2b, ↓eIs_3b, ↓eIs_4b, ↓cIs_nb, ↓eIs_nb, ↓M_rb, ↓M_cAt_0b, ↓M_cAt_1b, ↓M_cAt_2b, ↓M_cAt_3b, ↓M_cAt_4b, ↓M_eAt_0b, ↓M_eAt_1b, ↓M_eAt_2b, ↓M_eAt_3b, ↓M_eAt_4b, ↓M_wAt_0b, ↓M_wAt_1b, cAt_0, cAt_1, cAt_2, cAt_3, cAt_4, eAt_0, eAt_1, eAt_2, eAt_3, eAt_4, wAt_0, wAt_1, cAt_n, eAt_n, wAt_n, F_X13_heavy_J103, F_X13_heavy_J102, F_X13_heavy_B53, F_X13_heavy_L53, F_X13_heavy_J18, F_X13_heavy, hN, ofN_le, hd, hh, one_ne, ↓bn9 ge, ↓bn9 mb, ed, ofN_add, hc9, hsh, ofNs]
                simp [bS, hvP, hbt, nl, show B < W + lb / 2 by omega, ← ofN_or]
            · rw [if_neg hbt] at hh
              simp (discharger := first | assumption | omega | decide) only [x_tg, w_tg, m_tg, ↓reduceIte, Option.bind_some, ↓m_0b, ↓m_1b, ↓m_2b, ↓m_3b, ↓m_4b, ↓m_5b, ↓m_6b, ↓m_7b, ↓m_8b, ↓m_9b, ↓m_10b, ↓m_11b, ↓m_12b, ↓m_13b, ↓m_14b, ↓m_15b, ↓m_16b, ↓m_17b, ↓m_18b, ↓m_19b, ↓m_20b, ↓m_21b, ↓m_22b, ↓m_23b, ↓m_24b, ↓m_25b, ↓m_26b, ↓m_27b, ↓m_28b, ↓m_29b, ↓mp_3b, ↓mp_6b, ↓mp_10b, ↓mp_11b, ↓mp_12b, ↓mp_14b, ↓mp_15b, ↓mp_16b, ↓mp_17b, ↓mp_18b, ↓mp_19b, ↓mp_22b, ↓mp_23b, ↓mp_24b, ↓mp_25b, ↓M_42b, ↓M_43b, ↓M_44b, ↓M_45b, ↓cIs_0b, ↓cIs_1b, ↓cIs_2b, ↓cIs_3b, ↓cIs_4b, ↓eIs_0b, ↓eIs_1b, ↓eIs_2b, ↓eIs_3b, ↓eIs_4b, ↓cIs_nb, ↓eIs_nb, ↓M_rb, ↓M_cAt_0b, ↓M_cAt_1b, ↓M_cAt_2b, ↓M_cAt_3b, ↓M_cAt_4b, ↓M_eAt_0b, ↓M_eAt_1b, ↓M_eAt_2b, ↓M_eAt_3b, ↓M_eAt_4b, ↓M_wAt_0b, ↓M_wAt_1b, cAt_0, cAt_1, cAt_2, cAt_3, cAt_4, eAt_0, eAt_1, eAt_2, eAt_3, eAt_4, wAt_0, wAt_1, cAt_n, eAt_n, wAt_n, F_X13_heavy_J103, F_X13_heavy_J102, F_X13_heavy_B53, F_X13_heavy_L53, F_X13_heavy_J18, F_X13_heavy, hN, ofN_le, hd, hh, ofNs]
              simp [bS, hvP, hbt]
        have x0 : F_X0_heavy_L53 fu (some (L.1 0)) (Int32.ofNat s) (Int32.ofNat (B - W)) 0 0 (hp L σ) = some (Int32.ofNat (bset (hvP S.1 s B W) (NE S.1)), hp L σ) := by
          refine lpF (Lp := fun f j a => F_X0_heavy_L53 f (some (L.1 0)) (Int32.ofNat s) (Int32.ofNat (B - W)) (Int32.ofNat a) (Int32.ofNat j) (hp L σ)) (st := bS (hvP S.1 s B W)) (fin := fun a => some (Int32.ofNat a, hp L σ)) (N := NE S.1) (fun f a => ?_) (fun f j a hj => ?_) (by unfold fu; omega) 0
          · simp (discharger := first | assumption | omega | decide) only [x_tg, w_tg, m_tg, ↓reduceIte, Option.bind_some, ↓x_0b, ↓x_1b, ↓x_2b, ↓x_3b, ↓x_4b, ↓x_5b, ↓x_6b, ↓x_7b, ↓x_8b, ↓x_9b, ↓x_10b, ↓x_11b, ↓x_12b, ↓x_13b, ↓x_14b, ↓x_15b, ↓x_16b, ↓x_17b, ↓x_18b, ↓x_19b, ↓xp_2b, ↓xp_6b, ↓xp_14b, ↓xp_17b, ↓xp_18b, ↓xp_19b, ↓X_f0b, ↓X_f2b, ↓X_f4b, ↓X_f8b, ↓wf_1b, ↓wf_3b, ↓wf_5b, ↓wf_6b, ↓wf_7b, ↓wf_9b, ↓wt_1_0b, ↓wt_1_1b, ↓wt_1_2b, ↓wt_1_3b, ↓wt_1_4b, ↓wt_11_0b, ↓wt_11_1b, ↓wt_11_2b, ↓wt_11_3b, ↓wt_11_4b, ↓wt_21_0b, ↓wt_21_1b, ↓wt_31_0b, ↓wt_31_1b, ↓wt_31_2b, ↓wt_31_3b, ↓wt_31_4b, ↓wt_31_5b, ↓wt_31_6b, ↓wt_41_0b, ↓wt_41_1b, ↓wt_41_2b, ↓wt_41_3b, ↓wt_41_4b, ↓wt_41_5b, ↓wt_41_6b, ↓wt_1b, ↓wt_11b, ↓wt_21b, ↓wt_31b, ↓wt_41b, ↓X_c0b, ↓X_c1b, ↓X_c2b, ↓X_c3b, ↓X_c4b, ↓X_e0b, ↓X_e1b, ↓X_e2b, ↓X_e3b, ↓X_e4b, ↓X_cb, ↓X_eb, ↓X_w0b, ↓X_w1b, ↓X_hb, ↓X_yb, ↓X_rb, ↓wp_0b, ↓wp_2b, ↓wp_4b, ↓wp_8b, ↓ws_2b, ↓ws_3b, ↓ws_4b, ↓ws_5b, ↓ws_6b, ↓ws_12b, ↓ws_13b, ↓ws_14b, ↓ws_15b, ↓ws_16b, ↓ws_22b, ↓ws_23b, ↓ws_51b, ↓wS_yb, ↓wS_rb, ↓wS_cb, ↓wS_eb, F_X0_heavy_L53, F_X0_heavy_B53, hN, ofN_le, Nat.le_refl]
          · have hd : ¬ NE S.1 ≤ j := by omega
            have hh := has_n s hs8 j (by omega)
            have hsh := sh_n j (by omega)
            obtain ⟨lb, fr, to, e0, _, _, hlb, _⟩ := (hI.2.2.2.2.1 j hj).1
            have ge := (X_e0 h hb hW (show j < 8 by omega)).trans (congrArg some e0)
            have ed : Int32.ofNat lb / 2 = Int32.ofNat (lb / 2) := ofN_div (b := 2) (by omega) (by omega)
            have nl : nv (S.1 (86 + 5 * j)) = lb := by have q := e0; rw [Nat.add_zero] at q; rw [q, nv_of (by omega)]
            by_cases hbt : s.testBit j = true
            · rw [if_pos hbt] at hh
              by_cases hc9 : lb / 2 ≤ B - W
              · simp (discharger := first | assumption | omega | decide) only [x_tg, w_tg, m_tg, ↓reduceIte, Option.bind_some, ↓x_0b, ↓x_1b, ↓x_2b, ↓x_3b, ↓x_4b, ↓x_5b, ↓x_6b, ↓x_7b, ↓x_8b, ↓x_9b, ↓x_10b, ↓x_11b, ↓x_12b, ↓x_13b, ↓x_14b, ↓x_15b, ↓x_16b, ↓x_17b, ↓x_18b, ↓x_19b, ↓xp_2b, ↓xp_6b, ↓xp_14b, ↓xp_17b, ↓xp_18b, ↓xp_19b, ↓X_f0b, ↓X_f2b, ↓X_f4b, ↓X_f8b, ↓wf_1b, ↓wf_3b, ↓wf_5b, ↓wf_6b, ↓wf_7b, ↓wf_9b, ↓wt_1_0b, ↓wt_1_1b, ↓wt_1_2b, ↓wt_1_3b, ↓wt_1_4b, ↓wt_11_0b, ↓wt_11_1b, ↓wt_11_2b, ↓wt_11_3b, ↓wt_11_4b, ↓wt_21_0b, ↓wt_21_1b, ↓wt_31_0b, ↓wt_31_1b, ↓wt_31_2b, ↓wt_31_3b, ↓wt_31_4b, ↓wt_31_5b, ↓wt_31_6b, ↓wt_41_0b, ↓wt_41_1b, ↓wt_41_2b, ↓wt_41_3b, ↓wt_41_4b, ↓wt_41_5b, ↓wt_41_6b, ↓wt_1b, ↓wt_11b, ↓wt_21b, ↓wt_31b, ↓wt_41b, ↓X_c0b, ↓X_c1b, ↓X_c2b, ↓X_c3b, ↓X_c4b, ↓X_e0b, ↓X_e1b, ↓X_e2b, ↓X_e3b, ↓X_e4b, ↓X_cb, ↓X_eb, ↓X_w0b, ↓X_w1b, ↓X_hb, ↓X_yb, ↓X_rb, ↓wp_0b, ↓wp_2b, ↓wp_4b, ↓wp_8b, ↓ws_2b, ↓ws_3b, ↓ws_4b, ↓ws_5b, ↓ws_6b, ↓ws_12b, ↓ws_13b, ↓ws_14b, ↓ws_15b, ↓ws_16b, ↓ws_22b, ↓ws_23b, ↓ws_51b, ↓wS_yb, ↓wS_rb, ↓wS_cb, ↓wS_eb, F_X0_heavy_J102, F_X0_heavy_J101, F_X0_heavy_B53, F_X0_heavy_L53, F_X0_heavy_J16, F_X0_heavy, hN, ofN_le, hd, hh, one_ne, ↓bn9 ge, ed, hc9, ofNs]
                simp [bS, hvP, hbt, nl, show ¬ B < W + lb / 2 by omega]
              · simp (discharger := first | assumption | omega | decide) only [x_tg, w_tg, m_tg, ↓reduceIte, Option.bind_some, ↓x_0b, ↓x_1b, ↓x_2b, ↓x_3b, ↓x_4b, ↓x_5b, ↓x_6b, ↓x_7b, ↓x_8b, ↓x_9b, ↓x_10b, ↓x_11b, ↓x_12b, ↓x_13b, ↓x_14b, ↓x_15b, ↓x_16b, ↓x_17b, ↓x_18b, ↓x_19b, ↓xp_2b, ↓xp_6b, ↓xp_14b, ↓xp_17b, ↓xp_18b, ↓xp_19b, ↓X_f0b, ↓X_f2b, ↓X_f4b, ↓X_f8b, ↓wf_1b, ↓wf_3b, ↓wf_5b, ↓wf_6b, ↓wf_7b, ↓wf_9b, ↓wt_1_0b, ↓wt_1_1b, ↓wt_1_2b, ↓wt_1_3b, ↓wt_1_4b, ↓wt_11_0b, ↓wt_11_1b, ↓wt_11_2b, ↓wt_11_3b, ↓wt_11_4b, ↓wt_21_0b, ↓wt_21_1b, ↓wt_31_0b, ↓wt_31_1b, ↓wt_31_2b, ↓wt_31_3b, ↓wt_31_4b, ↓wt_31_5b, ↓wt_31_6b, ↓wt_41_0b, ↓wt_41_1b, ↓wt_41_2b, ↓wt_41_3b, ↓wt_41_4b, ↓wt_41_5b, ↓wt_41_6b, ↓wt_1b, ↓wt_11b, ↓wt_21b, ↓wt_31b, ↓wt_41b, ↓X_c0b, ↓X_c1b, ↓X_c2b, ↓X_c3b, ↓X_c4b, ↓X_e0b, ↓X_e1b, ↓X_e2b, ↓X_e3b, ↓X_e4b, ↓X_cb, ↓X_eb, ↓X_w0b, ↓X_w1b, ↓X_hb, ↓X_yb, ↓X_rb, ↓wp_0b, ↓wp_2b, ↓wp_4b, ↓wp_8b, ↓ws_2b, ↓ws_3b, ↓ws_4b, ↓ws_5b, ↓ws_6b, ↓ws_12b, ↓ws_13b, ↓ws_14b, ↓ws_15b, ↓ws_16b, ↓ws_22b, ↓ws_23b, ↓ws_51b, ↓wS_yb, ↓wS_rb, ↓wS_cb, ↓wS_eb, F_X0_heavy_J102, F_X0_heavy_J101, F_X0_heavy_B53, F_X0_heavy_L53, F_X0_heavy_J16, F_X0_heavy, hN, ofN_le, hd, hh, one_ne, ↓bn9 ge, ed, hc9, hsh, ofNs]
                simp [bS, hvP, hbt, nl, show B < W + lb / 2 by omega, ← ofN_or]
            · rw [if_neg hbt] at hh
              simp (discharger := first | assumption | omega | decide) only [x_tg, w_tg, m_tg, ↓reduceIte, Option.bind_some, ↓x_0b, ↓x_1b, ↓x_2b, ↓x_3b, ↓x_4b, ↓x_5b, ↓x_6b, ↓x_7b, ↓x_8b, ↓x_9b, ↓x_10b, ↓x_11b, ↓x_12b, ↓x_13b, ↓x_14b, ↓x_15b, ↓x_16b, ↓x_17b, ↓x_18b, ↓x_19b, ↓xp_2b, ↓xp_6b, ↓xp_14b, ↓xp_17b, ↓xp_18b, ↓xp_19b, ↓X_f0b, ↓X_f2b, ↓X_f4b, ↓X_f8b, ↓wf_1b, ↓wf_3b, ↓wf_5b, ↓wf_6b, ↓wf_7b, ↓wf_9b, ↓wt_1_0b, ↓wt_1_1b, ↓wt_1_2b, ↓wt_1_3b, ↓wt_1_4b, ↓wt_11_0b, ↓wt_11_1b, ↓wt_11_2b, ↓wt_11_3b, ↓wt_11_4b, ↓wt_21_0b, ↓wt_21_1b, ↓wt_31_0b, ↓wt_31_1b, ↓wt_31_2b, ↓wt_31_3b, ↓wt_31_4b, ↓wt_31_5b, ↓wt_31_6b, ↓wt_41_0b, ↓wt_41_1b, ↓wt_41_2b, ↓wt_41_3b, ↓wt_41_4b, ↓wt_41_5b, ↓wt_41_6b, ↓wt_1b, ↓wt_11b, ↓wt_21b, ↓wt_31b, ↓wt_41b, ↓X_c0b, ↓X_c1b, ↓X_c2b, ↓X_c3b, ↓X_c4b, ↓X_e0b, ↓X_e1b, ↓X_e2b, ↓X_e3b, ↓X_e4b, ↓X_cb, ↓X_eb, ↓X_w0b, ↓X_w1b, ↓X_hb, ↓X_yb, ↓X_rb, ↓wp_0b, ↓wp_2b, ↓wp_4b, ↓wp_8b, ↓ws_2b, ↓ws_3b, ↓ws_4b, ↓ws_5b, ↓ws_6b, ↓ws_12b, ↓ws_13b, ↓ws_14b, ↓ws_15b, ↓ws_16b, ↓ws_22b, ↓ws_23b, ↓ws_51b, ↓wS_yb, ↓wS_rb, ↓wS_cb, ↓wS_eb, F_X0_heavy_J102, F_X0_heavy_J101, F_X0_heavy_B53, F_X0_heavy_L53, F_X0_heavy_J16, F_X0_heavy, hN, ofN_le, hd, hh, ofNs]
              simp [bS, hvP, hbt]
        rw [← esub] at x0
        refine STEP_ret hR (r := Int32.ofNat (bset (hvP S.1 s B W) (NE S.1))) ⟨σ, ?_, ag_refl _, xf_refl _⟩ (fun σ1 hM => ⟨σ1, ?_, ag_refl _, mf_refl _⟩)
        · simp (discharger := first | assumption | omega | decide) only [x_tg, w_tg, m_tg, ↓reduceIte, Option.bind_some, ↓x_0b, ↓x_1b, ↓x_2b, ↓x_3b, ↓x_4b, ↓x_5b, ↓x_6b, ↓x_7b, ↓x_8b, ↓x_9b, ↓x_10b, ↓x_11b, ↓x_12b, ↓x_13b, ↓x_14b, ↓x_15b, ↓x_16b, ↓x_17b, ↓x_18b, ↓x_19b, ↓xp_2b, ↓xp_6b, ↓xp_14b, ↓xp_17b, ↓xp_18b, ↓xp_19b, ↓X_f0b, ↓X_f2b, ↓X_f4b, ↓X_f8b, ↓wf_1b, ↓wf_3b, ↓wf_5b, ↓wf_6b, ↓wf_7b, ↓wf_9b, ↓wt_1_0b, ↓wt_1_1b, ↓wt_1_2b, ↓wt_1_3b, ↓wt_1_4b, ↓wt_11_0b, ↓wt_11_1b, ↓wt_11_2b, ↓wt_11_3b, ↓wt_11_4b, ↓wt_21_0b, ↓wt_21_1b, ↓wt_31_0b, ↓wt_31_1b, ↓wt_31_2b, ↓wt_31_3b, ↓wt_31_4b, ↓wt_31_5b, ↓wt_31_6b, ↓wt_41_0b, ↓wt_41_1b, ↓wt_41_2b, ↓wt_41_3b, ↓wt_41_4b, ↓wt_41_5b, ↓wt_41_6b, ↓wt_1b, ↓wt_11b, ↓wt_21b, ↓wt_31b, ↓wt_41b, ↓X_c0b, ↓X_c1b, ↓X_c2b, ↓X_c3b, ↓X_c4b, ↓X_e0b, ↓X_e1b, ↓X_e2b, ↓X_e3b, ↓X_e4b, ↓X_cb, ↓X_eb, ↓X_w0b, ↓X_w1b, ↓X_hb, ↓X_yb, ↓X_rb, ↓wp_0b, ↓wp_2b, ↓wp_4b, ↓wp_8b, ↓ws_2b, ↓ws_3b, ↓ws_4b, ↓ws_5b, ↓ws_6b, ↓ws_12b, ↓ws_13b, ↓ws_14b, ↓ws_15b, ↓ws_16b, ↓ws_22b, ↓ws_23b, ↓ws_51b, ↓wS_yb, ↓wS_rb, ↓wS_cb, ↓wS_eb, ↓x_isCarrierb, ↓x_isErrandb, ↓x_isWareb, ↓x_isSetb, ↓x_isFewb, F_X0_isKind, F_X0_isPlace, F_X0_isPrice, F_X0_isSheet, F_X0_isSpot, F_X13_isKind, F_X13_isPlace, F_X13_isSheet, F_X13_isSpot, within_eq, one_and, zero_and, one_ne, not_true_eq_false, not_false_eq_true, F_X0_heavy, F_X0_heavy_J16, e1, e2, ↓bn9 g3, ↓bn9 g2, eq_true n1, x0]
        · have hM2 := hM.2.1
          have mb := m_bears h hM2 hc6 k4 k1 k3 (by omega)
          have mw := m_weighs h hM2 hI.2.1.1 h8 (ERR_lb hI) hs8
          have m8 := m_isSet8 h hM2 hI (Int32.ofNat s)
          rw [hB] at mb
          rw [hWt] at mw
          rw [e2] at m8
          have mm := m0 σ1 hM
          simp (discharger := first | assumption | omega | decide) only [x_tg, w_tg, m_tg, ↓reduceIte, Option.bind_some, ↓m_0b, ↓m_1b, ↓m_2b, ↓m_3b, ↓m_4b, ↓m_5b, ↓m_6b, ↓m_7b, ↓m_8b, ↓m_9b, ↓m_10b, ↓m_11b, ↓m_12b, ↓m_13b, ↓m_14b, ↓m_15b, ↓m_16b, ↓m_17b, ↓m_18b, ↓m_19b, ↓m_20b, ↓m_21b, ↓m_22b, ↓m_23b, ↓m_24b, ↓m_25b, ↓m_26b, ↓m_27b, ↓m_28b, ↓m_29b, ↓mp_3b, ↓mp_6b, ↓mp_10b, ↓mp_11b, ↓mp_12b, ↓mp_14b, ↓mp_15b, ↓mp_16b, ↓mp_17b, ↓mp_18b, ↓mp_19b, ↓mp_22b, ↓mp_23b, ↓mp_24b, ↓mp_25b, ↓M_42b, ↓M_43b, ↓M_44b, ↓M_45b, ↓cIs_0b, ↓cIs_1b, ↓cIs_2b, ↓cIs_3b, ↓cIs_4b, ↓eIs_0b, ↓eIs_1b, ↓eIs_2b, ↓eIs_3b, ↓eIs_4b, ↓cIs_nb, ↓eIs_nb, ↓M_rb, ↓M_cAt_0b, ↓M_cAt_1b, ↓M_cAt_2b, ↓M_cAt_3b, ↓M_cAt_4b, ↓M_eAt_0b, ↓M_eAt_1b, ↓M_eAt_2b, ↓M_eAt_3b, ↓M_eAt_4b, ↓M_wAt_0b, ↓M_wAt_1b, cAt_0, cAt_1, cAt_2, cAt_3, cAt_4, eAt_0, eAt_1, eAt_2, eAt_3, eAt_4, wAt_0, wAt_1, cAt_n, eAt_n, wAt_n, ↓m_isCarrierb, ↓m_isErrandb, ↓m_isWareb, ↓m_isFewb, F_X0_isKind, F_X0_isPlace, F_X0_isPrice, F_X0_isSheet, F_X0_isSpot, F_X13_isKind, F_X13_isPlace, F_X13_isSheet, F_X13_isSpot, within_eq, one_and, zero_and, one_ne, not_true_eq_false, not_false_eq_true, F_X13_heavy, F_X13_heavy_J18, e1, ↓bn9 m8, ↓bn9 mb, ↓bn9 mw, ofN_le, hle, mm]
      · have n1 : ¬ (0 : Int32) ≤ Int32.ofNat B - Int32.ofNat W := fun q => hle (hsn.mp q)
        refine STEP_fnd hR (k := 4) (xv := 4) (mv := -1000005) (by omega) rfl (by decide) ⟨σ, ?_, ag_refl _, xf_refl _⟩ (fun σ1 hM => ⟨σ1, ?_, ag_refl _, mf_refl _⟩)
        · simp (discharger := first | assumption | omega | decide) only [x_tg, w_tg, m_tg, ↓reduceIte, Option.bind_some, ↓x_0b, ↓x_1b, ↓x_2b, ↓x_3b, ↓x_4b, ↓x_5b, ↓x_6b, ↓x_7b, ↓x_8b, ↓x_9b, ↓x_10b, ↓x_11b, ↓x_12b, ↓x_13b, ↓x_14b, ↓x_15b, ↓x_16b, ↓x_17b, ↓x_18b, ↓x_19b, ↓xp_2b, ↓xp_6b, ↓xp_14b, ↓xp_17b, ↓xp_18b, ↓xp_19b, ↓X_f0b, ↓X_f2b, ↓X_f4b, ↓X_f8b, ↓wf_1b, ↓wf_3b, ↓wf_5b, ↓wf_6b, ↓wf_7b, ↓wf_9b, ↓wt_1_0b, ↓wt_1_1b, ↓wt_1_2b, ↓wt_1_3b, ↓wt_1_4b, ↓wt_11_0b, ↓wt_11_1b, ↓wt_11_2b, ↓wt_11_3b, ↓wt_11_4b, ↓wt_21_0b, ↓wt_21_1b, ↓wt_31_0b, ↓wt_31_1b, ↓wt_31_2b, ↓wt_31_3b, ↓wt_31_4b, ↓wt_31_5b, ↓wt_31_6b, ↓wt_41_0b, ↓wt_41_1b, ↓wt_41_2b, ↓wt_41_3b, ↓wt_41_4b, ↓wt_41_5b, ↓wt_41_6b, ↓wt_1b, ↓wt_11b, ↓wt_21b, ↓wt_31b, ↓wt_41b, ↓X_c0b, ↓X_c1b, ↓X_c2b, ↓X_c3b, ↓X_c4b, ↓X_e0b, ↓X_e1b, ↓X_e2b, ↓X_e3b, ↓X_e4b, ↓X_cb, ↓X_eb, ↓X_w0b, ↓X_w1b, ↓X_hb, ↓X_yb, ↓X_rb, ↓wp_0b, ↓wp_2b, ↓wp_4b, ↓wp_8b, ↓ws_2b, ↓ws_3b, ↓ws_4b, ↓ws_5b, ↓ws_6b, ↓ws_12b, ↓ws_13b, ↓ws_14b, ↓ws_15b, ↓ws_16b, ↓ws_22b, ↓ws_23b, ↓ws_51b, ↓wS_yb, ↓wS_rb, ↓wS_cb, ↓wS_eb, ↓x_isCarrierb, ↓x_isErrandb, ↓x_isWareb, ↓x_isSetb, ↓x_isFewb, F_X0_isKind, F_X0_isPlace, F_X0_isPrice, F_X0_isSheet, F_X0_isSpot, F_X13_isKind, F_X13_isPlace, F_X13_isSheet, F_X13_isSpot, within_eq, one_and, zero_and, one_ne, not_true_eq_false, not_false_eq_true, F_X0_heavy, F_X0_heavy_J16, e1, e2, ↓bn9 g3, ↓bn9 g2, n1]
        · have hM2 := hM.2.1
          have mb := m_bears h hM2 hc6 k4 k1 k3 (by omega)
          have mw := m_weighs h hM2 hI.2.1.1 h8 (ERR_lb hI) hs8
          have m8 := m_isSet8 h hM2 hI (Int32.ofNat s)
          rw [hB] at mb
          rw [hWt] at mw
          rw [e2] at m8
          simp (discharger := first | assumption | omega | decide) only [x_tg, w_tg, m_tg, ↓reduceIte, Option.bind_some, ↓m_0b, ↓m_1b, ↓m_2b, ↓m_3b, ↓m_4b, ↓m_5b, ↓m_6b, ↓m_7b, ↓m_8b, ↓m_9b, ↓m_10b, ↓m_11b, ↓m_12b, ↓m_13b, ↓m_14b, ↓m_15b, ↓m_16b, ↓m_17b, ↓m_18b, ↓m_19b, ↓m_20b, ↓m_21b, ↓m_22b, ↓m_23b, ↓m_24b, ↓m_25b, ↓m_26b, ↓m_27b, ↓m_28b, ↓m_29b, ↓mp_3b, ↓mp_6b, ↓mp_10b, ↓mp_11b, ↓mp_12b, ↓mp_14b, ↓mp_15b, ↓mp_16b, ↓mp_17b, ↓mp_18b, ↓mp_19b, ↓mp_22b, ↓mp_23b, ↓mp_24b, ↓mp_25b, ↓M_42b, ↓M_43b, ↓M_44b, ↓M_45b, ↓cIs_0b, ↓cIs_1b, ↓cIs_2b, ↓cIs_3b, ↓cIs_4b, ↓eIs_0b, ↓eIs_1b, ↓eIs_2b, ↓eIs_3b, ↓eIs_4b, ↓cIs_nb, ↓eIs_nb, ↓M_rb, ↓M_cAt_0b, ↓M_cAt_1b, ↓M_cAt_2b, ↓M_cAt_3b, ↓M_cAt_4b, ↓M_eAt_0b, ↓M_eAt_1b, ↓M_eAt_2b, ↓M_eAt_3b, ↓M_eAt_4b, ↓M_wAt_0b, ↓M_wAt_1b, cAt_0, cAt_1, cAt_2, cAt_3, cAt_4, eAt_0, eAt_1, eAt_2, eAt_3, eAt_4, wAt_0, wAt_1, cAt_n, eAt_n, wAt_n, ↓m_isCarrierb, ↓m_isErrandb, ↓m_isWareb, ↓m_isFewb, F_X0_isKind, F_X0_isPlace, F_X0_isPrice, F_X0_isSheet, F_X0_isSpot, F_X13_isKind, F_X13_isPlace, F_X13_isSheet, F_X13_isSpot, within_eq, one_and, zero_and, one_ne, not_true_eq_false, not_false_eq_true, F_X13_heavy, F_X13_heavy_J18, e1, ↓bn9 m8, ↓bn9 mb, ↓bn9 mw, ofN_le, hle]
    · refine STEP_fnd hR (k := 0) (xv := 0) (mv := -1000001) (by omega) rfl (by decide) ⟨σ, ?_, ag_refl _, xf_refl _⟩ (fun σ1 hM => ⟨σ1, ?_, ag_refl _, mf_refl _⟩)
      · simp (discharger := first | assumption | omega | decide) only [x_tg, w_tg, m_tg, ↓reduceIte, Option.bind_some, ↓x_0b, ↓x_1b, ↓x_2b, ↓x_3b, ↓x_4b, ↓x_5b, ↓x_6b, ↓x_7b, ↓x_8b, ↓x_9b, ↓x_10b, ↓x_11b, ↓x_12b, ↓x_13b, ↓x_14b, ↓x_15b, ↓x_16b, ↓x_17b, ↓x_18b, ↓x_19b, ↓xp_2b, ↓xp_6b, ↓xp_14b, ↓xp_17b, ↓xp_18b, ↓xp_19b, ↓X_f0b, ↓X_f2b, ↓X_f4b, ↓X_f8b, ↓wf_1b, ↓wf_3b, ↓wf_5b, ↓wf_6b, ↓wf_7b, ↓wf_9b, ↓wt_1_0b, ↓wt_1_1b, ↓wt_1_2b, ↓wt_1_3b, ↓wt_1_4b, ↓wt_11_0b, ↓wt_11_1b, ↓wt_11_2b, ↓wt_11_3b, ↓wt_11_4b, ↓wt_21_0b, ↓wt_21_1b, ↓wt_31_0b, ↓wt_31_1b, ↓wt_31_2b, ↓wt_31_3b, ↓wt_31_4b, ↓wt_31_5b, ↓wt_31_6b, ↓wt_41_0b, ↓wt_41_1b, ↓wt_41_2b, ↓wt_41_3b, ↓wt_41_4b, ↓wt_41_5b, ↓wt_41_6b, ↓wt_1b, ↓wt_11b, ↓wt_21b, ↓wt_31b, ↓wt_41b, ↓X_c0b, ↓X_c1b, ↓X_c2b, ↓X_c3b, ↓X_c4b, ↓X_e0b, ↓X_e1b, ↓X_e2b, ↓X_e3b, ↓X_e4b, ↓X_cb, ↓X_eb, ↓X_w0b, ↓X_w1b, ↓X_hb, ↓X_yb, ↓X_rb, ↓wp_0b, ↓wp_2b, ↓wp_4b, ↓wp_8b, ↓ws_2b, ↓ws_3b, ↓ws_4b, ↓ws_5b, ↓ws_6b, ↓ws_12b, ↓ws_13b, ↓ws_14b, ↓ws_15b, ↓ws_16b, ↓ws_22b, ↓ws_23b, ↓ws_51b, ↓wS_yb, ↓wS_rb, ↓wS_cb, ↓wS_eb, ↓x_isCarrierb, ↓x_isErrandb, ↓x_isWareb, ↓x_isSetb, ↓x_isFewb, F_X0_isKind, F_X0_isPlace, F_X0_isPrice, F_X0_isSheet, F_X0_isSpot, F_X13_isKind, F_X13_isPlace, F_X13_isSheet, F_X13_isSpot, within_eq, one_and, zero_and, one_ne, not_true_eq_false, not_false_eq_true, F_X0_heavy, F_X0_heavy_J16, e1, e2]
      · have hM2 := hM.2.1
        have m8 := m_isSet8 h hM2 hI x2
        rw [e2] at m8
        simp (discharger := first | assumption | omega | decide) only [x_tg, w_tg, m_tg, ↓reduceIte, Option.bind_some, ↓m_0b, ↓m_1b, ↓m_2b, ↓m_3b, ↓m_4b, ↓m_5b, ↓m_6b, ↓m_7b, ↓m_8b, ↓m_9b, ↓m_10b, ↓m_11b, ↓m_12b, ↓m_13b, ↓m_14b, ↓m_15b, ↓m_16b, ↓m_17b, ↓m_18b, ↓m_19b, ↓m_20b, ↓m_21b, ↓m_22b, ↓m_23b, ↓m_24b, ↓m_25b, ↓m_26b, ↓m_27b, ↓m_28b, ↓m_29b, ↓mp_3b, ↓mp_6b, ↓mp_10b, ↓mp_11b, ↓mp_12b, ↓mp_14b, ↓mp_15b, ↓mp_16b, ↓mp_17b, ↓mp_18b, ↓mp_19b, ↓mp_22b, ↓mp_23b, ↓mp_24b, ↓mp_25b, ↓M_42b, ↓M_43b, ↓M_44b, ↓M_45b, ↓cIs_0b, ↓cIs_1b, ↓cIs_2b, ↓cIs_3b, ↓cIs_4b, ↓eIs_0b, ↓eIs_1b, ↓eIs_2b, ↓eIs_3b, ↓eIs_4b, ↓cIs_nb, ↓eIs_nb, ↓M_rb, ↓M_cAt_0b, ↓M_cAt_1b, ↓M_cAt_2b, ↓M_cAt_3b, ↓M_cAt_4b, ↓M_eAt_0b, ↓M_eAt_1b, ↓M_eAt_2b, ↓M_eAt_3b, ↓M_eAt_4b, ↓M_wAt_0b, ↓M_wAt_1b, cAt_0, cAt_1, cAt_2, cAt_3, cAt_4, eAt_0, eAt_1, eAt_2, eAt_3, eAt_4, wAt_0, wAt_1, cAt_n, eAt_n, wAt_n, ↓m_isCarrierb, ↓m_isErrandb, ↓m_isWareb, ↓m_isFewb, F_X0_isKind, F_X0_isPlace, F_X0_isPrice, F_X0_isSheet, F_X0_isSpot, F_X13_isKind, F_X13_isPlace, F_X13_isSheet, F_X13_isSpot, within_eq, one_and, zero_and, one_ne, not_true_eq_false, not_false_eq_true, F_X13_heavy, F_X13_heavy_J18, e1, ↓bn9 m8]
  · exact STEP_fnd hR (k := 0) (xv := 0) (mv := -1000001) (by omega) rfl (by decide) ⟨σ, by simp (discharger := first | assumption | omega | decide) only [x_tg, w_tg, m_tg, ↓reduceIte, Option.bind_some, ↓x_0b, ↓x_1b, ↓x_2b, ↓x_3b, ↓x_4b, ↓x_5b, ↓x_6b, ↓x_7b, ↓x_8b, ↓x_9b, ↓x_10b, ↓x_11b, ↓x_12b, ↓x_13b, ↓x_14b, ↓x_15b, ↓x_16b, ↓x_17b, ↓x_18b, ↓x_19b, ↓xp_2b, ↓xp_6b, ↓xp_14b, ↓xp_17b, ↓xp_18b, ↓xp_19b, ↓X_f0b, ↓X_f2b, ↓X_f4b, ↓X_f8b, ↓wf_1b, ↓wf_3b, ↓wf_5b, ↓wf_6b, ↓wf_7b, ↓wf_9b, ↓wt_1_0b, ↓wt_1_1b, ↓wt_1_2b, ↓wt_1_3b, ↓wt_1_4b, ↓wt_11_0b, ↓wt_11_1b, ↓wt_11_2b, ↓wt_11_3b, ↓wt_11_4b, ↓wt_21_0b, ↓wt_21_1b, ↓wt_31_0b, ↓wt_31_1b, ↓wt_31_2b, ↓wt_31_3b, ↓wt_31_4b, ↓wt_31_5b, ↓wt_31_6b, ↓wt_41_0b, ↓wt_41_1b, ↓wt_41_2b, ↓wt_41_3b, ↓wt_41_4b, ↓wt_41_5b, ↓wt_41_6b, ↓wt_1b, ↓wt_11b, ↓wt_21b, ↓wt_31b, ↓wt_41b, ↓X_c0b, ↓X_c1b, ↓X_c2b, ↓X_c3b, ↓X_c4b, ↓X_e0b, ↓X_e1b, ↓X_e2b, ↓X_e3b, ↓X_e4b, ↓X_cb, ↓X_eb, ↓X_w0b, ↓X_w1b, ↓X_hb, ↓X_yb, ↓X_rb, ↓wp_0b, ↓wp_2b, ↓wp_4b, ↓wp_8b, ↓ws_2b, ↓ws_3b, ↓ws_4b, ↓ws_5b, ↓ws_6b, ↓ws_12b, ↓ws_13b, ↓ws_14b, ↓ws_15b, ↓ws_16b, ↓ws_22b, ↓ws_23b, ↓ws_51b, ↓wS_yb, ↓wS_rb, ↓wS_cb, ↓wS_eb, ↓x_isCarrierb, ↓x_isErrandb, ↓x_isWareb, ↓x_isSetb, ↓x_isFewb, F_X0_isKind, F_X0_isPlace, F_X0_isPrice, F_X0_isSheet, F_X0_isSpot, F_X13_isKind, F_X13_isPlace, F_X13_isSheet, F_X13_isSpot, within_eq, one_and, zero_and, one_ne, not_true_eq_false, not_false_eq_true, F_X0_heavy, F_X0_heavy_J16, e1], ag_refl _, xf_refl _⟩ (fun σ1 hM => by have hM2 := hM.2.1; exact ⟨σ1, by simp (discharger := first | assumption | omega | decide) only [x_tg, w_tg, m_tg, ↓reduceIte, Option.bind_some, ↓m_0b, ↓m_1b, ↓m_2b, ↓m_3b, ↓m_4b, ↓m_5b, ↓m_6b, ↓m_7b, ↓m_8b, ↓m_9b, ↓m_10b, ↓m_11b, ↓m_12b, ↓m_13b, ↓m_14b, ↓m_15b, ↓m_16b, ↓m_17b, ↓m_18b, ↓m_19b, ↓m_20b, ↓m_21b, ↓m_22b, ↓m_23b, ↓m_24b, ↓m_25b, ↓m_26b, ↓m_27b, ↓m_28b, ↓m_29b, ↓mp_3b, ↓mp_6b, ↓mp_10b, ↓mp_11b, ↓mp_12b, ↓mp_14b, ↓mp_15b, ↓mp_16b, ↓mp_17b, ↓mp_18b, ↓mp_19b, ↓mp_22b, ↓mp_23b, ↓mp_24b, ↓mp_25b, ↓M_42b, ↓M_43b, ↓M_44b, ↓M_45b, ↓cIs_0b, ↓cIs_1b, ↓cIs_2b, ↓cIs_3b, ↓cIs_4b, ↓eIs_0b, ↓eIs_1b, ↓eIs_2b, ↓eIs_3b, ↓eIs_4b, ↓cIs_nb, ↓eIs_nb, ↓M_rb, ↓M_cAt_0b, ↓M_cAt_1b, ↓M_cAt_2b, ↓M_cAt_3b, ↓M_cAt_4b, ↓M_eAt_0b, ↓M_eAt_1b, ↓M_eAt_2b, ↓M_eAt_3b, ↓M_eAt_4b, ↓M_wAt_0b, ↓M_wAt_1b, cAt_0, cAt_1, cAt_2, cAt_3, cAt_4, eAt_0, eAt_1, eAt_2, eAt_3, eAt_4, wAt_0, wAt_1, cAt_n, eAt_n, wAt_n, ↓m_isCarrierb, ↓m_isErrandb, ↓m_isWareb, ↓m_isFewb, F_X0_isKind, F_X0_isPlace, F_X0_isPrice, F_X0_isSheet, F_X0_isSpot, F_X13_isKind, F_X13_isPlace, F_X13_isSheet, F_X13_isSpot, within_eq, one_and, zero_and, one_ne, not_true_eq_false, not_false_eq_true, F_X13_heavy, F_X13_heavy_J18, e1], ag_refl _, mf_refl _⟩)
/-! all that can be taken is taken -/
def tkC (ρ : Rw) (c e : Nat) : Prop := (ρ (86 + 5 * e + 3) = 0 ∧ ρ (86 + 5 * e + 1) = ρ (56 + 5 * c + 1)) ∧ ctV ρ c e = 1
def tkSr (c e : Nat) (ρ : Rw) : Rw := @ite _ (tkC ρ c e) (by unfold tkC; infer_instance) (putsR ρ e 1 (Int32.ofNat c)) ρ
def tkA (ρ : Rw) (c n : Nat) : Rw := itF (tkSr c) 0 n ρ
set_option maxRecDepth 8000 in
theorem tkA_inv (hI : Inv ρ) {c : Nat} (hc : c < NC ρ) : ∀ n, n ≤ NE ρ → Inv (tkA ρ c n) ∧ (∀ i, i < 86 ∨ 126 ≤ i → tkA ρ c n i = ρ i) ∧ nDone (tkA ρ c n) = nDone ρ := by
  intro n
  induction n with
  | zero => intro _; exact ⟨hI, fun _ _ => rfl, rfl⟩
  | succ n ih =>
    intro hn
    obtain ⟨i1, i2, i3⟩ := ih (by omega)
    have h8 := hI.2.1.2
    have nE : NE (tkA ρ c n) = NE ρ := by unfold NE; rw [i2 43 (by omega)]
    have nC : NC (tkA ρ c n) = NC ρ := by unfold NC; rw [i2 42 (by omega)]
    have hs : tkA ρ c (n + 1) = tkSr c n (tkA ρ c n) := itF_snoc0 _ _ _
    rw [hs]
    unfold tkSr
    split
    · rename_i hx
      refine ⟨Inv_take i1 (by omega) (by omega) hx.1.1, fun i hi => ?_, ?_⟩
      · unfold putsR; rw [up1_ne (by omega), up1_ne (by omega)]; exact i2 i hi
      · rw [nDone_same (by rw [hx.1.1]; decide) (by decide)]; exact i3
    · exact ⟨i1, i2, i3⟩
set_option maxRecDepth 8000 in
theorem x_takesAll (h : Lok L) (hW : WX σ 200 ρ) (hI : Inv ρ) (hC : CN σ) {c : Nat} (hc : c < NC ρ) : ∃ σ', F_X0_takesAll (some (L.1 0)) (Int32.ofNat c) (hp L σ) = some (hp L σ') ∧ WX σ' 200 (tkA ρ c (NE ρ)) ∧ wf 200 σ σ' := by
  have hb : isW 200 = true := rfl
  have h6 := hI.1.2
  have h8 := hI.2.1.2
  unfold F_X0_takesAll
  rw [if_pos (x_tg h)]
  have key := lpQ (Lp := fun f j (g : St) => F_X0_takesAll_L2 f (some (L.1 0)) (Int32.ofNat c) (Int32.ofNat j) (hp L g)) (N := NE ρ) (fun j g => WX g 200 (tkA ρ c j) ∧ wf 200 σ g) (fun r => ∃ σ', r = hp L σ' ∧ WX σ' 200 (tkA ρ c (NE ρ)) ∧ wf 200 σ σ') ?_ ?_ (by unfold fu; omega) σ ⟨hW, wf_refl _ _⟩
  · obtain ⟨r, e, σ', rfl, q⟩ := key
    exact ⟨σ', e, q⟩
  · intro f g ⟨q1, q2⟩
    obtain ⟨i1, i2, i3⟩ := tkA_inv hI hc (NE ρ) (Nat.le_refl _)
    have hN : tkA ρ c (NE ρ) 43 = Int32.ofNat (NE ρ) := by rw [i2 43 (by omega)]; exact hI.2.1.1
    refine ⟨_, ?_, g, rfl, q1, q2⟩
    simp (discharger := first | assumption | omega | decide) only [x_tg, w_tg, m_tg, ↓reduceIte, Option.bind_some, ↓x_0b, ↓x_1b, ↓x_2b, ↓x_3b, ↓x_4b, ↓x_5b, ↓x_6b, ↓x_7b, ↓x_8b, ↓x_9b, ↓x_10b, ↓x_11b, ↓x_12b, ↓x_13b, ↓x_14b, ↓x_15b, ↓x_16b, ↓x_17b, ↓x_18b, ↓x_19b, ↓xp_2b, ↓xp_6b, ↓xp_14b, ↓xp_17b, ↓xp_18b, ↓xp_19b, ↓X_f0b, ↓X_f2b, ↓X_f4b, ↓X_f8b, ↓wf_1b, ↓wf_3b, ↓wf_5b, ↓wf_6b, ↓wf_7b, ↓wf_9b, ↓wt_1_0b, ↓wt_1_1b, ↓wt_1_2b, ↓wt_1_3b, ↓wt_1_4b, ↓wt_11_0b, ↓wt_11_1b, ↓wt_11_2b, ↓wt_11_3b, ↓wt_11_4b, ↓wt_21_0b, ↓wt_21_1b, ↓wt_31_0b, ↓wt_31_1b, ↓wt_31_2b, ↓wt_31_3b, ↓wt_31_4b, ↓wt_31_5b, ↓wt_31_6b, ↓wt_41_0b, ↓wt_41_1b, ↓wt_41_2b, ↓wt_41_3b, ↓wt_41_4b, ↓wt_41_5b, ↓wt_41_6b, ↓wt_1b, ↓wt_11b, ↓wt_21b, ↓wt_31b, ↓wt_41b, ↓X_c0b, ↓X_c1b, ↓X_c2b, ↓X_c3b, ↓X_c4b, ↓X_e0b, ↓X_e1b, ↓X_e2b, ↓X_e3b, ↓X_e4b, ↓X_cb, ↓X_eb, ↓X_w0b, ↓X_w1b, ↓X_hb, ↓X_yb, ↓X_rb, ↓wp_0b, ↓wp_2b, ↓wp_4b, ↓wp_8b, ↓ws_2b, ↓ws_3b, ↓ws_4b, ↓ws_5b, ↓ws_6b, ↓ws_12b, ↓ws_13b, ↓ws_14b, ↓ws_15b, ↓ws_16b, ↓ws_22b, ↓ws_23b, ↓ws_51b, ↓wS_yb, ↓wS_rb, ↓wS_cb, ↓wS_eb, F_X0_takesAll_L2, F_X0_takesAll_B2, hN, ofN_le, Nat.le_refl]
  · intro f j g hj ⟨q1, q2⟩
    obtain ⟨i1, i2, i3⟩ := tkA_inv hI hc j (by omega)
    have nE : NE (tkA ρ c j) = NE ρ := by unfold NE; rw [i2 43 (by omega)]
    have nC : NC (tkA ρ c j) = NC ρ := by unfold NC; rw [i2 42 (by omega)]
    have hN : tkA ρ c j 43 = Int32.ofNat (NE ρ) := by rw [i2 43 (by omega)]; exact hI.2.1.1
    have hs : tkA ρ c (j + 1) = tkSr c j (tkA ρ c j) := itF_snoc0 _ _ _
    rw [hs]
    generalize tkA ρ c j = ρj at *
    have hd : ¬ NE ρ ≤ j := by omega
    have gl := x_liesAt h hb q1 (show j < 8 by omega) (ρj (56 + 5 * c + 1))
    have gc := x_canTake h q1 i1 (CN_ax (ax_wf q2) hC) (show c < NC ρj by omega) (show j < NE ρj by omega)
    unfold tkSr
    by_cases hl : ρj (86 + 5 * j + 3) = 0 ∧ ρj (86 + 5 * j + 1) = ρj (56 + 5 * c + 1)
    · rw [if_pos hl] at gl
      rcases ctV_01 ρj c j with e3 | e3
      · rw [e3] at gc
        rw [if_neg (fun q => by have := q.2; rw [e3] at this; exact absurd this (by decide))]
        refine ⟨g, ?_, q1, q2⟩
        simp (discharger := first | assumption | omega | decide) only [x_tg, w_tg, m_tg, ↓reduceIte, Option.bind_some, ↓x_0b, ↓x_1b, ↓x_2b, ↓x_3b, ↓x_4b, ↓x_5b, ↓x_6b, ↓x_7b, ↓x_8b, ↓x_9b, ↓x_10b, ↓x_11b, ↓x_12b, ↓x_13b, ↓x_14b, ↓x_15b, ↓x_16b, ↓x_17b, ↓x_18b, ↓x_19b, ↓xp_2b, ↓xp_6b, ↓xp_14b, ↓xp_17b, ↓xp_18b, ↓xp_19b, ↓X_f0b, ↓X_f2b, ↓X_f4b, ↓X_f8b, ↓wf_1b, ↓wf_3b, ↓wf_5b, ↓wf_6b, ↓wf_7b, ↓wf_9b, ↓wt_1_0b, ↓wt_1_1b, ↓wt_1_2b, ↓wt_1_3b, ↓wt_1_4b, ↓wt_11_0b, ↓wt_11_1b, ↓wt_11_2b, ↓wt_11_3b, ↓wt_11_4b, ↓wt_21_0b, ↓wt_21_1b, ↓wt_31_0b, ↓wt_31_1b, ↓wt_31_2b, ↓wt_31_3b, ↓wt_31_4b, ↓wt_31_5b, ↓wt_31_6b, ↓wt_41_0b, ↓wt_41_1b, ↓wt_41_2b, ↓wt_41_3b, ↓wt_41_4b, ↓wt_41_5b, ↓wt_41_6b, ↓wt_1b, ↓wt_11b, ↓wt_21b, ↓wt_31b, ↓wt_41b, ↓X_c0b, ↓X_c1b, ↓X_c2b, ↓X_c3b, ↓X_c4b, ↓X_e0b, ↓X_e1b, ↓X_e2b, ↓X_e3b, ↓X_e4b, ↓X_cb, ↓X_eb, ↓X_w0b, ↓X_w1b, ↓X_hb, ↓X_yb, ↓X_rb, ↓wp_0b, ↓wp_2b, ↓wp_4b, ↓wp_8b, ↓ws_2b, ↓ws_3b, ↓ws_4b, ↓ws_5b, ↓ws_6b, ↓ws_12b, ↓ws_13b, ↓ws_14b, ↓ws_15b, ↓ws_16b, ↓ws_22b, ↓ws_23b, ↓ws_51b, ↓wS_yb, ↓wS_rb, ↓wS_cb, ↓wS_eb, F_X0_takesAll_J54, F_X0_takesAll_B2, F_X0_takesAll_L2, F_X0_takesAll, hN, ofN_le, hd, ↓bn9 gl, one_ne, ↓bn9 gc, ofNs]
      · rw [e3] at gc
        rw [if_pos ⟨hl, e3⟩]
        obtain ⟨σ2, p1, p2, p3⟩ := x_puts h hb q1 (show j < 8 by omega) 1 (Int32.ofNat c)
        refine ⟨σ2, ?_, p2, fun i hi => (p3 i hi).trans (q2 i hi)⟩
        simp (discharger := first | assumption | omega | decide) only [x_tg, w_tg, m_tg, ↓reduceIte, Option.bind_some, ↓x_0b, ↓x_1b, ↓x_2b, ↓x_3b, ↓x_4b, ↓x_5b, ↓x_6b, ↓x_7b, ↓x_8b, ↓x_9b, ↓x_10b, ↓x_11b, ↓x_12b, ↓x_13b, ↓x_14b, ↓x_15b, ↓x_16b, ↓x_17b, ↓x_18b, ↓x_19b, ↓xp_2b, ↓xp_6b, ↓xp_14b, ↓xp_17b, ↓xp_18b, ↓xp_19b, ↓X_f0b, ↓X_f2b, ↓X_f4b, ↓X_f8b, ↓wf_1b, ↓wf_3b, ↓wf_5b, ↓wf_6b, ↓wf_7b, ↓wf_9b, ↓wt_1_0b, ↓wt_1_1b, ↓wt_1_2b, ↓wt_1_3b, ↓wt_1_4b, ↓wt_11_0b, ↓wt_11_1b, ↓wt_11_2b, ↓wt_11_3b, ↓wt_11_4b, ↓wt_21_0b, ↓wt_21_1b, ↓wt_31_0b, ↓wt_31_1b, ↓wt_31_2b, ↓wt_31_3b, ↓wt_31_4b, ↓wt_31_5b, ↓wt_31_6b, ↓wt_41_0b, ↓wt_41_1b, ↓wt_41_2b, ↓wt_41_3b, ↓wt_41_4b, ↓wt_41_5b, ↓wt_41_6b, ↓wt_1b, ↓wt_11b, ↓wt_21b, ↓wt_31b, ↓wt_41b, ↓X_c0b, ↓X_c1b, ↓X_c2b, ↓X_c3b, ↓X_c4b, ↓X_e0b, ↓X_e1b, ↓X_e2b, ↓X_e3b, ↓X_e4b, ↓X_cb, ↓X_eb, ↓X_w0b, ↓X_w1b, ↓X_hb, ↓X_yb, ↓X_rb, ↓wp_0b, ↓wp_2b, ↓wp_4b, ↓wp_8b, ↓ws_2b, ↓ws_3b, ↓ws_4b, ↓ws_5b, ↓ws_6b, ↓ws_12b, ↓ws_13b, ↓ws_14b, ↓ws_15b, ↓ws_16b, ↓ws_22b, ↓ws_23b, ↓ws_51b, ↓wS_yb, ↓wS_rb, ↓wS_cb, ↓wS_eb, F_X0_takesAll_J54, F_X0_takesAll_B2, F_X0_takesAll_L2, F_X0_takesAll, hN, ofN_le, hd, ↓bn9 gl, one_ne, ↓bn9 gc, ↓bn9 p1, ofNs]
    · rw [if_neg hl] at gl
      rw [if_neg (fun q => hl q.1)]
      refine ⟨g, ?_, q1, q2⟩
      simp (discharger := first | assumption | omega | decide) only [x_tg, w_tg, m_tg, ↓reduceIte, Option.bind_some, ↓x_0b, ↓x_1b, ↓x_2b, ↓x_3b, ↓x_4b, ↓x_5b, ↓x_6b, ↓x_7b, ↓x_8b, ↓x_9b, ↓x_10b, ↓x_11b, ↓x_12b, ↓x_13b, ↓x_14b, ↓x_15b, ↓x_16b, ↓x_17b, ↓x_18b, ↓x_19b, ↓xp_2b, ↓xp_6b, ↓xp_14b, ↓xp_17b, ↓xp_18b, ↓xp_19b, ↓X_f0b, ↓X_f2b, ↓X_f4b, ↓X_f8b, ↓wf_1b, ↓wf_3b, ↓wf_5b, ↓wf_6b, ↓wf_7b, ↓wf_9b, ↓wt_1_0b, ↓wt_1_1b, ↓wt_1_2b, ↓wt_1_3b, ↓wt_1_4b, ↓wt_11_0b, ↓wt_11_1b, ↓wt_11_2b, ↓wt_11_3b, ↓wt_11_4b, ↓wt_21_0b, ↓wt_21_1b, ↓wt_31_0b, ↓wt_31_1b, ↓wt_31_2b, ↓wt_31_3b, ↓wt_31_4b, ↓wt_31_5b, ↓wt_31_6b, ↓wt_41_0b, ↓wt_41_1b, ↓wt_41_2b, ↓wt_41_3b, ↓wt_41_4b, ↓wt_41_5b, ↓wt_41_6b, ↓wt_1b, ↓wt_11b, ↓wt_21b, ↓wt_31b, ↓wt_41b, ↓X_c0b, ↓X_c1b, ↓X_c2b, ↓X_c3b, ↓X_c4b, ↓X_e0b, ↓X_e1b, ↓X_e2b, ↓X_e3b, ↓X_e4b, ↓X_cb, ↓X_eb, ↓X_w0b, ↓X_w1b, ↓X_hb, ↓X_yb, ↓X_rb, ↓wp_0b, ↓wp_2b, ↓wp_4b, ↓wp_8b, ↓ws_2b, ↓ws_3b, ↓ws_4b, ↓ws_5b, ↓ws_6b, ↓ws_12b, ↓ws_13b, ↓ws_14b, ↓ws_15b, ↓ws_16b, ↓ws_22b, ↓ws_23b, ↓ws_51b, ↓wS_yb, ↓wS_rb, ↓wS_cb, ↓wS_eb, F_X0_takesAll_J54, F_X0_takesAll_B2, F_X0_takesAll_L2, F_X0_takesAll, hN, ofN_le, hd, ↓bn9 gl, ofNs]
set_option maxRecDepth 8000 in
theorem m_takesAll (h : Lok L) (hM : WM σ ρ) (hI : Inv ρ) {c : Nat} (hc : c < NC ρ) : ∃ σ', F_X13_takesAll (some (L.1 1000)) (Int32.ofNat c) (hp L σ) = some (hp L σ') ∧ WM σ' (tkA ρ c (NE ρ)) ∧ m1f σ σ' := by
  have h6 := hI.1.2
  have h8 := hI.2.1.2
  unfold F_X13_takesAll
  rw [if_pos (m_tg h)]
  have key := lpQ (Lp := fun f j (g : St) => F_X13_takesAll_L2 f (some (L.1 1000)) (Int32.ofNat c) (Int32.ofNat j) (hp L g)) (N := NE ρ) (fun j g => WM g (tkA ρ c j) ∧ m1f σ g) (fun r => ∃ σ', r = hp L σ' ∧ WM σ' (tkA ρ c (NE ρ)) ∧ m1f σ σ') ?_ ?_ (by unfold fu; omega) σ ⟨hM, m1f_refl _⟩
  · obtain ⟨r, e, σ', rfl, q⟩ := key
    exact ⟨σ', e, q⟩
  · intro f g ⟨q1, q2⟩
    obtain ⟨i1, i2, i3⟩ := tkA_inv hI hc (NE ρ) (Nat.le_refl _)
    have hN : tkA ρ c (NE ρ) 43 = Int32.ofNat (NE ρ) := by rw [i2 43 (by omega)]; exact hI.2.1.1
    refine ⟨_, ?_, g, rfl, q1, q2⟩
    simp (discharger := first | assumption | omega | decide) only [x_tg, w_tg, m_tg, ↓reduceIte, Option.bind_some, ↓m_0b, ↓m_1b, ↓m_2b, ↓m_3b, ↓m_4b, ↓m_5b, ↓m_6b, ↓m_7b, ↓m_8b, ↓m_9b, ↓m_10b, ↓m_11b, ↓m_12b, ↓m_13b, ↓m_14b, ↓m_15b, ↓m_16b, ↓m_17b, ↓m_18b, ↓m_19b, ↓m_20b, ↓m_21b, ↓m_22b, ↓m_23b, ↓m_24b, ↓m_25b, ↓m_26b, ↓m_27b, ↓m_28b, ↓m_29b, ↓mp_3b, ↓mp_6b, ↓mp_10b, ↓mp_11b, ↓mp_12b, ↓mp_14b, ↓mp_15b, ↓mp_16b, ↓mp_17b, ↓mp_18b, ↓mp_19b, ↓mp_22b, ↓mp_23b, ↓mp_24b, ↓mp_25b, ↓M_42b, ↓M_43b, ↓M_44b, ↓M_45b, ↓cIs_0b, ↓cIs_1b, ↓cIs_2b, ↓cIs_3b, ↓cIs_4b, ↓eIs_0b, ↓eIs_1b, ↓eIs_2b, ↓eIs_3b, ↓eIs_4b, ↓cIs_nb, ↓eIs_nb, ↓M_rb, ↓M_cAt_0b, ↓M_cAt_1b, ↓M_cAt_2b, ↓M_cAt_3b, ↓M_cAt_4b, ↓M_eAt_0b, ↓M_eAt_1b, ↓M_eAt_2b, ↓M_eAt_3b, ↓M_eAt_4b, ↓M_wAt_0b, ↓M_wAt_1b, cAt_0, cAt_1, cAt_2, cAt_3, cAt_4, eAt_0, eAt_1, eAt_2, eAt_3, eAt_4, wAt_0, wAt_1, cAt_n, eAt_n, wAt_n, F_X13_takesAll_L2, F_X13_takesAll_B2, hN, ofN_le, Nat.le_refl]
  · intro f j g hj ⟨q1, q2⟩
    obtain ⟨i1, i2, i3⟩ := tkA_inv hI hc j (by omega)
    have nE : NE (tkA ρ c j) = NE ρ := by unfold NE; rw [i2 43 (by omega)]
    have nC : NC (tkA ρ c j) = NC ρ := by unfold NC; rw [i2 42 (by omega)]
    have hN : tkA ρ c j 43 = Int32.ofNat (NE ρ) := by rw [i2 43 (by omega)]; exact hI.2.1.1
    have hs : tkA ρ c (j + 1) = tkSr c j (tkA ρ c j) := itF_snoc0 _ _ _
    rw [hs]
    generalize tkA ρ c j = ρj at *
    have hd : ¬ NE ρ ≤ j := by omega
    have gl := m_liesAt h q1 (show j < 8 by omega) (ρj (56 + 5 * c + 1))
    have gc := m_fitsTo h q1 i1 (show c < NC ρj by omega) (show j < NE ρj by omega)
    unfold tkSr
    have hc6 : c < 6 := by omega
    by_cases hl : ρj (86 + 5 * j + 3) = 0 ∧ ρj (86 + 5 * j + 1) = ρj (56 + 5 * c + 1)
    · rw [if_pos hl] at gl
      rcases ctV_01 ρj c j with e3 | e3
      · rw [e3] at gc
        rw [if_neg (fun q => by have := q.2; rw [e3] at this; exact absurd this (by decide))]
        refine ⟨g, ?_, q1, q2⟩
        simp (discharger := first | assumption | omega | decide) only [x_tg, w_tg, m_tg, ↓reduceIte, Option.bind_some, ↓m_0b, ↓m_1b, ↓m_2b, ↓m_3b, ↓m_4b, ↓m_5b, ↓m_6b, ↓m_7b, ↓m_8b, ↓m_9b, ↓m_10b, ↓m_11b, ↓m_12b, ↓m_13b, ↓m_14b, ↓m_15b, ↓m_16b, ↓m_17b, ↓m_18b, ↓m_19b, ↓m_20b, ↓m_21b, ↓m_22b, ↓m_23b, ↓m_24b, ↓m_25b, ↓m_26b, ↓m_27b, ↓m_28b, ↓m_29b, ↓mp_3b, ↓mp_6b, ↓mp_10b, ↓mp_11b, ↓mp_12b, ↓mp_14b, ↓mp_15b, ↓mp_16b, ↓mp_17b, ↓mp_18b, ↓mp_19b, ↓mp_22b, ↓mp_23b, ↓mp_24b, ↓mp_25b, ↓M_42b, ↓M_43b, ↓M_44b, ↓M_45b, ↓cIs_0b, ↓cIs_1b, ↓cIs_2b, ↓cIs_3b, ↓cIs_4b, ↓eIs_0b, ↓eIs_1b, ↓eIs_2b, ↓eIs_3b, ↓eIs_4b, ↓cIs_nb, ↓eIs_nb, ↓M_rb, ↓M_cAt_0b, ↓M_cAt_1b, ↓M_cAt_2b, ↓M_cAt_3b, ↓M_cAt_4b, ↓M_eAt_0b, ↓M_eAt_1b, ↓M_eAt_2b, ↓M_eAt_3b, ↓M_eAt_4b, ↓M_wAt_0b, ↓M_wAt_1b, cAt_0, cAt_1, cAt_2, cAt_3, cAt_4, eAt_0, eAt_1, eAt_2, eAt_3, eAt_4, wAt_0, wAt_1, cAt_n, eAt_n, wAt_n, F_X13_takesAll_J42, F_X13_takesAll_B2, F_X13_takesAll_L2, F_X13_takesAll, hN, ofN_le, hd, ↓bn9 gl, one_ne, ↓bn9 gc, ofNs]
      · rw [e3] at gc
        rw [if_pos ⟨hl, e3⟩]
        obtain ⟨σ2, p1, p2, p3⟩ := m_taken h q1 (show j < 8 by omega) (Int32.ofNat c)
        refine ⟨σ2, ?_, p2, fun i hi => (p3 i hi).trans (q2 i hi)⟩
        simp (discharger := first | assumption | omega | decide) only [x_tg, w_tg, m_tg, ↓reduceIte, Option.bind_some, ↓m_0b, ↓m_1b, ↓m_2b, ↓m_3b, ↓m_4b, ↓m_5b, ↓m_6b, ↓m_7b, ↓m_8b, ↓m_9b, ↓m_10b, ↓m_11b, ↓m_12b, ↓m_13b, ↓m_14b, ↓m_15b, ↓m_16b, ↓m_17b, ↓m_18b, ↓m_19b, ↓m_20b, ↓m_21b, ↓m_22b, ↓m_23b, ↓m_24b, ↓m_25b, ↓m_26b, ↓m_27b, ↓m_28b, ↓m_29b, ↓mp_3b, ↓mp_6b, ↓mp_10b, ↓mp_11b, ↓mp_12b, ↓mp_14b, ↓mp_15b, ↓mp_16b, ↓mp_17b, ↓mp_18b, ↓mp_19b, ↓mp_22b, ↓mp_23b, ↓mp_24b, ↓mp_25b, ↓M_42b, ↓M_43b, ↓M_44b, ↓M_45b, ↓cIs_0b, ↓cIs_1b, ↓cIs_2b, ↓cIs_3b, ↓cIs_4b, ↓eIs_0b, ↓eIs_1b, ↓eIs_2b, ↓eIs_3b, ↓eIs_4b, ↓cIs_nb, ↓eIs_nb, ↓M_rb, ↓M_cAt_0b, ↓M_cAt_1b, ↓M_cAt_2b, ↓M_cAt_3b, ↓M_cAt_4b, ↓M_eAt_0b, ↓M_eAt_1b, ↓M_eAt_2b, ↓M_eAt_3b, ↓M_eAt_4b, ↓M_wAt_0b, ↓M_wAt_1b, cAt_0, cAt_1, cAt_2, cAt_3, cAt_4, eAt_0, eAt_1, eAt_2, eAt_3, eAt_4, wAt_0, wAt_1, cAt_n, eAt_n, wAt_n, F_X13_takesAll_J42, F_X13_takesAll_B2, F_X13_takesAll_L2, F_X13_takesAll, hN, ofN_le, hd, ↓bn9 gl, one_ne, ↓bn9 gc, ↓bn9 p1, ofNs]
    · rw [if_neg hl] at gl
      rw [if_neg (fun q => hl q.1)]
      refine ⟨g, ?_, q1, q2⟩
      simp (discharger := first | assumption | omega | decide) only [x_tg, w_tg, m_tg, ↓reduceIte, Option.bind_some, ↓m_0b, ↓m_1b, ↓m_2b, ↓m_3b, ↓m_4b, ↓m_5b, ↓m_6b, ↓m_7b, ↓m_8b, ↓m_9b, ↓m_10b, ↓m_11b, ↓m_12b, ↓m_13b, ↓m_14b, ↓m_15b, ↓m_16b, ↓m_17b, ↓m_18b, ↓m_19b, ↓m_20b, ↓m_21b, ↓m_22b, ↓m_23b, ↓m_24b, ↓m_25b, ↓m_26b, ↓m_27b, ↓m_28b, ↓m_29b, ↓mp_3b, ↓mp_6b, ↓mp_10b, ↓mp_11b, ↓mp_12b, ↓mp_14b, ↓mp_15b, ↓mp_16b, ↓mp_17b, ↓mp_18b, ↓mp_19b, ↓mp_22b, ↓mp_23b, ↓mp_24b, ↓mp_25b, ↓M_42b, ↓M_43b, ↓M_44b, ↓M_45b, ↓cIs_0b, ↓cIs_1b, ↓cIs_2b, ↓cIs_3b, ↓cIs_4b, ↓eIs_0b, ↓eIs_1b, ↓eIs_2b, ↓eIs_3b, ↓eIs_4b, ↓cIs_nb, ↓eIs_nb, ↓M_rb, ↓M_cAt_0b, ↓M_cAt_1b, ↓M_cAt_2b, ↓M_cAt_3b, ↓M_cAt_4b, ↓M_eAt_0b, ↓M_eAt_1b, ↓M_eAt_2b, ↓M_eAt_3b, ↓M_eAt_4b, ↓M_wAt_0b, ↓M_wAt_1b, cAt_0, cAt_1, cAt_2, cAt_3, cAt_4, eAt_0, eAt_1, eAt_2, eAt_3, eAt_4, wAt_0, wAt_1, cAt_n, eAt_n, wAt_n, F_X13_takesAll_J42, F_X13_takesAll_B2, F_X13_takesAll_L2, F_X13_takesAll, hN, ofN_le, hd, ↓bn9 gl, ofNs]
end L6a
/-! ### the acts: days by draws -/
section L6b
variable {L : Lt} {σ σ' : St} {S : Sg} {ρ ρ' : Rw}
set_option maxRecDepth 8000 in
theorem ofN_rem {a b : Nat} (ha : a < 2147483648) (hb : b < 2147483648) : Int32.ofNat a - Int32.ofNat a / Int32.ofNat b * Int32.ofNat b = Int32.ofNat (a % b) := by
  have h1 := Nat.div_add_mod a b
  have h2 : a / b * b ≤ a := Nat.div_mul_le_self a b
  rw [ofN_div ha hb, ofN_mul, ofN_sub h2]
  congr 1
  rw [Nat.mul_comm] at h1; omega
set_option maxRecDepth 8000 in
theorem u2i (x : UInt32) : x.toInt32 = Int32.ofNat x.toNat := by
  apply Int32.toBitVec_inj.mp
  show x.toBitVec = BitVec.ofNat 32 x.toNat
  exact (BitVec.ofNat_toNat 32 x.toBitVec).symm ▸ rfl
def dv (ρ : Rw) : Nat := nv (drawV ρ)
set_option maxRecDepth 8000 in
theorem dv_n (ρ : Rw) : drawV ρ = Int32.ofNat (dv ρ) ∧ dv ρ < 16777216 := by
  unfold dv drawV
  generalize (ρ 45 * 1103515245 + 12345).toUInt32 = u
  have h8 : ((8 : Int32).toUInt32 &&& Int32.toUInt32 31) = 8 := by decide
  rw [h8, u2i]
  have hlt : (u >>> 8).toNat < 16777216 := by
    have := u.toNat_lt
    rw [UInt32.toNat_shiftRight]
    show u.toNat >>> (8 % 32) < _
    rw [Nat.shiftRight_eq_div_pow, show 2 ^ (8 % 32) = 256 from rfl]
    omega
  rw [nv_of (by omega)]
  exact ⟨rfl, hlt⟩
set_option maxRecDepth 8000 in
theorem Inv_draw (hI : Inv ρ) : Inv (drawR ρ) ∧ NC (drawR ρ) = NC ρ ∧ NE (drawR ρ) = NE ρ ∧ nDone (drawR ρ) = nDone ρ := by
  have n2 : NE (drawR ρ) = NE ρ := by unfold NE drawR; rw [up1_ne (by omega)]
  refine ⟨?_, ?_, n2, nDone_congr n2 (fun e he => by unfold drawR; rw [up1_ne (by omega)])⟩
  · exact Inv_low hI (fun i hi => by unfold drawR; rw [up1_ne (by omega)]) (fun s hs => by unfold drawR; rw [up1_ne (by omega)]; exact hI.2.2.2.2.2.2.1 s hs) (WAY_congr (fun i hi => by unfold drawR; rw [up1_ne (by omega)]) hI.2.2.2.2.2.2.2.1)
  · unfold NC drawR; rw [up1_ne (by omega)]
def dC (ρ : Rw) : Nat := dv ρ % NC ρ
def dR2 (ρ : Rw) : Rw := tkA (drawR ρ) (dC ρ) (NE ρ)
def dTo (ρ : Rw) : Nat := dv (dR2 ρ) % 7
def dR3 (ρ : Rw) : Rw := drawR (dR2 ρ)
def day1 (ρ : Rw) : Rw := if FT (dR3 ρ) (kdO (dR3 ρ) (dC ρ)) (plO (dR3 ρ) (dC ρ)) (dTo ρ) < 1000000 then wlk (dR3 ρ) (dC ρ) (dTo ρ) else dR3 ρ
set_option maxRecDepth 8000 in
theorem day_f (hI : Inv ρ) (hn : NC ρ ≠ 0) : dC ρ < NC ρ ∧ dTo ρ < 7 ∧ (Inv (dR2 ρ) ∧ NC (dR2 ρ) = NC ρ ∧ NE (dR2 ρ) = NE ρ ∧ nDone (dR2 ρ) = nDone ρ) ∧ (Inv (dR3 ρ) ∧ NC (dR3 ρ) = NC ρ ∧ NE (dR3 ρ) = NE ρ ∧ nDone (dR3 ρ) = nDone ρ) ∧ Inv (day1 ρ) ∧ NC (day1 ρ) = NC ρ ∧ NE (day1 ρ) = NE ρ := by
  have hc : dC ρ < NC ρ := Nat.mod_lt _ (by omega)
  have ht : dTo ρ < 7 := Nat.mod_lt _ (by omega)
  obtain ⟨a1, a2, a3, a4⟩ := Inv_draw hI
  obtain ⟨b1, b2, b3⟩ := tkA_inv a1 (c := dC ρ) (by omega) (NE ρ) (by omega)
  have c1 : NC (dR2 ρ) = NC ρ := by rw [← a2]; unfold NC dR2; rw [b2 42 (by omega)]
  have c2 : NE (dR2 ρ) = NE ρ := by rw [← a3]; unfold NE dR2; rw [b2 43 (by omega)]
  obtain ⟨d1, d2, d3, d4⟩ := Inv_draw (ρ := dR2 ρ) b1
  refine ⟨hc, ht, ⟨b1, c1, c2, by rw [← a4]; exact b3⟩, ⟨d1, by unfold dR3; omega, by unfold dR3; omega, by unfold dR3; rw [d4, ← a4]; exact b3⟩, ?_⟩
  have e1 : NC (dR3 ρ) = NC ρ := by unfold dR3; omega
  have e2 : NE (dR3 ρ) = NE ρ := by unfold dR3; omega
  unfold day1
  split
  · obtain ⟨f1, f2, f3, _⟩ := Inv_wlk (ρ := dR3 ρ) d1 (c := dC ρ) (by omega) ht
    exact ⟨f1, by omega, by omega⟩
  · exact ⟨d1, e1, e2⟩
def dayN (ρ : Rw) (n : Nat) : Rw := itF (fun _ r => day1 r) 0 n ρ
set_option maxRecDepth 8000 in
theorem dayN_f (hI : Inv ρ) (hn : NC ρ ≠ 0) : ∀ n, Inv (dayN ρ n) ∧ NC (dayN ρ n) = NC ρ ∧ NE (dayN ρ n) = NE ρ := by
  intro n
  induction n with
  | zero => exact ⟨hI, rfl, rfl⟩
  | succ n ih =>
    have hs : dayN ρ (n + 1) = day1 (dayN ρ n) := itF_snoc0 _ _ _
    obtain ⟨_, _, _, _, f1, f2, f3⟩ := day_f ih.1 (by omega)
    rw [hs]; exact ⟨f1, by omega, by omega⟩
set_option maxRecDepth 8000 in
theorem bc_nD (hI : Inv ρ) : F_J4_bitCount (Int32.ofNat (bset (Phow ρ 2) (NE ρ))) = Int32.ofNat (nDone ρ) := bit_n _ (bset_lt8 hI.2.1.2)
set_option maxRecDepth 8000 in
theorem x_works (h : Lok L) (hW : WX σ 200 ρ) (hI : Inv ρ) (hC : CN σ) (hn : NC ρ ≠ 0) {n : Nat} (hn12 : n ≤ 12) : ∃ σ', F_X0_works (some (L.1 0)) (Int32.ofNat n) (hp L σ) = some (Int32.ofNat (nDone (dayN ρ n)) - Int32.ofNat (nDone ρ), hp L σ') ∧ WX σ' 200 (dayN ρ n) ∧ aw σ σ' ∧ xf σ σ' := by
  have hb : isW 200 = true := rfl
  unfold F_X0_works
  rw [if_pos (x_tg h), bn9 (x_3 h), bn9 (x_being h hb hW hI.2.1.1 hI.2.1.2 2), bc_nD hI]
  have key := lpQ (Lp := fun f j (g : St) => F_X0_works_L14 f (some (L.1 0)) (Int32.ofNat n) (Int32.ofNat (nDone ρ)) (Int32.ofNat j) (hp L g)) (N := n) (fun j g => WX g 200 (dayN ρ j) ∧ aw σ g ∧ xf σ g) (fun r => ∃ σ', r = (Int32.ofNat (nDone (dayN ρ n)) - Int32.ofNat (nDone ρ), hp L σ') ∧ WX σ' 200 (dayN ρ n) ∧ aw σ σ' ∧ xf σ σ') ?_ ?_ (by unfold fu; omega) σ ⟨hW, aw_refl _, xf_refl _⟩
  · obtain ⟨r, e, σ', rfl, q⟩ := key
    exact ⟨σ', e, q⟩
  · intro f g ⟨q1, q2, q3⟩
    obtain ⟨i1, i2, i3⟩ := dayN_f hI hn n
    have gb := x_being h hb q1 i1.2.1.1 i1.2.1.2 2
    refine ⟨_, ?_, g, rfl, q1, q2, q3⟩
    simp (discharger := first | assumption | omega | decide) only [x_tg, w_tg, m_tg, ↓reduceIte, Option.bind_some, ↓x_0b, ↓x_1b, ↓x_2b, ↓x_3b, ↓x_4b, ↓x_5b, ↓x_6b, ↓x_7b, ↓x_8b, ↓x_9b, ↓x_10b, ↓x_11b, ↓x_12b, ↓x_13b, ↓x_14b, ↓x_15b, ↓x_16b, ↓x_17b, ↓x_18b, ↓x_19b, ↓xp_2b, ↓xp_6b, ↓xp_14b, ↓xp_17b, ↓xp_18b, ↓xp_19b, ↓X_f0b, ↓X_f2b, ↓X_f4b, ↓X_f8b, ↓wf_1b, ↓wf_3b, ↓wf_5b, ↓wf_6b, ↓wf_7b, ↓wf_9b, ↓wt_1_0b, ↓wt_1_1b, ↓wt_1_2b, ↓wt_1_3b, ↓wt_1_4b, ↓wt_11_0b, ↓wt_11_1b, ↓wt_11_2b, ↓wt_11_3b, ↓wt_11_4b, ↓wt_21_0b, ↓wt_21_1b, ↓wt_31_0b, ↓wt_31_1b, ↓wt_31_2b, ↓wt_31_3b, ↓wt_31_4b, ↓wt_31_5b, ↓wt_31_6b, ↓wt_41_0b, ↓wt_41_1b, ↓wt_41_2b, ↓wt_41_3b, ↓wt_41_4b, ↓wt_41_5b, ↓wt_41_6b, ↓wt_1b, ↓wt_11b, ↓wt_21b, ↓wt_31b, ↓wt_41b, ↓X_c0b, ↓X_c1b, ↓X_c2b, ↓X_c3b, ↓X_c4b, ↓X_e0b, ↓X_e1b, ↓X_e2b, ↓X_e3b, ↓X_e4b, ↓X_cb, ↓X_eb, ↓X_w0b, ↓X_w1b, ↓X_hb, ↓X_yb, ↓X_rb, ↓wp_0b, ↓wp_2b, ↓wp_4b, ↓wp_8b, ↓ws_2b, ↓ws_3b, ↓ws_4b, ↓ws_5b, ↓ws_6b, ↓ws_12b, ↓ws_13b, ↓ws_14b, ↓ws_15b, ↓ws_16b, ↓ws_22b, ↓ws_23b, ↓ws_51b, ↓wS_yb, ↓wS_rb, ↓wS_cb, ↓wS_eb, F_X0_works_L14, F_X0_works_B14, ofN_le, Nat.le_refl, ↓bn9 gb, bc_nD i1]
  · intro f j g hj ⟨q1, q2, q3⟩
    obtain ⟨i1, i2, i3⟩ := dayN_f hI hn j
    have hs : dayN ρ (j + 1) = day1 (dayN ρ j) := itF_snoc0 _ _ _
    rw [hs]
    generalize dayN ρ j = r at *
    have hnr : NC r ≠ 0 := by omega
    have h6 := i1.1.2
    obtain ⟨c1, c2, ⟨d1, d2, d3, d4⟩, ⟨e1, e2, e3, e4⟩, _⟩ := day_f i1 hnr
    have hd : ¬ n ≤ j := by omega
    obtain ⟨a1, a2, a3, a4⟩ := Inv_draw i1
    obtain ⟨σ1, p1, p2, p3⟩ := x_draw h hb q1
    obtain ⟨v1, v2⟩ := dv_n r
    rw [v1] at p1
    have hN : drawR r 42 = Int32.ofNat (NC r) := by rw [← a2]; exact a1.1.1
    have hnz : ¬ Int32.ofNat (NC r) = 0 := by rw [li_0, ofN_inj (by omega) (by omega)]; exact hnr
    have er : Int32.ofNat (dv r) - Int32.ofNat (dv r) / Int32.ofNat (NC r) * Int32.ofNat (NC r) = Int32.ofNat (dC r) := ofN_rem (by omega) (by omega)
    have aw1 := aw_trans q2 (aw_wf p3)
    obtain ⟨σ2, t1, t2, t3⟩ := x_takesAll h p2 a1 (CN_ax (ax_aw aw1) hC) (c := dC r) (by omega)
    rw [a3] at t2
    have aw2 := aw_trans aw1 (aw_wf t3)
    obtain ⟨σ3, u1, u2, u3⟩ := x_draw h hb (ρ := dR2 r) t2
    obtain ⟨v3, v4⟩ := dv_n (dR2 r)
    rw [v3] at u1
    have er2 : Int32.ofNat (dv (dR2 r)) - Int32.ofNat (dv (dR2 r)) / 7 * 7 = Int32.ofNat (dTo r) := ofN_rem (b := 7) (by omega) (by omega)
    have aw3 := aw_trans aw2 (aw_wf u3)
    have x3 : xf σ σ3 := xf_trans q3 (xf_trans (xf_wf p3) (xf_trans (xf_wf t3) (xf_wf u3)))
    obtain ⟨k1, k2, k3, k4, k5, k6, k7⟩ := e1.2.2.2.1 (dC r) (by omega)
    have gf := x_farOf (ρ := dR3 r) h u2 e1.2.2.2.2.2.2.2.1 (show dC r < 6 by omega) k4 k1 k5 c2
    have gp := (X_c1 (ρ := dR3 r) h hb u2 (show dC r < 6 by omega)).trans (congrArg some k2)
    have hle := FT_le (kd := kdO (dR3 r) (dC r)) e1.2.2.2.2.2.2.2.1 k5 c2
    have hW4 := WX_tX (V := nT (FT (dR3 r) (kdO (dR3 r) (dC r)))) (tz := 10) (z := 30) (Or.inr ⟨rfl, rfl⟩) (Nat.le_refl 200) u2
    have aw4 : aw σ (tX σ3 30 (nT (FT (dR3 r) (kdO (dR3 r) (dC r))))) := aw_trans aw3 (aw_ag (ag_tX (tz := 10) (Or.inr ⟨rfl, rfl⟩) _))
    have x4 : xf σ (tX σ3 30 (nT (FT (dR3 r) (kdO (dR3 r) (dC r))))) := xf_trans x3 (fun i hi => tX_ge (by omega))
    unfold day1
    by_cases hf : FT (dR3 r) (kdO (dR3 r) (dC r)) (plO (dR3 r) (dC r)) (dTo r) < 1000000
    · rw [if_pos hf]
      rw [if_pos hf] at gf
      have n1 := ofN_nm1 (a := FT (dR3 r) (kdO (dR3 r) (dC r)) (plO (dR3 r) (dC r)) (dTo r)) (by omega)
      obtain ⟨σ5, w1, w2, w3, w4⟩ := x_walks (ρ := dR3 r) h hW4 e1 (c := dC r) (by omega) c2
      refine ⟨σ5, ?_, w2, aw_trans aw4 w3, xf_trans x4 w4⟩
      simp (discharger := first | assumption | omega | decide) only [x_tg, w_tg, m_tg, ↓reduceIte, Option.bind_some, ↓x_0b, ↓x_1b, ↓x_2b, ↓x_3b, ↓x_4b, ↓x_5b, ↓x_6b, ↓x_7b, ↓x_8b, ↓x_9b, ↓x_10b, ↓x_11b, ↓x_12b, ↓x_13b, ↓x_14b, ↓x_15b, ↓x_16b, ↓x_17b, ↓x_18b, ↓x_19b, ↓xp_2b, ↓xp_6b, ↓xp_14b, ↓xp_17b, ↓xp_18b, ↓xp_19b, ↓X_f0b, ↓X_f2b, ↓X_f4b, ↓X_f8b, ↓wf_1b, ↓wf_3b, ↓wf_5b, ↓wf_6b, ↓wf_7b, ↓wf_9b, ↓wt_1_0b, ↓wt_1_1b, ↓wt_1_2b, ↓wt_1_3b, ↓wt_1_4b, ↓wt_11_0b, ↓wt_11_1b, ↓wt_11_2b, ↓wt_11_3b, ↓wt_11_4b, ↓wt_21_0b, ↓wt_21_1b, ↓wt_31_0b, ↓wt_31_1b, ↓wt_31_2b, ↓wt_31_3b, ↓wt_31_4b, ↓wt_31_5b, ↓wt_31_6b, ↓wt_41_0b, ↓wt_41_1b, ↓wt_41_2b, ↓wt_41_3b, ↓wt_41_4b, ↓wt_41_5b, ↓wt_41_6b, ↓wt_1b, ↓wt_11b, ↓wt_21b, ↓wt_31b, ↓wt_41b, ↓X_c0b, ↓X_c1b, ↓X_c2b, ↓X_c3b, ↓X_c4b, ↓X_e0b, ↓X_e1b, ↓X_e2b, ↓X_e3b, ↓X_e4b, ↓X_cb, ↓X_eb, ↓X_w0b, ↓X_w1b, ↓X_hb, ↓X_yb, ↓X_rb, ↓wp_0b, ↓wp_2b, ↓wp_4b, ↓wp_8b, ↓ws_2b, ↓ws_3b, ↓ws_4b, ↓ws_5b, ↓ws_6b, ↓ws_12b, ↓ws_13b, ↓ws_14b, ↓ws_15b, ↓ws_16b, ↓ws_22b, ↓ws_23b, ↓ws_51b, ↓wS_yb, ↓wS_rb, ↓wS_cb, ↓wS_eb, F_X0_works_J93, F_X0_works_B14, F_X0_works_L14, F_X0_works, ofN_le, hd, ↓cb9 p1, hN, hnz, not_false_eq_true, er, ↓bn9 t1, ↓cb9 u1, er2, ↓bn9 gp, ↓cb9 gf, n1, ↓cb9 w1, ofNs]
    · rw [if_neg hf]
      rw [if_neg hf] at gf
      refine ⟨_, ?_, hW4, aw4, x4⟩
      simp (discharger := first | assumption | omega | decide) only [x_tg, w_tg, m_tg, ↓reduceIte, Option.bind_some, ↓x_0b, ↓x_1b, ↓x_2b, ↓x_3b, ↓x_4b, ↓x_5b, ↓x_6b, ↓x_7b, ↓x_8b, ↓x_9b, ↓x_10b, ↓x_11b, ↓x_12b, ↓x_13b, ↓x_14b, ↓x_15b, ↓x_16b, ↓x_17b, ↓x_18b, ↓x_19b, ↓xp_2b, ↓xp_6b, ↓xp_14b, ↓xp_17b, ↓xp_18b, ↓xp_19b, ↓X_f0b, ↓X_f2b, ↓X_f4b, ↓X_f8b, ↓wf_1b, ↓wf_3b, ↓wf_5b, ↓wf_6b, ↓wf_7b, ↓wf_9b, ↓wt_1_0b, ↓wt_1_1b, ↓wt_1_2b, ↓wt_1_3b, ↓wt_1_4b, ↓wt_11_0b, ↓wt_11_1b, ↓wt_11_2b, ↓wt_11_3b, ↓wt_11_4b, ↓wt_21_0b, ↓wt_21_1b, ↓wt_31_0b, ↓wt_31_1b, ↓wt_31_2b, ↓wt_31_3b, ↓wt_31_4b, ↓wt_31_5b, ↓wt_31_6b, ↓wt_41_0b, ↓wt_41_1b, ↓wt_41_2b, ↓wt_41_3b, ↓wt_41_4b, ↓wt_41_5b, ↓wt_41_6b, ↓wt_1b, ↓wt_11b, ↓wt_21b, ↓wt_31b, ↓wt_41b, ↓X_c0b, ↓X_c1b, ↓X_c2b, ↓X_c3b, ↓X_c4b, ↓X_e0b, ↓X_e1b, ↓X_e2b, ↓X_e3b, ↓X_e4b, ↓X_cb, ↓X_eb, ↓X_w0b, ↓X_w1b, ↓X_hb, ↓X_yb, ↓X_rb, ↓wp_0b, ↓wp_2b, ↓wp_4b, ↓wp_8b, ↓ws_2b, ↓ws_3b, ↓ws_4b, ↓ws_5b, ↓ws_6b, ↓ws_12b, ↓ws_13b, ↓ws_14b, ↓ws_15b, ↓ws_16b, ↓ws_22b, ↓ws_23b, ↓ws_51b, ↓wS_yb, ↓wS_rb, ↓wS_cb, ↓wS_eb, F_X0_works_J93, F_X0_works_B14, F_X0_works_L14, F_X0_works, ofN_le, hd, ↓cb9 p1, hN, hnz, not_false_eq_true, er, ↓bn9 t1, ↓cb9 u1, er2, ↓bn9 gp, ↓cb9 gf, ofNs]
set_option maxRecDepth 8000 in
theorem m_drawn (h : Lok L) (hM : WM σ ρ) {b : Nat} (hb0 : b ≠ 0) (hb : b < 1000) : F_X13_drawn (some (L.1 1000)) (Int32.ofNat b) (hp L σ) = some (Int32.ofNat (dv ρ % b), hp L (up2 σ 1001 45 (ρ 45 * 1103515245 + 12345))) ∧ WM (up2 σ 1001 45 (ρ 45 * 1103515245 + 12345)) (drawR ρ) := by
  have w1 := WM_up (i := 45) (v := ρ 45 * 1103515245 + 12345) hM
  obtain ⟨v1, v2⟩ := dv_n ρ
  have hnz : ¬ Int32.ofNat b = 0 := by rw [li_0, ofN_inj (by omega) (by omega)]; exact hb0
  have er : drawV ρ - drawV ρ / Int32.ofNat b * Int32.ofNat b = Int32.ofNat (dv ρ % b) := by rw [v1]; exact ofN_rem (by omega) (by omega)
  refine ⟨?_, w1⟩
  unfold F_X13_drawn
  rw [if_pos (m_tg h), bn9 (m_0 h), bn9 (m_0 h), bn9 (M_45 h hM), M_s45b h, bn9 (m_0 h), bn9 (M_45 h w1), up1_same, if_pos hnz, ← er]
  rfl
set_option maxRecDepth 8000 in
theorem m_days (h : Lok L) (hM : WM σ ρ) (hI : Inv ρ) (hn : NC ρ ≠ 0) {n : Nat} (hn12 : n ≤ 12) : ∃ σ', F_X13_days (some (L.1 1000)) (Int32.ofNat n) (hp L σ) = some (Int32.ofNat (nDone (dayN ρ n)) - Int32.ofNat (nDone ρ), hp L σ') ∧ WM σ' (dayN ρ n) ∧ amw σ σ' ∧ mf σ σ' := by
  unfold F_X13_days
  rw [if_pos (m_tg h), bn9 (mp_6 h)]
  have a0 : amw σ (up2 σ 1000 6 0) := fun i k _ _ h6 => by rw [up2_ne h6]
  have key := lpQ (Lp := fun f j (g : St × Int32) => F_X13_days_L9 f (some (L.1 1000)) (Int32.ofNat n) g.2 (Int32.ofNat j) (hp L g.1)) (N := n) (fun j g => WM g.1 (dayN ρ j) ∧ amw σ g.1 ∧ mf σ g.1 ∧ 0 ≤ g.2 ∧ g.1 1000 6 + Int32.ofNat (nDone ρ) = Int32.ofNat (nDone (dayN ρ j))) (fun r => ∃ σ', r = (Int32.ofNat (nDone (dayN ρ n)) - Int32.ofNat (nDone ρ), hp L σ') ∧ WM σ' (dayN ρ n) ∧ amw σ σ' ∧ mf σ σ') ?_ ?_ (by unfold fu; omega) (up2 σ 1000 6 0, 0) ⟨WM_out (by omega) hM, a0, mf_up (by omega), (by decide : (0 : Int32) ≤ 0), by show up2 σ 1000 6 0 1000 6 + _ = _; rw [up2_same, Int32.zero_add]; rfl⟩
  · obtain ⟨r, e, σ', rfl, q⟩ := key
    exact ⟨σ', e, q⟩
  · intro f g ⟨q1, q2, q3, q4, q5⟩
    refine ⟨_, ?_, g.1, rfl, q1, q2, q3⟩
    rw [← q5, Int32.add_sub_cancel]
    simp (discharger := first | assumption | omega | decide) only [x_tg, w_tg, m_tg, ↓reduceIte, Option.bind_some, ↓m_0b, ↓m_1b, ↓m_2b, ↓m_3b, ↓m_4b, ↓m_5b, ↓m_6b, ↓m_7b, ↓m_8b, ↓m_9b, ↓m_10b, ↓m_11b, ↓m_12b, ↓m_13b, ↓m_14b, ↓m_15b, ↓m_16b, ↓m_17b, ↓m_18b, ↓m_19b, ↓m_20b, ↓m_21b, ↓m_22b, ↓m_23b, ↓m_24b, ↓m_25b, ↓m_26b, ↓m_27b, ↓m_28b, ↓m_29b, ↓mp_3b, ↓mp_6b, ↓mp_10b, ↓mp_11b, ↓mp_12b, ↓mp_14b, ↓mp_15b, ↓mp_16b, ↓mp_17b, ↓mp_18b, ↓mp_19b, ↓mp_22b, ↓mp_23b, ↓mp_24b, ↓mp_25b, ↓M_42b, ↓M_43b, ↓M_44b, ↓M_45b, ↓cIs_0b, ↓cIs_1b, ↓cIs_2b, ↓cIs_3b, ↓cIs_4b, ↓eIs_0b, ↓eIs_1b, ↓eIs_2b, ↓eIs_3b, ↓eIs_4b, ↓cIs_nb, ↓eIs_nb, ↓M_rb, ↓M_cAt_0b, ↓M_cAt_1b, ↓M_cAt_2b, ↓M_cAt_3b, ↓M_cAt_4b, ↓M_eAt_0b, ↓M_eAt_1b, ↓M_eAt_2b, ↓M_eAt_3b, ↓M_eAt_4b, ↓M_wAt_0b, ↓M_wAt_1b, cAt_0, cAt_1, cAt_2, cAt_3, cAt_4, eAt_0, eAt_1, eAt_2, eAt_3, eAt_4, wAt_0, wAt_1, cAt_n, eAt_n, wAt_n, F_X13_days_L9, F_X13_days_B9, ofN_le, Nat.le_refl, eq_true q4]
  · intro f j g hj ⟨q1, q2, q3, q4, q5⟩
    obtain ⟨i1, i2, i3⟩ := dayN_f hI hn j
    have hs : dayN ρ (j + 1) = day1 (dayN ρ j) := itF_snoc0 _ _ _
    rw [hs]
    obtain ⟨g1, g2⟩ := g
    dsimp only at q1 q2 q3 q4 q5 ⊢
    generalize dayN ρ j = r at *
    have hnr : NC r ≠ 0 := by omega
    have h6 := i1.1.2
    obtain ⟨c1, c2, ⟨d1, d2, d3, d4⟩, ⟨e1, e2, e3, e4⟩, _⟩ := day_f i1 hnr
    have hd : ¬ n ≤ j := by omega
    obtain ⟨a1, a2, a3, a4⟩ := Inv_draw i1
    obtain ⟨p1, p2⟩ := m_drawn h q1 hnr (by omega)
    have am1 : amw σ (up2 g1 1001 45 (r 45 * 1103515245 + 12345)) := amw_trans q2 (amw_m1f (m1f_up (m1f_refl _)))
    obtain ⟨σ2, t1, t2, t3⟩ := m_takesAll h p2 a1 (c := dC r) (by omega)
    rw [a3] at t2
    have am2 := amw_trans am1 (amw_m1f t3)
    obtain ⟨u1, u2⟩ := m_drawn (ρ := dR2 r) (b := 7) h t2 (by omega) (by omega)
    have am3 : amw σ (up2 σ2 1001 45 (dR2 r 45 * 1103515245 + 12345)) := amw_trans am2 (amw_m1f (m1f_up (m1f_refl _)))
    have mf3 : mf σ (up2 σ2 1001 45 (dR2 r 45 * 1103515245 + 12345)) := mf_trans q3 (mf_trans (mf_up (by omega)) (mf_trans (mf_m1f t3) (mf_up (by omega))))
    have s6 : up2 σ2 1001 45 (dR2 r 45 * 1103515245 + 12345) 1000 6 = g1 1000 6 := by rw [up2_ne (by omega), t3 1000 (by omega), up2_ne (by omega)]
    obtain ⟨σ5, w1, w2, w3, w4, w5⟩ := m_walked (ρ := dR3 r) h u2 e1 (c := dC r) (by omega) c2
    rw [s6, e4] at w5
    have hN : r 42 = Int32.ofNat (NC r) := i1.1.1
    have u1 : F_X13_drawn (some (L.1 1000)) 7 (hp L σ2) = some (Int32.ofNat (dTo r), hp L (up2 σ2 1001 45 (dR2 r 45 * 1103515245 + 12345))) := u1
    have p1 : F_X13_drawn (some (L.1 1000)) (Int32.ofNat (NC r)) (hp L g1) = some (Int32.ofNat (dC r), hp L (up2 g1 1001 45 (r 45 * 1103515245 + 12345))) := p1
    have gN := (M_42 h q1).trans (congrArg some hN)
    refine ⟨(σ5, F_J3_max g2 (if FT (dR3 r) (kdO (dR3 r) (dC r)) (plO (dR3 r) (dC r)) (dTo r) < 1000000 then Int32.ofNat (wlkG (dR3 r) (dC r) (dTo r)) else -1)), ?_, w2, amw_trans am3 w3, mf_trans mf3 w4, ?_, ?_⟩
    · simp (discharger := first | assumption | omega | decide) only [x_tg, w_tg, m_tg, ↓reduceIte, Option.bind_some, ↓m_0b, ↓m_1b, ↓m_2b, ↓m_3b, ↓m_4b, ↓m_5b, ↓m_6b, ↓m_7b, ↓m_8b, ↓m_9b, ↓m_10b, ↓m_11b, ↓m_12b, ↓m_13b, ↓m_14b, ↓m_15b, ↓m_16b, ↓m_17b, ↓m_18b, ↓m_19b, ↓m_20b, ↓m_21b, ↓m_22b, ↓m_23b, ↓m_24b, ↓m_25b, ↓m_26b, ↓m_27b, ↓m_28b, ↓m_29b, ↓mp_3b, ↓mp_6b, ↓mp_10b, ↓mp_11b, ↓mp_12b, ↓mp_14b, ↓mp_15b, ↓mp_16b, ↓mp_17b, ↓mp_18b, ↓mp_19b, ↓mp_22b, ↓mp_23b, ↓mp_24b, ↓mp_25b, ↓M_42b, ↓M_43b, ↓M_44b, ↓M_45b, ↓cIs_0b, ↓cIs_1b, ↓cIs_2b, ↓cIs_3b, ↓cIs_4b, ↓eIs_0b, ↓eIs_1b, ↓eIs_2b, ↓eIs_3b, ↓eIs_4b, ↓cIs_nb, ↓eIs_nb, ↓M_rb, ↓M_cAt_0b, ↓M_cAt_1b, ↓M_cAt_2b, ↓M_cAt_3b, ↓M_cAt_4b, ↓M_eAt_0b, ↓M_eAt_1b, ↓M_eAt_2b, ↓M_eAt_3b, ↓M_eAt_4b, ↓M_wAt_0b, ↓M_wAt_1b, cAt_0, cAt_1, cAt_2, cAt_3, cAt_4, eAt_0, eAt_1, eAt_2, eAt_3, eAt_4, wAt_0, wAt_1, cAt_n, eAt_n, wAt_n, F_X13_days_L9, F_X13_days_B9, ofN_le, hd, ↓bn9 gN, ↓cb9 p1, ↓bn9 t1, ↓cb9 u1, ↓cb9 w1, ofNs]
    · dsimp only
      generalize (if FT (dR3 r) (kdO (dR3 r) (dC r)) (plO (dR3 r) (dC r)) (dTo r) < 1000000 then Int32.ofNat (wlkG (dR3 r) (dC r) (dTo r)) else -1) = z
      unfold F_J3_max
      by_cases hlt : g2 < z
      · rw [if_pos hlt]; exact Int32.le_of_lt (Int32.lt_of_le_of_lt q4 hlt)
      · rw [if_neg hlt]; exact q4
    · dsimp only
      have : σ5 1000 6 + Int32.ofNat (nDone ρ) + Int32.ofNat (nDone r) = g1 1000 6 + Int32.ofNat (nDone ρ) + Int32.ofNat (nDone (day1 r)) := by
        rw [Int32.add_assoc, Int32.add_comm (Int32.ofNat (nDone ρ)), ← Int32.add_assoc, w5, Int32.add_assoc, Int32.add_comm (Int32.ofNat (nDone _)) (Int32.ofNat (nDone ρ)), ← Int32.add_assoc]
        rfl
      rw [q5, Int32.add_comm (Int32.ofNat (nDone r)) _] at this
      have h2 : σ5 1000 6 + Int32.ofNat (nDone ρ) + Int32.ofNat (nDone r) - Int32.ofNat (nDone r) = _ - Int32.ofNat (nDone r) := congrArg (fun z => z - Int32.ofNat (nDone r)) this
      rw [Int32.add_sub_cancel, Int32.add_sub_cancel] at h2
      exact h2
set_option maxRecDepth 8000 in
/-- why no day -/
theorem op_day (hR : RR L σ S) (x1 : Int32) : STEP L σ (F_X0_day (some (L.1 0)) x1) (F_X13_day (some (L.1 1000)) x1) := by
  have h := hR.1.1
  have hW := hR.1.2.1
  have hC := hR.1.2.2.1
  have hP := hR.1.2.2.2.1
  have hI := hR.2.2.1.1
  have hb : isW 200 = true := rfl
  rcases in_1_12 x1 with ⟨e1, n, hn1, hn12, rfl⟩ | e1
  · by_cases hn : NC S.1 = 0
    · have e0 : S.1 42 = 0 := by rw [hI.1.1, hn]; rfl
      exact STEP_fnd hR (k := 4) (xv := 4) (mv := -1000005) (by omega) rfl (by decide) ⟨σ, by simp (discharger := first | assumption | omega | decide) only [x_tg, w_tg, m_tg, ↓reduceIte, Option.bind_some, ↓x_0b, ↓x_1b, ↓x_2b, ↓x_3b, ↓x_4b, ↓x_5b, ↓x_6b, ↓x_7b, ↓x_8b, ↓x_9b, ↓x_10b, ↓x_11b, ↓x_12b, ↓x_13b, ↓x_14b, ↓x_15b, ↓x_16b, ↓x_17b, ↓x_18b, ↓x_19b, ↓xp_2b, ↓xp_6b, ↓xp_14b, ↓xp_17b, ↓xp_18b, ↓xp_19b, ↓X_f0b, ↓X_f2b, ↓X_f4b, ↓X_f8b, ↓wf_1b, ↓wf_3b, ↓wf_5b, ↓wf_6b, ↓wf_7b, ↓wf_9b, ↓wt_1_0b, ↓wt_1_1b, ↓wt_1_2b, ↓wt_1_3b, ↓wt_1_4b, ↓wt_11_0b, ↓wt_11_1b, ↓wt_11_2b, ↓wt_11_3b, ↓wt_11_4b, ↓wt_21_0b, ↓wt_21_1b, ↓wt_31_0b, ↓wt_31_1b, ↓wt_31_2b, ↓wt_31_3b, ↓wt_31_4b, ↓wt_31_5b, ↓wt_31_6b, ↓wt_41_0b, ↓wt_41_1b, ↓wt_41_2b, ↓wt_41_3b, ↓wt_41_4b, ↓wt_41_5b, ↓wt_41_6b, ↓wt_1b, ↓wt_11b, ↓wt_21b, ↓wt_31b, ↓wt_41b, ↓X_c0b, ↓X_c1b, ↓X_c2b, ↓X_c3b, ↓X_c4b, ↓X_e0b, ↓X_e1b, ↓X_e2b, ↓X_e3b, ↓X_e4b, ↓X_cb, ↓X_eb, ↓X_w0b, ↓X_w1b, ↓X_hb, ↓X_yb, ↓X_rb, ↓wp_0b, ↓wp_2b, ↓wp_4b, ↓wp_8b, ↓ws_2b, ↓ws_3b, ↓ws_4b, ↓ws_5b, ↓ws_6b, ↓ws_12b, ↓ws_13b, ↓ws_14b, ↓ws_15b, ↓ws_16b, ↓ws_22b, ↓ws_23b, ↓ws_51b, ↓wS_yb, ↓wS_rb, ↓wS_cb, ↓wS_eb, ↓x_isCarrierb, ↓x_isErrandb, ↓x_isWareb, ↓x_isSetb, ↓x_isFewb, F_X0_isKind, F_X0_isPlace, F_X0_isPrice, F_X0_isSheet, F_X0_isSpot, F_X13_isKind, F_X13_isPlace, F_X13_isSheet, F_X13_isSpot, within_eq, one_and, zero_and, one_ne, not_true_eq_false, not_false_eq_true, F_X0_day, F_X0_whyNoDay, e1, eq_true e0, show ¬ (4 : Int32) = -1 by decide], ag_refl _, xf_refl _⟩ (fun σ1 hM => by have hM2 := hM.2.1; exact ⟨σ1, by simp (discharger := first | assumption | omega | decide) only [x_tg, w_tg, m_tg, ↓reduceIte, Option.bind_some, ↓m_0b, ↓m_1b, ↓m_2b, ↓m_3b, ↓m_4b, ↓m_5b, ↓m_6b, ↓m_7b, ↓m_8b, ↓m_9b, ↓m_10b, ↓m_11b, ↓m_12b, ↓m_13b, ↓m_14b, ↓m_15b, ↓m_16b, ↓m_17b, ↓m_18b, ↓m_19b, ↓m_20b, ↓m_21b, ↓m_22b, ↓m_23b, ↓m_24b, ↓m_25b, ↓m_26b, ↓m_27b, ↓m_28b, ↓m_29b, ↓mp_3b, ↓mp_6b, ↓mp_10b, ↓mp_11b, ↓mp_12b, ↓mp_14b, ↓mp_15b, ↓mp_16b, ↓mp_17b, ↓mp_18b, ↓mp_19b, ↓mp_22b, ↓mp_23b, ↓mp_24b, ↓mp_25b, ↓M_42b, ↓M_43b, ↓M_44b, ↓M_45b, ↓cIs_0b, ↓cIs_1b, ↓cIs_2b, ↓cIs_3b, ↓cIs_4b, ↓eIs_0b, ↓eIs_1b, ↓eIs_2b, ↓eIs_3b, ↓eIs_4b, ↓cIs_nb, ↓eIs_nb, ↓M_rb, ↓M_cAt_0b, ↓M_cAt_1b, ↓M_cAt_2b, ↓M_cAt_3b, ↓M_cAt_4b, ↓M_eAt_0b, ↓M_eAt_1b, ↓M_eAt_2b, ↓M_eAt_3b, ↓M_eAt_4b, ↓M_wAt_0b, ↓M_wAt_1b, cAt_0, cAt_1, cAt_2, cAt_3, cAt_4, eAt_0, eAt_1, eAt_2, eAt_3, eAt_4, wAt_0, wAt_1, cAt_n, eAt_n, wAt_n, ↓m_isCarrierb, ↓m_isErrandb, ↓m_isWareb, ↓m_isFewb, F_X0_isKind, F_X0_isPlace, F_X0_isPrice, F_X0_isSheet, F_X0_isSpot, F_X13_isKind, F_X13_isPlace, F_X13_isSheet, F_X13_isSpot, within_eq, one_and, zero_and, one_ne, not_true_eq_false, not_false_eq_true, F_X13_day, F_X13_refusesDays, e1, eq_true e0, show ¬ (-1000005 : Int32) = 0 by decide], ag_refl _, mf_refl _⟩)
    · have h6 := hI.1.2
      have e0 : ¬ S.1 42 = 0 := by rw [hI.1.1, li_0, ofN_inj (by omega) (by omega)]; exact hn
      obtain ⟨i1, _⟩ := dayN_f hI hn n
      refine STEP_g hR (r := Int32.ofNat (nDone (dayN S.1 n)) - Int32.ofNat (nDone S.1)) i1 ?_ (fun σ1 hM => ?_)
      · obtain ⟨σ', p1, p2, p3, p4⟩ := x_works h hW hI hC hn hn12
        refine ⟨σ', ?_, p2, ax_aw p3, p4⟩
        simp (discharger := first | assumption | omega | decide) only [x_tg, w_tg, m_tg, ↓reduceIte, Option.bind_some, ↓x_0b, ↓x_1b, ↓x_2b, ↓x_3b, ↓x_4b, ↓x_5b, ↓x_6b, ↓x_7b, ↓x_8b, ↓x_9b, ↓x_10b, ↓x_11b, ↓x_12b, ↓x_13b, ↓x_14b, ↓x_15b, ↓x_16b, ↓x_17b, ↓x_18b, ↓x_19b, ↓xp_2b, ↓xp_6b, ↓xp_14b, ↓xp_17b, ↓xp_18b, ↓xp_19b, ↓X_f0b, ↓X_f2b, ↓X_f4b, ↓X_f8b, ↓wf_1b, ↓wf_3b, ↓wf_5b, ↓wf_6b, ↓wf_7b, ↓wf_9b, ↓wt_1_0b, ↓wt_1_1b, ↓wt_1_2b, ↓wt_1_3b, ↓wt_1_4b, ↓wt_11_0b, ↓wt_11_1b, ↓wt_11_2b, ↓wt_11_3b, ↓wt_11_4b, ↓wt_21_0b, ↓wt_21_1b, ↓wt_31_0b, ↓wt_31_1b, ↓wt_31_2b, ↓wt_31_3b, ↓wt_31_4b, ↓wt_31_5b, ↓wt_31_6b, ↓wt_41_0b, ↓wt_41_1b, ↓wt_41_2b, ↓wt_41_3b, ↓wt_41_4b, ↓wt_41_5b, ↓wt_41_6b, ↓wt_1b, ↓wt_11b, ↓wt_21b, ↓wt_31b, ↓wt_41b, ↓X_c0b, ↓X_c1b, ↓X_c2b, ↓X_c3b, ↓X_c4b, ↓X_e0b, ↓X_e1b, ↓X_e2b, ↓X_e3b, ↓X_e4b, ↓X_cb, ↓X_eb, ↓X_w0b, ↓X_w1b, ↓X_hb, ↓X_yb, ↓X_rb, ↓wp_0b, ↓wp_2b, ↓wp_4b, ↓wp_8b, ↓ws_2b, ↓ws_3b, ↓ws_4b, ↓ws_5b, ↓ws_6b, ↓ws_12b, ↓ws_13b, ↓ws_14b, ↓ws_15b, ↓ws_16b, ↓ws_22b, ↓ws_23b, ↓ws_51b, ↓wS_yb, ↓wS_rb, ↓wS_cb, ↓wS_eb, ↓x_isCarrierb, ↓x_isErrandb, ↓x_isWareb, ↓x_isSetb, ↓x_isFewb, F_X0_isKind, F_X0_isPlace, F_X0_isPrice, F_X0_isSheet, F_X0_isSpot, F_X13_isKind, F_X13_isPlace, F_X13_isSheet, F_X13_isSpot, within_eq, one_and, zero_and, one_ne, not_true_eq_false, not_false_eq_true, F_X0_day, F_X0_whyNoDay, e1, e0, ↓cb9 p1]
      · have hM2 := hM.2.1
        obtain ⟨σ', p1, p2, p3, p4⟩ := m_days h hM2 hI hn hn12
        refine ⟨σ', ?_, p2, am_amw p3, p4⟩
        simp (discharger := first | assumption | omega | decide) only [x_tg, w_tg, m_tg, ↓reduceIte, Option.bind_some, ↓m_0b, ↓m_1b, ↓m_2b, ↓m_3b, ↓m_4b, ↓m_5b, ↓m_6b, ↓m_7b, ↓m_8b, ↓m_9b, ↓m_10b, ↓m_11b, ↓m_12b, ↓m_13b, ↓m_14b, ↓m_15b, ↓m_16b, ↓m_17b, ↓m_18b, ↓m_19b, ↓m_20b, ↓m_21b, ↓m_22b, ↓m_23b, ↓m_24b, ↓m_25b, ↓m_26b, ↓m_27b, ↓m_28b, ↓m_29b, ↓mp_3b, ↓mp_6b, ↓mp_10b, ↓mp_11b, ↓mp_12b, ↓mp_14b, ↓mp_15b, ↓mp_16b, ↓mp_17b, ↓mp_18b, ↓mp_19b, ↓mp_22b, ↓mp_23b, ↓mp_24b, ↓mp_25b, ↓M_42b, ↓M_43b, ↓M_44b, ↓M_45b, ↓cIs_0b, ↓cIs_1b, ↓cIs_2b, ↓cIs_3b, ↓cIs_4b, ↓eIs_0b, ↓eIs_1b, ↓eIs_2b, ↓eIs_3b, ↓eIs_4b, ↓cIs_nb, ↓eIs_nb, ↓M_rb, ↓M_cAt_0b, ↓M_cAt_1b, ↓M_cAt_2b, ↓M_cAt_3b, ↓M_cAt_4b, ↓M_eAt_0b, ↓M_eAt_1b, ↓M_eAt_2b, ↓M_eAt_3b, ↓M_eAt_4b, ↓M_wAt_0b, ↓M_wAt_1b, cAt_0, cAt_1, cAt_2, cAt_3, cAt_4, eAt_0, eAt_1, eAt_2, eAt_3, eAt_4, wAt_0, wAt_1, cAt_n, eAt_n, wAt_n, ↓m_isCarrierb, ↓m_isErrandb, ↓m_isWareb, ↓m_isFewb, F_X0_isKind, F_X0_isPlace, F_X0_isPrice, F_X0_isSheet, F_X0_isSpot, F_X13_isKind, F_X13_isPlace, F_X13_isSheet, F_X13_isSpot, within_eq, one_and, zero_and, one_ne, not_true_eq_false, not_false_eq_true, F_X13_day, F_X13_refusesDays, e1, e0, ↓cb9 p1]
  · exact STEP_fnd hR (k := 0) (xv := 0) (mv := -1000001) (by omega) rfl (by decide) ⟨σ, by simp (discharger := first | assumption | omega | decide) only [x_tg, w_tg, m_tg, ↓reduceIte, Option.bind_some, ↓x_0b, ↓x_1b, ↓x_2b, ↓x_3b, ↓x_4b, ↓x_5b, ↓x_6b, ↓x_7b, ↓x_8b, ↓x_9b, ↓x_10b, ↓x_11b, ↓x_12b, ↓x_13b, ↓x_14b, ↓x_15b, ↓x_16b, ↓x_17b, ↓x_18b, ↓x_19b, ↓xp_2b, ↓xp_6b, ↓xp_14b, ↓xp_17b, ↓xp_18b, ↓xp_19b, ↓X_f0b, ↓X_f2b, ↓X_f4b, ↓X_f8b, ↓wf_1b, ↓wf_3b, ↓wf_5b, ↓wf_6b, ↓wf_7b, ↓wf_9b, ↓wt_1_0b, ↓wt_1_1b, ↓wt_1_2b, ↓wt_1_3b, ↓wt_1_4b, ↓wt_11_0b, ↓wt_11_1b, ↓wt_11_2b, ↓wt_11_3b, ↓wt_11_4b, ↓wt_21_0b, ↓wt_21_1b, ↓wt_31_0b, ↓wt_31_1b, ↓wt_31_2b, ↓wt_31_3b, ↓wt_31_4b, ↓wt_31_5b, ↓wt_31_6b, ↓wt_41_0b, ↓wt_41_1b, ↓wt_41_2b, ↓wt_41_3b, ↓wt_41_4b, ↓wt_41_5b, ↓wt_41_6b, ↓wt_1b, ↓wt_11b, ↓wt_21b, ↓wt_31b, ↓wt_41b, ↓X_c0b, ↓X_c1b, ↓X_c2b, ↓X_c3b, ↓X_c4b, ↓X_e0b, ↓X_e1b, ↓X_e2b, ↓X_e3b, ↓X_e4b, ↓X_cb, ↓X_eb, ↓X_w0b, ↓X_w1b, ↓X_hb, ↓X_yb, ↓X_rb, ↓wp_0b, ↓wp_2b, ↓wp_4b, ↓wp_8b, ↓ws_2b, ↓ws_3b, ↓ws_4b, ↓ws_5b, ↓ws_6b, ↓ws_12b, ↓ws_13b, ↓ws_14b, ↓ws_15b, ↓ws_16b, ↓ws_22b, ↓ws_23b, ↓ws_51b, ↓wS_yb, ↓wS_rb, ↓wS_cb, ↓wS_eb, ↓x_isCarrierb, ↓x_isErrandb, ↓x_isWareb, ↓x_isSetb, ↓x_isFewb, F_X0_isKind, F_X0_isPlace, F_X0_isPrice, F_X0_isSheet, F_X0_isSpot, F_X13_isKind, F_X13_isPlace, F_X13_isSheet, F_X13_isSpot, within_eq, one_and, zero_and, one_ne, not_true_eq_false, not_false_eq_true, F_X0_day, F_X0_whyNoDay, e1, show ¬ (0 : Int32) = -1 by decide], ag_refl _, xf_refl _⟩ (fun σ1 hM => by have hM2 := hM.2.1; exact ⟨σ1, by simp (discharger := first | assumption | omega | decide) only [x_tg, w_tg, m_tg, ↓reduceIte, Option.bind_some, ↓m_0b, ↓m_1b, ↓m_2b, ↓m_3b, ↓m_4b, ↓m_5b, ↓m_6b, ↓m_7b, ↓m_8b, ↓m_9b, ↓m_10b, ↓m_11b, ↓m_12b, ↓m_13b, ↓m_14b, ↓m_15b, ↓m_16b, ↓m_17b, ↓m_18b, ↓m_19b, ↓m_20b, ↓m_21b, ↓m_22b, ↓m_23b, ↓m_24b, ↓m_25b, ↓m_26b, ↓m_27b, ↓m_28b, ↓m_29b, ↓mp_3b, ↓mp_6b, ↓mp_10b, ↓mp_11b, ↓mp_12b, ↓mp_14b, ↓mp_15b, ↓mp_16b, ↓mp_17b, ↓mp_18b, ↓mp_19b, ↓mp_22b, ↓mp_23b, ↓mp_24b, ↓mp_25b, ↓M_42b, ↓M_43b, ↓M_44b, ↓M_45b, ↓cIs_0b, ↓cIs_1b, ↓cIs_2b, ↓cIs_3b, ↓cIs_4b, ↓eIs_0b, ↓eIs_1b, ↓eIs_2b, ↓eIs_3b, ↓eIs_4b, ↓cIs_nb, ↓eIs_nb, ↓M_rb, ↓M_cAt_0b, ↓M_cAt_1b, ↓M_cAt_2b, ↓M_cAt_3b, ↓M_cAt_4b, ↓M_eAt_0b, ↓M_eAt_1b, ↓M_eAt_2b, ↓M_eAt_3b, ↓M_eAt_4b, ↓M_wAt_0b, ↓M_wAt_1b, cAt_0, cAt_1, cAt_2, cAt_3, cAt_4, eAt_0, eAt_1, eAt_2, eAt_3, eAt_4, wAt_0, wAt_1, cAt_n, eAt_n, wAt_n, ↓m_isCarrierb, ↓m_isErrandb, ↓m_isWareb, ↓m_isFewb, F_X0_isKind, F_X0_isPlace, F_X0_isPrice, F_X0_isSheet, F_X0_isSpot, F_X13_isKind, F_X13_isPlace, F_X13_isSheet, F_X13_isSpot, within_eq, one_and, zero_and, one_ne, not_true_eq_false, not_false_eq_true, F_X13_day, F_X13_refusesDays, e1, show ¬ (-1000001 : Int32) = 0 by decide], ag_refl _, mf_refl _⟩)
set_option maxRecDepth 8000 in
theorem WX_aw4 (ha : aw σ σ') (hW : WX σ 400 ρ) : WX σ' 400 ρ := WX_congr (fun i h1 h2 => by funext k; exact ha i k (by unfold s1; simp only [Bool.or_eq_false_iff, Bool.and_eq_false_iff, beq_eq_false_iff_ne, decide_eq_false_iff_not]; omega) (by omega)) hW
set_option maxRecDepth 8000 in
theorem ax_wf4 (h : wf 400 σ σ') : ax σ σ' := fun i k hs _ => by have := s2_i hs; rw [h i (by omega)]
set_option maxRecDepth 8000 in
theorem op_ahead (hR : RR L σ S) (x1 : Int32) : STEP L σ (F_X0_ahead (some (L.1 0)) x1) (F_X13_ahead (some (L.1 1000)) x1) := by
  have h := hR.1.1
  have hW := hR.1.2.1
  have hC := hR.1.2.2.1
  have hP := hR.1.2.2.2.1
  have hI := hR.2.2.1.1
  have hb : isW 200 = true := rfl
  rcases in_1_12 x1 with ⟨e1, n, hn1, hn12, rfl⟩ | e1
  · by_cases hn : NC S.1 = 0
    · have e0 : S.1 42 = 0 := by rw [hI.1.1, hn]; rfl
      exact STEP_fnd hR (k := 4) (xv := 4) (mv := -1000005) (by omega) rfl (by decide) ⟨σ, by simp (discharger := first | assumption | omega | decide) only [x_tg, w_tg, m_tg, ↓reduceIte, Option.bind_some, ↓x_0b, ↓x_1b, ↓x_2b, ↓x_3b, ↓x_4b, ↓x_5b, ↓x_6b, ↓x_7b, ↓x_8b, ↓x_9b, ↓x_10b, ↓x_11b, ↓x_12b, ↓x_13b, ↓x_14b, ↓x_15b, ↓x_16b, ↓x_17b, ↓x_18b, ↓x_19b, ↓xp_2b, ↓xp_6b, ↓xp_14b, ↓xp_17b, ↓xp_18b, ↓xp_19b, ↓X_f0b, ↓X_f2b, ↓X_f4b, ↓X_f8b, ↓wf_1b, ↓wf_3b, ↓wf_5b, ↓wf_6b, ↓wf_7b, ↓wf_9b, ↓wt_1_0b, ↓wt_1_1b, ↓wt_1_2b, ↓wt_1_3b, ↓wt_1_4b, ↓wt_11_0b, ↓wt_11_1b, ↓wt_11_2b, ↓wt_11_3b, ↓wt_11_4b, ↓wt_21_0b, ↓wt_21_1b, ↓wt_31_0b, ↓wt_31_1b, ↓wt_31_2b, ↓wt_31_3b, ↓wt_31_4b, ↓wt_31_5b, ↓wt_31_6b, ↓wt_41_0b, ↓wt_41_1b, ↓wt_41_2b, ↓wt_41_3b, ↓wt_41_4b, ↓wt_41_5b, ↓wt_41_6b, ↓wt_1b, ↓wt_11b, ↓wt_21b, ↓wt_31b, ↓wt_41b, ↓X_c0b, ↓X_c1b, ↓X_c2b, ↓X_c3b, ↓X_c4b, ↓X_e0b, ↓X_e1b, ↓X_e2b, ↓X_e3b, ↓X_e4b, ↓X_cb, ↓X_eb, ↓X_w0b, ↓X_w1b, ↓X_hb, ↓X_yb, ↓X_rb, ↓wp_0b, ↓wp_2b, ↓wp_4b, ↓wp_8b, ↓ws_2b, ↓ws_3b, ↓ws_4b, ↓ws_5b, ↓ws_6b, ↓ws_12b, ↓ws_13b, ↓ws_14b, ↓ws_15b, ↓ws_16b, ↓ws_22b, ↓ws_23b, ↓ws_51b, ↓wS_yb, ↓wS_rb, ↓wS_cb, ↓wS_eb, ↓x_isCarrierb, ↓x_isErrandb, ↓x_isWareb, ↓x_isSetb, ↓x_isFewb, F_X0_isKind, F_X0_isPlace, F_X0_isPrice, F_X0_isSheet, F_X0_isSpot, F_X13_isKind, F_X13_isPlace, F_X13_isSheet, F_X13_isSpot, within_eq, one_and, zero_and, one_ne, not_true_eq_false, not_false_eq_true, F_X0_ahead, F_X0_whyNoDay, e1, eq_true e0, show ¬ (4 : Int32) = -1 by decide], ag_refl _, xf_refl _⟩ (fun σ1 hM => by have hM2 := hM.2.1; exact ⟨σ1, by simp (discharger := first | assumption | omega | decide) only [x_tg, w_tg, m_tg, ↓reduceIte, Option.bind_some, ↓m_0b, ↓m_1b, ↓m_2b, ↓m_3b, ↓m_4b, ↓m_5b, ↓m_6b, ↓m_7b, ↓m_8b, ↓m_9b, ↓m_10b, ↓m_11b, ↓m_12b, ↓m_13b, ↓m_14b, ↓m_15b, ↓m_16b, ↓m_17b, ↓m_18b, ↓m_19b, ↓m_20b, ↓m_21b, ↓m_22b, ↓m_23b, ↓m_24b, ↓m_25b, ↓m_26b, ↓m_27b, ↓m_28b, ↓m_29b, ↓mp_3b, ↓mp_6b, ↓mp_10b, ↓mp_11b, ↓mp_12b, ↓mp_14b, ↓mp_15b, ↓mp_16b, ↓mp_17b, ↓mp_18b, ↓mp_19b, ↓mp_22b, ↓mp_23b, ↓mp_24b, ↓mp_25b, ↓M_42b, ↓M_43b, ↓M_44b, ↓M_45b, ↓cIs_0b, ↓cIs_1b, ↓cIs_2b, ↓cIs_3b, ↓cIs_4b, ↓eIs_0b, ↓eIs_1b, ↓eIs_2b, ↓eIs_3b, ↓eIs_4b, ↓cIs_nb, ↓eIs_nb, ↓M_rb, ↓M_cAt_0b, ↓M_cAt_1b, ↓M_cAt_2b, ↓M_cAt_3b, ↓M_cAt_4b, ↓M_eAt_0b, ↓M_eAt_1b, ↓M_eAt_2b, ↓M_eAt_3b, ↓M_eAt_4b, ↓M_wAt_0b, ↓M_wAt_1b, cAt_0, cAt_1, cAt_2, cAt_3, cAt_4, eAt_0, eAt_1, eAt_2, eAt_3, eAt_4, wAt_0, wAt_1, cAt_n, eAt_n, wAt_n, ↓m_isCarrierb, ↓m_isErrandb, ↓m_isWareb, ↓m_isFewb, F_X0_isKind, F_X0_isPlace, F_X0_isPrice, F_X0_isSheet, F_X0_isSpot, F_X13_isKind, F_X13_isPlace, F_X13_isSheet, F_X13_isSpot, within_eq, one_and, zero_and, one_ne, not_true_eq_false, not_false_eq_true, F_X13_ahead, F_X13_refusesDays, e1, eq_true e0, show ¬ (-1000005 : Int32) = 0 by decide], ag_refl _, mf_refl _⟩)
    · have h6 := hI.1.2
      have e0 : ¬ S.1 42 = 0 := by rw [hI.1.1, li_0, ofN_inj (by omega) (by omega)]; exact hn
      refine STEP_g hR (r := Int32.ofNat (nDone (dayN S.1 n)) - Int32.ofNat (nDone S.1)) hI ?_ (fun σ1 hM => ?_)
      · obtain ⟨σ1, a1, a2, a3⟩ := x_become (b := 400) (b' := 200) h rfl rfl (by omega) hW
        have hW1 : WX σ1 200 S.1 := WX_congr (fun i p q => a3 i (by omega)) hW
        obtain ⟨σ2, p1, p2, p3, p4⟩ := x_works h hW1 hI (CN_ax (ax_wf4 a3) hC) hn hn12
        obtain ⟨σ3, b1, b2, b3⟩ := x_become (b := 200) (b' := 400) h rfl rfl (by omega) (WX_aw4 p3 a2)
        refine ⟨σ3, ?_, b2, ax_trans (ax_wf4 a3) (ax_trans (ax_aw p3) (ax_wf b3)), xf_trans (fun i hi => a3 i (by omega)) (xf_trans p4 (xf_wf b3))⟩
        simp (discharger := first | assumption | omega | decide) only [x_tg, w_tg, m_tg, ↓reduceIte, Option.bind_some, ↓x_0b, ↓x_1b, ↓x_2b, ↓x_3b, ↓x_4b, ↓x_5b, ↓x_6b, ↓x_7b, ↓x_8b, ↓x_9b, ↓x_10b, ↓x_11b, ↓x_12b, ↓x_13b, ↓x_14b, ↓x_15b, ↓x_16b, ↓x_17b, ↓x_18b, ↓x_19b, ↓xp_2b, ↓xp_6b, ↓xp_14b, ↓xp_17b, ↓xp_18b, ↓xp_19b, ↓X_f0b, ↓X_f2b, ↓X_f4b, ↓X_f8b, ↓wf_1b, ↓wf_3b, ↓wf_5b, ↓wf_6b, ↓wf_7b, ↓wf_9b, ↓wt_1_0b, ↓wt_1_1b, ↓wt_1_2b, ↓wt_1_3b, ↓wt_1_4b, ↓wt_11_0b, ↓wt_11_1b, ↓wt_11_2b, ↓wt_11_3b, ↓wt_11_4b, ↓wt_21_0b, ↓wt_21_1b, ↓wt_31_0b, ↓wt_31_1b, ↓wt_31_2b, ↓wt_31_3b, ↓wt_31_4b, ↓wt_31_5b, ↓wt_31_6b, ↓wt_41_0b, ↓wt_41_1b, ↓wt_41_2b, ↓wt_41_3b, ↓wt_41_4b, ↓wt_41_5b, ↓wt_41_6b, ↓wt_1b, ↓wt_11b, ↓wt_21b, ↓wt_31b, ↓wt_41b, ↓X_c0b, ↓X_c1b, ↓X_c2b, ↓X_c3b, ↓X_c4b, ↓X_e0b, ↓X_e1b, ↓X_e2b, ↓X_e3b, ↓X_e4b, ↓X_cb, ↓X_eb, ↓X_w0b, ↓X_w1b, ↓X_hb, ↓X_yb, ↓X_rb, ↓wp_0b, ↓wp_2b, ↓wp_4b, ↓wp_8b, ↓ws_2b, ↓ws_3b, ↓ws_4b, ↓ws_5b, ↓ws_6b, ↓ws_12b, ↓ws_13b, ↓ws_14b, ↓ws_15b, ↓ws_16b, ↓ws_22b, ↓ws_23b, ↓ws_51b, ↓wS_yb, ↓wS_rb, ↓wS_cb, ↓wS_eb, ↓x_isCarrierb, ↓x_isErrandb, ↓x_isWareb, ↓x_isSetb, ↓x_isFewb, F_X0_isKind, F_X0_isPlace, F_X0_isPrice, F_X0_isSheet, F_X0_isSpot, F_X13_isKind, F_X13_isPlace, F_X13_isSheet, F_X13_isSpot, within_eq, one_and, zero_and, one_ne, not_true_eq_false, not_false_eq_true, F_X0_ahead, F_X0_whyNoDay, e1, e0, ↓bn9 a1, ↓cb9 p1, ↓bn9 b1]
      · have hM2 := hM.2.1
        have c1 := m_copyRow (σ := σ1) (i := 1001) (i' := 1003) h (by omega) (by omega) (by omega)
        have am1 : am σ1 (cp2 σ1 1001 0 1003 0 138) := fun i k hs _ => by have := s2_i hs; unfold cp2; rw [if_neg (by omega)]
        have hMa : WM (cp2 σ1 1001 0 1003 0 138) S.1 := fun i hi => by unfold cp2; rw [if_neg (by omega)]; exact hM2 i hi
        have h3a : ∀ i, i < 138 → cp2 σ1 1001 0 1003 0 138 1003 i = S.1 i := fun i hi => by
          unfold cp2; rw [if_pos ⟨rfl, by omega, by omega⟩, show 0 + (i - 0) = i by omega]; exact hM2 i hi
        have mf1 : mf σ1 (cp2 σ1 1001 0 1003 0 138) := fun i hi => by funext k; unfold cp2; rw [if_neg (by omega)]
        generalize cp2 σ1 1001 0 1003 0 138 = σ2 at *
        obtain ⟨σ3, p1, p2, p3, p4⟩ := m_days h hMa hI hn hn12
        have c2 := m_copyRow (σ := σ3) (i := 1003) (i' := 1001) h (by omega) (by omega) (by omega)
        have hMc : WM (cp2 σ3 1003 0 1001 0 138) S.1 := fun i hi => by
          unfold cp2; rw [if_pos ⟨rfl, by omega, by omega⟩, show 0 + (i - 0) = i by omega, p3 1003 i (by unfold s1; rfl) (by omega) (by omega)]; exact h3a i hi
        refine ⟨_, ?_, hMc, am_trans am1 (am_trans (am_amw p3) (fun i k hs hi => by unfold cp2; rw [if_neg (fun q => hi q.1)])), mf_trans mf1 (mf_trans p4 (fun i hi => by funext k; unfold cp2; rw [if_neg (by omega)]))⟩
        simp (discharger := first | assumption | omega | decide) only [x_tg, w_tg, m_tg, ↓reduceIte, Option.bind_some, ↓m_0b, ↓m_1b, ↓m_2b, ↓m_3b, ↓m_4b, ↓m_5b, ↓m_6b, ↓m_7b, ↓m_8b, ↓m_9b, ↓m_10b, ↓m_11b, ↓m_12b, ↓m_13b, ↓m_14b, ↓m_15b, ↓m_16b, ↓m_17b, ↓m_18b, ↓m_19b, ↓m_20b, ↓m_21b, ↓m_22b, ↓m_23b, ↓m_24b, ↓m_25b, ↓m_26b, ↓m_27b, ↓m_28b, ↓m_29b, ↓mp_3b, ↓mp_6b, ↓mp_10b, ↓mp_11b, ↓mp_12b, ↓mp_14b, ↓mp_15b, ↓mp_16b, ↓mp_17b, ↓mp_18b, ↓mp_19b, ↓mp_22b, ↓mp_23b, ↓mp_24b, ↓mp_25b, ↓M_42b, ↓M_43b, ↓M_44b, ↓M_45b, ↓cIs_0b, ↓cIs_1b, ↓cIs_2b, ↓cIs_3b, ↓cIs_4b, ↓eIs_0b, ↓eIs_1b, ↓eIs_2b, ↓eIs_3b, ↓eIs_4b, ↓cIs_nb, ↓eIs_nb, ↓M_rb, ↓M_cAt_0b, ↓M_cAt_1b, ↓M_cAt_2b, ↓M_cAt_3b, ↓M_cAt_4b, ↓M_eAt_0b, ↓M_eAt_1b, ↓M_eAt_2b, ↓M_eAt_3b, ↓M_eAt_4b, ↓M_wAt_0b, ↓M_wAt_1b, cAt_0, cAt_1, cAt_2, cAt_3, cAt_4, eAt_0, eAt_1, eAt_2, eAt_3, eAt_4, wAt_0, wAt_1, cAt_n, eAt_n, wAt_n, ↓m_isCarrierb, ↓m_isErrandb, ↓m_isWareb, ↓m_isFewb, F_X0_isKind, F_X0_isPlace, F_X0_isPrice, F_X0_isSheet, F_X0_isSpot, F_X13_isKind, F_X13_isPlace, F_X13_isSheet, F_X13_isSpot, within_eq, one_and, zero_and, one_ne, not_true_eq_false, not_false_eq_true, F_X13_ahead, F_X13_refusesDays, F_X13_putBack, e1, e0, ↓bn9 c1, ↓cb9 p1, ↓bn9 c2]
        rfl
  · exact STEP_fnd hR (k := 0) (xv := 0) (mv := -1000001) (by omega) rfl (by decide) ⟨σ, by simp (discharger := first | assumption | omega | decide) only [x_tg, w_tg, m_tg, ↓reduceIte, Option.bind_some, ↓x_0b, ↓x_1b, ↓x_2b, ↓x_3b, ↓x_4b, ↓x_5b, ↓x_6b, ↓x_7b, ↓x_8b, ↓x_9b, ↓x_10b, ↓x_11b, ↓x_12b, ↓x_13b, ↓x_14b, ↓x_15b, ↓x_16b, ↓x_17b, ↓x_18b, ↓x_19b, ↓xp_2b, ↓xp_6b, ↓xp_14b, ↓xp_17b, ↓xp_18b, ↓xp_19b, ↓X_f0b, ↓X_f2b, ↓X_f4b, ↓X_f8b, ↓wf_1b, ↓wf_3b, ↓wf_5b, ↓wf_6b, ↓wf_7b, ↓wf_9b, ↓wt_1_0b, ↓wt_1_1b, ↓wt_1_2b, ↓wt_1_3b, ↓wt_1_4b, ↓wt_11_0b, ↓wt_11_1b, ↓wt_11_2b, ↓wt_11_3b, ↓wt_11_4b, ↓wt_21_0b, ↓wt_21_1b, ↓wt_31_0b, ↓wt_31_1b, ↓wt_31_2b, ↓wt_31_3b, ↓wt_31_4b, ↓wt_31_5b, ↓wt_31_6b, ↓wt_41_0b, ↓wt_41_1b, ↓wt_41_2b, ↓wt_41_3b, ↓wt_41_4b, ↓wt_41_5b, ↓wt_41_6b, ↓wt_1b, ↓wt_11b, ↓wt_21b, ↓wt_31b, ↓wt_41b, ↓X_c0b, ↓X_c1b, ↓X_c2b, ↓X_c3b, ↓X_c4b, ↓X_e0b, ↓X_e1b, ↓X_e2b, ↓X_e3b, ↓X_e4b, ↓X_cb, ↓X_eb, ↓X_w0b, ↓X_w1b, ↓X_hb, ↓X_yb, ↓X_rb, ↓wp_0b, ↓wp_2b, ↓wp_4b, ↓wp_8b, ↓ws_2b, ↓ws_3b, ↓ws_4b, ↓ws_5b, ↓ws_6b, ↓ws_12b, ↓ws_13b, ↓ws_14b, ↓ws_15b, ↓ws_16b, ↓ws_22b, ↓ws_23b, ↓ws_51b, ↓wS_yb, ↓wS_rb, ↓wS_cb, ↓wS_eb, ↓x_isCarrierb, ↓x_isErrandb, ↓x_isWareb, ↓x_isSetb, ↓x_isFewb, F_X0_isKind, F_X0_isPlace, F_X0_isPrice, F_X0_isSheet, F_X0_isSpot, F_X13_isKind, F_X13_isPlace, F_X13_isSheet, F_X13_isSpot, within_eq, one_and, zero_and, one_ne, not_true_eq_false, not_false_eq_true, F_X0_ahead, F_X0_whyNoDay, e1, show ¬ (0 : Int32) = -1 by decide], ag_refl _, xf_refl _⟩ (fun σ1 hM => by have hM2 := hM.2.1; exact ⟨σ1, by simp (discharger := first | assumption | omega | decide) only [x_tg, w_tg, m_tg, ↓reduceIte, Option.bind_some, ↓m_0b, ↓m_1b, ↓m_2b, ↓m_3b, ↓m_4b, ↓m_5b, ↓m_6b, ↓m_7b, ↓m_8b, ↓m_9b, ↓m_10b, ↓m_11b, ↓m_12b, ↓m_13b, ↓m_14b, ↓m_15b, ↓m_16b, ↓m_17b, ↓m_18b, ↓m_19b, ↓m_20b, ↓m_21b, ↓m_22b, ↓m_23b, ↓m_24b, ↓m_25b, ↓m_26b, ↓m_27b, ↓m_28b, ↓m_29b, ↓mp_3b, ↓mp_6b, ↓mp_10b, ↓mp_11b, ↓mp_12b, ↓mp_14b, ↓mp_15b, ↓mp_16b, ↓mp_17b, ↓mp_18b, ↓mp_19b, ↓mp_22b, ↓mp_23b, ↓mp_24b, ↓mp_25b, ↓M_42b, ↓M_43b, ↓M_44b, ↓M_45b, ↓cIs_0b, ↓cIs_1b, ↓cIs_2b, ↓cIs_3b, ↓cIs_4b, ↓eIs_0b, ↓eIs_1b, ↓eIs_2b, ↓eIs_3b, ↓eIs_4b, ↓cIs_nb, ↓eIs_nb, ↓M_rb, ↓M_cAt_0b, ↓M_cAt_1b, ↓M_cAt_2b, ↓M_cAt_3b, ↓M_cAt_4b, ↓M_eAt_0b, ↓M_eAt_1b, ↓M_eAt_2b, ↓M_eAt_3b, ↓M_eAt_4b, ↓M_wAt_0b, ↓M_wAt_1b, cAt_0, cAt_1, cAt_2, cAt_3, cAt_4, eAt_0, eAt_1, eAt_2, eAt_3, eAt_4, wAt_0, wAt_1, cAt_n, eAt_n, wAt_n, ↓m_isCarrierb, ↓m_isErrandb, ↓m_isWareb, ↓m_isFewb, F_X0_isKind, F_X0_isPlace, F_X0_isPrice, F_X0_isSheet, F_X0_isSpot, F_X13_isKind, F_X13_isPlace, F_X13_isSheet, F_X13_isSpot, within_eq, one_and, zero_and, one_ne, not_true_eq_false, not_false_eq_true, F_X13_ahead, F_X13_refusesDays, e1, show ¬ (-1000001 : Int32) = 0 by decide], ag_refl _, mf_refl _⟩)
end L6b
