/-! ### the acts: rounds -/
set_option maxRecDepth 8000 in
theorem lpE {γ β : Type} {Lp : Nat → Nat → γ → Option β} {N : Nat} (Q : Nat → γ → Prop) (Post : β → Prop) (h0 : ∀ f g, Q N g → ∃ r, Lp (f + 1) N g = some r ∧ Post r) (hs : ∀ f j g, j < N → Q j g → (∃ g', Lp (f + 1) j g = Lp f (j + 1) g' ∧ Q (j + 1) g') ∨ ∃ r, Lp (f + 1) j g = some r ∧ Post r) (hN : N < fu) (g : γ) (hq : Q 0 g) : ∃ r, Lp fu 0 g = some r ∧ Post r := by
  have key : ∀ (k j f : Nat) (g : γ), j + k = N → k < f → Q j g → ∃ r, Lp f j g = some r ∧ Post r := by
    intro k
    induction k with
    | zero =>
      intro j f g hj hf hq
      match f, hf with
      | f + 1, _ =>
        have e : j = N := by omega
        subst e; exact h0 f g hq
    | succ k ih =>
      intro j f g hj hf hq
      match f, hf with
      | f + 1, hf =>
        rcases hs f j g (by omega) hq with ⟨g', e, hq'⟩ | hr
        · rw [e]; exact ih (j + 1) f g' (by omega) (by omega) hq'
        · exact hr
  exact key N 0 fu g (by omega) hN hq
section L5a
variable {L : Lt} {σ σ' : St} {S : Sg} {ρ ρ' : Rw}
def alV (ρ : Rw) (v : Int32) : Int32 := if v &&& (Int32.ofNat (bset (Phow ρ 0) (NE ρ)) ^^^ -1) = 0 then 1 else 0
def emV (ρ : Rw) (v : Int32) : Int32 := if bset (Pcar ρ v) (NE ρ) = 0 then 1 else 0
set_option maxRecDepth 8000 in
theorem x_allLie (h : Lok L) (hW : WX σ 200 ρ) (hI : Inv ρ) (v : Int32) : F_X0_allLie (some (L.1 0)) v (hp L σ) = some (alV ρ v) := by
  have g := x_being h rfl hW hI.2.1.1 hI.2.1.2 0
  unfold F_X0_allLie alV
  rw [if_pos (x_tg h), bn9 (x_3 h), bn9 g]
  by_cases hz : v &&& (Int32.ofNat (bset (Phow ρ 0) (NE ρ)) ^^^ -1) = 0
  · rw [if_neg (fun q => q hz), if_pos hz]
  · rw [if_pos hz, if_neg hz]
set_option maxRecDepth 8000 in
theorem m_allLie (h : Lok L) (hM : WM σ ρ) (hI : Inv ρ) (v : Int32) : F_X13_allLie (some (L.1 1000)) v (hp L σ) = some (alV ρ v) := by
  have g := m_errandsThat h hM hI.2.1.1 hI.2.1.2 0
  unfold F_X13_allLie alV
  rw [if_pos (m_tg h), bn9 g]
  by_cases hz : v &&& (Int32.ofNat (bset (Phow ρ 0) (NE ρ)) ^^^ -1) = 0
  · rw [if_neg (fun q => q hz), if_pos hz]
  · rw [if_pos hz, if_neg hz]
set_option maxRecDepth 8000 in
theorem z_iff {s : Nat} (hs : s < 256) : Int32.ofNat s = 0 ↔ s = 0 := by rw [li_0, ofN_inj (by omega) (by omega)]
set_option maxRecDepth 8000 in
theorem x_isEmpty (h : Lok L) (hW : WX σ 200 ρ) (hI : Inv ρ) (v : Int32) : F_X0_isEmpty (some (L.1 0)) v (hp L σ) = some (emV ρ v) := by
  have g := x_carriedBy9 h rfl hW hI.2.1.1 hI.2.1.2 v
  have hz := z_iff (bset_lt8 (P := Pcar ρ v) hI.2.1.2)
  unfold F_X0_isEmpty emV
  rw [if_pos (x_tg h), bn9 (x_3 h), bn9 g]
  simp only [hz]
  by_cases hq : bset (Pcar ρ v) (NE ρ) = 0
  · rw [if_neg (fun q => q hq), if_pos hq]
  · rw [if_pos hq, if_neg hq]
/-- why a round can't be asked: 0 it can, 1 beyond, 2 the state -/
def whc (ρ : Rw) (v1 v2 : Int32) : Nat := if icV (ρ 42) v1 = 0 then 1 else if fwV ρ v2 = 0 then 1 else if alV ρ v2 = 0 then 2 else if emV ρ v1 = 0 then 2 else 0
set_option maxRecDepth 8000 in
theorem x_whyNot (h : Lok L) (hW : WX σ 200 ρ) (hI : Inv ρ) (v1 v2 : Int32) : F_X0_whyNot (some (L.1 0)) v1 v2 (hp L σ) = some (if whc ρ v1 v2 = 0 then -1 else if whc ρ v1 v2 = 1 then 0 else 4) := by
  unfold F_X0_whyNot F_X0_whyNot_J16 whc
  rw [if_pos (x_tg h), bn9 (x_isCarrier h hW v1)]
  by_cases h1 : icV (ρ 42) v1 = 0
  · simp only [h1, ↓reduceIte]; rfl
  · rw [if_neg h1, bn9 (x_isFew h hW hI v2)]
    by_cases h2 : fwV ρ v2 = 0
    · simp only [h1, h2, ↓reduceIte, not_true_eq_false]; rfl
    · rw [if_pos h2, bn9 (x_allLie h hW hI v2)]
      by_cases h3 : alV ρ v2 = 0
      · simp only [h1, h2, h3, ↓reduceIte]; rfl
      · rw [if_neg h3, bn9 (x_isEmpty h hW hI v1)]
        by_cases h4 : emV ρ v1 = 0
        · simp only [h1, h2, h3, h4, ↓reduceIte]; rfl
        · simp only [h1, h2, h3, h4, ↓reduceIte]
set_option maxRecDepth 8000 in
theorem m_refuses (h : Lok L) (hM : WM σ ρ) (hI : Inv ρ) (v1 v2 : Int32) : F_X13_refuses (some (L.1 1000)) v1 v2 (hp L σ) = some (if whc ρ v1 v2 = 0 then 0 else if whc ρ v1 v2 = 1 then -1000001 else -1000005) := by
  unfold F_X13_refuses F_X13_refuses_J38 F_X13_refuses_J17 whc
  rw [if_pos (m_tg h), bn9 (m_isCarrier h hM v1)]
  by_cases h1 : icV (ρ 42) v1 = 0
  · simp only [h1, ↓reduceIte]; rfl
  · rw [if_neg h1, bn9 (m_isFew h hM hI v2)]
    by_cases h2 : fwV ρ v2 = 0
    · simp only [h1, h2, ↓reduceIte, not_true_eq_false]; rfl
    · rw [if_pos h2, bn9 (m_allLie h hM hI v2)]
      by_cases h3 : alV ρ v2 = 0
      · simp only [h1, h2, h3, ↓reduceIte]; rfl
      · rw [if_neg h3, bn9 (m_carries h hM hI.2.1.1 hI.2.1.2 v1)]
        have hz := z_iff (bset_lt8 (P := Pcar ρ v1) hI.2.1.2)
        simp only [hz]
        unfold emV
        by_cases h4 : bset (Pcar ρ v1) (NE ρ) = 0
        · simp only [h1, h2, h3, h4, ↓reduceIte]; rfl
        · simp only [h1, h2, h3, h4, ↓reduceIte]; rfl
set_option maxRecDepth 8000 in
theorem whc_cs (hI : Inv ρ) (v1 v2 : Int32) : (whc ρ v1 v2 = 0 ∧ ∃ c s, c < NC ρ ∧ c < 6 ∧ v1 = Int32.ofNat c ∧ s < 2 ^ NE ρ ∧ s < 256 ∧ cbn s (NE ρ) ≤ 5 ∧ v2 = Int32.ofNat s ∧ alV ρ v2 = 1) ∨ whc ρ v1 v2 = 1 ∨ whc ρ v1 v2 = 2 := by
  unfold whc
  rcases icC hI v1 with ⟨e1, c, hc, hc6, rfl⟩ | e1
  · rw [if_neg (by rw [e1]; decide)]
    rcases fwV_cs hI v2 with ⟨e2, s, hs, hs8, hf, rfl⟩ | e2
    · rw [if_neg (by rw [e2]; decide)]
      by_cases h3 : alV ρ (Int32.ofNat s) = 0
      · rw [if_pos h3]; exact .inr (.inr rfl)
      · rw [if_neg h3]
        by_cases h4 : emV ρ (Int32.ofNat c) = 0
        · rw [if_pos h4]; exact .inr (.inr rfl)
        · rw [if_neg h4]
          refine .inl ⟨rfl, c, s, hc, hc6, rfl, hs, hs8, hf, rfl, ?_⟩
          unfold alV at h3 ⊢
          split
          · rfl
          · rename_i q; rw [if_neg q] at h3; exact absurd rfl h3
    · rw [if_pos e2]; exact .inr (.inl rfl)
  · rw [if_pos e1]; exact .inr (.inl rfl)
set_option maxRecDepth 8000 in
/-- what is refused alike -/
theorem STEP_why {Fx Fm : cH → Option (Int32 × cH)} (hR : RR L σ S) {v1 v2 : Int32} (hw : whc S.1 v1 v2 = 1 ∨ whc S.1 v1 v2 = 2) (hx : ∀ i, F_X0_whyNot (some (L.1 0)) v1 v2 (hp L σ) = some i → ¬ i = -1 → Fx (hp L σ) = cb (F_X0_finding (some (L.1 0)) i (hp L σ)) (fun i w => some (i, w))) (hm : ∀ σ1 i, F_X13_refuses (some (L.1 1000)) v1 v2 (hp L σ1) = some i → ¬ i = 0 → Fm (hp L σ1) = cb (F_X13_finding (some (L.1 1000)) i (hp L σ1)) (fun i w => some (i, w))) : STEP L σ Fx Fm := by
  have h := hR.1.1
  have hI := hR.2.2.1.1
  have gx := x_whyNot h hR.1.2.1 hI v1 v2
  rcases hw with hw | hw
  · rw [hw] at gx
    refine STEP_fnd hR (k := 0) (xv := 0) (mv := -1000001) (by omega) rfl (by decide) ⟨σ, hx 0 gx (by decide), ag_refl _, xf_refl _⟩ (fun σ1 hM => ⟨σ1, hm σ1 (-1000001) ?_ (by decide), ag_refl _, mf_refl _⟩)
    have gm := m_refuses h hM.2.1 hI v1 v2
    rw [hw] at gm; exact gm
  · rw [hw] at gx
    refine STEP_fnd hR (k := 4) (xv := 4) (mv := -1000005) (by omega) rfl (by decide) ⟨σ, hx 4 gx (by decide), ag_refl _, xf_refl _⟩ (fun σ1 hM => ⟨σ1, hm σ1 (-1000005) ?_ (by decide), ag_refl _, mf_refl _⟩)
    have gm := m_refuses h hM.2.1 hI v1 v2
    rw [hw] at gm; exact gm
set_option maxRecDepth 8000 in
theorem x_why0 (h : Lok L) (hW : WX σ 200 ρ) (hI : Inv ρ) {v1 v2 : Int32} (hw : whc ρ v1 v2 = 0) : F_X0_whyNot (some (L.1 0)) v1 v2 (hp L σ) = some (-1) := by
  rw [x_whyNot h hW hI, hw]; rfl
set_option maxRecDepth 8000 in
theorem m_why0 (h : Lok L) (hM : WM σ ρ) (hI : Inv ρ) {v1 v2 : Int32} (hw : whc ρ v1 v2 = 0) : F_X13_refuses (some (L.1 1000)) v1 v2 (hp L σ) = some 0 := by
  rw [m_refuses h hM hI, hw]; rfl
set_option maxRecDepth 8000 in
theorem oR_ne {n : Nat} (h : n < 1000000) : ¬ oR n = -1 := by rw [oR_pos h]; exact ofN_nm1 (by omega)
set_option maxRecDepth 8000 in
theorem op_round (hR : RR L σ S) (x1 x2 : Int32) : STEP L σ (F_X0_round (some (L.1 0)) x1 x2) (F_X13_round (some (L.1 1000)) x1 x2) := by
  have h := hR.1.1
  have hW := hR.1.2.1
  have hC := hR.1.2.2.1
  have hP := hR.1.2.2.2.1
  have hI := hR.2.2.1.1
  have hb : isW 200 = true := rfl
  rcases whc_cs hI x1 x2 with ⟨hw, c, s, hc, hc6, rfl, hs, hs8, hf, rfl, hal⟩ | hw
  · have gx := x_why0 h hW hI hw
    obtain ⟨σ', r1, r2, r3, r4⟩ := x_roundOf h hW hI hC hP hc hs8 hf
    have hle := rnd_le S.1 c s
    by_cases hfi : rnd S.1 c s < 1000000
    · have hn := oR_ne hfi
      refine STEP_ret hR (r := Int32.ofNat (rnd S.1 c s)) ⟨σ', ?_, r2, r3⟩ (fun σ1 hM => ?_)
      · rw [← oR_pos hfi]
        simp (discharger := first | assumption | omega | decide) only [x_tg, w_tg, m_tg, ↓reduceIte, Option.bind_some, ↓x_0b, ↓x_1b, ↓x_2b, ↓x_3b, ↓x_4b, ↓x_5b, ↓x_6b, ↓x_7b, ↓x_8b, ↓x_9b, ↓x_10b, ↓x_11b, ↓x_12b, ↓x_13b, ↓x_14b, ↓x_15b, ↓x_16b, ↓x_17b, ↓x_18b, ↓x_19b, ↓xp_2b, ↓xp_6b, ↓xp_14b, ↓xp_17b, ↓xp_18b, ↓xp_19b, ↓X_f0b, ↓X_f2b, ↓X_f4b, ↓X_f8b, ↓wf_1b, ↓wf_3b, ↓wf_5b, ↓wf_6b, ↓wf_7b, ↓wf_9b, ↓wt_1_0b, ↓wt_1_1b, ↓wt_1_2b, ↓wt_1_3b, ↓wt_1_4b, ↓wt_11_0b, ↓wt_11_1b, ↓wt_11_2b, ↓wt_11_3b, ↓wt_11_4b, ↓wt_21_0b, ↓wt_21_1b, ↓wt_31_0b, ↓wt_31_1b, ↓wt_31_2b, ↓wt_31_3b, ↓wt_31_4b, ↓wt_31_5b, ↓wt_31_6b, ↓wt_41_0b, ↓wt_41_1b, ↓wt_41_2b, ↓wt_41_3b, ↓wt_41_4b, ↓wt_41_5b, ↓wt_41_6b, ↓wt_1b, ↓wt_11b, ↓wt_21b, ↓wt_31b, ↓wt_41b, ↓X_c0b, ↓X_c1b, ↓X_c2b, ↓X_c3b, ↓X_c4b, ↓X_e0b, ↓X_e1b, ↓X_e2b, ↓X_e3b, ↓X_e4b, ↓X_cb, ↓X_eb, ↓X_w0b, ↓X_w1b, ↓X_hb, ↓X_yb, ↓X_rb, ↓wp_0b, ↓wp_2b, ↓wp_4b, ↓wp_8b, ↓ws_2b, ↓ws_3b, ↓ws_4b, ↓ws_5b, ↓ws_6b, ↓ws_12b, ↓ws_13b, ↓ws_14b, ↓ws_15b, ↓ws_16b, ↓ws_22b, ↓ws_23b, ↓ws_51b, ↓wS_yb, ↓wS_rb, ↓wS_cb, ↓wS_eb, ↓x_isCarrierb, ↓x_isErrandb, ↓x_isWareb, ↓x_isSetb, ↓x_isFewb, F_X0_isKind, F_X0_isPlace, F_X0_isPrice, F_X0_isSheet, F_X0_isSpot, F_X13_isKind, F_X13_isPlace, F_X13_isSheet, F_X13_isSpot, within_eq, one_and, zero_and, one_ne, not_true_eq_false, not_false_eq_true, F_X0_round, F_X0_orNone, ↓bn9 gx, ↓cb9 r1, hn, cb_id]
      · obtain ⟨σb, m1, m2, m3, m4⟩ := m_roundOf h hM.2.1 hI hM.2.2.1 hc hs8 hf
        have gm := m_why0 h hM.2.1 hI hw
        have n2 : Int32.ofNat (rnd S.1 c s) < 1000000 := by rw [li_1000000, ofN_lt (by omega) (by omega)]; exact hfi
        refine ⟨σb, ?_, m2, m3⟩
        simp (discharger := first | assumption | omega | decide) only [x_tg, w_tg, m_tg, ↓reduceIte, Option.bind_some, ↓m_0b, ↓m_1b, ↓m_2b, ↓m_3b, ↓m_4b, ↓m_5b, ↓m_6b, ↓m_7b, ↓m_8b, ↓m_9b, ↓m_10b, ↓m_11b, ↓m_12b, ↓m_13b, ↓m_14b, ↓m_15b, ↓m_16b, ↓m_17b, ↓m_18b, ↓m_19b, ↓m_20b, ↓m_21b, ↓m_22b, ↓m_23b, ↓m_24b, ↓m_25b, ↓m_26b, ↓m_27b, ↓m_28b, ↓m_29b, ↓mp_3b, ↓mp_6b, ↓mp_10b, ↓mp_11b, ↓mp_12b, ↓mp_14b, ↓mp_15b, ↓mp_16b, ↓mp_17b, ↓mp_18b, ↓mp_19b, ↓mp_22b, ↓mp_23b, ↓mp_24b, ↓mp_25b, ↓M_42b, ↓M_43b, ↓M_44b, ↓M_45b, ↓cIs_0b, ↓cIs_1b, ↓cIs_2b, ↓cIs_3b, ↓cIs_4b, ↓eIs_0b, ↓eIs_1b, ↓eIs_2b, ↓eIs_3b, ↓eIs_4b, ↓cIs_nb, ↓eIs_nb, ↓M_rb, ↓M_cAt_0b, ↓M_cAt_1b, ↓M_cAt_2b, ↓M_cAt_3b, ↓M_cAt_4b, ↓M_eAt_0b, ↓M_eAt_1b, ↓M_eAt_2b, ↓M_eAt_3b, ↓M_eAt_4b, ↓M_wAt_0b, ↓M_wAt_1b, cAt_0, cAt_1, cAt_2, cAt_3, cAt_4, eAt_0, eAt_1, eAt_2, eAt_3, eAt_4, wAt_0, wAt_1, cAt_n, eAt_n, wAt_n, ↓m_isCarrierb, ↓m_isErrandb, ↓m_isWareb, ↓m_isFewb, F_X0_isKind, F_X0_isPlace, F_X0_isPrice, F_X0_isSheet, F_X0_isSpot, F_X13_isKind, F_X13_isPlace, F_X13_isSheet, F_X13_isSpot, within_eq, one_and, zero_and, one_ne, not_true_eq_false, not_false_eq_true, F_X13_round, F_X13_told, ↓bn9 gm, ↓cb9 m1, eq_true n2]
        rfl
    · refine STEP_fnd hR (k := 3) (xv := 3) (mv := -1000004) (by omega) rfl (by decide) ⟨σ', ?_, r2, r3⟩ (fun σ1 hM => ?_)
      · simp (discharger := first | assumption | omega | decide) only [x_tg, w_tg, m_tg, ↓reduceIte, Option.bind_some, ↓x_0b, ↓x_1b, ↓x_2b, ↓x_3b, ↓x_4b, ↓x_5b, ↓x_6b, ↓x_7b, ↓x_8b, ↓x_9b, ↓x_10b, ↓x_11b, ↓x_12b, ↓x_13b, ↓x_14b, ↓x_15b, ↓x_16b, ↓x_17b, ↓x_18b, ↓x_19b, ↓xp_2b, ↓xp_6b, ↓xp_14b, ↓xp_17b, ↓xp_18b, ↓xp_19b, ↓X_f0b, ↓X_f2b, ↓X_f4b, ↓X_f8b, ↓wf_1b, ↓wf_3b, ↓wf_5b, ↓wf_6b, ↓wf_7b, ↓wf_9b, ↓wt_1_0b, ↓wt_1_1b, ↓wt_1_2b, ↓wt_1_3b, ↓wt_1_4b, ↓wt_11_0b, ↓wt_11_1b, ↓wt_11_2b, ↓wt_11_3b, ↓wt_11_4b, ↓wt_21_0b, ↓wt_21_1b, ↓wt_31_0b, ↓wt_31_1b, ↓wt_31_2b, ↓wt_31_3b, ↓wt_31_4b, ↓wt_31_5b, ↓wt_31_6b, ↓wt_41_0b, ↓wt_41_1b, ↓wt_41_2b, ↓wt_41_3b, ↓wt_41_4b, ↓wt_41_5b, ↓wt_41_6b, ↓wt_1b, ↓wt_11b, ↓wt_21b, ↓wt_31b, ↓wt_41b, ↓X_c0b, ↓X_c1b, ↓X_c2b, ↓X_c3b, ↓X_c4b, ↓X_e0b, ↓X_e1b, ↓X_e2b, ↓X_e3b, ↓X_e4b, ↓X_cb, ↓X_eb, ↓X_w0b, ↓X_w1b, ↓X_hb, ↓X_yb, ↓X_rb, ↓wp_0b, ↓wp_2b, ↓wp_4b, ↓wp_8b, ↓ws_2b, ↓ws_3b, ↓ws_4b, ↓ws_5b, ↓ws_6b, ↓ws_12b, ↓ws_13b, ↓ws_14b, ↓ws_15b, ↓ws_16b, ↓ws_22b, ↓ws_23b, ↓ws_51b, ↓wS_yb, ↓wS_rb, ↓wS_cb, ↓wS_eb, ↓x_isCarrierb, ↓x_isErrandb, ↓x_isWareb, ↓x_isSetb, ↓x_isFewb, F_X0_isKind, F_X0_isPlace, F_X0_isPrice, F_X0_isSheet, F_X0_isSpot, F_X13_isKind, F_X13_isPlace, F_X13_isSheet, F_X13_isSpot, within_eq, one_and, zero_and, one_ne, not_true_eq_false, not_false_eq_true, F_X0_round, F_X0_orNone, ↓bn9 gx, ↓cb9 r1, oR_neg hfi, cb_id]
      · obtain ⟨σb, m1, m2, m3, m4⟩ := m_roundOf h hM.2.1 hI hM.2.2.1 hc hs8 hf
        have gm := m_why0 h hM.2.1 hI hw
        have n2 : ¬ Int32.ofNat (rnd S.1 c s) < 1000000 := by rw [li_1000000, ofN_lt (by omega) (by omega)]; exact hfi
        refine ⟨σb, ?_, m2, m3⟩
        simp (discharger := first | assumption | omega | decide) only [x_tg, w_tg, m_tg, ↓reduceIte, Option.bind_some, ↓m_0b, ↓m_1b, ↓m_2b, ↓m_3b, ↓m_4b, ↓m_5b, ↓m_6b, ↓m_7b, ↓m_8b, ↓m_9b, ↓m_10b, ↓m_11b, ↓m_12b, ↓m_13b, ↓m_14b, ↓m_15b, ↓m_16b, ↓m_17b, ↓m_18b, ↓m_19b, ↓m_20b, ↓m_21b, ↓m_22b, ↓m_23b, ↓m_24b, ↓m_25b, ↓m_26b, ↓m_27b, ↓m_28b, ↓m_29b, ↓mp_3b, ↓mp_6b, ↓mp_10b, ↓mp_11b, ↓mp_12b, ↓mp_14b, ↓mp_15b, ↓mp_16b, ↓mp_17b, ↓mp_18b, ↓mp_19b, ↓mp_22b, ↓mp_23b, ↓mp_24b, ↓mp_25b, ↓M_42b, ↓M_43b, ↓M_44b, ↓M_45b, ↓cIs_0b, ↓cIs_1b, ↓cIs_2b, ↓cIs_3b, ↓cIs_4b, ↓eIs_0b, ↓eIs_1b, ↓eIs_2b, ↓eIs_3b, ↓eIs_4b, ↓cIs_nb, ↓eIs_nb, ↓M_rb, ↓M_cAt_0b, ↓M_cAt_1b, ↓M_cAt_2b, ↓M_cAt_3b, ↓M_cAt_4b, ↓M_eAt_0b, ↓M_eAt_1b, ↓M_eAt_2b, ↓M_eAt_3b, ↓M_eAt_4b, ↓M_wAt_0b, ↓M_wAt_1b, cAt_0, cAt_1, cAt_2, cAt_3, cAt_4, eAt_0, eAt_1, eAt_2, eAt_3, eAt_4, wAt_0, wAt_1, cAt_n, eAt_n, wAt_n, ↓m_isCarrierb, ↓m_isErrandb, ↓m_isWareb, ↓m_isFewb, F_X0_isKind, F_X0_isPlace, F_X0_isPrice, F_X0_isSheet, F_X0_isSpot, F_X13_isKind, F_X13_isPlace, F_X13_isSheet, F_X13_isSpot, within_eq, one_and, zero_and, one_ne, not_true_eq_false, not_false_eq_true, F_X13_round, F_X13_told, ↓bn9 gm, ↓cb9 m1, n2, cb_id]
  · refine STEP_why hR hw (fun i e hi => ?_) (fun σ1 i e hi => ?_)
    · unfold F_X0_round; rw [if_pos (x_tg h), bn9 e, if_pos hi]
    · unfold F_X13_round; rw [if_pos (m_tg h), bn9 e, if_neg hi]
/-- what is got for a set; none: one has no worth -/
def gfS (ρ : Rw) (kd s e : Nat) (o : Option Nat) : Option Nat := match o with
  | none => none
  | some g => if s.testBit e then (match wth ρ e with | none => none | some w => some (g + gts kd w)) else some g
def gf (ρ : Rw) (kd s n : Nat) : Option Nat := itF (gfS ρ kd s) 0 n (some 0)
set_option maxRecDepth 8000 in
theorem gf_none {kd s : Nat} {m n : Nat} (h : m ≤ n) (hg : gf ρ kd s m = none) : gf ρ kd s n = none := by
  induction n with
  | zero => rw [show m = 0 by omega] at hg; exact hg
  | succ n ih =>
    by_cases he : m = n + 1
    · rw [← he]; exact hg
    · have := ih (by omega)
      unfold gf at this ⊢
      rw [itF_snoc0, this]; rfl
set_option maxRecDepth 8000 in
theorem gf_le (hI : Inv ρ) {kd s : Nat} : ∀ n, n ≤ NE ρ → ∀ g, gf ρ kd s n = some g → g ≤ 66000000 * n := by
  intro n
  induction n with
  | zero => intro _ g hg; injection hg with hg; omega
  | succ n ih =>
    intro hn g hg
    unfold gf at hg
    rw [itF_snoc0] at hg
    cases ho : itF (gfS ρ kd s) 0 n (some 0) with
    | none => rw [ho] at hg; cases hg
    | some g0 =>
      have := ih (by omega) g0 ho
      rw [ho] at hg
      unfold gfS at hg
      dsimp only at hg
      by_cases hb : s.testBit n = true
      · rw [if_pos hb] at hg
        cases hw : wth ρ n with
        | none => rw [hw] at hg; cases hg
        | some w =>
          rw [hw] at hg
          injection hg with hg
          have h1 := gv_le (kd := kd) (o := some w) (fun w' q => by injection q with q; rw [← q]; exact wth_lt hI (by omega) hw)
          unfold gv at h1
          dsimp only at h1
          omega
      · rw [if_neg hb] at hg; injection hg with hg; omega
set_option maxRecDepth 8000 in
theorem x_getsFor (h : Lok L) (hW : WX σ 200 ρ) (hI : Inv ρ) {c s : Nat} (hc : c < NC ρ) (hs : s < 256) : ∃ σ', F_X0_getsFor (some (L.1 0)) (Int32.ofNat c) (Int32.ofNat s) (hp L σ) = some (oN (gf ρ (kdO ρ c) s (NE ρ)), hp L σ') ∧ ag σ σ' ∧ xf σ σ' := by
  have h6 := hI.1.2
  have h8 := hI.2.1.2
  have hb : isW 200 = true := rfl
  obtain ⟨k1, k2, k3, k4, k5, k6, k7⟩ := hI.2.2.2.1 c hc
  have hN := hI.2.1.1
  unfold F_X0_getsFor
  rw [if_pos (x_tg h)]
  have key := lpE (Lp := fun f j (g : St × Int32) => F_X0_getsFor_L5 f (some (L.1 0)) (Int32.ofNat c) (Int32.ofNat s) g.2 (Int32.ofNat j) (hp L g.1)) (N := NE ρ) (fun j g => WX g.1 200 ρ ∧ g.2 = oN (gf ρ (kdO ρ c) s j) ∧ ag σ g.1 ∧ xf σ g.1) (fun r => ∃ σ', r = (oN (gf ρ (kdO ρ c) s (NE ρ)), hp L σ') ∧ ag σ σ' ∧ xf σ σ') ?_ ?_ (by unfold fu; omega) (σ, 0) ⟨hW, rfl, ag_refl _, xf_refl _⟩
  · obtain ⟨r, e, σ', rfl, q1, q2⟩ := key
    exact ⟨σ', e, q1, q2⟩
  · intro f g ⟨q1, q2, q3, q4⟩
    refine ⟨_, ?_, g.1, rfl, q3, q4⟩
    rw [← q2]
    simp (discharger := first | assumption | omega | decide) only [x_tg, w_tg, m_tg, ↓reduceIte, Option.bind_some, ↓x_0b, ↓x_1b, ↓x_2b, ↓x_3b, ↓x_4b, ↓x_5b, ↓x_6b, ↓x_7b, ↓x_8b, ↓x_9b, ↓x_10b, ↓x_11b, ↓x_12b, ↓x_13b, ↓x_14b, ↓x_15b, ↓x_16b, ↓x_17b, ↓x_18b, ↓x_19b, ↓xp_2b, ↓xp_6b, ↓xp_14b, ↓xp_17b, ↓xp_18b, ↓xp_19b, ↓X_f0b, ↓X_f2b, ↓X_f4b, ↓X_f8b, ↓wf_1b, ↓wf_3b, ↓wf_5b, ↓wf_6b, ↓wf_7b, ↓wf_9b, ↓wt_1_0b, ↓wt_1_1b, ↓wt_1_2b, ↓wt_1_3b, ↓wt_1_4b, ↓wt_11_0b, ↓wt_11_1b, ↓wt_11_2b, ↓wt_11_3b, ↓wt_11_4b, ↓wt_21_0b, ↓wt_21_1b, ↓wt_31_0b, ↓wt_31_1b, ↓wt_31_2b, ↓wt_31_3b, ↓wt_31_4b, ↓wt_31_5b, ↓wt_31_6b, ↓wt_41_0b, ↓wt_41_1b, ↓wt_41_2b, ↓wt_41_3b, ↓wt_41_4b, ↓wt_41_5b, ↓wt_41_6b, ↓wt_1b, ↓wt_11b, ↓wt_21b, ↓wt_31b, ↓wt_41b, ↓X_c0b, ↓X_c1b, ↓X_c2b, ↓X_c3b, ↓X_c4b, ↓X_e0b, ↓X_e1b, ↓X_e2b, ↓X_e3b, ↓X_e4b, ↓X_cb, ↓X_eb, ↓X_w0b, ↓X_w1b, ↓X_hb, ↓X_yb, ↓X_rb, ↓wp_0b, ↓wp_2b, ↓wp_4b, ↓wp_8b, ↓ws_2b, ↓ws_3b, ↓ws_4b, ↓ws_5b, ↓ws_6b, ↓ws_12b, ↓ws_13b, ↓ws_14b, ↓ws_15b, ↓ws_16b, ↓ws_22b, ↓ws_23b, ↓ws_51b, ↓wS_yb, ↓wS_rb, ↓wS_cb, ↓wS_eb, F_X0_getsFor_L5, F_X0_getsFor_B5, hN, ofN_le, Nat.le_refl]
  · intro f j g hj ⟨q1, q2, q3, q4⟩
    have hd : ¬ NE ρ ≤ j := by omega
    have hh := has_n s hs j (by omega)
    obtain ⟨g1, g2⟩ := g
    dsimp only at q1 q2 q3 q4 ⊢
    have hgs : gf ρ (kdO ρ c) s (j + 1) = gfS ρ (kdO ρ c) s j (gf ρ (kdO ρ c) s j) := itF_snoc0 _ _ _
    cases hg : gf ρ (kdO ρ c) s j with
    | none =>
      rw [hg] at q2
      right
      refine ⟨_, ?_, g1, rfl, q3, q4⟩
      rw [gf_none (show j ≤ NE ρ by omega) hg, q2]
      simp (discharger := first | assumption | omega | decide) only [x_tg, w_tg, m_tg, ↓reduceIte, Option.bind_some, ↓x_0b, ↓x_1b, ↓x_2b, ↓x_3b, ↓x_4b, ↓x_5b, ↓x_6b, ↓x_7b, ↓x_8b, ↓x_9b, ↓x_10b, ↓x_11b, ↓x_12b, ↓x_13b, ↓x_14b, ↓x_15b, ↓x_16b, ↓x_17b, ↓x_18b, ↓x_19b, ↓xp_2b, ↓xp_6b, ↓xp_14b, ↓xp_17b, ↓xp_18b, ↓xp_19b, ↓X_f0b, ↓X_f2b, ↓X_f4b, ↓X_f8b, ↓wf_1b, ↓wf_3b, ↓wf_5b, ↓wf_6b, ↓wf_7b, ↓wf_9b, ↓wt_1_0b, ↓wt_1_1b, ↓wt_1_2b, ↓wt_1_3b, ↓wt_1_4b, ↓wt_11_0b, ↓wt_11_1b, ↓wt_11_2b, ↓wt_11_3b, ↓wt_11_4b, ↓wt_21_0b, ↓wt_21_1b, ↓wt_31_0b, ↓wt_31_1b, ↓wt_31_2b, ↓wt_31_3b, ↓wt_31_4b, ↓wt_31_5b, ↓wt_31_6b, ↓wt_41_0b, ↓wt_41_1b, ↓wt_41_2b, ↓wt_41_3b, ↓wt_41_4b, ↓wt_41_5b, ↓wt_41_6b, ↓wt_1b, ↓wt_11b, ↓wt_21b, ↓wt_31b, ↓wt_41b, ↓X_c0b, ↓X_c1b, ↓X_c2b, ↓X_c3b, ↓X_c4b, ↓X_e0b, ↓X_e1b, ↓X_e2b, ↓X_e3b, ↓X_e4b, ↓X_cb, ↓X_eb, ↓X_w0b, ↓X_w1b, ↓X_hb, ↓X_yb, ↓X_rb, ↓wp_0b, ↓wp_2b, ↓wp_4b, ↓wp_8b, ↓ws_2b, ↓ws_3b, ↓ws_4b, ↓ws_5b, ↓ws_6b, ↓ws_12b, ↓ws_13b, ↓ws_14b, ↓ws_15b, ↓ws_16b, ↓ws_22b, ↓ws_23b, ↓ws_51b, ↓wS_yb, ↓wS_rb, ↓wS_cb, ↓wS_eb, F_X0_getsFor_L5, F_X0_getsFor_B5, hN, ofN_le, hd, oN]
    | some v =>
      have hv := gf_le hI j (by omega) v hg
      have n1 := ofN_nm1 (a := v) (by omega)
      rw [hg] at q2 hgs
      have q2 : g2 = Int32.ofNat v := q2
      subst q2
      left
      by_cases hbt : s.testBit j = true
      · rw [if_pos hbt] at hh
        have hE := (hI.2.2.2.2.1 j hj).1
        have gw := x_worthOf h q1 hI.2.2.2.2.2.2.2.1 (show j < 8 by omega) hE
        have hW2 := WX_tX (V := nT (FT ρ 0)) (tz := 9) (z := 20) (Or.inl ⟨rfl, rfl⟩) (Nat.le_refl 200) q1
        have fr : ag σ (tX g1 20 (nT (FT ρ 0))) ∧ xf σ (tX g1 20 (nT (FT ρ 0))) := ⟨ag_trans q3 (ag_tX (tz := 9) (Or.inl ⟨rfl, rfl⟩) _), fun i hi => by rw [tX_ge (by omega)]; exact q4 i hi⟩
        cases hwt : wth ρ j with
        | none =>
          rw [hwt] at gw
          refine ⟨(tX g1 20 (nT (FT ρ 0)), -1), ?_, hW2, ?_, fr⟩
          · simp (discharger := first | assumption | omega | decide) only [x_tg, w_tg, m_tg, ↓reduceIte, Option.bind_some, ↓x_0b, ↓x_1b, ↓x_2b, ↓x_3b, ↓x_4b, ↓x_5b, ↓x_6b, ↓x_7b, ↓x_8b, ↓x_9b, ↓x_10b, ↓x_11b, ↓x_12b, ↓x_13b, ↓x_14b, ↓x_15b, ↓x_16b, ↓x_17b, ↓x_18b, ↓x_19b, ↓xp_2b, ↓xp_6b, ↓xp_14b, ↓xp_17b, ↓xp_18b, ↓xp_19b, ↓X_f0b, ↓X_f2b, ↓X_f4b, ↓X_f8b, ↓wf_1b, ↓wf_3b, ↓wf_5b, ↓wf_6b, ↓wf_7b, ↓wf_9b, ↓wt_1_0b, ↓wt_1_1b, ↓wt_1_2b, ↓wt_1_3b, ↓wt_1_4b, ↓wt_11_0b, ↓wt_11_1b, ↓wt_11_2b, ↓wt_11_3b, ↓wt_11_4b, ↓wt_21_0b, ↓wt_21_1b, ↓wt_31_0b, ↓wt_31_1b, ↓wt_31_2b, ↓wt_31_3b, ↓wt_31_4b, ↓wt_31_5b, ↓wt_31_6b, ↓wt_41_0b, ↓wt_41_1b, ↓wt_41_2b, ↓wt_41_3b, ↓wt_41_4b, ↓wt_41_5b, ↓wt_41_6b, ↓wt_1b, ↓wt_11b, ↓wt_21b, ↓wt_31b, ↓wt_41b, ↓X_c0b, ↓X_c1b, ↓X_c2b, ↓X_c3b, ↓X_c4b, ↓X_e0b, ↓X_e1b, ↓X_e2b, ↓X_e3b, ↓X_e4b, ↓X_cb, ↓X_eb, ↓X_w0b, ↓X_w1b, ↓X_hb, ↓X_yb, ↓X_rb, ↓wp_0b, ↓wp_2b, ↓wp_4b, ↓wp_8b, ↓ws_2b, ↓ws_3b, ↓ws_4b, ↓ws_5b, ↓ws_6b, ↓ws_12b, ↓ws_13b, ↓ws_14b, ↓ws_15b, ↓ws_16b, ↓ws_22b, ↓ws_23b, ↓ws_51b, ↓wS_yb, ↓wS_rb, ↓wS_cb, ↓wS_eb, F_X0_getsFor_J75, F_X0_getsFor_J74, F_X0_getsFor_J41, F_X0_getsFor_B5, F_X0_getsFor_L5, F_X0_getsFor, hN, ofN_le, hd, n1, hh, one_ne, ↓cb9 gw, oN, not_true_eq_false, ofNs]
          · rw [hgs]; unfold gfS; simp [hbt, hwt, oN]
        | some w =>
          have hw60 := wth_lt hI hj hwt
          have n2 := ofN_nm1 (a := w) (by omega)
          rw [hwt] at gw
          have gg := x_getsOf (p := w) h hW2 (show c < 6 by omega) k4 k1 (by omega)
          refine ⟨(tX g1 20 (nT (FT ρ 0)), Int32.ofNat (v + gts (kdO ρ c) w)), ?_, hW2, ?_, fr⟩
          · simp (discharger := first | assumption | omega | decide) only [x_tg, w_tg, m_tg, ↓reduceIte, Option.bind_some, ↓x_0b, ↓x_1b, ↓x_2b, ↓x_3b, ↓x_4b, ↓x_5b, ↓x_6b, ↓x_7b, ↓x_8b, ↓x_9b, ↓x_10b, ↓x_11b, ↓x_12b, ↓x_13b, ↓x_14b, ↓x_15b, ↓x_16b, ↓x_17b, ↓x_18b, ↓x_19b, ↓xp_2b, ↓xp_6b, ↓xp_14b, ↓xp_17b, ↓xp_18b, ↓xp_19b, ↓X_f0b, ↓X_f2b, ↓X_f4b, ↓X_f8b, ↓wf_1b, ↓wf_3b, ↓wf_5b, ↓wf_6b, ↓wf_7b, ↓wf_9b, ↓wt_1_0b, ↓wt_1_1b, ↓wt_1_2b, ↓wt_1_3b, ↓wt_1_4b, ↓wt_11_0b, ↓wt_11_1b, ↓wt_11_2b, ↓wt_11_3b, ↓wt_11_4b, ↓wt_21_0b, ↓wt_21_1b, ↓wt_31_0b, ↓wt_31_1b, ↓wt_31_2b, ↓wt_31_3b, ↓wt_31_4b, ↓wt_31_5b, ↓wt_31_6b, ↓wt_41_0b, ↓wt_41_1b, ↓wt_41_2b, ↓wt_41_3b, ↓wt_41_4b, ↓wt_41_5b, ↓wt_41_6b, ↓wt_1b, ↓wt_11b, ↓wt_21b, ↓wt_31b, ↓wt_41b, ↓X_c0b, ↓X_c1b, ↓X_c2b, ↓X_c3b, ↓X_c4b, ↓X_e0b, ↓X_e1b, ↓X_e2b, ↓X_e3b, ↓X_e4b, ↓X_cb, ↓X_eb, ↓X_w0b, ↓X_w1b, ↓X_hb, ↓X_yb, ↓X_rb, ↓wp_0b, ↓wp_2b, ↓wp_4b, ↓wp_8b, ↓ws_2b, ↓ws_3b, ↓ws_4b, ↓ws_5b, ↓ws_6b, ↓ws_12b, ↓ws_13b, ↓ws_14b, ↓ws_15b, ↓ws_16b, ↓ws_22b, ↓ws_23b, ↓ws_51b, ↓wS_yb, ↓wS_rb, ↓wS_cb, ↓wS_eb, F_X0_getsFor_J75, F_X0_getsFor_J74, F_X0_getsFor_J41, F_X0_getsFor_B5, F_X0_getsFor_L5, F_X0_getsFor, hN, ofN_le, hd, n1, hh, one_ne, ↓cb9 gw, oN, n2, not_false_eq_true, ↓bn9 gg, ofN_add, ofNs]
          · rw [hgs]; unfold gfS; simp [hbt, hwt, oN]
      · rw [if_neg hbt] at hh
        refine ⟨(g1, Int32.ofNat v), ?_, q1, ?_, q3, q4⟩
        · simp (discharger := first | assumption | omega | decide) only [x_tg, w_tg, m_tg, ↓reduceIte, Option.bind_some, ↓x_0b, ↓x_1b, ↓x_2b, ↓x_3b, ↓x_4b, ↓x_5b, ↓x_6b, ↓x_7b, ↓x_8b, ↓x_9b, ↓x_10b, ↓x_11b, ↓x_12b, ↓x_13b, ↓x_14b, ↓x_15b, ↓x_16b, ↓x_17b, ↓x_18b, ↓x_19b, ↓xp_2b, ↓xp_6b, ↓xp_14b, ↓xp_17b, ↓xp_18b, ↓xp_19b, ↓X_f0b, ↓X_f2b, ↓X_f4b, ↓X_f8b, ↓wf_1b, ↓wf_3b, ↓wf_5b, ↓wf_6b, ↓wf_7b, ↓wf_9b, ↓wt_1_0b, ↓wt_1_1b, ↓wt_1_2b, ↓wt_1_3b, ↓wt_1_4b, ↓wt_11_0b, ↓wt_11_1b, ↓wt_11_2b, ↓wt_11_3b, ↓wt_11_4b, ↓wt_21_0b, ↓wt_21_1b, ↓wt_31_0b, ↓wt_31_1b, ↓wt_31_2b, ↓wt_31_3b, ↓wt_31_4b, ↓wt_31_5b, ↓wt_31_6b, ↓wt_41_0b, ↓wt_41_1b, ↓wt_41_2b, ↓wt_41_3b, ↓wt_41_4b, ↓wt_41_5b, ↓wt_41_6b, ↓wt_1b, ↓wt_11b, ↓wt_21b, ↓wt_31b, ↓wt_41b, ↓X_c0b, ↓X_c1b, ↓X_c2b, ↓X_c3b, ↓X_c4b, ↓X_e0b, ↓X_e1b, ↓X_e2b, ↓X_e3b, ↓X_e4b, ↓X_cb, ↓X_eb, ↓X_w0b, ↓X_w1b, ↓X_hb, ↓X_yb, ↓X_rb, ↓wp_0b, ↓wp_2b, ↓wp_4b, ↓wp_8b, ↓ws_2b, ↓ws_3b, ↓ws_4b, ↓ws_5b, ↓ws_6b, ↓ws_12b, ↓ws_13b, ↓ws_14b, ↓ws_15b, ↓ws_16b, ↓ws_22b, ↓ws_23b, ↓ws_51b, ↓wS_yb, ↓wS_rb, ↓wS_cb, ↓wS_eb, F_X0_getsFor_J75, F_X0_getsFor_J74, F_X0_getsFor_J41, F_X0_getsFor_B5, F_X0_getsFor_L5, F_X0_getsFor, hN, ofN_le, hd, n1, hh, show ¬ (0 : Int32) = -1 by decide, not_false_eq_true, Int32.add_zero, ofNs]
        · rw [hgs]; unfold gfS; simp [hbt, oN]
set_option maxRecDepth 8000 in
theorem m_getsOf (h : Lok L) (hM : WM σ ρ) (hI : Inv ρ) {c s : Nat} (hc : c < NC ρ) (hs : s < 256) : ∃ σ', F_X13_getsOf (some (L.1 1000)) (Int32.ofNat c) (Int32.ofNat s) (hp L σ) = some (oN (gf ρ (kdO ρ c) s (NE ρ)), hp L σ') ∧ ag σ σ' ∧ mf σ σ' := by
  have h6 := hI.1.2
  have h8 := hI.2.1.2
  obtain ⟨k1, k2, k3, k4, k5, k6, k7⟩ := hI.2.2.2.1 c hc
  have hN := hI.2.1.1
  unfold F_X13_getsOf
  rw [if_pos (m_tg h)]
  have key := lpE (Lp := fun f j (g : St × Int32) => F_X13_getsOf_L5 f (some (L.1 1000)) (Int32.ofNat c) (Int32.ofNat s) g.2 (Int32.ofNat j) (hp L g.1)) (N := NE ρ) (fun j g => WM g.1 ρ ∧ (∃ v, gf ρ (kdO ρ c) s j = some v ∧ g.2 = Int32.ofNat v) ∧ ag σ g.1 ∧ mf σ g.1) (fun r => ∃ σ', r = (oN (gf ρ (kdO ρ c) s (NE ρ)), hp L σ') ∧ ag σ σ' ∧ mf σ σ') ?_ ?_ (by unfold fu; omega) (σ, 0) ⟨hM, ⟨0, rfl, rfl⟩, ag_refl _, mf_refl _⟩
  · obtain ⟨r, e, σ', rfl, q1, q2⟩ := key
    exact ⟨σ', e, q1, q2⟩
  · intro f g ⟨q1, ⟨v, hg, q2⟩, q3, q4⟩
    refine ⟨_, ?_, g.1, rfl, q3, q4⟩
    rw [hg, q2]
    simp (discharger := first | assumption | omega | decide) only [x_tg, w_tg, m_tg, ↓reduceIte, Option.bind_some, ↓m_0b, ↓m_1b, ↓m_2b, ↓m_3b, ↓m_4b, ↓m_5b, ↓m_6b, ↓m_7b, ↓m_8b, ↓m_9b, ↓m_10b, ↓m_11b, ↓m_12b, ↓m_13b, ↓m_14b, ↓m_15b, ↓m_16b, ↓m_17b, ↓m_18b, ↓m_19b, ↓m_20b, ↓m_21b, ↓m_22b, ↓m_23b, ↓m_24b, ↓m_25b, ↓m_26b, ↓m_27b, ↓m_28b, ↓m_29b, ↓mp_3b, ↓mp_6b, ↓mp_10b, ↓mp_11b, ↓mp_12b, ↓mp_14b, ↓mp_15b, ↓mp_16b, ↓mp_17b, ↓mp_18b, ↓mp_19b, ↓mp_22b, ↓mp_23b, ↓mp_24b, ↓mp_25b, ↓M_42b, ↓M_43b, ↓M_44b, ↓M_45b, ↓cIs_0b, ↓cIs_1b, ↓cIs_2b, ↓cIs_3b, ↓cIs_4b, ↓eIs_0b, ↓eIs_1b, ↓eIs_2b, ↓eIs_3b, ↓eIs_4b, ↓cIs_nb, ↓eIs_nb, ↓M_rb, ↓M_cAt_0b, ↓M_cAt_1b, ↓M_cAt_2b, ↓M_cAt_3b, ↓M_cAt_4b, ↓M_eAt_0b, ↓M_eAt_1b, ↓M_eAt_2b, ↓M_eAt_3b, ↓M_eAt_4b, ↓M_wAt_0b, ↓M_wAt_1b, cAt_0, cAt_1, cAt_2, cAt_3, cAt_4, eAt_0, eAt_1, eAt_2, eAt_3, eAt_4, wAt_0, wAt_1, cAt_n, eAt_n, wAt_n, F_X13_getsOf_L5, F_X13_getsOf_B5, hN, ofN_le, Nat.le_refl, oN]
  · intro f j g hj ⟨q1, ⟨v, hg, q2⟩, q3, q4⟩
    have hd : ¬ NE ρ ≤ j := by omega
    have hh := has_n s hs j (by omega)
    rw [← hasM] at hh
    obtain ⟨g1, g2⟩ := g
    dsimp only at q1 q2 q3 q4 ⊢
    subst q2
    have hgs : gf ρ (kdO ρ c) s (j + 1) = gfS ρ (kdO ρ c) s j (gf ρ (kdO ρ c) s j) := itF_snoc0 _ _ _
    rw [hg] at hgs
    by_cases hbt : s.testBit j = true
    · rw [if_pos hbt] at hh
      have hE := (hI.2.2.2.2.1 j hj).1
      have gw := m_worthOf h q1 hI.2.2.2.2.2.2.2.1 (show j < 8 by omega) hE
      have hW2 := WM_tM (V := nT (FT ρ 0)) q1
      have fr : ag σ (tM g1 (nT (FT ρ 0))) ∧ mf σ (tM g1 (nT (FT ρ 0))) := ⟨ag_trans q3 (ag_tM _ _), fun i hi => by rw [tM_ne (by omega)]; exact q4 i hi⟩
      cases hwt : wth ρ j with
      | none =>
        rw [hwt] at gw
        right
        have hgn : gf ρ (kdO ρ c) s (j + 1) = none := by rw [hgs]; unfold gfS; simp [hbt, hwt]
        refine ⟨_, ?_, tM g1 (nT (FT ρ 0)), rfl, fr⟩
        rw [gf_none (show j + 1 ≤ NE ρ by omega) hgn]
        simp (discharger := first | assumption | omega | decide) only [x_tg, w_tg, m_tg, ↓reduceIte, Option.bind_some, ↓m_0b, ↓m_1b, ↓m_2b, ↓m_3b, ↓m_4b, ↓m_5b, ↓m_6b, ↓m_7b, ↓m_8b, ↓m_9b, ↓m_10b, ↓m_11b, ↓m_12b, ↓m_13b, ↓m_14b, ↓m_15b, ↓m_16b, ↓m_17b, ↓m_18b, ↓m_19b, ↓m_20b, ↓m_21b, ↓m_22b, ↓m_23b, ↓m_24b, ↓m_25b, ↓m_26b, ↓m_27b, ↓m_28b, ↓m_29b, ↓mp_3b, ↓mp_6b, ↓mp_10b, ↓mp_11b, ↓mp_12b, ↓mp_14b, ↓mp_15b, ↓mp_16b, ↓mp_17b, ↓mp_18b, ↓mp_19b, ↓mp_22b, ↓mp_23b, ↓mp_24b, ↓mp_25b, ↓M_42b, ↓M_43b, ↓M_44b, ↓M_45b, ↓cIs_0b, ↓cIs_1b, ↓cIs_2b, ↓cIs_3b, ↓cIs_4b, ↓eIs_0b, ↓eIs_1b, ↓eIs_2b, ↓eIs_3b, ↓eIs_4b, ↓cIs_nb, ↓eIs_nb, ↓M_rb, ↓M_cAt_0b, ↓M_cAt_1b, ↓M_cAt_2b, ↓M_cAt_3b, ↓M_cAt_4b, ↓M_eAt_0b, ↓M_eAt_1b, ↓M_eAt_2b, ↓M_eAt_3b, ↓M_eAt_4b, ↓M_wAt_0b, ↓M_wAt_1b, cAt_0, cAt_1, cAt_2, cAt_3, cAt_4, eAt_0, eAt_1, eAt_2, eAt_3, eAt_4, wAt_0, wAt_1, cAt_n, eAt_n, wAt_n, F_X13_getsOf_J51, F_X13_getsOf_B5, F_X13_getsOf_L5, F_X13_getsOf, hN, ofN_le, hd, hh, one_ne, ↓cb9 gw, oN, show ¬ (0 : Int32) ≤ -1 by decide]
      | some w =>
        have hw60 := wth_lt hI hj hwt
        have n2 : (0 : Int32) ≤ Int32.ofNat w := by rw [li_0, ofN_le (by omega) (by omega)]; omega
        rw [hwt] at gw
        have gg := m_getsFor (p := w) h hW2 (show c < 6 by omega) k4 k1 (by omega)
        left
        refine ⟨(tM g1 (nT (FT ρ 0)), Int32.ofNat (v + gts (kdO ρ c) w)), ?_, hW2, ⟨v + gts (kdO ρ c) w, ?_, rfl⟩, fr⟩
        · simp (discharger := first | assumption | omega | decide) only [x_tg, w_tg, m_tg, ↓reduceIte, Option.bind_some, ↓m_0b, ↓m_1b, ↓m_2b, ↓m_3b, ↓m_4b, ↓m_5b, ↓m_6b, ↓m_7b, ↓m_8b, ↓m_9b, ↓m_10b, ↓m_11b, ↓m_12b, ↓m_13b, ↓m_14b, ↓m_15b, ↓m_16b, ↓m_17b, ↓m_18b, ↓m_19b, ↓m_20b, ↓m_21b, ↓m_22b, ↓m_23b, ↓m_24b, ↓m_25b, ↓m_26b, ↓m_27b, ↓m_28b, ↓m_29b, ↓mp_3b, ↓mp_6b, ↓mp_10b, ↓mp_11b, ↓mp_12b, ↓mp_14b, ↓mp_15b, ↓mp_16b, ↓mp_17b, ↓mp_18b, ↓mp_19b, ↓mp_22b, ↓mp_23b, ↓mp_24b, ↓mp_25b, ↓M_42b, ↓M_43b, ↓M_44b, ↓M_45b, ↓cIs_0b, ↓cIs_1b, ↓cIs_2b, ↓cIs_3b, ↓cIs_4b, ↓eIs_0b, ↓eIs_1b, ↓eIs_2b, ↓eIs_3b, ↓eIs_4b, ↓cIs_nb, ↓eIs_nb, ↓M_rb, ↓M_cAt_0b, ↓M_cAt_1b, ↓M_cAt_2b, ↓M_cAt_3b, ↓M_cAt_4b, ↓M_eAt_0b, ↓M_eAt_1b, ↓M_eAt_2b, ↓M_eAt_3b, ↓M_eAt_4b, ↓M_wAt_0b, ↓M_wAt_1b, cAt_0, cAt_1, cAt_2, cAt_3, cAt_4, eAt_0, eAt_1, eAt_2, eAt_3, eAt_4, wAt_0, wAt_1, cAt_n, eAt_n, wAt_n, F_X13_getsOf_J51, F_X13_getsOf_B5, F_X13_getsOf_L5, F_X13_getsOf, hN, ofN_le, hd, hh, one_ne, ↓cb9 gw, oN, eq_true n2, ↓bn9 gg, ofN_add, ofNs]
        · rw [hgs]; unfold gfS; simp [hbt, hwt]
    · rw [if_neg hbt] at hh
      left
      refine ⟨(g1, Int32.ofNat v), ?_, q1, ⟨v, ?_, rfl⟩, q3, q4⟩
      · simp (discharger := first | assumption | omega | decide) only [x_tg, w_tg, m_tg, ↓reduceIte, Option.bind_some, ↓m_0b, ↓m_1b, ↓m_2b, ↓m_3b, ↓m_4b, ↓m_5b, ↓m_6b, ↓m_7b, ↓m_8b, ↓m_9b, ↓m_10b, ↓m_11b, ↓m_12b, ↓m_13b, ↓m_14b, ↓m_15b, ↓m_16b, ↓m_17b, ↓m_18b, ↓m_19b, ↓m_20b, ↓m_21b, ↓m_22b, ↓m_23b, ↓m_24b, ↓m_25b, ↓m_26b, ↓m_27b, ↓m_28b, ↓m_29b, ↓mp_3b, ↓mp_6b, ↓mp_10b, ↓mp_11b, ↓mp_12b, ↓mp_14b, ↓mp_15b, ↓mp_16b, ↓mp_17b, ↓mp_18b, ↓mp_19b, ↓mp_22b, ↓mp_23b, ↓mp_24b, ↓mp_25b, ↓M_42b, ↓M_43b, ↓M_44b, ↓M_45b, ↓cIs_0b, ↓cIs_1b, ↓cIs_2b, ↓cIs_3b, ↓cIs_4b, ↓eIs_0b, ↓eIs_1b, ↓eIs_2b, ↓eIs_3b, ↓eIs_4b, ↓cIs_nb, ↓eIs_nb, ↓M_rb, ↓M_cAt_0b, ↓M_cAt_1b, ↓M_cAt_2b, ↓M_cAt_3b, ↓M_cAt_4b, ↓M_eAt_0b, ↓M_eAt_1b, ↓M_eAt_2b, ↓M_eAt_3b, ↓M_eAt_4b, ↓M_wAt_0b, ↓M_wAt_1b, cAt_0, cAt_1, cAt_2, cAt_3, cAt_4, eAt_0, eAt_1, eAt_2, eAt_3, eAt_4, wAt_0, wAt_1, cAt_n, eAt_n, wAt_n, F_X13_getsOf_J51, F_X13_getsOf_B5, F_X13_getsOf_L5, F_X13_getsOf, hN, ofN_le, hd, hh, ofNs]
      · rw [hgs]; unfold gfS; simp [hbt]
set_option maxRecDepth 8000 in
theorem op_gets (hR : RR L σ S) (x1 x2 : Int32) : STEP L σ (F_X0_gets (some (L.1 0)) x1 x2) (F_X13_gets (some (L.1 1000)) x1 x2) := by
  have h := hR.1.1
  have hW := hR.1.2.1
  have hC := hR.1.2.2.1
  have hP := hR.1.2.2.2.1
  have hI := hR.2.2.1.1
  have hb : isW 200 = true := rfl
  rcases icC hI x1 with ⟨e1, c, hc, hc6, rfl⟩ | e1
  · rcases fwV_cs hI x2 with ⟨e2, s, hs, hs8, hf, rfl⟩ | e2
    · obtain ⟨σ', r1, r2, r3⟩ := x_getsFor h hW hI hc hs8
      cases hg : gf S.1 (kdO S.1 c) s (NE S.1) with
      | none =>
        rw [hg] at r1
        refine STEP_fnd hR (k := 3) (xv := 3) (mv := -1000004) (by omega) rfl (by decide) ⟨σ', ?_, r2, r3⟩ (fun σ1 hM => ?_)
        · simp (discharger := first | assumption | omega | decide) only [x_tg, w_tg, m_tg, ↓reduceIte, Option.bind_some, ↓x_0b, ↓x_1b, ↓x_2b, ↓x_3b, ↓x_4b, ↓x_5b, ↓x_6b, ↓x_7b, ↓x_8b, ↓x_9b, ↓x_10b, ↓x_11b, ↓x_12b, ↓x_13b, ↓x_14b, ↓x_15b, ↓x_16b, ↓x_17b, ↓x_18b, ↓x_19b, ↓xp_2b, ↓xp_6b, ↓xp_14b, ↓xp_17b, ↓xp_18b, ↓xp_19b, ↓X_f0b, ↓X_f2b, ↓X_f4b, ↓X_f8b, ↓wf_1b, ↓wf_3b, ↓wf_5b, ↓wf_6b, ↓wf_7b, ↓wf_9b, ↓wt_1_0b, ↓wt_1_1b, ↓wt_1_2b, ↓wt_1_3b, ↓wt_1_4b, ↓wt_11_0b, ↓wt_11_1b, ↓wt_11_2b, ↓wt_11_3b, ↓wt_11_4b, ↓wt_21_0b, ↓wt_21_1b, ↓wt_31_0b, ↓wt_31_1b, ↓wt_31_2b, ↓wt_31_3b, ↓wt_31_4b, ↓wt_31_5b, ↓wt_31_6b, ↓wt_41_0b, ↓wt_41_1b, ↓wt_41_2b, ↓wt_41_3b, ↓wt_41_4b, ↓wt_41_5b, ↓wt_41_6b, ↓wt_1b, ↓wt_11b, ↓wt_21b, ↓wt_31b, ↓wt_41b, ↓X_c0b, ↓X_c1b, ↓X_c2b, ↓X_c3b, ↓X_c4b, ↓X_e0b, ↓X_e1b, ↓X_e2b, ↓X_e3b, ↓X_e4b, ↓X_cb, ↓X_eb, ↓X_w0b, ↓X_w1b, ↓X_hb, ↓X_yb, ↓X_rb, ↓wp_0b, ↓wp_2b, ↓wp_4b, ↓wp_8b, ↓ws_2b, ↓ws_3b, ↓ws_4b, ↓ws_5b, ↓ws_6b, ↓ws_12b, ↓ws_13b, ↓ws_14b, ↓ws_15b, ↓ws_16b, ↓ws_22b, ↓ws_23b, ↓ws_51b, ↓wS_yb, ↓wS_rb, ↓wS_cb, ↓wS_eb, ↓x_isCarrierb, ↓x_isErrandb, ↓x_isWareb, ↓x_isSetb, ↓x_isFewb, F_X0_isKind, F_X0_isPlace, F_X0_isPrice, F_X0_isSheet, F_X0_isSpot, F_X13_isKind, F_X13_isPlace, F_X13_isSheet, F_X13_isSpot, within_eq, one_and, zero_and, one_ne, not_true_eq_false, not_false_eq_true, F_X0_gets_J29, F_X0_gets, F_X0_orNone, e1, e2, ↓cb9 r1, oN, cb_id]
        · have hM2 := hM.2.1
          obtain ⟨σb, m1, m2, m3⟩ := m_getsOf h hM2 hI hc hs8
          rw [hg] at m1
          refine ⟨σb, ?_, m2, m3⟩
          simp (discharger := first | assumption | omega | decide) only [x_tg, w_tg, m_tg, ↓reduceIte, Option.bind_some, ↓m_0b, ↓m_1b, ↓m_2b, ↓m_3b, ↓m_4b, ↓m_5b, ↓m_6b, ↓m_7b, ↓m_8b, ↓m_9b, ↓m_10b, ↓m_11b, ↓m_12b, ↓m_13b, ↓m_14b, ↓m_15b, ↓m_16b, ↓m_17b, ↓m_18b, ↓m_19b, ↓m_20b, ↓m_21b, ↓m_22b, ↓m_23b, ↓m_24b, ↓m_25b, ↓m_26b, ↓m_27b, ↓m_28b, ↓m_29b, ↓mp_3b, ↓mp_6b, ↓mp_10b, ↓mp_11b, ↓mp_12b, ↓mp_14b, ↓mp_15b, ↓mp_16b, ↓mp_17b, ↓mp_18b, ↓mp_19b, ↓mp_22b, ↓mp_23b, ↓mp_24b, ↓mp_25b, ↓M_42b, ↓M_43b, ↓M_44b, ↓M_45b, ↓cIs_0b, ↓cIs_1b, ↓cIs_2b, ↓cIs_3b, ↓cIs_4b, ↓eIs_0b, ↓eIs_1b, ↓eIs_2b, ↓eIs_3b, ↓eIs_4b, ↓cIs_nb, ↓eIs_nb, ↓M_rb, ↓M_cAt_0b, ↓M_cAt_1b, ↓M_cAt_2b, ↓M_cAt_3b, ↓M_cAt_4b, ↓M_eAt_0b, ↓M_eAt_1b, ↓M_eAt_2b, ↓M_eAt_3b, ↓M_eAt_4b, ↓M_wAt_0b, ↓M_wAt_1b, cAt_0, cAt_1, cAt_2, cAt_3, cAt_4, eAt_0, eAt_1, eAt_2, eAt_3, eAt_4, wAt_0, wAt_1, cAt_n, eAt_n, wAt_n, ↓m_isCarrierb, ↓m_isErrandb, ↓m_isWareb, ↓m_isFewb, F_X0_isKind, F_X0_isPlace, F_X0_isPrice, F_X0_isSheet, F_X0_isSpot, F_X13_isKind, F_X13_isPlace, F_X13_isSheet, F_X13_isSpot, within_eq, one_and, zero_and, one_ne, not_true_eq_false, not_false_eq_true, F_X13_gets_J17, F_X13_gets, e1, e2, ↓cb9 m1, oN, show ¬ (0 : Int32) ≤ -1 by decide]
      | some v =>
        rw [hg] at r1
        have h8 := hI.2.1.2
        have hv := gf_le hI (NE S.1) (Nat.le_refl _) v hg
        have n1 := ofN_nm1 (a := v) (by omega)
        have n2 : (0 : Int32) ≤ Int32.ofNat v := by rw [li_0, ofN_le (by omega) (by omega)]; omega
        refine STEP_ret hR (r := Int32.ofNat v) ⟨σ', ?_, r2, r3⟩ (fun σ1 hM => ?_)
        · simp (discharger := first | assumption | omega | decide) only [x_tg, w_tg, m_tg, ↓reduceIte, Option.bind_some, ↓x_0b, ↓x_1b, ↓x_2b, ↓x_3b, ↓x_4b, ↓x_5b, ↓x_6b, ↓x_7b, ↓x_8b, ↓x_9b, ↓x_10b, ↓x_11b, ↓x_12b, ↓x_13b, ↓x_14b, ↓x_15b, ↓x_16b, ↓x_17b, ↓x_18b, ↓x_19b, ↓xp_2b, ↓xp_6b, ↓xp_14b, ↓xp_17b, ↓xp_18b, ↓xp_19b, ↓X_f0b, ↓X_f2b, ↓X_f4b, ↓X_f8b, ↓wf_1b, ↓wf_3b, ↓wf_5b, ↓wf_6b, ↓wf_7b, ↓wf_9b, ↓wt_1_0b, ↓wt_1_1b, ↓wt_1_2b, ↓wt_1_3b, ↓wt_1_4b, ↓wt_11_0b, ↓wt_11_1b, ↓wt_11_2b, ↓wt_11_3b, ↓wt_11_4b, ↓wt_21_0b, ↓wt_21_1b, ↓wt_31_0b, ↓wt_31_1b, ↓wt_31_2b, ↓wt_31_3b, ↓wt_31_4b, ↓wt_31_5b, ↓wt_31_6b, ↓wt_41_0b, ↓wt_41_1b, ↓wt_41_2b, ↓wt_41_3b, ↓wt_41_4b, ↓wt_41_5b, ↓wt_41_6b, ↓wt_1b, ↓wt_11b, ↓wt_21b, ↓wt_31b, ↓wt_41b, ↓X_c0b, ↓X_c1b, ↓X_c2b, ↓X_c3b, ↓X_c4b, ↓X_e0b, ↓X_e1b, ↓X_e2b, ↓X_e3b, ↓X_e4b, ↓X_cb, ↓X_eb, ↓X_w0b, ↓X_w1b, ↓X_hb, ↓X_yb, ↓X_rb, ↓wp_0b, ↓wp_2b, ↓wp_4b, ↓wp_8b, ↓ws_2b, ↓ws_3b, ↓ws_4b, ↓ws_5b, ↓ws_6b, ↓ws_12b, ↓ws_13b, ↓ws_14b, ↓ws_15b, ↓ws_16b, ↓ws_22b, ↓ws_23b, ↓ws_51b, ↓wS_yb, ↓wS_rb, ↓wS_cb, ↓wS_eb, ↓x_isCarrierb, ↓x_isErrandb, ↓x_isWareb, ↓x_isSetb, ↓x_isFewb, F_X0_isKind, F_X0_isPlace, F_X0_isPrice, F_X0_isSheet, F_X0_isSpot, F_X13_isKind, F_X13_isPlace, F_X13_isSheet, F_X13_isSpot, within_eq, one_and, zero_and, one_ne, not_true_eq_false, not_false_eq_true, F_X0_gets_J29, F_X0_gets, F_X0_orNone, e1, e2, ↓cb9 r1, oN, n1, cb_id]
        · have hM2 := hM.2.1
          obtain ⟨σb, m1, m2, m3⟩ := m_getsOf h hM2 hI hc hs8
          rw [hg] at m1
          refine ⟨σb, ?_, m2, m3⟩
          simp (discharger := first | assumption | omega | decide) only [x_tg, w_tg, m_tg, ↓reduceIte, Option.bind_some, ↓m_0b, ↓m_1b, ↓m_2b, ↓m_3b, ↓m_4b, ↓m_5b, ↓m_6b, ↓m_7b, ↓m_8b, ↓m_9b, ↓m_10b, ↓m_11b, ↓m_12b, ↓m_13b, ↓m_14b, ↓m_15b, ↓m_16b, ↓m_17b, ↓m_18b, ↓m_19b, ↓m_20b, ↓m_21b, ↓m_22b, ↓m_23b, ↓m_24b, ↓m_25b, ↓m_26b, ↓m_27b, ↓m_28b, ↓m_29b, ↓mp_3b, ↓mp_6b, ↓mp_10b, ↓mp_11b, ↓mp_12b, ↓mp_14b, ↓mp_15b, ↓mp_16b, ↓mp_17b, ↓mp_18b, ↓mp_19b, ↓mp_22b, ↓mp_23b, ↓mp_24b, ↓mp_25b, ↓M_42b, ↓M_43b, ↓M_44b, ↓M_45b, ↓cIs_0b, ↓cIs_1b, ↓cIs_2b, ↓cIs_3b, ↓cIs_4b, ↓eIs_0b, ↓eIs_1b, ↓eIs_2b, ↓eIs_3b, ↓eIs_4b, ↓cIs_nb, ↓eIs_nb, ↓M_rb, ↓M_cAt_0b, ↓M_cAt_1b, ↓M_cAt_2b, ↓M_cAt_3b, ↓M_cAt_4b, ↓M_eAt_0b, ↓M_eAt_1b, ↓M_eAt_2b, ↓M_eAt_3b, ↓M_eAt_4b, ↓M_wAt_0b, ↓M_wAt_1b, cAt_0, cAt_1, cAt_2, cAt_3, cAt_4, eAt_0, eAt_1, eAt_2, eAt_3, eAt_4, wAt_0, wAt_1, cAt_n, eAt_n, wAt_n, ↓m_isCarrierb, ↓m_isErrandb, ↓m_isWareb, ↓m_isFewb, F_X0_isKind, F_X0_isPlace, F_X0_isPrice, F_X0_isSheet, F_X0_isSpot, F_X13_isKind, F_X13_isPlace, F_X13_isSheet, F_X13_isSpot, within_eq, one_and, zero_and, one_ne, not_true_eq_false, not_false_eq_true, F_X13_gets_J17, F_X13_gets, e1, e2, ↓cb9 m1, oN, eq_true n2]
    · exact STEP_fnd hR (k := 0) (xv := 0) (mv := -1000001) (by omega) rfl (by decide) ⟨σ, by simp (discharger := first | assumption | omega | decide) only [x_tg, w_tg, m_tg, ↓reduceIte, Option.bind_some, ↓x_0b, ↓x_1b, ↓x_2b, ↓x_3b, ↓x_4b, ↓x_5b, ↓x_6b, ↓x_7b, ↓x_8b, ↓x_9b, ↓x_10b, ↓x_11b, ↓x_12b, ↓x_13b, ↓x_14b, ↓x_15b, ↓x_16b, ↓x_17b, ↓x_18b, ↓x_19b, ↓xp_2b, ↓xp_6b, ↓xp_14b, ↓xp_17b, ↓xp_18b, ↓xp_19b, ↓X_f0b, ↓X_f2b, ↓X_f4b, ↓X_f8b, ↓wf_1b, ↓wf_3b, ↓wf_5b, ↓wf_6b, ↓wf_7b, ↓wf_9b, ↓wt_1_0b, ↓wt_1_1b, ↓wt_1_2b, ↓wt_1_3b, ↓wt_1_4b, ↓wt_11_0b, ↓wt_11_1b, ↓wt_11_2b, ↓wt_11_3b, ↓wt_11_4b, ↓wt_21_0b, ↓wt_21_1b, ↓wt_31_0b, ↓wt_31_1b, ↓wt_31_2b, ↓wt_31_3b, ↓wt_31_4b, ↓wt_31_5b, ↓wt_31_6b, ↓wt_41_0b, ↓wt_41_1b, ↓wt_41_2b, ↓wt_41_3b, ↓wt_41_4b, ↓wt_41_5b, ↓wt_41_6b, ↓wt_1b, ↓wt_11b, ↓wt_21b, ↓wt_31b, ↓wt_41b, ↓X_c0b, ↓X_c1b, ↓X_c2b, ↓X_c3b, ↓X_c4b, ↓X_e0b, ↓X_e1b, ↓X_e2b, ↓X_e3b, ↓X_e4b, ↓X_cb, ↓X_eb, ↓X_w0b, ↓X_w1b, ↓X_hb, ↓X_yb, ↓X_rb, ↓wp_0b, ↓wp_2b, ↓wp_4b, ↓wp_8b, ↓ws_2b, ↓ws_3b, ↓ws_4b, ↓ws_5b, ↓ws_6b, ↓ws_12b, ↓ws_13b, ↓ws_14b, ↓ws_15b, ↓ws_16b, ↓ws_22b, ↓ws_23b, ↓ws_51b, ↓wS_yb, ↓wS_rb, ↓wS_cb, ↓wS_eb, ↓x_isCarrierb, ↓x_isErrandb, ↓x_isWareb, ↓x_isSetb, ↓x_isFewb, F_X0_isKind, F_X0_isPlace, F_X0_isPrice, F_X0_isSheet, F_X0_isSpot, F_X13_isKind, F_X13_isPlace, F_X13_isSheet, F_X13_isSpot, within_eq, one_and, zero_and, one_ne, not_true_eq_false, not_false_eq_true, F_X0_gets_J29, F_X0_gets, e1, e2], ag_refl _, xf_refl _⟩ (fun σ1 hM => by have hM2 := hM.2.1; exact ⟨σ1, by simp (discharger := first | assumption | omega | decide) only [x_tg, w_tg, m_tg, ↓reduceIte, Option.bind_some, ↓m_0b, ↓m_1b, ↓m_2b, ↓m_3b, ↓m_4b, ↓m_5b, ↓m_6b, ↓m_7b, ↓m_8b, ↓m_9b, ↓m_10b, ↓m_11b, ↓m_12b, ↓m_13b, ↓m_14b, ↓m_15b, ↓m_16b, ↓m_17b, ↓m_18b, ↓m_19b, ↓m_20b, ↓m_21b, ↓m_22b, ↓m_23b, ↓m_24b, ↓m_25b, ↓m_26b, ↓m_27b, ↓m_28b, ↓m_29b, ↓mp_3b, ↓mp_6b, ↓mp_10b, ↓mp_11b, ↓mp_12b, ↓mp_14b, ↓mp_15b, ↓mp_16b, ↓mp_17b, ↓mp_18b, ↓mp_19b, ↓mp_22b, ↓mp_23b, ↓mp_24b, ↓mp_25b, ↓M_42b, ↓M_43b, ↓M_44b, ↓M_45b, ↓cIs_0b, ↓cIs_1b, ↓cIs_2b, ↓cIs_3b, ↓cIs_4b, ↓eIs_0b, ↓eIs_1b, ↓eIs_2b, ↓eIs_3b, ↓eIs_4b, ↓cIs_nb, ↓eIs_nb, ↓M_rb, ↓M_cAt_0b, ↓M_cAt_1b, ↓M_cAt_2b, ↓M_cAt_3b, ↓M_cAt_4b, ↓M_eAt_0b, ↓M_eAt_1b, ↓M_eAt_2b, ↓M_eAt_3b, ↓M_eAt_4b, ↓M_wAt_0b, ↓M_wAt_1b, cAt_0, cAt_1, cAt_2, cAt_3, cAt_4, eAt_0, eAt_1, eAt_2, eAt_3, eAt_4, wAt_0, wAt_1, cAt_n, eAt_n, wAt_n, ↓m_isCarrierb, ↓m_isErrandb, ↓m_isWareb, ↓m_isFewb, F_X0_isKind, F_X0_isPlace, F_X0_isPrice, F_X0_isSheet, F_X0_isSpot, F_X13_isKind, F_X13_isPlace, F_X13_isSheet, F_X13_isSpot, within_eq, one_and, zero_and, one_ne, not_true_eq_false, not_false_eq_true, F_X13_gets_J17, F_X13_gets, e1, e2], ag_refl _, mf_refl _⟩)
  · exact STEP_fnd hR (k := 0) (xv := 0) (mv := -1000001) (by omega) rfl (by decide) ⟨σ, by simp (discharger := first | assumption | omega | decide) only [x_tg, w_tg, m_tg, ↓reduceIte, Option.bind_some, ↓x_0b, ↓x_1b, ↓x_2b, ↓x_3b, ↓x_4b, ↓x_5b, ↓x_6b, ↓x_7b, ↓x_8b, ↓x_9b, ↓x_10b, ↓x_11b, ↓x_12b, ↓x_13b, ↓x_14b, ↓x_15b, ↓x_16b, ↓x_17b, ↓x_18b, ↓x_19b, ↓xp_2b, ↓xp_6b, ↓xp_14b, ↓xp_17b, ↓xp_18b, ↓xp_19b, ↓X_f0b, ↓X_f2b, ↓X_f4b, ↓X_f8b, ↓wf_1b, ↓wf_3b, ↓wf_5b, ↓wf_6b, ↓wf_7b, ↓wf_9b, ↓wt_1_0b, ↓wt_1_1b, ↓wt_1_2b, ↓wt_1_3b, ↓wt_1_4b, ↓wt_11_0b, ↓wt_11_1b, ↓wt_11_2b, ↓wt_11_3b, ↓wt_11_4b, ↓wt_21_0b, ↓wt_21_1b, ↓wt_31_0b, ↓wt_31_1b, ↓wt_31_2b, ↓wt_31_3b, ↓wt_31_4b, ↓wt_31_5b, ↓wt_31_6b, ↓wt_41_0b, ↓wt_41_1b, ↓wt_41_2b, ↓wt_41_3b, ↓wt_41_4b, ↓wt_41_5b, ↓wt_41_6b, ↓wt_1b, ↓wt_11b, ↓wt_21b, ↓wt_31b, ↓wt_41b, ↓X_c0b, ↓X_c1b, ↓X_c2b, ↓X_c3b, ↓X_c4b, ↓X_e0b, ↓X_e1b, ↓X_e2b, ↓X_e3b, ↓X_e4b, ↓X_cb, ↓X_eb, ↓X_w0b, ↓X_w1b, ↓X_hb, ↓X_yb, ↓X_rb, ↓wp_0b, ↓wp_2b, ↓wp_4b, ↓wp_8b, ↓ws_2b, ↓ws_3b, ↓ws_4b, ↓ws_5b, ↓ws_6b, ↓ws_12b, ↓ws_13b, ↓ws_14b, ↓ws_15b, ↓ws_16b, ↓ws_22b, ↓ws_23b, ↓ws_51b, ↓wS_yb, ↓wS_rb, ↓wS_cb, ↓wS_eb, ↓x_isCarrierb, ↓x_isErrandb, ↓x_isWareb, ↓x_isSetb, ↓x_isFewb, F_X0_isKind, F_X0_isPlace, F_X0_isPrice, F_X0_isSheet, F_X0_isSpot, F_X13_isKind, F_X13_isPlace, F_X13_isSheet, F_X13_isSpot, within_eq, one_and, zero_and, one_ne, not_true_eq_false, not_false_eq_true, F_X0_gets_J29, F_X0_gets, e1], ag_refl _, xf_refl _⟩ (fun σ1 hM => by have hM2 := hM.2.1; exact ⟨σ1, by simp (discharger := first | assumption | omega | decide) only [x_tg, w_tg, m_tg, ↓reduceIte, Option.bind_some, ↓m_0b, ↓m_1b, ↓m_2b, ↓m_3b, ↓m_4b, ↓m_5b, ↓m_6b, ↓m_7b, ↓m_8b, ↓m_9b, ↓m_10b, ↓m_11b, ↓m_12b, ↓m_13b, ↓m_14b, ↓m_15b, ↓m_16b, ↓m_17b, ↓m_18b, ↓m_19b, ↓m_20b, ↓m_21b, ↓m_22b, ↓m_23b, ↓m_24b, ↓m_25b, ↓m_26b, ↓m_27b, ↓m_28b, ↓m_29b, ↓mp_3b, ↓mp_6b, ↓mp_10b, ↓mp_11b, ↓mp_12b, ↓mp_14b, ↓mp_15b, ↓mp_16b, ↓mp_17b, ↓mp_18b, ↓mp_19b, ↓mp_22b, ↓mp_23b, ↓mp_24b, ↓mp_25b, ↓M_42b, ↓M_43b, ↓M_44b, ↓M_45b, ↓cIs_0b, ↓cIs_1b, ↓cIs_2b, ↓cIs_3b, ↓cIs_4b, ↓eIs_0b, ↓eIs_1b, ↓eIs_2b, ↓eIs_3b, ↓eIs_4b, ↓cIs_nb, ↓eIs_nb, ↓M_rb, ↓M_cAt_0b, ↓M_cAt_1b, ↓M_cAt_2b, ↓M_cAt_3b, ↓M_cAt_4b, ↓M_eAt_0b, ↓M_eAt_1b, ↓M_eAt_2b, ↓M_eAt_3b, ↓M_eAt_4b, ↓M_wAt_0b, ↓M_wAt_1b, cAt_0, cAt_1, cAt_2, cAt_3, cAt_4, eAt_0, eAt_1, eAt_2, eAt_3, eAt_4, wAt_0, wAt_1, cAt_n, eAt_n, wAt_n, ↓m_isCarrierb, ↓m_isErrandb, ↓m_isWareb, ↓m_isFewb, F_X0_isKind, F_X0_isPlace, F_X0_isPrice, F_X0_isSheet, F_X0_isSpot, F_X13_isKind, F_X13_isPlace, F_X13_isSheet, F_X13_isSpot, within_eq, one_and, zero_and, one_ne, not_true_eq_false, not_false_eq_true, F_X13_gets_J17, F_X13_gets, e1], ag_refl _, mf_refl _⟩)
end L5a
/-! ### the acts: who, joined, shared -/
/-- what is in one set and not in another -/
def dif (p s : Nat) : Nat := p &&& (4294967296 - (s + 1))
set_option maxRecDepth 8000 in
theorem dif_bit {p s : Nat} (hp9 : p < 256) (hs : s < 256) (i : Nat) : (dif p s).testBit i = (p.testBit i && !s.testBit i) := by
  unfold dif
  rw [Nat.testBit_and, show 4294967296 = 2 ^ 32 from rfl, Nat.testBit_two_pow_sub_succ (show s < 2 ^ 32 by omega)]
  by_cases hi : i < 32
  · simp [hi]
  · have : p.testBit i = false := Nat.testBit_lt_two_pow (Nat.lt_of_lt_of_le hp9 (Nat.pow_le_pow_right (n := 2) (by decide) (show 8 ≤ i by omega)))
    simp [this]
set_option maxRecDepth 8000 in
theorem dif_le (p s : Nat) : dif p s ≤ p := Nat.and_le_left
set_option maxRecDepth 8000 in
theorem an_n {p s : Nat} (hp9 : p < 256) (hs : s < 256) : Int32.ofNat p &&& (Int32.ofNat s ^^^ -1) = Int32.ofNat (dif p s) := by
  apply Int32.toBitVec_inj.mp
  show BitVec.ofNat 32 p &&& (BitVec.ofNat 32 s ^^^ (-1 : Int32).toBitVec) = BitVec.ofNat 32 (dif p s)
  apply BitVec.eq_of_toNat_eq
  have h1 : (-1 : Int32).toBitVec = BitVec.allOnes 32 := by decide
  have hd := dif_le p s
  rw [h1, BitVec.xor_allOnes]
  simp only [BitVec.toNat_and, BitVec.toNat_not, BitVec.toNat_ofNat]
  rw [Nat.mod_eq_of_lt (show p < 2 ^ 32 by omega), Nat.mod_eq_of_lt (show s < 2 ^ 32 by omega), Nat.mod_eq_of_lt (show dif p s < 2 ^ 32 by omega)]
  unfold dif
  congr 1
  omega
set_option maxRecDepth 8000 in
theorem dif_z {p s : Nat} (hp9 : p < 256) (hs : s < 256) : Int32.ofNat p &&& (Int32.ofNat s ^^^ -1) = 0 ↔ dif p s = 0 := by
  have := dif_le p s
  rw [an_n hp9 hs, li_0, ofN_inj (by omega) (by omega)]
set_option maxRecDepth 8000 in
theorem sub_bit {p s : Nat} (hp9 : p < 256) (hs : s < 256) (h : dif p s = 0) : ∀ i, p.testBit i = true → s.testBit i = true := by
  intro i hi
  have := dif_bit hp9 hs i
  rw [h, hi] at this
  simp at this
  exact this
set_option maxRecDepth 8000 in
theorem cbn_sub {p s : Nat} (h : ∀ i, p.testBit i = true → s.testBit i = true) : ∀ n, cbn p n ≤ cbn s n := by
  intro n
  induction n with
  | zero => exact Nat.le_refl _
  | succ n ih =>
    rw [cbn_succ, cbn_succ]
    by_cases hb : p.testBit n = true
    · rw [if_pos hb, if_pos (h n hb)]; omega
    · rw [if_neg hb]; omega
set_option maxRecDepth 8000 in
theorem sub_le {p s : Nat} (hp9 : p < 256) (hs : s < 256) (h : dif p s = 0) : p ≤ s := by
  have e : p = p &&& s := by
    apply Nat.eq_of_testBit_eq
    intro i
    rw [Nat.testBit_and]
    by_cases hb : p.testBit i = true
    · rw [hb, sub_bit hp9 hs h i hb]; rfl
    · simp at hb; rw [hb]; rfl
  rw [e]; exact Nat.and_le_right
set_option maxRecDepth 8000 in
theorem cbn_dif {p s : Nat} (hp9 : p < 256) (hs : s < 256) (n : Nat) : cbn (dif p s) n ≤ cbn p n := cbn_sub (fun i hi => by rw [dif_bit hp9 hs] at hi; simp at hi; exact hi.1) n
/-- the first best -/
def bsS (v : Nat → Nat) (j : Nat) (b : Nat × Nat) : Nat × Nat := if v j < b.1 then (v j, j) else b
def bs (v : Nat → Nat) (n : Nat) : Nat × Nat := itF (bsS v) 0 n (1000000, 0)
set_option maxRecDepth 8000 in
theorem bs_le (v : Nat → Nat) (n : Nat) : (bs v n).1 ≤ 1000000 := by
  refine itF_inv0 (f := bsS v) (fun _ b => b.1 ≤ 1000000) n _ (Nat.le_refl _) (fun e b _ hb => ?_)
  unfold bsS; split
  · dsimp only; omega
  · exact hb
set_option maxRecDepth 8000 in
theorem bs_arg (v : Nat → Nat) (n : Nat) (hn : 0 < n) : (bs v n).2 < n := by
  have := itF_inv0 (f := bsS v) (fun m b => b.2 < m ∨ (m = 0 ∧ b.2 = 0) ∨ b.2 < m + 1) n (1000000, 0) (.inr (.inl ⟨rfl, rfl⟩)) (fun e b _ hb => ?_)
  · have h2 : (bs v n).2 ≤ n := by rcases this with h | h | h <;> (unfold bs; omega)
    have h3 := itF_inv0 (f := bsS v) (fun m b => m = 0 ∧ b.2 = 0 ∨ b.2 < m) n (1000000, 0) (.inl ⟨rfl, rfl⟩) (fun e b _ hb => ?_)
    · rcases h3 with h | h
      · unfold bs; omega
      · exact h
    · unfold bsS; split
      · exact .inr (Nat.lt_succ_self _)
      · rcases hb with h | h
        · exact .inr (by omega)
        · exact .inr (by omega)
  · unfold bsS; split
    · exact .inl (Nat.lt_succ_self _)
    · rcases hb with h | h | h
      · exact .inl (by omega)
      · exact .inl (by omega)
      · exact .inr (.inr (by omega))
set_option maxRecDepth 8000 in
theorem bs_succ (v : Nat → Nat) (n : Nat) : bs v (n + 1) = bsS v n (bs v n) := itF_snoc0 _ _ _
set_option maxRecDepth 8000 in
theorem bs_ext {v : Nat → Nat} {n m : Nat} (h : n ≤ m) (hv : ∀ j, n ≤ j → j < m → 1000000 ≤ v j) : bs v m = bs v n := by
  induction m with
  | zero => rw [show n = 0 by omega]
  | succ m ih =>
    by_cases he : n = m + 1
    · rw [he]
    · rw [bs_succ, ih (by omega) (fun j a b => hv j a (by omega))]
      have := hv m (by omega) (by omega)
      have := bs_le v n
      unfold bsS; rw [if_neg (by omega)]
set_option maxRecDepth 8000 in
theorem bs_congr {v v' : Nat → Nat} {n : Nat} (h : ∀ j, j < n → v j = v' j) : bs v n = bs v' n := by
  unfold bs; exact itF_congr n 0 _ fun e _ he b => by unfold bsS; rw [h e (by omega)]
section L5b
variable {L : Lt} {σ σ' : St} {S : Sg} {ρ ρ' : Rw}
def whoV (ρ : Rw) (s c : Nat) : Nat := if bset (Pcar ρ (Int32.ofNat c)) (NE ρ) = 0 then rnd ρ c s else 1000000
def oB (b : Nat × Nat) : Int32 := if b.1 < 1000000 then Int32.ofNat b.2 else -1
set_option maxRecDepth 8000 in
theorem whoV_le (ρ : Rw) (s c : Nat) : whoV ρ s c ≤ 1000000 := by
  unfold whoV; split
  · exact rnd_le _ _ _
  · exact Nat.le_refl _
set_option maxRecDepth 8000 in
theorem x_whoShortest (h : Lok L) (hW : WX σ 200 ρ) (hI : Inv ρ) (hC : CN σ) (hP : PX σ) {s : Nat} (hs : s < 256) (hf : cbn s (NE ρ) ≤ 5) : ∃ σ', F_X0_whoShortest (some (L.1 0)) (Int32.ofNat s) (hp L σ) = some (oB (bs (whoV ρ s) (NC ρ)), hp L σ') ∧ ag σ σ' ∧ xf σ σ' := by
  have h6 := hI.1.2
  have hN := hI.1.1
  unfold F_X0_whoShortest
  rw [if_pos (x_tg h)]
  have key := lpQ (Lp := fun f j (g : St × Int32 × Int32) => F_X0_whoShortest_L8 f (some (L.1 0)) (Int32.ofNat s) g.2.1 g.2.2 (Int32.ofNat j) (hp L g.1)) (N := NC ρ) (fun j g => g.2.1 = oB (bs (whoV ρ s) j) ∧ g.2.2 = Int32.ofNat (bs (whoV ρ s) j).1 ∧ ag σ g.1 ∧ xf σ g.1) (fun r => ∃ σ', r = (oB (bs (whoV ρ s) (NC ρ)), hp L σ') ∧ ag σ σ' ∧ xf σ σ') ?_ ?_ (by unfold fu; omega) (σ, -1, 1000000) ⟨rfl, rfl, ag_refl _, xf_refl _⟩
  · obtain ⟨r, e, σ', rfl, q1, q2⟩ := key
    exact ⟨σ', e, q1, q2⟩
  · intro f g ⟨q1, q2, q3, q4⟩
    have hW1 := WX_ag q3 rfl hW
    refine ⟨_, ?_, g.1, rfl, q3, q4⟩
    rw [q1]
    simp (discharger := first | assumption | omega | decide) only [x_tg, w_tg, m_tg, ↓reduceIte, Option.bind_some, ↓x_0b, ↓x_1b, ↓x_2b, ↓x_3b, ↓x_4b, ↓x_5b, ↓x_6b, ↓x_7b, ↓x_8b, ↓x_9b, ↓x_10b, ↓x_11b, ↓x_12b, ↓x_13b, ↓x_14b, ↓x_15b, ↓x_16b, ↓x_17b, ↓x_18b, ↓x_19b, ↓xp_2b, ↓xp_6b, ↓xp_14b, ↓xp_17b, ↓xp_18b, ↓xp_19b, ↓X_f0b, ↓X_f2b, ↓X_f4b, ↓X_f8b, ↓wf_1b, ↓wf_3b, ↓wf_5b, ↓wf_6b, ↓wf_7b, ↓wf_9b, ↓wt_1_0b, ↓wt_1_1b, ↓wt_1_2b, ↓wt_1_3b, ↓wt_1_4b, ↓wt_11_0b, ↓wt_11_1b, ↓wt_11_2b, ↓wt_11_3b, ↓wt_11_4b, ↓wt_21_0b, ↓wt_21_1b, ↓wt_31_0b, ↓wt_31_1b, ↓wt_31_2b, ↓wt_31_3b, ↓wt_31_4b, ↓wt_31_5b, ↓wt_31_6b, ↓wt_41_0b, ↓wt_41_1b, ↓wt_41_2b, ↓wt_41_3b, ↓wt_41_4b, ↓wt_41_5b, ↓wt_41_6b, ↓wt_1b, ↓wt_11b, ↓wt_21b, ↓wt_31b, ↓wt_41b, ↓X_c0b, ↓X_c1b, ↓X_c2b, ↓X_c3b, ↓X_c4b, ↓X_e0b, ↓X_e1b, ↓X_e2b, ↓X_e3b, ↓X_e4b, ↓X_cb, ↓X_eb, ↓X_w0b, ↓X_w1b, ↓X_hb, ↓X_yb, ↓X_rb, ↓wp_0b, ↓wp_2b, ↓wp_4b, ↓wp_8b, ↓ws_2b, ↓ws_3b, ↓ws_4b, ↓ws_5b, ↓ws_6b, ↓ws_12b, ↓ws_13b, ↓ws_14b, ↓ws_15b, ↓ws_16b, ↓ws_22b, ↓ws_23b, ↓ws_51b, ↓wS_yb, ↓wS_rb, ↓wS_cb, ↓wS_eb, F_X0_whoShortest_L8, F_X0_whoShortest_B8, hN, ofN_le, Nat.le_refl]
  · intro f j g hj ⟨q1, q2, q3, q4⟩
    obtain ⟨g1, g2, g3⟩ := g
    dsimp only at q1 q2 q3 q4 ⊢
    subst q1 q2
    have hW1 := WX_ag q3 rfl hW
    have hd : ¬ NC ρ ≤ j := by omega
    have ge := x_isEmpty h hW1 hI (Int32.ofNat j)
    have hb := bs_le (whoV ρ s) j
    have hv := whoV_le ρ s j
    rw [bs_succ]
    unfold bsS
    by_cases he : bset (Pcar ρ (Int32.ofNat j)) (NE ρ) = 0
    · have e1 : emV ρ (Int32.ofNat j) = 1 := by unfold emV; rw [if_pos he]
      rw [e1] at ge
      obtain ⟨σ2, r1, r2, r3, _⟩ := x_roundOf h hW1 hI (CN_ag q3 hC) (PX_ag q3 hP) hj hs hf
      have ev : whoV ρ s j = rnd ρ j s := by unfold whoV; rw [if_pos he]
      rw [ev] at hv ⊢
      by_cases hlt : rnd ρ j s < (bs (whoV ρ s) j).1
      · have hfi : rnd ρ j s < 1000000 := by omega
        have n1 := oR_ne hfi
        rw [if_pos hlt]
        have n2 : ¬ Int32.ofNat (bs (whoV ρ s) j).1 ≤ oR (rnd ρ j s) := by rw [oR_pos hfi, ofN_le (by omega) (by omega)]; omega
        refine ⟨(σ2, Int32.ofNat j, oR (rnd ρ j s)), ?_, ?_, ?_, ag_trans q3 r2, xf_trans q4 r3⟩
        · simp (discharger := first | assumption | omega | decide) only [x_tg, w_tg, m_tg, ↓reduceIte, Option.bind_some, ↓x_0b, ↓x_1b, ↓x_2b, ↓x_3b, ↓x_4b, ↓x_5b, ↓x_6b, ↓x_7b, ↓x_8b, ↓x_9b, ↓x_10b, ↓x_11b, ↓x_12b, ↓x_13b, ↓x_14b, ↓x_15b, ↓x_16b, ↓x_17b, ↓x_18b, ↓x_19b, ↓xp_2b, ↓xp_6b, ↓xp_14b, ↓xp_17b, ↓xp_18b, ↓xp_19b, ↓X_f0b, ↓X_f2b, ↓X_f4b, ↓X_f8b, ↓wf_1b, ↓wf_3b, ↓wf_5b, ↓wf_6b, ↓wf_7b, ↓wf_9b, ↓wt_1_0b, ↓wt_1_1b, ↓wt_1_2b, ↓wt_1_3b, ↓wt_1_4b, ↓wt_11_0b, ↓wt_11_1b, ↓wt_11_2b, ↓wt_11_3b, ↓wt_11_4b, ↓wt_21_0b, ↓wt_21_1b, ↓wt_31_0b, ↓wt_31_1b, ↓wt_31_2b, ↓wt_31_3b, ↓wt_31_4b, ↓wt_31_5b, ↓wt_31_6b, ↓wt_41_0b, ↓wt_41_1b, ↓wt_41_2b, ↓wt_41_3b, ↓wt_41_4b, ↓wt_41_5b, ↓wt_41_6b, ↓wt_1b, ↓wt_11b, ↓wt_21b, ↓wt_31b, ↓wt_41b, ↓X_c0b, ↓X_c1b, ↓X_c2b, ↓X_c3b, ↓X_c4b, ↓X_e0b, ↓X_e1b, ↓X_e2b, ↓X_e3b, ↓X_e4b, ↓X_cb, ↓X_eb, ↓X_w0b, ↓X_w1b, ↓X_hb, ↓X_yb, ↓X_rb, ↓wp_0b, ↓wp_2b, ↓wp_4b, ↓wp_8b, ↓ws_2b, ↓ws_3b, ↓ws_4b, ↓ws_5b, ↓ws_6b, ↓ws_12b, ↓ws_13b, ↓ws_14b, ↓ws_15b, ↓ws_16b, ↓ws_22b, ↓ws_23b, ↓ws_51b, ↓wS_yb, ↓wS_rb, ↓wS_cb, ↓wS_eb, F_X0_whoShortest_J84, F_X0_whoShortest_J72, F_X0_whoShortest_J59, F_X0_whoShortest_J58, F_X0_whoShortest_J40, F_X0_whoShortest_B8, F_X0_whoShortest_L8, F_X0_whoShortest, hN, ofN_le, hd, ↓bn9 ge, one_ne, ↓cb9 r1, n1, n2, ofNs]
        · unfold oB; rw [if_pos hfi]
        · exact oR_pos hfi
      · rw [if_neg hlt]
        refine ⟨(σ2, oB (bs (whoV ρ s) j), Int32.ofNat (bs (whoV ρ s) j).1), ?_, rfl, rfl, ag_trans q3 r2, xf_trans q4 r3⟩
        by_cases hfi : rnd ρ j s < 1000000
        · have n1 := oR_ne hfi
          have n2 : Int32.ofNat (bs (whoV ρ s) j).1 ≤ oR (rnd ρ j s) := by rw [oR_pos hfi, ofN_le (by omega) (by omega)]; omega
          simp (discharger := first | assumption | omega | decide) only [x_tg, w_tg, m_tg, ↓reduceIte, Option.bind_some, ↓x_0b, ↓x_1b, ↓x_2b, ↓x_3b, ↓x_4b, ↓x_5b, ↓x_6b, ↓x_7b, ↓x_8b, ↓x_9b, ↓x_10b, ↓x_11b, ↓x_12b, ↓x_13b, ↓x_14b, ↓x_15b, ↓x_16b, ↓x_17b, ↓x_18b, ↓x_19b, ↓xp_2b, ↓xp_6b, ↓xp_14b, ↓xp_17b, ↓xp_18b, ↓xp_19b, ↓X_f0b, ↓X_f2b, ↓X_f4b, ↓X_f8b, ↓wf_1b, ↓wf_3b, ↓wf_5b, ↓wf_6b, ↓wf_7b, ↓wf_9b, ↓wt_1_0b, ↓wt_1_1b, ↓wt_1_2b, ↓wt_1_3b, ↓wt_1_4b, ↓wt_11_0b, ↓wt_11_1b, ↓wt_11_2b, ↓wt_11_3b, ↓wt_11_4b, ↓wt_21_0b, ↓wt_21_1b, ↓wt_31_0b, ↓wt_31_1b, ↓wt_31_2b, ↓wt_31_3b, ↓wt_31_4b, ↓wt_31_5b, ↓wt_31_6b, ↓wt_41_0b, ↓wt_41_1b, ↓wt_41_2b, ↓wt_41_3b, ↓wt_41_4b, ↓wt_41_5b, ↓wt_41_6b, ↓wt_1b, ↓wt_11b, ↓wt_21b, ↓wt_31b, ↓wt_41b, ↓X_c0b, ↓X_c1b, ↓X_c2b, ↓X_c3b, ↓X_c4b, ↓X_e0b, ↓X_e1b, ↓X_e2b, ↓X_e3b, ↓X_e4b, ↓X_cb, ↓X_eb, ↓X_w0b, ↓X_w1b, ↓X_hb, ↓X_yb, ↓X_rb, ↓wp_0b, ↓wp_2b, ↓wp_4b, ↓wp_8b, ↓ws_2b, ↓ws_3b, ↓ws_4b, ↓ws_5b, ↓ws_6b, ↓ws_12b, ↓ws_13b, ↓ws_14b, ↓ws_15b, ↓ws_16b, ↓ws_22b, ↓ws_23b, ↓ws_51b, ↓wS_yb, ↓wS_rb, ↓wS_cb, ↓wS_eb, F_X0_whoShortest_J84, F_X0_whoShortest_J72, F_X0_whoShortest_J59, F_X0_whoShortest_J58, F_X0_whoShortest_J40, F_X0_whoShortest_B8, F_X0_whoShortest_L8, F_X0_whoShortest, hN, ofN_le, hd, ↓bn9 ge, one_ne, ↓cb9 r1, n1, eq_true n2, ofNs]
        · simp (discharger := first | assumption | omega | decide) only [x_tg, w_tg, m_tg, ↓reduceIte, Option.bind_some, ↓x_0b, ↓x_1b, ↓x_2b, ↓x_3b, ↓x_4b, ↓x_5b, ↓x_6b, ↓x_7b, ↓x_8b, ↓x_9b, ↓x_10b, ↓x_11b, ↓x_12b, ↓x_13b, ↓x_14b, ↓x_15b, ↓x_16b, ↓x_17b, ↓x_18b, ↓x_19b, ↓xp_2b, ↓xp_6b, ↓xp_14b, ↓xp_17b, ↓xp_18b, ↓xp_19b, ↓X_f0b, ↓X_f2b, ↓X_f4b, ↓X_f8b, ↓wf_1b, ↓wf_3b, ↓wf_5b, ↓wf_6b, ↓wf_7b, ↓wf_9b, ↓wt_1_0b, ↓wt_1_1b, ↓wt_1_2b, ↓wt_1_3b, ↓wt_1_4b, ↓wt_11_0b, ↓wt_11_1b, ↓wt_11_2b, ↓wt_11_3b, ↓wt_11_4b, ↓wt_21_0b, ↓wt_21_1b, ↓wt_31_0b, ↓wt_31_1b, ↓wt_31_2b, ↓wt_31_3b, ↓wt_31_4b, ↓wt_31_5b, ↓wt_31_6b, ↓wt_41_0b, ↓wt_41_1b, ↓wt_41_2b, ↓wt_41_3b, ↓wt_41_4b, ↓wt_41_5b, ↓wt_41_6b, ↓wt_1b, ↓wt_11b, ↓wt_21b, ↓wt_31b, ↓wt_41b, ↓X_c0b, ↓X_c1b, ↓X_c2b, ↓X_c3b, ↓X_c4b, ↓X_e0b, ↓X_e1b, ↓X_e2b, ↓X_e3b, ↓X_e4b, ↓X_cb, ↓X_eb, ↓X_w0b, ↓X_w1b, ↓X_hb, ↓X_yb, ↓X_rb, ↓wp_0b, ↓wp_2b, ↓wp_4b, ↓wp_8b, ↓ws_2b, ↓ws_3b, ↓ws_4b, ↓ws_5b, ↓ws_6b, ↓ws_12b, ↓ws_13b, ↓ws_14b, ↓ws_15b, ↓ws_16b, ↓ws_22b, ↓ws_23b, ↓ws_51b, ↓wS_yb, ↓wS_rb, ↓wS_cb, ↓wS_eb, F_X0_whoShortest_J84, F_X0_whoShortest_J72, F_X0_whoShortest_J59, F_X0_whoShortest_J58, F_X0_whoShortest_J40, F_X0_whoShortest_B8, F_X0_whoShortest_L8, F_X0_whoShortest, hN, ofN_le, hd, ↓bn9 ge, one_ne, ↓cb9 r1, oR_neg hfi, ofNs]
    · have e1 : emV ρ (Int32.ofNat j) = 0 := by unfold emV; rw [if_neg he]
      rw [e1] at ge
      have ev : whoV ρ s j = 1000000 := by unfold whoV; rw [if_neg he]
      rw [ev, if_neg (by omega)]
      refine ⟨(g1, oB (bs (whoV ρ s) j), Int32.ofNat (bs (whoV ρ s) j).1), ?_, rfl, rfl, q3, q4⟩
      simp (discharger := first | assumption | omega | decide) only [x_tg, w_tg, m_tg, ↓reduceIte, Option.bind_some, ↓x_0b, ↓x_1b, ↓x_2b, ↓x_3b, ↓x_4b, ↓x_5b, ↓x_6b, ↓x_7b, ↓x_8b, ↓x_9b, ↓x_10b, ↓x_11b, ↓x_12b, ↓x_13b, ↓x_14b, ↓x_15b, ↓x_16b, ↓x_17b, ↓x_18b, ↓x_19b, ↓xp_2b, ↓xp_6b, ↓xp_14b, ↓xp_17b, ↓xp_18b, ↓xp_19b, ↓X_f0b, ↓X_f2b, ↓X_f4b, ↓X_f8b, ↓wf_1b, ↓wf_3b, ↓wf_5b, ↓wf_6b, ↓wf_7b, ↓wf_9b, ↓wt_1_0b, ↓wt_1_1b, ↓wt_1_2b, ↓wt_1_3b, ↓wt_1_4b, ↓wt_11_0b, ↓wt_11_1b, ↓wt_11_2b, ↓wt_11_3b, ↓wt_11_4b, ↓wt_21_0b, ↓wt_21_1b, ↓wt_31_0b, ↓wt_31_1b, ↓wt_31_2b, ↓wt_31_3b, ↓wt_31_4b, ↓wt_31_5b, ↓wt_31_6b, ↓wt_41_0b, ↓wt_41_1b, ↓wt_41_2b, ↓wt_41_3b, ↓wt_41_4b, ↓wt_41_5b, ↓wt_41_6b, ↓wt_1b, ↓wt_11b, ↓wt_21b, ↓wt_31b, ↓wt_41b, ↓X_c0b, ↓X_c1b, ↓X_c2b, ↓X_c3b, ↓X_c4b, ↓X_e0b, ↓X_e1b, ↓X_e2b, ↓X_e3b, ↓X_e4b, ↓X_cb, ↓X_eb, ↓X_w0b, ↓X_w1b, ↓X_hb, ↓X_yb, ↓X_rb, ↓wp_0b, ↓wp_2b, ↓wp_4b, ↓wp_8b, ↓ws_2b, ↓ws_3b, ↓ws_4b, ↓ws_5b, ↓ws_6b, ↓ws_12b, ↓ws_13b, ↓ws_14b, ↓ws_15b, ↓ws_16b, ↓ws_22b, ↓ws_23b, ↓ws_51b, ↓wS_yb, ↓wS_rb, ↓wS_cb, ↓wS_eb, F_X0_whoShortest_J84, F_X0_whoShortest_J72, F_X0_whoShortest_J59, F_X0_whoShortest_J58, F_X0_whoShortest_J40, F_X0_whoShortest_B8, F_X0_whoShortest_L8, F_X0_whoShortest, hN, ofN_le, hd, ↓bn9 ge, ofNs]
set_option maxRecDepth 8000 in
theorem m_whoL (h : Lok L) (hM : WM σ ρ) (hI : Inv ρ) (hP : PM σ) {s : Nat} (hs : s < 256) (hf : cbn s (NE ρ) ≤ 5) : ∃ σ', F_X13_who_L39 fu (some (L.1 1000)) (Int32.ofNat s) (-1) 1000000 0 (hp L σ) = (if (bs (whoV ρ s) (NC ρ)).1 < 1000000 then some (Int32.ofNat (bs (whoV ρ s) (NC ρ)).2, hp L σ') else cb (F_X13_finding (some (L.1 1000)) (-1000004) (hp L σ')) (fun i w => some (i, w))) ∧ ag σ σ' ∧ mf σ σ' := by
  have h6 := hI.1.2
  have h8 := hI.2.1.2
  have hN := hI.1.1
  have step : ∀ k f j (g : St × Int32 × Int32), j + k = NC ρ → k < f → (g.2.1 = oB (bs (whoV ρ s) j) ∧ g.2.2 = Int32.ofNat (bs (whoV ρ s) j).1 ∧ ag σ g.1 ∧ mf σ g.1) → ∃ σ', F_X13_who_L39 f (some (L.1 1000)) (Int32.ofNat s) g.2.1 g.2.2 (Int32.ofNat j) (hp L g.1) = (if (bs (whoV ρ s) (NC ρ)).1 < 1000000 then some (Int32.ofNat (bs (whoV ρ s) (NC ρ)).2, hp L σ') else cb (F_X13_finding (some (L.1 1000)) (-1000004) (hp L σ')) (fun i w => some (i, w))) ∧ ag σ σ' ∧ mf σ σ' := by
    intro k
    induction k with
    | zero =>
      intro f j g hj hf9 ⟨q1, q2, q3, q4⟩
      match f, hf9 with
      | f + 1, _ =>
        have e : j = NC ρ := by omega
        subst e
        have hM1 := WM_ag q3 hM
        have hb := bs_le (whoV ρ s) (NC ρ)
        refine ⟨g.1, ?_, q3, q4⟩
        rw [q1]
        unfold oB
        by_cases hlt : (bs (whoV ρ s) (NC ρ)).1 < 1000000
        · have hp0 : 0 < NC ρ := by
            apply Nat.pos_of_ne_zero
            intro h0; rw [h0] at hlt; exact absurd hlt (Nat.lt_irrefl _)
          have ha := bs_arg (whoV ρ s) (NC ρ) hp0
          have n2 : (0 : Int32) ≤ Int32.ofNat (bs (whoV ρ s) (NC ρ)).2 := by rw [li_0, ofN_le (by omega) (by omega)]; omega
          rw [if_pos hlt, if_pos hlt]
          simp (discharger := first | assumption | omega | decide) only [x_tg, w_tg, m_tg, ↓reduceIte, Option.bind_some, ↓m_0b, ↓m_1b, ↓m_2b, ↓m_3b, ↓m_4b, ↓m_5b, ↓m_6b, ↓m_7b, ↓m_8b, ↓m_9b, ↓m_10b, ↓m_11b, ↓m_12b, ↓m_13b, ↓m_14b, ↓m_15b, ↓m_16b, ↓m_17b, ↓m_18b, ↓m_19b, ↓m_20b, ↓m_21b, ↓m_22b, ↓m_23b, ↓m_24b, ↓m_25b, ↓m_26b, ↓m_27b, ↓m_28b, ↓m_29b, ↓mp_3b, ↓mp_6b, ↓mp_10b, ↓mp_11b, ↓mp_12b, ↓mp_14b, ↓mp_15b, ↓mp_16b, ↓mp_17b, ↓mp_18b, ↓mp_19b, ↓mp_22b, ↓mp_23b, ↓mp_24b, ↓mp_25b, ↓M_42b, ↓M_43b, ↓M_44b, ↓M_45b, ↓cIs_0b, ↓cIs_1b, ↓cIs_2b, ↓cIs_3b, ↓cIs_4b, ↓eIs_0b, ↓eIs_1b, ↓eIs_2b, ↓eIs_3b, ↓eIs_4b, ↓cIs_nb, ↓eIs_nb, ↓M_rb, ↓M_cAt_0b, ↓M_cAt_1b, ↓M_cAt_2b, ↓M_cAt_3b, ↓M_cAt_4b, ↓M_eAt_0b, ↓M_eAt_1b, ↓M_eAt_2b, ↓M_eAt_3b, ↓M_eAt_4b, ↓M_wAt_0b, ↓M_wAt_1b, cAt_0, cAt_1, cAt_2, cAt_3, cAt_4, eAt_0, eAt_1, eAt_2, eAt_3, eAt_4, wAt_0, wAt_1, cAt_n, eAt_n, wAt_n, F_X13_who_L39, F_X13_who_B39, hN, ofN_le, Nat.le_refl, eq_true n2]
        · rw [if_neg hlt, if_neg hlt]
          simp (discharger := first | assumption | omega | decide) only [x_tg, w_tg, m_tg, ↓reduceIte, Option.bind_some, ↓m_0b, ↓m_1b, ↓m_2b, ↓m_3b, ↓m_4b, ↓m_5b, ↓m_6b, ↓m_7b, ↓m_8b, ↓m_9b, ↓m_10b, ↓m_11b, ↓m_12b, ↓m_13b, ↓m_14b, ↓m_15b, ↓m_16b, ↓m_17b, ↓m_18b, ↓m_19b, ↓m_20b, ↓m_21b, ↓m_22b, ↓m_23b, ↓m_24b, ↓m_25b, ↓m_26b, ↓m_27b, ↓m_28b, ↓m_29b, ↓mp_3b, ↓mp_6b, ↓mp_10b, ↓mp_11b, ↓mp_12b, ↓mp_14b, ↓mp_15b, ↓mp_16b, ↓mp_17b, ↓mp_18b, ↓mp_19b, ↓mp_22b, ↓mp_23b, ↓mp_24b, ↓mp_25b, ↓M_42b, ↓M_43b, ↓M_44b, ↓M_45b, ↓cIs_0b, ↓cIs_1b, ↓cIs_2b, ↓cIs_3b, ↓cIs_4b, ↓eIs_0b, ↓eIs_1b, ↓eIs_2b, ↓eIs_3b, ↓eIs_4b, ↓cIs_nb, ↓eIs_nb, ↓M_rb, ↓M_cAt_0b, ↓M_cAt_1b, ↓M_cAt_2b, ↓M_cAt_3b, ↓M_cAt_4b, ↓M_eAt_0b, ↓M_eAt_1b, ↓M_eAt_2b, ↓M_eAt_3b, ↓M_eAt_4b, ↓M_wAt_0b, ↓M_wAt_1b, cAt_0, cAt_1, cAt_2, cAt_3, cAt_4, eAt_0, eAt_1, eAt_2, eAt_3, eAt_4, wAt_0, wAt_1, cAt_n, eAt_n, wAt_n, F_X13_who_L39, F_X13_who_B39, hN, ofN_le, Nat.le_refl, show ¬ (0 : Int32) ≤ -1 by decide]
    | succ k ih =>
      intro f j g hj hf9 ⟨q1, q2, q3, q4⟩
      match f, hf9 with
      | f + 1, hf9 =>
        obtain ⟨g1, g2, g3⟩ := g
        dsimp only at q1 q2 q3 q4 ⊢
        subst q1 q2
        have hM1 := WM_ag q3 hM
        have hd : ¬ NC ρ ≤ j := by omega
        have gc := m_carries h hM1 hI.2.1.1 h8 (Int32.ofNat j)
        have hz := z_iff (bset_lt8 (P := Pcar ρ (Int32.ofNat j)) h8)
        have hb := bs_le (whoV ρ s) j
        have hv := whoV_le ρ s j
        have nx : (bs (whoV ρ s) (j + 1)).1 = min (bs (whoV ρ s) j).1 (whoV ρ s j) := by
          rw [bs_succ]; unfold bsS; split
          · dsimp only; omega
          · omega
        have nb : oB (bs (whoV ρ s) (j + 1)) = if whoV ρ s j < (bs (whoV ρ s) j).1 then Int32.ofNat j else oB (bs (whoV ρ s) j) := by
          rw [bs_succ]; unfold bsS; split
          · unfold oB; rw [if_pos (by dsimp only; omega)]
          · rfl
        have main : ∀ σ2, ag σ σ2 → mf σ σ2 → ∃ σ', F_X13_who_J72 (F_X13_who_L39 f) (some (L.1 1000)) (Int32.ofNat s) (oB (bs (whoV ρ s) j)) (Int32.ofNat (bs (whoV ρ s) j).1) (Int32.ofNat j) (Int32.ofNat (whoV ρ s j)) (hp L σ2) = (if (bs (whoV ρ s) (NC ρ)).1 < 1000000 then some (Int32.ofNat (bs (whoV ρ s) (NC ρ)).2, hp L σ') else cb (F_X13_finding (some (L.1 1000)) (-1000004) (hp L σ')) (fun i w => some (i, w))) ∧ ag σ σ' ∧ mf σ σ' := by
          intro σ2 a2 m2
          obtain ⟨σ', e, r⟩ := ih f (j + 1) (σ2, oB (bs (whoV ρ s) (j + 1)), Int32.ofNat (bs (whoV ρ s) (j + 1)).1) (by omega) (by omega) ⟨rfl, rfl, a2, m2⟩
          refine ⟨σ', ?_, r⟩
          rw [← e]
          dsimp only
          rw [nb, nx, ← ofN_min (by omega) (by omega), ← ofNs]
          unfold F_X13_who_J72 F_X13_who_J86
          by_cases hlt : whoV ρ s j < (bs (whoV ρ s) j).1
          · rw [if_neg (by rw [ofN_le (by omega) (by omega)]; omega), if_pos hlt]
          · rw [if_pos (by rw [ofN_le (by omega) (by omega)]; omega), if_neg hlt]
        by_cases he : bset (Pcar ρ (Int32.ofNat j)) (NE ρ) = 0
        · obtain ⟨σ2, r1, r2, r3, _⟩ := m_roundOf h hM1 hI (PM_ag q3 hP) (show j < NC ρ by omega) hs hf
          have ev : whoV ρ s j = rnd ρ j s := by unfold whoV; rw [if_pos he]
          rw [← ev] at r1
          obtain ⟨σ', e, r⟩ := main σ2 (ag_trans q3 r2) (mf_trans q4 r3)
          refine ⟨σ', ?_, r⟩
          rw [← e]
          simp (discharger := first | assumption | omega | decide) only [x_tg, w_tg, m_tg, ↓reduceIte, Option.bind_some, ↓m_0b, ↓m_1b, ↓m_2b, ↓m_3b, ↓m_4b, ↓m_5b, ↓m_6b, ↓m_7b, ↓m_8b, ↓m_9b, ↓m_10b, ↓m_11b, ↓m_12b, ↓m_13b, ↓m_14b, ↓m_15b, ↓m_16b, ↓m_17b, ↓m_18b, ↓m_19b, ↓m_20b, ↓m_21b, ↓m_22b, ↓m_23b, ↓m_24b, ↓m_25b, ↓m_26b, ↓m_27b, ↓m_28b, ↓m_29b, ↓mp_3b, ↓mp_6b, ↓mp_10b, ↓mp_11b, ↓mp_12b, ↓mp_14b, ↓mp_15b, ↓mp_16b, ↓mp_17b, ↓mp_18b, ↓mp_19b, ↓mp_22b, ↓mp_23b, ↓mp_24b, ↓mp_25b, ↓M_42b, ↓M_43b, ↓M_44b, ↓M_45b, ↓cIs_0b, ↓cIs_1b, ↓cIs_2b, ↓cIs_3b, ↓cIs_4b, ↓eIs_0b, ↓eIs_1b, ↓eIs_2b, ↓eIs_3b, ↓eIs_4b, ↓cIs_nb, ↓eIs_nb, ↓M_rb, ↓M_cAt_0b, ↓M_cAt_1b, ↓M_cAt_2b, ↓M_cAt_3b, ↓M_cAt_4b, ↓M_eAt_0b, ↓M_eAt_1b, ↓M_eAt_2b, ↓M_eAt_3b, ↓M_eAt_4b, ↓M_wAt_0b, ↓M_wAt_1b, cAt_0, cAt_1, cAt_2, cAt_3, cAt_4, eAt_0, eAt_1, eAt_2, eAt_3, eAt_4, wAt_0, wAt_1, cAt_n, eAt_n, wAt_n, F_X13_who_L39, F_X13_who_B39, hN, ofN_le, hd, ↓bn9 gc, hz, eq_true he, not_true_eq_false, ↓cb9 r1]
        · have ev : whoV ρ s j = 1000000 := by unfold whoV; rw [if_neg he]
          obtain ⟨σ', e, r⟩ := main g1 q3 q4
          refine ⟨σ', ?_, r⟩
          rw [← e, ev]
          simp (discharger := first | assumption | omega | decide) only [x_tg, w_tg, m_tg, ↓reduceIte, Option.bind_some, ↓m_0b, ↓m_1b, ↓m_2b, ↓m_3b, ↓m_4b, ↓m_5b, ↓m_6b, ↓m_7b, ↓m_8b, ↓m_9b, ↓m_10b, ↓m_11b, ↓m_12b, ↓m_13b, ↓m_14b, ↓m_15b, ↓m_16b, ↓m_17b, ↓m_18b, ↓m_19b, ↓m_20b, ↓m_21b, ↓m_22b, ↓m_23b, ↓m_24b, ↓m_25b, ↓m_26b, ↓m_27b, ↓m_28b, ↓m_29b, ↓mp_3b, ↓mp_6b, ↓mp_10b, ↓mp_11b, ↓mp_12b, ↓mp_14b, ↓mp_15b, ↓mp_16b, ↓mp_17b, ↓mp_18b, ↓mp_19b, ↓mp_22b, ↓mp_23b, ↓mp_24b, ↓mp_25b, ↓M_42b, ↓M_43b, ↓M_44b, ↓M_45b, ↓cIs_0b, ↓cIs_1b, ↓cIs_2b, ↓cIs_3b, ↓cIs_4b, ↓eIs_0b, ↓eIs_1b, ↓eIs_2b, ↓eIs_3b, ↓eIs_4b, ↓cIs_nb, ↓eIs_nb, ↓M_rb, ↓M_cAt_0b, ↓M_cAt_1b, ↓M_cAt_2b, ↓M_cAt_3b, ↓M_cAt_4b, ↓M_eAt_0b, ↓M_eAt_1b, ↓M_eAt_2b, ↓M_eAt_3b, ↓M_eAt_4b, ↓M_wAt_0b, ↓M_wAt_1b, cAt_0, cAt_1, cAt_2, cAt_3, cAt_4, eAt_0, eAt_1, eAt_2, eAt_3, eAt_4, wAt_0, wAt_1, cAt_n, eAt_n, wAt_n, F_X13_who_L39, F_X13_who_B39, hN, ofN_le, hd, ↓bn9 gc, hz, he, not_false_eq_true]
          rfl
  exact step (NC ρ) fu 0 (σ, -1, 1000000) (by omega) (by unfold fu; omega) ⟨rfl, rfl, ag_refl _, mf_refl _⟩
set_option maxRecDepth 8000 in
theorem al_01 (ρ : Rw) (v : Int32) : alV ρ v = 0 ∨ alV ρ v = 1 := by unfold alV; split <;> simp
set_option maxRecDepth 8000 in
theorem op_who (hR : RR L σ S) (x1 : Int32) : STEP L σ (F_X0_who (some (L.1 0)) x1) (F_X13_who (some (L.1 1000)) x1) := by
  have h := hR.1.1
  have hW := hR.1.2.1
  have hC := hR.1.2.2.1
  have hP := hR.1.2.2.2.1
  have hI := hR.2.2.1.1
  have hb : isW 200 = true := rfl
  rcases fwV_cs hI x1 with ⟨e1, s, hs, hs8, hf, rfl⟩ | e1
  · have ga := x_allLie h hW hI (Int32.ofNat s)
    rcases al_01 S.1 (Int32.ofNat s) with e2 | e2
    · rw [e2] at ga
      exact STEP_fnd hR (k := 4) (xv := 4) (mv := -1000005) (by omega) rfl (by decide) ⟨σ, by simp (discharger := first | assumption | omega | decide) only [x_tg, w_tg, m_tg, ↓reduceIte, Option.bind_some, ↓x_0b, ↓x_1b, ↓x_2b, ↓x_3b, ↓x_4b, ↓x_5b, ↓x_6b, ↓x_7b, ↓x_8b, ↓x_9b, ↓x_10b, ↓x_11b, ↓x_12b, ↓x_13b, ↓x_14b, ↓x_15b, ↓x_16b, ↓x_17b, ↓x_18b, ↓x_19b, ↓xp_2b, ↓xp_6b, ↓xp_14b, ↓xp_17b, ↓xp_18b, ↓xp_19b, ↓X_f0b, ↓X_f2b, ↓X_f4b, ↓X_f8b, ↓wf_1b, ↓wf_3b, ↓wf_5b, ↓wf_6b, ↓wf_7b, ↓wf_9b, ↓wt_1_0b, ↓wt_1_1b, ↓wt_1_2b, ↓wt_1_3b, ↓wt_1_4b, ↓wt_11_0b, ↓wt_11_1b, ↓wt_11_2b, ↓wt_11_3b, ↓wt_11_4b, ↓wt_21_0b, ↓wt_21_1b, ↓wt_31_0b, ↓wt_31_1b, ↓wt_31_2b, ↓wt_31_3b, ↓wt_31_4b, ↓wt_31_5b, ↓wt_31_6b, ↓wt_41_0b, ↓wt_41_1b, ↓wt_41_2b, ↓wt_41_3b, ↓wt_41_4b, ↓wt_41_5b, ↓wt_41_6b, ↓wt_1b, ↓wt_11b, ↓wt_21b, ↓wt_31b, ↓wt_41b, ↓X_c0b, ↓X_c1b, ↓X_c2b, ↓X_c3b, ↓X_c4b, ↓X_e0b, ↓X_e1b, ↓X_e2b, ↓X_e3b, ↓X_e4b, ↓X_cb, ↓X_eb, ↓X_w0b, ↓X_w1b, ↓X_hb, ↓X_yb, ↓X_rb, ↓wp_0b, ↓wp_2b, ↓wp_4b, ↓wp_8b, ↓ws_2b, ↓ws_3b, ↓ws_4b, ↓ws_5b, ↓ws_6b, ↓ws_12b, ↓ws_13b, ↓ws_14b, ↓ws_15b, ↓ws_16b, ↓ws_22b, ↓ws_23b, ↓ws_51b, ↓wS_yb, ↓wS_rb, ↓wS_cb, ↓wS_eb, ↓x_isCarrierb, ↓x_isErrandb, ↓x_isWareb, ↓x_isSetb, ↓x_isFewb, F_X0_isKind, F_X0_isPlace, F_X0_isPrice, F_X0_isSheet, F_X0_isSpot, F_X13_isKind, F_X13_isPlace, F_X13_isSheet, F_X13_isSpot, within_eq, one_and, zero_and, one_ne, not_true_eq_false, not_false_eq_true, F_X0_who, e1, ↓bn9 ga], ag_refl _, xf_refl _⟩ (fun σ1 hM => by
        have hM2 := hM.2.1
        have gm := m_allLie h hM2 hI (Int32.ofNat s)
        rw [e2] at gm
        exact ⟨σ1, by simp (discharger := first | assumption | omega | decide) only [x_tg, w_tg, m_tg, ↓reduceIte, Option.bind_some, ↓m_0b, ↓m_1b, ↓m_2b, ↓m_3b, ↓m_4b, ↓m_5b, ↓m_6b, ↓m_7b, ↓m_8b, ↓m_9b, ↓m_10b, ↓m_11b, ↓m_12b, ↓m_13b, ↓m_14b, ↓m_15b, ↓m_16b, ↓m_17b, ↓m_18b, ↓m_19b, ↓m_20b, ↓m_21b, ↓m_22b, ↓m_23b, ↓m_24b, ↓m_25b, ↓m_26b, ↓m_27b, ↓m_28b, ↓m_29b, ↓mp_3b, ↓mp_6b, ↓mp_10b, ↓mp_11b, ↓mp_12b, ↓mp_14b, ↓mp_15b, ↓mp_16b, ↓mp_17b, ↓mp_18b, ↓mp_19b, ↓mp_22b, ↓mp_23b, ↓mp_24b, ↓mp_25b, ↓M_42b, ↓M_43b, ↓M_44b, ↓M_45b, ↓cIs_0b, ↓cIs_1b, ↓cIs_2b, ↓cIs_3b, ↓cIs_4b, ↓eIs_0b, ↓eIs_1b, ↓eIs_2b, ↓eIs_3b, ↓eIs_4b, ↓cIs_nb, ↓eIs_nb, ↓M_rb, ↓M_cAt_0b, ↓M_cAt_1b, ↓M_cAt_2b, ↓M_cAt_3b, ↓M_cAt_4b, ↓M_eAt_0b, ↓M_eAt_1b, ↓M_eAt_2b, ↓M_eAt_3b, ↓M_eAt_4b, ↓M_wAt_0b, ↓M_wAt_1b, cAt_0, cAt_1, cAt_2, cAt_3, cAt_4, eAt_0, eAt_1, eAt_2, eAt_3, eAt_4, wAt_0, wAt_1, cAt_n, eAt_n, wAt_n, ↓m_isCarrierb, ↓m_isErrandb, ↓m_isWareb, ↓m_isFewb, F_X0_isKind, F_X0_isPlace, F_X0_isPrice, F_X0_isSheet, F_X0_isSpot, F_X13_isKind, F_X13_isPlace, F_X13_isSheet, F_X13_isSpot, within_eq, one_and, zero_and, one_ne, not_true_eq_false, not_false_eq_true, F_X13_who, e1, ↓bn9 gm], ag_refl _, mf_refl _⟩)
    · rw [e2] at ga
      obtain ⟨σ', r1, r2, r3⟩ := x_whoShortest h hW hI hC hP hs8 hf
      by_cases hlt : (bs (whoV S.1 s) (NC S.1)).1 < 1000000
      · have hp0 : 0 < NC S.1 := by
          apply Nat.pos_of_ne_zero
          intro h0; rw [h0] at hlt; exact absurd hlt (Nat.lt_irrefl _)
        have ha := bs_arg (whoV S.1 s) (NC S.1) hp0
        have h6 := hI.1.2
        have n1 := ofN_nm1 (a := (bs (whoV S.1 s) (NC S.1)).2) (by omega)
        have eo : oB (bs (whoV S.1 s) (NC S.1)) = Int32.ofNat (bs (whoV S.1 s) (NC S.1)).2 := by unfold oB; rw [if_pos hlt]
        rw [eo] at r1
        refine STEP_ret hR (r := Int32.ofNat (bs (whoV S.1 s) (NC S.1)).2) ⟨σ', ?_, r2, r3⟩ (fun σ1 hM => ?_)
        · simp (discharger := first | assumption | omega | decide) only [x_tg, w_tg, m_tg, ↓reduceIte, Option.bind_some, ↓x_0b, ↓x_1b, ↓x_2b, ↓x_3b, ↓x_4b, ↓x_5b, ↓x_6b, ↓x_7b, ↓x_8b, ↓x_9b, ↓x_10b, ↓x_11b, ↓x_12b, ↓x_13b, ↓x_14b, ↓x_15b, ↓x_16b, ↓x_17b, ↓x_18b, ↓x_19b, ↓xp_2b, ↓xp_6b, ↓xp_14b, ↓xp_17b, ↓xp_18b, ↓xp_19b, ↓X_f0b, ↓X_f2b, ↓X_f4b, ↓X_f8b, ↓wf_1b, ↓wf_3b, ↓wf_5b, ↓wf_6b, ↓wf_7b, ↓wf_9b, ↓wt_1_0b, ↓wt_1_1b, ↓wt_1_2b, ↓wt_1_3b, ↓wt_1_4b, ↓wt_11_0b, ↓wt_11_1b, ↓wt_11_2b, ↓wt_11_3b, ↓wt_11_4b, ↓wt_21_0b, ↓wt_21_1b, ↓wt_31_0b, ↓wt_31_1b, ↓wt_31_2b, ↓wt_31_3b, ↓wt_31_4b, ↓wt_31_5b, ↓wt_31_6b, ↓wt_41_0b, ↓wt_41_1b, ↓wt_41_2b, ↓wt_41_3b, ↓wt_41_4b, ↓wt_41_5b, ↓wt_41_6b, ↓wt_1b, ↓wt_11b, ↓wt_21b, ↓wt_31b, ↓wt_41b, ↓X_c0b, ↓X_c1b, ↓X_c2b, ↓X_c3b, ↓X_c4b, ↓X_e0b, ↓X_e1b, ↓X_e2b, ↓X_e3b, ↓X_e4b, ↓X_cb, ↓X_eb, ↓X_w0b, ↓X_w1b, ↓X_hb, ↓X_yb, ↓X_rb, ↓wp_0b, ↓wp_2b, ↓wp_4b, ↓wp_8b, ↓ws_2b, ↓ws_3b, ↓ws_4b, ↓ws_5b, ↓ws_6b, ↓ws_12b, ↓ws_13b, ↓ws_14b, ↓ws_15b, ↓ws_16b, ↓ws_22b, ↓ws_23b, ↓ws_51b, ↓wS_yb, ↓wS_rb, ↓wS_cb, ↓wS_eb, ↓x_isCarrierb, ↓x_isErrandb, ↓x_isWareb, ↓x_isSetb, ↓x_isFewb, F_X0_isKind, F_X0_isPlace, F_X0_isPrice, F_X0_isSheet, F_X0_isSpot, F_X13_isKind, F_X13_isPlace, F_X13_isSheet, F_X13_isSpot, within_eq, one_and, zero_and, one_ne, not_true_eq_false, not_false_eq_true, F_X0_who, F_X0_orNone, e1, ↓bn9 ga, ↓cb9 r1, n1, cb_id]
        · have hM2 := hM.2.1
          have gm := m_allLie h hM2 hI (Int32.ofNat s)
          rw [e2] at gm
          obtain ⟨σb, m1, m2, m3⟩ := m_whoL h hM2 hI hM.2.2.1 hs8 hf
          rw [if_pos hlt] at m1
          refine ⟨σb, ?_, m2, m3⟩
          simp (discharger := first | assumption | omega | decide) only [x_tg, w_tg, m_tg, ↓reduceIte, Option.bind_some, ↓m_0b, ↓m_1b, ↓m_2b, ↓m_3b, ↓m_4b, ↓m_5b, ↓m_6b, ↓m_7b, ↓m_8b, ↓m_9b, ↓m_10b, ↓m_11b, ↓m_12b, ↓m_13b, ↓m_14b, ↓m_15b, ↓m_16b, ↓m_17b, ↓m_18b, ↓m_19b, ↓m_20b, ↓m_21b, ↓m_22b, ↓m_23b, ↓m_24b, ↓m_25b, ↓m_26b, ↓m_27b, ↓m_28b, ↓m_29b, ↓mp_3b, ↓mp_6b, ↓mp_10b, ↓mp_11b, ↓mp_12b, ↓mp_14b, ↓mp_15b, ↓mp_16b, ↓mp_17b, ↓mp_18b, ↓mp_19b, ↓mp_22b, ↓mp_23b, ↓mp_24b, ↓mp_25b, ↓M_42b, ↓M_43b, ↓M_44b, ↓M_45b, ↓cIs_0b, ↓cIs_1b, ↓cIs_2b, ↓cIs_3b, ↓cIs_4b, ↓eIs_0b, ↓eIs_1b, ↓eIs_2b, ↓eIs_3b, ↓eIs_4b, ↓cIs_nb, ↓eIs_nb, ↓M_rb, ↓M_cAt_0b, ↓M_cAt_1b, ↓M_cAt_2b, ↓M_cAt_3b, ↓M_cAt_4b, ↓M_eAt_0b, ↓M_eAt_1b, ↓M_eAt_2b, ↓M_eAt_3b, ↓M_eAt_4b, ↓M_wAt_0b, ↓M_wAt_1b, cAt_0, cAt_1, cAt_2, cAt_3, cAt_4, eAt_0, eAt_1, eAt_2, eAt_3, eAt_4, wAt_0, wAt_1, cAt_n, eAt_n, wAt_n, ↓m_isCarrierb, ↓m_isErrandb, ↓m_isWareb, ↓m_isFewb, F_X0_isKind, F_X0_isPlace, F_X0_isPrice, F_X0_isSheet, F_X0_isSpot, F_X13_isKind, F_X13_isPlace, F_X13_isSheet, F_X13_isSpot, within_eq, one_and, zero_and, one_ne, not_true_eq_false, not_false_eq_true, F_X13_who, e1, ↓bn9 gm, m1]
      · have eo : oB (bs (whoV S.1 s) (NC S.1)) = -1 := by unfold oB; rw [if_neg hlt]
        rw [eo] at r1
        refine STEP_fnd hR (k := 3) (xv := 3) (mv := -1000004) (by omega) rfl (by decide) ⟨σ', ?_, r2, r3⟩ (fun σ1 hM => ?_)
        · simp (discharger := first | assumption | omega | decide) only [x_tg, w_tg, m_tg, ↓reduceIte, Option.bind_some, ↓x_0b, ↓x_1b, ↓x_2b, ↓x_3b, ↓x_4b, ↓x_5b, ↓x_6b, ↓x_7b, ↓x_8b, ↓x_9b, ↓x_10b, ↓x_11b, ↓x_12b, ↓x_13b, ↓x_14b, ↓x_15b, ↓x_16b, ↓x_17b, ↓x_18b, ↓x_19b, ↓xp_2b, ↓xp_6b, ↓xp_14b, ↓xp_17b, ↓xp_18b, ↓xp_19b, ↓X_f0b, ↓X_f2b, ↓X_f4b, ↓X_f8b, ↓wf_1b, ↓wf_3b, ↓wf_5b, ↓wf_6b, ↓wf_7b, ↓wf_9b, ↓wt_1_0b, ↓wt_1_1b, ↓wt_1_2b, ↓wt_1_3b, ↓wt_1_4b, ↓wt_11_0b, ↓wt_11_1b, ↓wt_11_2b, ↓wt_11_3b, ↓wt_11_4b, ↓wt_21_0b, ↓wt_21_1b, ↓wt_31_0b, ↓wt_31_1b, ↓wt_31_2b, ↓wt_31_3b, ↓wt_31_4b, ↓wt_31_5b, ↓wt_31_6b, ↓wt_41_0b, ↓wt_41_1b, ↓wt_41_2b, ↓wt_41_3b, ↓wt_41_4b, ↓wt_41_5b, ↓wt_41_6b, ↓wt_1b, ↓wt_11b, ↓wt_21b, ↓wt_31b, ↓wt_41b, ↓X_c0b, ↓X_c1b, ↓X_c2b, ↓X_c3b, ↓X_c4b, ↓X_e0b, ↓X_e1b, ↓X_e2b, ↓X_e3b, ↓X_e4b, ↓X_cb, ↓X_eb, ↓X_w0b, ↓X_w1b, ↓X_hb, ↓X_yb, ↓X_rb, ↓wp_0b, ↓wp_2b, ↓wp_4b, ↓wp_8b, ↓ws_2b, ↓ws_3b, ↓ws_4b, ↓ws_5b, ↓ws_6b, ↓ws_12b, ↓ws_13b, ↓ws_14b, ↓ws_15b, ↓ws_16b, ↓ws_22b, ↓ws_23b, ↓ws_51b, ↓wS_yb, ↓wS_rb, ↓wS_cb, ↓wS_eb, ↓x_isCarrierb, ↓x_isErrandb, ↓x_isWareb, ↓x_isSetb, ↓x_isFewb, F_X0_isKind, F_X0_isPlace, F_X0_isPrice, F_X0_isSheet, F_X0_isSpot, F_X13_isKind, F_X13_isPlace, F_X13_isSheet, F_X13_isSpot, within_eq, one_and, zero_and, one_ne, not_true_eq_false, not_false_eq_true, F_X0_who, F_X0_orNone, e1, ↓bn9 ga, ↓cb9 r1, cb_id]
        · have hM2 := hM.2.1
          have gm := m_allLie h hM2 hI (Int32.ofNat s)
          rw [e2] at gm
          obtain ⟨σb, m1, m2, m3⟩ := m_whoL h hM2 hI hM.2.2.1 hs8 hf
          rw [if_neg hlt] at m1
          refine ⟨σb, ?_, m2, m3⟩
          simp (discharger := first | assumption | omega | decide) only [x_tg, w_tg, m_tg, ↓reduceIte, Option.bind_some, ↓m_0b, ↓m_1b, ↓m_2b, ↓m_3b, ↓m_4b, ↓m_5b, ↓m_6b, ↓m_7b, ↓m_8b, ↓m_9b, ↓m_10b, ↓m_11b, ↓m_12b, ↓m_13b, ↓m_14b, ↓m_15b, ↓m_16b, ↓m_17b, ↓m_18b, ↓m_19b, ↓m_20b, ↓m_21b, ↓m_22b, ↓m_23b, ↓m_24b, ↓m_25b, ↓m_26b, ↓m_27b, ↓m_28b, ↓m_29b, ↓mp_3b, ↓mp_6b, ↓mp_10b, ↓mp_11b, ↓mp_12b, ↓mp_14b, ↓mp_15b, ↓mp_16b, ↓mp_17b, ↓mp_18b, ↓mp_19b, ↓mp_22b, ↓mp_23b, ↓mp_24b, ↓mp_25b, ↓M_42b, ↓M_43b, ↓M_44b, ↓M_45b, ↓cIs_0b, ↓cIs_1b, ↓cIs_2b, ↓cIs_3b, ↓cIs_4b, ↓eIs_0b, ↓eIs_1b, ↓eIs_2b, ↓eIs_3b, ↓eIs_4b, ↓cIs_nb, ↓eIs_nb, ↓M_rb, ↓M_cAt_0b, ↓M_cAt_1b, ↓M_cAt_2b, ↓M_cAt_3b, ↓M_cAt_4b, ↓M_eAt_0b, ↓M_eAt_1b, ↓M_eAt_2b, ↓M_eAt_3b, ↓M_eAt_4b, ↓M_wAt_0b, ↓M_wAt_1b, cAt_0, cAt_1, cAt_2, cAt_3, cAt_4, eAt_0, eAt_1, eAt_2, eAt_3, eAt_4, wAt_0, wAt_1, cAt_n, eAt_n, wAt_n, ↓m_isCarrierb, ↓m_isErrandb, ↓m_isWareb, ↓m_isFewb, F_X0_isKind, F_X0_isPlace, F_X0_isPrice, F_X0_isSheet, F_X0_isSpot, F_X13_isKind, F_X13_isPlace, F_X13_isSheet, F_X13_isSpot, within_eq, one_and, zero_and, one_ne, not_true_eq_false, not_false_eq_true, F_X13_who, e1, ↓bn9 gm, m1]
  · exact STEP_fnd hR (k := 0) (xv := 0) (mv := -1000001) (by omega) rfl (by decide) ⟨σ, by simp (discharger := first | assumption | omega | decide) only [x_tg, w_tg, m_tg, ↓reduceIte, Option.bind_some, ↓x_0b, ↓x_1b, ↓x_2b, ↓x_3b, ↓x_4b, ↓x_5b, ↓x_6b, ↓x_7b, ↓x_8b, ↓x_9b, ↓x_10b, ↓x_11b, ↓x_12b, ↓x_13b, ↓x_14b, ↓x_15b, ↓x_16b, ↓x_17b, ↓x_18b, ↓x_19b, ↓xp_2b, ↓xp_6b, ↓xp_14b, ↓xp_17b, ↓xp_18b, ↓xp_19b, ↓X_f0b, ↓X_f2b, ↓X_f4b, ↓X_f8b, ↓wf_1b, ↓wf_3b, ↓wf_5b, ↓wf_6b, ↓wf_7b, ↓wf_9b, ↓wt_1_0b, ↓wt_1_1b, ↓wt_1_2b, ↓wt_1_3b, ↓wt_1_4b, ↓wt_11_0b, ↓wt_11_1b, ↓wt_11_2b, ↓wt_11_3b, ↓wt_11_4b, ↓wt_21_0b, ↓wt_21_1b, ↓wt_31_0b, ↓wt_31_1b, ↓wt_31_2b, ↓wt_31_3b, ↓wt_31_4b, ↓wt_31_5b, ↓wt_31_6b, ↓wt_41_0b, ↓wt_41_1b, ↓wt_41_2b, ↓wt_41_3b, ↓wt_41_4b, ↓wt_41_5b, ↓wt_41_6b, ↓wt_1b, ↓wt_11b, ↓wt_21b, ↓wt_31b, ↓wt_41b, ↓X_c0b, ↓X_c1b, ↓X_c2b, ↓X_c3b, ↓X_c4b, ↓X_e0b, ↓X_e1b, ↓X_e2b, ↓X_e3b, ↓X_e4b, ↓X_cb, ↓X_eb, ↓X_w0b, ↓X_w1b, ↓X_hb, ↓X_yb, ↓X_rb, ↓wp_0b, ↓wp_2b, ↓wp_4b, ↓wp_8b, ↓ws_2b, ↓ws_3b, ↓ws_4b, ↓ws_5b, ↓ws_6b, ↓ws_12b, ↓ws_13b, ↓ws_14b, ↓ws_15b, ↓ws_16b, ↓ws_22b, ↓ws_23b, ↓ws_51b, ↓wS_yb, ↓wS_rb, ↓wS_cb, ↓wS_eb, ↓x_isCarrierb, ↓x_isErrandb, ↓x_isWareb, ↓x_isSetb, ↓x_isFewb, F_X0_isKind, F_X0_isPlace, F_X0_isPrice, F_X0_isSheet, F_X0_isSpot, F_X13_isKind, F_X13_isPlace, F_X13_isSheet, F_X13_isSpot, within_eq, one_and, zero_and, one_ne, not_true_eq_false, not_false_eq_true, F_X0_who, e1], ag_refl _, xf_refl _⟩ (fun σ1 hM => by have hM2 := hM.2.1; exact ⟨σ1, by simp (discharger := first | assumption | omega | decide) only [x_tg, w_tg, m_tg, ↓reduceIte, Option.bind_some, ↓m_0b, ↓m_1b, ↓m_2b, ↓m_3b, ↓m_4b, ↓m_5b, ↓m_6b, ↓m_7b, ↓m_8b, ↓m_9b, ↓m_10b, ↓m_11b, ↓m_12b, ↓m_13b, ↓m_14b, ↓m_15b, ↓m_16b, ↓m_17b, ↓m_18b, ↓m_19b, ↓m_20b, ↓m_21b, ↓m_22b, ↓m_23b, ↓m_24b, ↓m_25b, ↓m_26b, ↓m_27b, ↓m_28b, ↓m_29b, ↓mp_3b, ↓mp_6b, ↓mp_10b, ↓mp_11b, ↓mp_12b, ↓mp_14b, ↓mp_15b, ↓mp_16b, ↓mp_17b, ↓mp_18b, ↓mp_19b, ↓mp_22b, ↓mp_23b, ↓mp_24b, ↓mp_25b, ↓M_42b, ↓M_43b, ↓M_44b, ↓M_45b, ↓cIs_0b, ↓cIs_1b, ↓cIs_2b, ↓cIs_3b, ↓cIs_4b, ↓eIs_0b, ↓eIs_1b, ↓eIs_2b, ↓eIs_3b, ↓eIs_4b, ↓cIs_nb, ↓eIs_nb, ↓M_rb, ↓M_cAt_0b, ↓M_cAt_1b, ↓M_cAt_2b, ↓M_cAt_3b, ↓M_cAt_4b, ↓M_eAt_0b, ↓M_eAt_1b, ↓M_eAt_2b, ↓M_eAt_3b, ↓M_eAt_4b, ↓M_wAt_0b, ↓M_wAt_1b, cAt_0, cAt_1, cAt_2, cAt_3, cAt_4, eAt_0, eAt_1, eAt_2, eAt_3, eAt_4, wAt_0, wAt_1, cAt_n, eAt_n, wAt_n, ↓m_isCarrierb, ↓m_isErrandb, ↓m_isWareb, ↓m_isFewb, F_X0_isKind, F_X0_isPlace, F_X0_isPrice, F_X0_isSheet, F_X0_isSpot, F_X13_isKind, F_X13_isPlace, F_X13_isSheet, F_X13_isSpot, within_eq, one_and, zero_and, one_ne, not_true_eq_false, not_false_eq_true, F_X13_who, e1], ag_refl _, mf_refl _⟩)
/-! joined -/
set_option maxRecDepth 8000 in
theorem cbn_2 {e N : Nat} (he : e < N) : cbn (2 ^ e) N = 1 := by
  have : ∀ n, cbn (2 ^ e) n = if e < n then 1 else 0 := by
    intro n
    induction n with
    | zero => rfl
    | succ n ih =>
      rw [cbn_succ, ih, Nat.testBit_two_pow]
      by_cases h1 : e = n
      · subst h1; simp
      · by_cases h2 : e < n
        · rw [if_pos h2, if_pos (show e < n + 1 by omega)]; simp [h1]
        · rw [if_neg h2, if_neg (show ¬ e < n + 1 by omega)]; simp [h1]
  rw [this, if_pos he]
set_option maxRecDepth 8000 in
theorem rnd_single (hI : Inv ρ) {c s e : Nat} (hc : c < NC ρ) (hf : cbn s (NE ρ) ≤ 5) (hfi : rnd ρ c s < 1000000) (he : e < NE ρ) (hb : s.testBit e = true) : rnd ρ c (2 ^ e) < 1000000 := by
  obtain ⟨k1, k2, k3, k4, k5, k6, k7⟩ := hI.2.2.2.1 c hc
  have hM := MEM_col hI hf
  have hcl := FT_clo hI.2.2.2.2.2.2.2.1 (kdO ρ c)
  obtain ⟨c1, c2, c3⟩ := col_spec s (NE ρ)
  obtain ⟨j, hj, hje⟩ := c3 e he hb
  obtain ⟨d1, d2, d3⟩ := dp_single hM.1 (fun i hi => (hM.2 i hi).2.2.2.2.2.1) (fun i hi => (hM.2 i hi).2.2.2.2.2.2.1) k5 hcl.1 hcl.2.1 hcl.2.2.2.2.1 hfi j hj
  have hM1 := MEM_col (s := 2 ^ e) hI (by rw [cbn_2 he]; omega)
  obtain ⟨a1, a2, a3⟩ := col_spec (2 ^ e) (NE ρ)
  rw [cbn_2 he] at a1
  have hz := a2 0 (by omega)
  have hz0 : (col (2 ^ e) (NE ρ)).2 0 = e := by
    have := hz.2
    rw [Nat.testBit_two_pow] at this
    exact (of_decide_eq_true this).symm
  obtain ⟨m1, m2, m3, m4, m5, m6, m7, m8⟩ := hM1.2 0 (by omega)
  have mj := hM.2 j hj
  have q1 : elb ρ (col (2 ^ e) (NE ρ)) 0 = elb ρ (col s (NE ρ)) j := by unfold elb; rw [hz0, hje]
  have q2 : efr ρ (col (2 ^ e) (NE ρ)) 0 = efr ρ (col s (NE ρ)) j := by unfold efr; rw [hz0, hje]
  have q3 : eto ρ (col (2 ^ e) (NE ρ)) 0 = eto ρ (col s (NE ρ)) j := by unfold eto; rw [hz0, hje]
  unfold rnd
  rw [a1]
  have b1 := hcl.2.2.2.2.1 (plO ρ c) (efr ρ (col s (NE ρ)) j) k5 mj.2.2.2.2.2.1
  have b2 := hcl.2.2.2.2.1 (efr ρ (col s (NE ρ)) j) (eto ρ (col s (NE ρ)) j) mj.2.2.2.2.2.1 mj.2.2.2.2.2.2.1
  refine dp_one m6 m7 k5 (by rw [q1]; exact d1) ?_
  rw [q2, q3]; omega
def spS (ρ : Rw) (c s e : Nat) (a : Int32) : Int32 := if s.testBit e then a + (Int32.ofNat (rnd ρ c (2 ^ e)) + Int32.ofNat (FT ρ (kdO ρ c) (nv (ρ (86 + 5 * e + 2))) (plO ρ c))) else a
def sp (ρ : Rw) (c s n : Nat) : Int32 := itF (spS ρ c s) 0 n 0
set_option maxRecDepth 8000 in
theorem p2_lt {e : Nat} (he : e < 8) : 2 ^ e < 256 := Nat.lt_of_lt_of_le (Nat.pow_lt_pow_right (a := 2) (by decide) he) (by decide)
set_option maxRecDepth 8000 in
theorem x_spared (h : Lok L) (hW : WX σ 200 ρ) (hI : Inv ρ) (hC : CN σ) (hP : PX σ) {c s : Nat} (hc : c < NC ρ) (hs : s < 256) (hf : cbn s (NE ρ) ≤ 5) (hfi : rnd ρ c s < 1000000) (far : Int32) : ∃ σ', F_X0_spared (some (L.1 0)) (Int32.ofNat c) (Int32.ofNat s) far (hp L σ) = some (sp ρ c s (NE ρ) - far, hp L σ') ∧ ag σ σ' ∧ xf σ σ' := by
  have h6 := hI.1.2
  have h8 := hI.2.1.2
  have hb : isW 200 = true := rfl
  have hN := hI.2.1.1
  obtain ⟨k1, k2, k3, k4, k5, k6, k7⟩ := hI.2.2.2.1 c hc
  unfold F_X0_spared
  rw [if_pos (x_tg h)]
  have key := lpQ (Lp := fun f j (g : St × Int32) => F_X0_spared_L6 f (some (L.1 0)) (Int32.ofNat c) (Int32.ofNat s) far g.2 (Int32.ofNat j) (hp L g.1)) (N := NE ρ) (fun j g => g.2 = sp ρ c s j ∧ ag σ g.1 ∧ xf σ g.1) (fun r => ∃ σ', r = (sp ρ c s (NE ρ) - far, hp L σ') ∧ ag σ σ' ∧ xf σ σ') ?_ ?_ (by unfold fu; omega) (σ, 0) ⟨rfl, ag_refl _, xf_refl _⟩
  · obtain ⟨r, e, σ', rfl, q1, q2⟩ := key
    exact ⟨σ', e, q1, q2⟩
  · intro f g ⟨q1, q3, q4⟩
    have hW1 := WX_ag q3 rfl hW
    refine ⟨_, ?_, g.1, rfl, q3, q4⟩
    rw [q1]
    simp (discharger := first | assumption | omega | decide) only [x_tg, w_tg, m_tg, ↓reduceIte, Option.bind_some, ↓x_0b, ↓x_1b, ↓x_2b, ↓x_3b, ↓x_4b, ↓x_5b, ↓x_6b, ↓x_7b, ↓x_8b, ↓x_9b, ↓x_10b, ↓x_11b, ↓x_12b, ↓x_13b, ↓x_14b, ↓x_15b, ↓x_16b, ↓x_17b, ↓x_18b, ↓x_19b, ↓xp_2b, ↓xp_6b, ↓xp_14b, ↓xp_17b, ↓xp_18b, ↓xp_19b, ↓X_f0b, ↓X_f2b, ↓X_f4b, ↓X_f8b, ↓wf_1b, ↓wf_3b, ↓wf_5b, ↓wf_6b, ↓wf_7b, ↓wf_9b, ↓wt_1_0b, ↓wt_1_1b, ↓wt_1_2b, ↓wt_1_3b, ↓wt_1_4b, ↓wt_11_0b, ↓wt_11_1b, ↓wt_11_2b, ↓wt_11_3b, ↓wt_11_4b, ↓wt_21_0b, ↓wt_21_1b, ↓wt_31_0b, ↓wt_31_1b, ↓wt_31_2b, ↓wt_31_3b, ↓wt_31_4b, ↓wt_31_5b, ↓wt_31_6b, ↓wt_41_0b, ↓wt_41_1b, ↓wt_41_2b, ↓wt_41_3b, ↓wt_41_4b, ↓wt_41_5b, ↓wt_41_6b, ↓wt_1b, ↓wt_11b, ↓wt_21b, ↓wt_31b, ↓wt_41b, ↓X_c0b, ↓X_c1b, ↓X_c2b, ↓X_c3b, ↓X_c4b, ↓X_e0b, ↓X_e1b, ↓X_e2b, ↓X_e3b, ↓X_e4b, ↓X_cb, ↓X_eb, ↓X_w0b, ↓X_w1b, ↓X_hb, ↓X_yb, ↓X_rb, ↓wp_0b, ↓wp_2b, ↓wp_4b, ↓wp_8b, ↓ws_2b, ↓ws_3b, ↓ws_4b, ↓ws_5b, ↓ws_6b, ↓ws_12b, ↓ws_13b, ↓ws_14b, ↓ws_15b, ↓ws_16b, ↓ws_22b, ↓ws_23b, ↓ws_51b, ↓wS_yb, ↓wS_rb, ↓wS_cb, ↓wS_eb, F_X0_spared_L6, F_X0_spared_B6, hN, ofN_le, Nat.le_refl]
  · intro f j g hj ⟨q1, q3, q4⟩
    obtain ⟨g1, g2⟩ := g
    dsimp only at q1 q3 q4 ⊢
    subst q1
    have hW1 := WX_ag q3 rfl hW
    have hd : ¬ NE ρ ≤ j := by omega
    have hh := has_n s hs j (by omega)
    have hsn : sp ρ c s (j + 1) = spS ρ c s j (sp ρ c s j) := itF_snoc0 _ _ _
    rw [hsn]
    unfold spS
    by_cases hbt : s.testBit j = true
    · rw [if_pos hbt] at hh ⊢
      have hj8 : j < 8 := by omega
      obtain ⟨σ2, r1, r2, r3, r4⟩ := x_roundOf h hW1 hI (CN_ag q3 hC) (PX_ag q3 hP) hc (p2_lt hj8) (by rw [cbn_2 hj]; omega)
      rw [oR_pos (rnd_single hI hc hf hfi hj hbt), ← sh_n j hj8] at r1
      have hW2 := WX_ag (ag_trans q3 r2) rfl hW
      obtain ⟨lb, fr, to, e0, e1, e2, _, hfr, hto, _⟩ := (hI.2.2.2.2.1 j hj).1
      have rt := T_row (n := to) (σ := σ2) (tz := 10) (z := 30) h (Or.inr ⟨rfl, rfl⟩) hto
      have rg : aI (hp L σ2) (some (L.1 (30 + to))) 100 (Int32.ofNat (plO ρ c)) = some (Int32.ofNat (FT ρ (kdO ρ c) to (plO ρ c))) := by
        rw [T_get0 (tz := 10) h (Or.inr ⟨rfl, rfl⟩) hto k5, r4 to _ hto k5]
      have re := (X_e2 h hb hW2 hj8).trans (congrArg some e2)
      have rc := (X_c1 h hb hW2 (show c < 6 by omega)).trans (congrArg some k2)
      rw [e2, nv_of (show to < 2147483648 by omega)]
      refine ⟨(σ2, sp ρ c s j + (Int32.ofNat (rnd ρ c (2 ^ j)) + Int32.ofNat (FT ρ (kdO ρ c) to (plO ρ c)))), ?_, rfl, ag_trans q3 r2, xf_trans q4 r3⟩
      simp (discharger := first | assumption | omega | decide) only [x_tg, w_tg, m_tg, ↓reduceIte, Option.bind_some, ↓x_0b, ↓x_1b, ↓x_2b, ↓x_3b, ↓x_4b, ↓x_5b, ↓x_6b, ↓x_7b, ↓x_8b, ↓x_9b, ↓x_10b, ↓x_11b, ↓x_12b, ↓x_13b, ↓x_14b, ↓x_15b, ↓x_16b, ↓x_17b, ↓x_18b, ↓x_19b, ↓xp_2b, ↓xp_6b, ↓xp_14b, ↓xp_17b, ↓xp_18b, ↓xp_19b, ↓X_f0b, ↓X_f2b, ↓X_f4b, ↓X_f8b, ↓wf_1b, ↓wf_3b, ↓wf_5b, ↓wf_6b, ↓wf_7b, ↓wf_9b, ↓wt_1_0b, ↓wt_1_1b, ↓wt_1_2b, ↓wt_1_3b, ↓wt_1_4b, ↓wt_11_0b, ↓wt_11_1b, ↓wt_11_2b, ↓wt_11_3b, ↓wt_11_4b, ↓wt_21_0b, ↓wt_21_1b, ↓wt_31_0b, ↓wt_31_1b, ↓wt_31_2b, ↓wt_31_3b, ↓wt_31_4b, ↓wt_31_5b, ↓wt_31_6b, ↓wt_41_0b, ↓wt_41_1b, ↓wt_41_2b, ↓wt_41_3b, ↓wt_41_4b, ↓wt_41_5b, ↓wt_41_6b, ↓wt_1b, ↓wt_11b, ↓wt_21b, ↓wt_31b, ↓wt_41b, ↓X_c0b, ↓X_c1b, ↓X_c2b, ↓X_c3b, ↓X_c4b, ↓X_e0b, ↓X_e1b, ↓X_e2b, ↓X_e3b, ↓X_e4b, ↓X_cb, ↓X_eb, ↓X_w0b, ↓X_w1b, ↓X_hb, ↓X_yb, ↓X_rb, ↓wp_0b, ↓wp_2b, ↓wp_4b, ↓wp_8b, ↓ws_2b, ↓ws_3b, ↓ws_4b, ↓ws_5b, ↓ws_6b, ↓ws_12b, ↓ws_13b, ↓ws_14b, ↓ws_15b, ↓ws_16b, ↓ws_22b, ↓ws_23b, ↓ws_51b, ↓wS_yb, ↓wS_rb, ↓wS_cb, ↓wS_eb, F_X0_spared_J71, F_X0_spared_B6, F_X0_spared_L6, F_X0_spared, hN, ofN_le, hd, hh, one_ne, ↓cb9 r1, ↓bn9 re, ↓bn9 rt, ↓bn9 rc, ↓bn9 rg, ofNs]
    · rw [if_neg hbt] at hh ⊢
      refine ⟨(g1, sp ρ c s j), ?_, rfl, q3, q4⟩
      simp (discharger := first | assumption | omega | decide) only [x_tg, w_tg, m_tg, ↓reduceIte, Option.bind_some, ↓x_0b, ↓x_1b, ↓x_2b, ↓x_3b, ↓x_4b, ↓x_5b, ↓x_6b, ↓x_7b, ↓x_8b, ↓x_9b, ↓x_10b, ↓x_11b, ↓x_12b, ↓x_13b, ↓x_14b, ↓x_15b, ↓x_16b, ↓x_17b, ↓x_18b, ↓x_19b, ↓xp_2b, ↓xp_6b, ↓xp_14b, ↓xp_17b, ↓xp_18b, ↓xp_19b, ↓X_f0b, ↓X_f2b, ↓X_f4b, ↓X_f8b, ↓wf_1b, ↓wf_3b, ↓wf_5b, ↓wf_6b, ↓wf_7b, ↓wf_9b, ↓wt_1_0b, ↓wt_1_1b, ↓wt_1_2b, ↓wt_1_3b, ↓wt_1_4b, ↓wt_11_0b, ↓wt_11_1b, ↓wt_11_2b, ↓wt_11_3b, ↓wt_11_4b, ↓wt_21_0b, ↓wt_21_1b, ↓wt_31_0b, ↓wt_31_1b, ↓wt_31_2b, ↓wt_31_3b, ↓wt_31_4b, ↓wt_31_5b, ↓wt_31_6b, ↓wt_41_0b, ↓wt_41_1b, ↓wt_41_2b, ↓wt_41_3b, ↓wt_41_4b, ↓wt_41_5b, ↓wt_41_6b, ↓wt_1b, ↓wt_11b, ↓wt_21b, ↓wt_31b, ↓wt_41b, ↓X_c0b, ↓X_c1b, ↓X_c2b, ↓X_c3b, ↓X_c4b, ↓X_e0b, ↓X_e1b, ↓X_e2b, ↓X_e3b, ↓X_e4b, ↓X_cb, ↓X_eb, ↓X_w0b, ↓X_w1b, ↓X_hb, ↓X_yb, ↓X_rb, ↓wp_0b, ↓wp_2b, ↓wp_4b, ↓wp_8b, ↓ws_2b, ↓ws_3b, ↓ws_4b, ↓ws_5b, ↓ws_6b, ↓ws_12b, ↓ws_13b, ↓ws_14b, ↓ws_15b, ↓ws_16b, ↓ws_22b, ↓ws_23b, ↓ws_51b, ↓wS_yb, ↓wS_rb, ↓wS_cb, ↓wS_eb, F_X0_spared_J71, F_X0_spared_B6, F_X0_spared_L6, F_X0_spared, hN, ofN_le, hd, hh, ofNs]
set_option maxRecDepth 8000 in
theorem m_joinedL (h : Lok L) (hM : WM σ ρ) (hI : Inv ρ) (hP : PM σ) {c s : Nat} (hc : c < NC ρ) (hs : s < 256) (hf : cbn s (NE ρ) ≤ 5) (hfi : rnd ρ c s < 1000000) : ∃ σ', F_X13_joined_L31 fu (some (L.1 1000)) (Int32.ofNat c) (Int32.ofNat s) (Int32.ofNat (rnd ρ c s)) 0 0 (hp L σ) = some (sp ρ c s (NE ρ) - Int32.ofNat (rnd ρ c s), hp L σ') ∧ ag σ σ' ∧ mf σ σ' := by
  have h6 := hI.1.2
  have h8 := hI.2.1.2
  have hN := hI.2.1.1
  obtain ⟨k1, k2, k3, k4, k5, k6, k7⟩ := hI.2.2.2.1 c hc
  have n1 : Int32.ofNat (rnd ρ c s) < 1000000 := by rw [li_1000000, ofN_lt (by omega) (by omega)]; exact hfi
  have n2 : ¬ (1000000 : Int32) ≤ Int32.ofNat (rnd ρ c s) := by rw [li_1000000, ofN_le (by omega) (by omega)]; omega
  have key := lpQ (Lp := fun f j (g : St × Int32) => F_X13_joined_L31 f (some (L.1 1000)) (Int32.ofNat c) (Int32.ofNat s) (Int32.ofNat (rnd ρ c s)) g.2 (Int32.ofNat j) (hp L g.1)) (N := NE ρ) (fun j g => g.2 = sp ρ c s j ∧ ag σ g.1 ∧ mf σ g.1) (fun r => ∃ σ', r = (sp ρ c s (NE ρ) - Int32.ofNat (rnd ρ c s), hp L σ') ∧ ag σ σ' ∧ mf σ σ') ?_ ?_ (by unfold fu; omega) (σ, 0) ⟨rfl, ag_refl _, mf_refl _⟩
  · obtain ⟨r, e, σ', rfl, q1, q2⟩ := key
    exact ⟨σ', e, q1, q2⟩
  · intro f g ⟨q1, q3, q4⟩
    have hM1 := WM_ag q3 hM
    refine ⟨_, ?_, g.1, rfl, q3, q4⟩
    rw [q1]
    simp (discharger := first | assumption | omega | decide) only [x_tg, w_tg, m_tg, ↓reduceIte, Option.bind_some, ↓m_0b, ↓m_1b, ↓m_2b, ↓m_3b, ↓m_4b, ↓m_5b, ↓m_6b, ↓m_7b, ↓m_8b, ↓m_9b, ↓m_10b, ↓m_11b, ↓m_12b, ↓m_13b, ↓m_14b, ↓m_15b, ↓m_16b, ↓m_17b, ↓m_18b, ↓m_19b, ↓m_20b, ↓m_21b, ↓m_22b, ↓m_23b, ↓m_24b, ↓m_25b, ↓m_26b, ↓m_27b, ↓m_28b, ↓m_29b, ↓mp_3b, ↓mp_6b, ↓mp_10b, ↓mp_11b, ↓mp_12b, ↓mp_14b, ↓mp_15b, ↓mp_16b, ↓mp_17b, ↓mp_18b, ↓mp_19b, ↓mp_22b, ↓mp_23b, ↓mp_24b, ↓mp_25b, ↓M_42b, ↓M_43b, ↓M_44b, ↓M_45b, ↓cIs_0b, ↓cIs_1b, ↓cIs_2b, ↓cIs_3b, ↓cIs_4b, ↓eIs_0b, ↓eIs_1b, ↓eIs_2b, ↓eIs_3b, ↓eIs_4b, ↓cIs_nb, ↓eIs_nb, ↓M_rb, ↓M_cAt_0b, ↓M_cAt_1b, ↓M_cAt_2b, ↓M_cAt_3b, ↓M_cAt_4b, ↓M_eAt_0b, ↓M_eAt_1b, ↓M_eAt_2b, ↓M_eAt_3b, ↓M_eAt_4b, ↓M_wAt_0b, ↓M_wAt_1b, cAt_0, cAt_1, cAt_2, cAt_3, cAt_4, eAt_0, eAt_1, eAt_2, eAt_3, eAt_4, wAt_0, wAt_1, cAt_n, eAt_n, wAt_n, F_X13_joined_L31, F_X13_joined_B31, F_X13_joined_J106, hN, ofN_le, Nat.le_refl, eq_true n1]
  · intro f j g hj ⟨q1, q3, q4⟩
    obtain ⟨g1, g2⟩ := g
    dsimp only at q1 q3 q4 ⊢
    subst q1
    have hM1 := WM_ag q3 hM
    have hd : ¬ NE ρ ≤ j := by omega
    have hh := has_n s hs j (by omega)
    rw [← hasM] at hh
    have hsn : sp ρ c s (j + 1) = spS ρ c s j (sp ρ c s j) := itF_snoc0 _ _ _
    rw [hsn]
    unfold spS
    by_cases hbt : s.testBit j = true
    · rw [if_pos hbt] at hh ⊢
      have hj8 : j < 8 := by omega
      obtain ⟨σ2, r1, r2, r3, r4⟩ := m_roundOf h hM1 hI (PM_ag q3 hP) hc (p2_lt hj8) (by rw [cbn_2 hj]; omega)
      rw [← sh_n j hj8] at r1
      have hM2 := WM_ag (ag_trans q3 r2) hM
      obtain ⟨lb, fr, to, e0, e1, e2, _, hfr, hto, _⟩ := (hI.2.2.2.2.1 j hj).1
      have rg : aI (hp L σ2) (some (L.1 1005)) 100 (7 * Int32.ofNat to + Int32.ofNat (plO ρ c)) = some (Int32.ofNat (FT ρ (kdO ρ c) to (plO ρ c))) := by
        rw [ix7, mi_1005 h (by omega), r4 to _ hto k5]
      have re := (eIs_2 h hM2 hj8).trans (congrArg some e2)
      have rc := (cIs_1 h hM2 (show c < 6 by omega)).trans (congrArg some k2)
      rw [e2, nv_of (show to < 2147483648 by omega), ← Int32.add_assoc]
      refine ⟨(σ2, sp ρ c s j + Int32.ofNat (rnd ρ c (2 ^ j)) + Int32.ofNat (FT ρ (kdO ρ c) to (plO ρ c))), ?_, rfl, ag_trans q3 r2, mf_trans q4 r3⟩
      simp (discharger := first | assumption | omega | decide) only [x_tg, w_tg, m_tg, ↓reduceIte, Option.bind_some, ↓m_0b, ↓m_1b, ↓m_2b, ↓m_3b, ↓m_4b, ↓m_5b, ↓m_6b, ↓m_7b, ↓m_8b, ↓m_9b, ↓m_10b, ↓m_11b, ↓m_12b, ↓m_13b, ↓m_14b, ↓m_15b, ↓m_16b, ↓m_17b, ↓m_18b, ↓m_19b, ↓m_20b, ↓m_21b, ↓m_22b, ↓m_23b, ↓m_24b, ↓m_25b, ↓m_26b, ↓m_27b, ↓m_28b, ↓m_29b, ↓mp_3b, ↓mp_6b, ↓mp_10b, ↓mp_11b, ↓mp_12b, ↓mp_14b, ↓mp_15b, ↓mp_16b, ↓mp_17b, ↓mp_18b, ↓mp_19b, ↓mp_22b, ↓mp_23b, ↓mp_24b, ↓mp_25b, ↓M_42b, ↓M_43b, ↓M_44b, ↓M_45b, ↓cIs_0b, ↓cIs_1b, ↓cIs_2b, ↓cIs_3b, ↓cIs_4b, ↓eIs_0b, ↓eIs_1b, ↓eIs_2b, ↓eIs_3b, ↓eIs_4b, ↓cIs_nb, ↓eIs_nb, ↓M_rb, ↓M_cAt_0b, ↓M_cAt_1b, ↓M_cAt_2b, ↓M_cAt_3b, ↓M_cAt_4b, ↓M_eAt_0b, ↓M_eAt_1b, ↓M_eAt_2b, ↓M_eAt_3b, ↓M_eAt_4b, ↓M_wAt_0b, ↓M_wAt_1b, cAt_0, cAt_1, cAt_2, cAt_3, cAt_4, eAt_0, eAt_1, eAt_2, eAt_3, eAt_4, wAt_0, wAt_1, cAt_n, eAt_n, wAt_n, F_X13_joined_J106, F_X13_joined_J100, F_X13_joined_B31, F_X13_joined_L31, F_X13_joined, hN, ofN_le, hd, n2, hh, one_ne, ↓cb9 r1, ↓bn9 re, ↓bn9 rc, ↓bn9 rg, ofNs]
    · rw [if_neg hbt] at hh ⊢
      refine ⟨(g1, sp ρ c s j), ?_, rfl, q3, q4⟩
      simp (discharger := first | assumption | omega | decide) only [x_tg, w_tg, m_tg, ↓reduceIte, Option.bind_some, ↓m_0b, ↓m_1b, ↓m_2b, ↓m_3b, ↓m_4b, ↓m_5b, ↓m_6b, ↓m_7b, ↓m_8b, ↓m_9b, ↓m_10b, ↓m_11b, ↓m_12b, ↓m_13b, ↓m_14b, ↓m_15b, ↓m_16b, ↓m_17b, ↓m_18b, ↓m_19b, ↓m_20b, ↓m_21b, ↓m_22b, ↓m_23b, ↓m_24b, ↓m_25b, ↓m_26b, ↓m_27b, ↓m_28b, ↓m_29b, ↓mp_3b, ↓mp_6b, ↓mp_10b, ↓mp_11b, ↓mp_12b, ↓mp_14b, ↓mp_15b, ↓mp_16b, ↓mp_17b, ↓mp_18b, ↓mp_19b, ↓mp_22b, ↓mp_23b, ↓mp_24b, ↓mp_25b, ↓M_42b, ↓M_43b, ↓M_44b, ↓M_45b, ↓cIs_0b, ↓cIs_1b, ↓cIs_2b, ↓cIs_3b, ↓cIs_4b, ↓eIs_0b, ↓eIs_1b, ↓eIs_2b, ↓eIs_3b, ↓eIs_4b, ↓cIs_nb, ↓eIs_nb, ↓M_rb, ↓M_cAt_0b, ↓M_cAt_1b, ↓M_cAt_2b, ↓M_cAt_3b, ↓M_cAt_4b, ↓M_eAt_0b, ↓M_eAt_1b, ↓M_eAt_2b, ↓M_eAt_3b, ↓M_eAt_4b, ↓M_wAt_0b, ↓M_wAt_1b, cAt_0, cAt_1, cAt_2, cAt_3, cAt_4, eAt_0, eAt_1, eAt_2, eAt_3, eAt_4, wAt_0, wAt_1, cAt_n, eAt_n, wAt_n, F_X13_joined_J106, F_X13_joined_J100, F_X13_joined_B31, F_X13_joined_L31, F_X13_joined, hN, ofN_le, hd, n2, hh, ofNs]
set_option maxRecDepth 8000 in
theorem op_joined (hR : RR L σ S) (x1 x2 : Int32) : STEP L σ (F_X0_joined (some (L.1 0)) x1 x2) (F_X13_joined (some (L.1 1000)) x1 x2) := by
  have h := hR.1.1
  have hW := hR.1.2.1
  have hC := hR.1.2.2.1
  have hP := hR.1.2.2.2.1
  have hI := hR.2.2.1.1
  have hb : isW 200 = true := rfl
  rcases whc_cs hI x1 x2 with ⟨hw, c, s, hc, hc6, rfl, hs, hs8, hf, rfl, hal⟩ | hw
  · have gx := x_why0 h hW hI hw
    obtain ⟨σ', r1, r2, r3, r4⟩ := x_roundOf h hW hI hC hP hc hs8 hf
    have hle := rnd_le S.1 c s
    by_cases hfi : rnd S.1 c s < 1000000
    · have hn := oR_ne hfi
      obtain ⟨σ2, s1, s2, s3⟩ := x_spared h (WX_ag r2 rfl hW) hI (CN_ag r2 hC) (PX_ag r2 hP) hc hs8 hf hfi (oR (rnd S.1 c s))
      refine STEP_ret hR (r := sp S.1 c s (NE S.1) - Int32.ofNat (rnd S.1 c s)) ⟨σ2, ?_, ag_trans r2 s2, xf_trans r3 s3⟩ (fun σ1 hM => ?_)
      · simp (discharger := first | assumption | omega | decide) only [x_tg, w_tg, m_tg, ↓reduceIte, Option.bind_some, ↓x_0b, ↓x_1b, ↓x_2b, ↓x_3b, ↓x_4b, ↓x_5b, ↓x_6b, ↓x_7b, ↓x_8b, ↓x_9b, ↓x_10b, ↓x_11b, ↓x_12b, ↓x_13b, ↓x_14b, ↓x_15b, ↓x_16b, ↓x_17b, ↓x_18b, ↓x_19b, ↓xp_2b, ↓xp_6b, ↓xp_14b, ↓xp_17b, ↓xp_18b, ↓xp_19b, ↓X_f0b, ↓X_f2b, ↓X_f4b, ↓X_f8b, ↓wf_1b, ↓wf_3b, ↓wf_5b, ↓wf_6b, ↓wf_7b, ↓wf_9b, ↓wt_1_0b, ↓wt_1_1b, ↓wt_1_2b, ↓wt_1_3b, ↓wt_1_4b, ↓wt_11_0b, ↓wt_11_1b, ↓wt_11_2b, ↓wt_11_3b, ↓wt_11_4b, ↓wt_21_0b, ↓wt_21_1b, ↓wt_31_0b, ↓wt_31_1b, ↓wt_31_2b, ↓wt_31_3b, ↓wt_31_4b, ↓wt_31_5b, ↓wt_31_6b, ↓wt_41_0b, ↓wt_41_1b, ↓wt_41_2b, ↓wt_41_3b, ↓wt_41_4b, ↓wt_41_5b, ↓wt_41_6b, ↓wt_1b, ↓wt_11b, ↓wt_21b, ↓wt_31b, ↓wt_41b, ↓X_c0b, ↓X_c1b, ↓X_c2b, ↓X_c3b, ↓X_c4b, ↓X_e0b, ↓X_e1b, ↓X_e2b, ↓X_e3b, ↓X_e4b, ↓X_cb, ↓X_eb, ↓X_w0b, ↓X_w1b, ↓X_hb, ↓X_yb, ↓X_rb, ↓wp_0b, ↓wp_2b, ↓wp_4b, ↓wp_8b, ↓ws_2b, ↓ws_3b, ↓ws_4b, ↓ws_5b, ↓ws_6b, ↓ws_12b, ↓ws_13b, ↓ws_14b, ↓ws_15b, ↓ws_16b, ↓ws_22b, ↓ws_23b, ↓ws_51b, ↓wS_yb, ↓wS_rb, ↓wS_cb, ↓wS_eb, ↓x_isCarrierb, ↓x_isErrandb, ↓x_isWareb, ↓x_isSetb, ↓x_isFewb, F_X0_isKind, F_X0_isPlace, F_X0_isPrice, F_X0_isSheet, F_X0_isSpot, F_X13_isKind, F_X13_isPlace, F_X13_isSheet, F_X13_isSpot, within_eq, one_and, zero_and, one_ne, not_true_eq_false, not_false_eq_true, F_X0_joined, ↓bn9 gx, ↓cb9 r1, hn, ↓cb9 s1, cb_id]
        rw [oR_pos hfi]
      · obtain ⟨σb, m1, m2, m3, m4⟩ := m_roundOf h hM.2.1 hI hM.2.2.1 hc hs8 hf
        have gm := m_why0 h hM.2.1 hI hw
        obtain ⟨σc, t1, t2, t3⟩ := m_joinedL h (WM_ag m2 hM.2.1) hI (PM_ag m2 hM.2.2.1) hc hs8 hf hfi
        refine ⟨σc, ?_, ag_trans m2 t2, mf_trans m3 t3⟩
        simp (discharger := first | assumption | omega | decide) only [x_tg, w_tg, m_tg, ↓reduceIte, Option.bind_some, ↓m_0b, ↓m_1b, ↓m_2b, ↓m_3b, ↓m_4b, ↓m_5b, ↓m_6b, ↓m_7b, ↓m_8b, ↓m_9b, ↓m_10b, ↓m_11b, ↓m_12b, ↓m_13b, ↓m_14b, ↓m_15b, ↓m_16b, ↓m_17b, ↓m_18b, ↓m_19b, ↓m_20b, ↓m_21b, ↓m_22b, ↓m_23b, ↓m_24b, ↓m_25b, ↓m_26b, ↓m_27b, ↓m_28b, ↓m_29b, ↓mp_3b, ↓mp_6b, ↓mp_10b, ↓mp_11b, ↓mp_12b, ↓mp_14b, ↓mp_15b, ↓mp_16b, ↓mp_17b, ↓mp_18b, ↓mp_19b, ↓mp_22b, ↓mp_23b, ↓mp_24b, ↓mp_25b, ↓M_42b, ↓M_43b, ↓M_44b, ↓M_45b, ↓cIs_0b, ↓cIs_1b, ↓cIs_2b, ↓cIs_3b, ↓cIs_4b, ↓eIs_0b, ↓eIs_1b, ↓eIs_2b, ↓eIs_3b, ↓eIs_4b, ↓cIs_nb, ↓eIs_nb, ↓M_rb, ↓M_cAt_0b, ↓M_cAt_1b, ↓M_cAt_2b, ↓M_cAt_3b, ↓M_cAt_4b, ↓M_eAt_0b, ↓M_eAt_1b, ↓M_eAt_2b, ↓M_eAt_3b, ↓M_eAt_4b, ↓M_wAt_0b, ↓M_wAt_1b, cAt_0, cAt_1, cAt_2, cAt_3, cAt_4, eAt_0, eAt_1, eAt_2, eAt_3, eAt_4, wAt_0, wAt_1, cAt_n, eAt_n, wAt_n, ↓m_isCarrierb, ↓m_isErrandb, ↓m_isWareb, ↓m_isFewb, F_X0_isKind, F_X0_isPlace, F_X0_isPrice, F_X0_isSheet, F_X0_isSpot, F_X13_isKind, F_X13_isPlace, F_X13_isSheet, F_X13_isSpot, within_eq, one_and, zero_and, one_ne, not_true_eq_false, not_false_eq_true, F_X13_joined, ↓bn9 gm, ↓cb9 m1, t1]
    · have n1 : ¬ Int32.ofNat (rnd S.1 c s) < 1000000 := by rw [li_1000000, ofN_lt (by omega) (by omega)]; omega
      have n2 : (1000000 : Int32) ≤ Int32.ofNat (rnd S.1 c s) := by rw [li_1000000, ofN_le (by omega) (by omega)]; omega
      refine STEP_fnd hR (k := 3) (xv := 3) (mv := -1000004) (by omega) rfl (by decide) ⟨σ', ?_, r2, r3⟩ (fun σ1 hM => ?_)
      · simp (discharger := first | assumption | omega | decide) only [x_tg, w_tg, m_tg, ↓reduceIte, Option.bind_some, ↓x_0b, ↓x_1b, ↓x_2b, ↓x_3b, ↓x_4b, ↓x_5b, ↓x_6b, ↓x_7b, ↓x_8b, ↓x_9b, ↓x_10b, ↓x_11b, ↓x_12b, ↓x_13b, ↓x_14b, ↓x_15b, ↓x_16b, ↓x_17b, ↓x_18b, ↓x_19b, ↓xp_2b, ↓xp_6b, ↓xp_14b, ↓xp_17b, ↓xp_18b, ↓xp_19b, ↓X_f0b, ↓X_f2b, ↓X_f4b, ↓X_f8b, ↓wf_1b, ↓wf_3b, ↓wf_5b, ↓wf_6b, ↓wf_7b, ↓wf_9b, ↓wt_1_0b, ↓wt_1_1b, ↓wt_1_2b, ↓wt_1_3b, ↓wt_1_4b, ↓wt_11_0b, ↓wt_11_1b, ↓wt_11_2b, ↓wt_11_3b, ↓wt_11_4b, ↓wt_21_0b, ↓wt_21_1b, ↓wt_31_0b, ↓wt_31_1b, ↓wt_31_2b, ↓wt_31_3b, ↓wt_31_4b, ↓wt_31_5b, ↓wt_31_6b, ↓wt_41_0b, ↓wt_41_1b, ↓wt_41_2b, ↓wt_41_3b, ↓wt_41_4b, ↓wt_41_5b, ↓wt_41_6b, ↓wt_1b, ↓wt_11b, ↓wt_21b, ↓wt_31b, ↓wt_41b, ↓X_c0b, ↓X_c1b, ↓X_c2b, ↓X_c3b, ↓X_c4b, ↓X_e0b, ↓X_e1b, ↓X_e2b, ↓X_e3b, ↓X_e4b, ↓X_cb, ↓X_eb, ↓X_w0b, ↓X_w1b, ↓X_hb, ↓X_yb, ↓X_rb, ↓wp_0b, ↓wp_2b, ↓wp_4b, ↓wp_8b, ↓ws_2b, ↓ws_3b, ↓ws_4b, ↓ws_5b, ↓ws_6b, ↓ws_12b, ↓ws_13b, ↓ws_14b, ↓ws_15b, ↓ws_16b, ↓ws_22b, ↓ws_23b, ↓ws_51b, ↓wS_yb, ↓wS_rb, ↓wS_cb, ↓wS_eb, ↓x_isCarrierb, ↓x_isErrandb, ↓x_isWareb, ↓x_isSetb, ↓x_isFewb, F_X0_isKind, F_X0_isPlace, F_X0_isPrice, F_X0_isSheet, F_X0_isSpot, F_X13_isKind, F_X13_isPlace, F_X13_isSheet, F_X13_isSpot, within_eq, one_and, zero_and, one_ne, not_true_eq_false, not_false_eq_true, F_X0_joined, ↓bn9 gx, ↓cb9 r1, oR_neg hfi, cb_id]
      · obtain ⟨σb, m1, m2, m3, m4⟩ := m_roundOf h hM.2.1 hI hM.2.2.1 hc hs8 hf
        have gm := m_why0 h hM.2.1 hI hw
        have hMb := WM_ag m2 hM.2.1
        refine ⟨σb, ?_, m2, m3⟩
        have t1 : F_X13_joined_L31 fu (some (L.1 1000)) (Int32.ofNat c) (Int32.ofNat s) (Int32.ofNat (rnd S.1 c s)) 0 0 (hp L σb) = cb (F_X13_finding (some (L.1 1000)) (-1000004) (hp L σb)) (fun i w => some (i, w)) := by
          show F_X13_joined_L31 (4095 + 1) _ _ _ _ _ _ _ = _
          by_cases hN0 : S.1 43 ≤ 0
          · simp (discharger := first | assumption | omega | decide) only [x_tg, w_tg, m_tg, ↓reduceIte, Option.bind_some, ↓m_0b, ↓m_1b, ↓m_2b, ↓m_3b, ↓m_4b, ↓m_5b, ↓m_6b, ↓m_7b, ↓m_8b, ↓m_9b, ↓m_10b, ↓m_11b, ↓m_12b, ↓m_13b, ↓m_14b, ↓m_15b, ↓m_16b, ↓m_17b, ↓m_18b, ↓m_19b, ↓m_20b, ↓m_21b, ↓m_22b, ↓m_23b, ↓m_24b, ↓m_25b, ↓m_26b, ↓m_27b, ↓m_28b, ↓m_29b, ↓mp_3b, ↓mp_6b, ↓mp_10b, ↓mp_11b, ↓mp_12b, ↓mp_14b, ↓mp_15b, ↓mp_16b, ↓mp_17b, ↓mp_18b, ↓mp_19b, ↓mp_22b, ↓mp_23b, ↓mp_24b, ↓mp_25b, ↓M_42b, ↓M_43b, ↓M_44b, ↓M_45b, ↓cIs_0b, ↓cIs_1b, ↓cIs_2b, ↓cIs_3b, ↓cIs_4b, ↓eIs_0b, ↓eIs_1b, ↓eIs_2b, ↓eIs_3b, ↓eIs_4b, ↓cIs_nb, ↓eIs_nb, ↓M_rb, ↓M_cAt_0b, ↓M_cAt_1b, ↓M_cAt_2b, ↓M_cAt_3b, ↓M_cAt_4b, ↓M_eAt_0b, ↓M_eAt_1b, ↓M_eAt_2b, ↓M_eAt_3b, ↓M_eAt_4b, ↓M_wAt_0b, ↓M_wAt_1b, cAt_0, cAt_1, cAt_2, cAt_3, cAt_4, eAt_0, eAt_1, eAt_2, eAt_3, eAt_4, wAt_0, wAt_1, cAt_n, eAt_n, wAt_n, F_X13_joined_L31, F_X13_joined_B31, F_X13_joined_J106, eq_true hN0, n1]
          · simp (discharger := first | assumption | omega | decide) only [x_tg, w_tg, m_tg, ↓reduceIte, Option.bind_some, ↓m_0b, ↓m_1b, ↓m_2b, ↓m_3b, ↓m_4b, ↓m_5b, ↓m_6b, ↓m_7b, ↓m_8b, ↓m_9b, ↓m_10b, ↓m_11b, ↓m_12b, ↓m_13b, ↓m_14b, ↓m_15b, ↓m_16b, ↓m_17b, ↓m_18b, ↓m_19b, ↓m_20b, ↓m_21b, ↓m_22b, ↓m_23b, ↓m_24b, ↓m_25b, ↓m_26b, ↓m_27b, ↓m_28b, ↓m_29b, ↓mp_3b, ↓mp_6b, ↓mp_10b, ↓mp_11b, ↓mp_12b, ↓mp_14b, ↓mp_15b, ↓mp_16b, ↓mp_17b, ↓mp_18b, ↓mp_19b, ↓mp_22b, ↓mp_23b, ↓mp_24b, ↓mp_25b, ↓M_42b, ↓M_43b, ↓M_44b, ↓M_45b, ↓cIs_0b, ↓cIs_1b, ↓cIs_2b, ↓cIs_3b, ↓cIs_4b, ↓eIs_0b, ↓eIs_1b, ↓eIs_2b, ↓eIs_3b, ↓eIs_4b, ↓cIs_nb, ↓eIs_nb, ↓M_rb, ↓M_cAt_0b, ↓M_cAt_1b, ↓M_cAt_2b, ↓M_cAt_3b, ↓M_cAt_4b, ↓M_eAt_0b, ↓M_eAt_1b, ↓M_eAt_2b, ↓M_eAt_3b, ↓M_eAt_4b, ↓M_wAt_0b, ↓M_wAt_1b, cAt_0, cAt_1, cAt_2, cAt_3, cAt_4, eAt_0, eAt_1, eAt_2, eAt_3, eAt_4, wAt_0, wAt_1, cAt_n, eAt_n, wAt_n, F_X13_joined_L31, F_X13_joined_B31, F_X13_joined_J106, hN0, eq_true n2, n1]
        simp (discharger := first | assumption | omega | decide) only [x_tg, w_tg, m_tg, ↓reduceIte, Option.bind_some, ↓m_0b, ↓m_1b, ↓m_2b, ↓m_3b, ↓m_4b, ↓m_5b, ↓m_6b, ↓m_7b, ↓m_8b, ↓m_9b, ↓m_10b, ↓m_11b, ↓m_12b, ↓m_13b, ↓m_14b, ↓m_15b, ↓m_16b, ↓m_17b, ↓m_18b, ↓m_19b, ↓m_20b, ↓m_21b, ↓m_22b, ↓m_23b, ↓m_24b, ↓m_25b, ↓m_26b, ↓m_27b, ↓m_28b, ↓m_29b, ↓mp_3b, ↓mp_6b, ↓mp_10b, ↓mp_11b, ↓mp_12b, ↓mp_14b, ↓mp_15b, ↓mp_16b, ↓mp_17b, ↓mp_18b, ↓mp_19b, ↓mp_22b, ↓mp_23b, ↓mp_24b, ↓mp_25b, ↓M_42b, ↓M_43b, ↓M_44b, ↓M_45b, ↓cIs_0b, ↓cIs_1b, ↓cIs_2b, ↓cIs_3b, ↓cIs_4b, ↓eIs_0b, ↓eIs_1b, ↓eIs_2b, ↓eIs_3b, ↓eIs_4b, ↓cIs_nb, ↓eIs_nb, ↓M_rb, ↓M_cAt_0b, ↓M_cAt_1b, ↓M_cAt_2b, ↓M_cAt_3b, ↓M_cAt_4b, ↓M_eAt_0b, ↓M_eAt_1b, ↓M_eAt_2b, ↓M_eAt_3b, ↓M_eAt_4b, ↓M_wAt_0b, ↓M_wAt_1b, cAt_0, cAt_1, cAt_2, cAt_3, cAt_4, eAt_0, eAt_1, eAt_2, eAt_3, eAt_4, wAt_0, wAt_1, cAt_n, eAt_n, wAt_n, ↓m_isCarrierb, ↓m_isErrandb, ↓m_isWareb, ↓m_isFewb, F_X0_isKind, F_X0_isPlace, F_X0_isPrice, F_X0_isSheet, F_X0_isSpot, F_X13_isKind, F_X13_isPlace, F_X13_isSheet, F_X13_isSpot, within_eq, one_and, zero_and, one_ne, not_true_eq_false, not_false_eq_true, F_X13_joined, ↓bn9 gm, ↓cb9 m1, t1]
  · refine STEP_why hR hw (fun i e hi => ?_) (fun σ1 i e hi => ?_)
    · unfold F_X0_joined; rw [if_pos (x_tg h), bn9 e, if_neg hi]
    · unfold F_X13_joined; rw [if_pos (m_tg h), bn9 e, if_neg hi]
end L5b
/-! ### the acts: shared, part, cheapest, which -/
def ag2 (σ σ' : St) : Prop := ∀ i k, s2 i k = false → σ' i k = σ i k
set_option maxRecDepth 8000 in
theorem ag2_refl (σ : St) : ag2 σ σ := fun _ _ _ => rfl
set_option maxRecDepth 8000 in
theorem ag2_trans {a b c : St} (h1 : ag2 a b) (h2 : ag2 b c) : ag2 a c := fun i k p => (h2 i k p).trans (h1 i k p)
set_option maxRecDepth 8000 in
theorem ag2_ag {σ σ' : St} (h : ag σ σ') : ag2 σ σ' := fun i k p => h i k (s2_s1 p)
set_option maxRecDepth 8000 in
theorem ag2_up {σ : St} {i k : Nat} {v : Int32} (h : s2 i k = true) : ag2 σ (up2 σ i k v) := fun i' k' p => by
  rw [up2_ne]; rintro ⟨rfl, rfl⟩; rw [h] at p; cases p
set_option maxRecDepth 8000 in
theorem ax_ag2 {σ σ' : St} (h : ag2 σ σ') : ax σ σ' := fun i k p _ => h i k p
set_option maxRecDepth 8000 in
theorem am_ag2 {σ σ' : St} (h : ag2 σ σ') : am σ σ' := fun i k p _ => h i k p
set_option maxRecDepth 8000 in
theorem WX_ag2 {σ σ' : St} (h : ag2 σ σ') {ρ : Rw} (hW : WX σ 200 ρ) : WX σ' 200 ρ := WX_congr (fun i a b => by funext k; exact h i k (s2_f (by omega))) hW
set_option maxRecDepth 8000 in
theorem WM_ag2 {σ σ' : St} (h : ag2 σ σ') {ρ : Rw} (hW : WM σ ρ) : WM σ' ρ := fun i hi => by rw [h 1001 i (s2_f (by omega))]; exact hW i hi
set_option maxRecDepth 8000 in
theorem CN_ag2 {σ σ' : St} (h : ag2 σ σ') (hC : CN σ) : CN σ' := CN_ax (ax_ag2 h) hC
set_option maxRecDepth 8000 in
theorem PX_ag2 {σ σ' : St} (h : ag2 σ σ') (hC : PX σ) : PX σ' := PX_ax (ax_ag2 h) hC
set_option maxRecDepth 8000 in
theorem PM_ag2 {σ σ' : St} (h : ag2 σ σ') (hC : PM σ) : PM σ' := PM_am (am_ag2 h) hC
set_option maxRecDepth 8000 in
theorem xf_up {σ : St} {i k : Nat} {v : Int32} (h : i < 1000) : xf σ (up2 σ i k v) := fun j hj => by funext k'; rw [up2_ne (by omega)]
set_option maxRecDepth 8000 in
theorem mf_up {σ : St} {i k : Nat} {v : Int32} (h : 1000 ≤ i ∧ i < 1016) : mf σ (up2 σ i k v) := fun j hj => by funext k'; rw [up2_ne (by omega)]
set_option maxRecDepth 8000 in
theorem ag_at {σ σ' : St} (h : ag σ σ') {i k : Nat} (hs : s1 i k = false) : σ' i k = σ i k := h i k hs
section L5c
variable {L : Lt} {σ σ' : St} {S : Sg} {ρ ρ' : Rw}
def bV (b : Nat × Nat) : Int32 := if b.1 < 1000000 then Int32.ofNat b.1 else -1
def shV (ρ : Rw) (c d s j : Nat) : Nat := if dif j s = 0 then rnd ρ c j + rnd ρ d (dif s j) else 2000000
set_option maxRecDepth 8000 in
theorem x_sharedBy (h : Lok L) (hW : WX σ 200 ρ) (hI : Inv ρ) (hC : CN σ) (hP : PX σ) {c d s : Nat} (hc : c < NC ρ) (hd9 : d < NC ρ) (hs : s < 256) (hf : cbn s (NE ρ) ≤ 5) : ∃ σ', F_X0_sharedBy (some (L.1 0)) (Int32.ofNat c) (Int32.ofNat d) (Int32.ofNat s) (hp L σ) = some (bV (bs (shV ρ c d s) (s + 1)), hp L σ') ∧ ag2 σ σ' ∧ xf σ σ' ∧ ((bs (shV ρ c d s) (s + 1)).1 < 1000000 → σ' 0 18 = Int32.ofNat (bs (shV ρ c d s) (s + 1)).2) := by
  have h18 : s2 0 18 = true := by decide
  unfold F_X0_sharedBy
  rw [if_pos (x_tg h), bn9 (xp_18 h)]
  have key := lpQ (Lp := fun f j (g : St × Int32) => F_X0_sharedBy_L11 f (some (L.1 0)) (Int32.ofNat c) (Int32.ofNat d) (Int32.ofNat s) g.2 (Int32.ofNat j) (hp L g.1)) (N := s + 1) (fun j g => g.2 = bV (bs (shV ρ c d s) j) ∧ ag2 σ g.1 ∧ xf σ g.1 ∧ ((bs (shV ρ c d s) j).1 < 1000000 → g.1 0 18 = Int32.ofNat (bs (shV ρ c d s) j).2)) (fun r => ∃ σ', r = (bV (bs (shV ρ c d s) (s + 1)), hp L σ') ∧ ag2 σ σ' ∧ xf σ σ' ∧ ((bs (shV ρ c d s) (s + 1)).1 < 1000000 → σ' 0 18 = Int32.ofNat (bs (shV ρ c d s) (s + 1)).2)) ?_ ?_ (by unfold fu; omega) (up2 σ 0 18 (-1), -1) ⟨rfl, ag2_up h18, xf_up (by omega), fun q => absurd q (Nat.lt_irrefl _)⟩
  · obtain ⟨r, e, σ', rfl, q1, q2, q3⟩ := key
    exact ⟨σ', e, q1, q2, q3⟩
  · intro f g ⟨q1, q2, q3, q4⟩
    refine ⟨_, ?_, g.1, rfl, q2, q3, q4⟩
    have hlt : s < s + 1 := by omega
    rw [q1]
    simp (discharger := first | assumption | omega | decide) only [x_tg, w_tg, m_tg, ↓reduceIte, Option.bind_some, ↓x_0b, ↓x_1b, ↓x_2b, ↓x_3b, ↓x_4b, ↓x_5b, ↓x_6b, ↓x_7b, ↓x_8b, ↓x_9b, ↓x_10b, ↓x_11b, ↓x_12b, ↓x_13b, ↓x_14b, ↓x_15b, ↓x_16b, ↓x_17b, ↓x_18b, ↓x_19b, ↓xp_2b, ↓xp_6b, ↓xp_14b, ↓xp_17b, ↓xp_18b, ↓xp_19b, ↓X_f0b, ↓X_f2b, ↓X_f4b, ↓X_f8b, ↓wf_1b, ↓wf_3b, ↓wf_5b, ↓wf_6b, ↓wf_7b, ↓wf_9b, ↓wt_1_0b, ↓wt_1_1b, ↓wt_1_2b, ↓wt_1_3b, ↓wt_1_4b, ↓wt_11_0b, ↓wt_11_1b, ↓wt_11_2b, ↓wt_11_3b, ↓wt_11_4b, ↓wt_21_0b, ↓wt_21_1b, ↓wt_31_0b, ↓wt_31_1b, ↓wt_31_2b, ↓wt_31_3b, ↓wt_31_4b, ↓wt_31_5b, ↓wt_31_6b, ↓wt_41_0b, ↓wt_41_1b, ↓wt_41_2b, ↓wt_41_3b, ↓wt_41_4b, ↓wt_41_5b, ↓wt_41_6b, ↓wt_1b, ↓wt_11b, ↓wt_21b, ↓wt_31b, ↓wt_41b, ↓X_c0b, ↓X_c1b, ↓X_c2b, ↓X_c3b, ↓X_c4b, ↓X_e0b, ↓X_e1b, ↓X_e2b, ↓X_e3b, ↓X_e4b, ↓X_cb, ↓X_eb, ↓X_w0b, ↓X_w1b, ↓X_hb, ↓X_yb, ↓X_rb, ↓wp_0b, ↓wp_2b, ↓wp_4b, ↓wp_8b, ↓ws_2b, ↓ws_3b, ↓ws_4b, ↓ws_5b, ↓ws_6b, ↓ws_12b, ↓ws_13b, ↓ws_14b, ↓ws_15b, ↓ws_16b, ↓ws_22b, ↓ws_23b, ↓ws_51b, ↓wS_yb, ↓wS_rb, ↓wS_cb, ↓wS_eb, F_X0_sharedBy_L11, F_X0_sharedBy_B11, ofN_lt, hlt]
  · intro f j g hj ⟨q1, q2, q3, q4⟩
    obtain ⟨g1, g2⟩ := g
    dsimp only at q1 q2 q3 q4 ⊢
    subst q1
    have hlt : ¬ s < j := by omega
    have hj8 : j < 256 := by omega
    have hz := dif_z hj8 hs
    have hb := bs_le (shV ρ c d s) j
    have hW1 := WX_ag2 q2 hW
    rw [bs_succ]
    unfold bsS
    by_cases hsub : dif j s = 0
    · have ev : shV ρ c d s j = rnd ρ c j + rnd ρ d (dif s j) := by unfold shV; rw [if_pos hsub]
      have hcj : cbn j (NE ρ) ≤ 5 := Nat.le_trans (cbn_sub (sub_bit hj8 hs hsub) _) hf
      have hds := dif_le s j
      have hdj : cbn (dif s j) (NE ρ) ≤ 5 := Nat.le_trans (cbn_dif hs hj8 _) hf
      obtain ⟨σ2, r1, r2, r3, _⟩ := x_roundOf h hW1 hI (CN_ag2 q2 hC) (PX_ag2 q2 hP) hc hj8 hcj
      have ag12 := ag2_trans q2 (ag2_ag r2)
      have e18 : σ2 0 18 = g1 0 18 := ag_at r2 (by decide)
      have l1 := rnd_le ρ c j
      have l2 := rnd_le ρ d (dif s j)
      by_cases hfi : rnd ρ c j < 1000000
      · have n1 := oR_ne hfi
        obtain ⟨σ3, t1, t2, t3, _⟩ := x_roundOf h (WX_ag2 ag12 hW) hI (CN_ag2 ag12 hC) (PX_ag2 ag12 hP) hd9 (show dif s j < 256 by omega) hdj
        rw [← an_n hs hj8] at t1
        have ag13 := ag2_trans ag12 (ag2_ag t2)
        have e18' : σ3 0 18 = g1 0 18 := (ag_at t2 (by decide)).trans e18
        by_cases hfi2 : rnd ρ d (dif s j) < 1000000
        · have n2 := oR_ne hfi2
          have b1 := rnd_b hI hc hcj hfi
          have b2 := rnd_b hI hd9 hdj hfi2
          have es : oR (rnd ρ c j) + oR (rnd ρ d (dif s j)) = Int32.ofNat (shV ρ c d s j) := by rw [oR_pos hfi, oR_pos hfi2, ofN_add, ev]
          by_cases hbest : shV ρ c d s j < (bs (shV ρ c d s) j).1
          · rw [if_pos hbest]
            have hv6 : shV ρ c d s j < 1000000 := by omega
            refine ⟨(up2 σ3 0 18 (Int32.ofNat j), Int32.ofNat (shV ρ c d s j)), ?_, ?_, ag2_trans ag13 (ag2_up h18), xf_trans (xf_trans q3 r3) (xf_trans t3 (xf_up (by omega))), fun _ => (up2_same σ3 0 18 (Int32.ofNat j) : _)⟩
            · by_cases hm : bV (bs (shV ρ c d s) j) = -1
              · simp (discharger := first | assumption | omega | decide) only [x_tg, w_tg, m_tg, ↓reduceIte, Option.bind_some, ↓x_0b, ↓x_1b, ↓x_2b, ↓x_3b, ↓x_4b, ↓x_5b, ↓x_6b, ↓x_7b, ↓x_8b, ↓x_9b, ↓x_10b, ↓x_11b, ↓x_12b, ↓x_13b, ↓x_14b, ↓x_15b, ↓x_16b, ↓x_17b, ↓x_18b, ↓x_19b, ↓xp_2b, ↓xp_6b, ↓xp_14b, ↓xp_17b, ↓xp_18b, ↓xp_19b, ↓X_f0b, ↓X_f2b, ↓X_f4b, ↓X_f8b, ↓wf_1b, ↓wf_3b, ↓wf_5b, ↓wf_6b, ↓wf_7b, ↓wf_9b, ↓wt_1_0b, ↓wt_1_1b, ↓wt_1_2b, ↓wt_1_3b, ↓wt_1_4b, ↓wt_11_0b, ↓wt_11_1b, ↓wt_11_2b, ↓wt_11_3b, ↓wt_11_4b, ↓wt_21_0b, ↓wt_21_1b, ↓wt_31_0b, ↓wt_31_1b, ↓wt_31_2b, ↓wt_31_3b, ↓wt_31_4b, ↓wt_31_5b, ↓wt_31_6b, ↓wt_41_0b, ↓wt_41_1b, ↓wt_41_2b, ↓wt_41_3b, ↓wt_41_4b, ↓wt_41_5b, ↓wt_41_6b, ↓wt_1b, ↓wt_11b, ↓wt_21b, ↓wt_31b, ↓wt_41b, ↓X_c0b, ↓X_c1b, ↓X_c2b, ↓X_c3b, ↓X_c4b, ↓X_e0b, ↓X_e1b, ↓X_e2b, ↓X_e3b, ↓X_e4b, ↓X_cb, ↓X_eb, ↓X_w0b, ↓X_w1b, ↓X_hb, ↓X_yb, ↓X_rb, ↓wp_0b, ↓wp_2b, ↓wp_4b, ↓wp_8b, ↓ws_2b, ↓ws_3b, ↓ws_4b, ↓ws_5b, ↓ws_6b, ↓ws_12b, ↓ws_13b, ↓ws_14b, ↓ws_15b, ↓ws_16b, ↓ws_22b, ↓ws_23b, ↓ws_51b, ↓wS_yb, ↓wS_rb, ↓wS_cb, ↓wS_eb, F_X0_sharedBy_J97, F_X0_sharedBy_J84, F_X0_sharedBy_J60, F_X0_sharedBy_J37, F_X0_sharedBy_B11, F_X0_sharedBy_L11, F_X0_sharedBy, ofN_lt, hlt, hz, hsub, not_true_eq_false, ↓cb9 r1, n1, not_false_eq_true, ↓cb9 t1, n2, eq_true hm, es, ofNs]
              · have hm2 : (bs (shV ρ c d s) j).1 < 1000000 := by
                  apply Nat.lt_of_not_le
                  intro q; apply hm; unfold bV; rw [if_neg (by omega)]
                have hm3 : ¬ bV (bs (shV ρ c d s) j) ≤ Int32.ofNat (shV ρ c d s j) := by unfold bV; rw [if_pos hm2, ofN_le (by omega) (by omega)]; omega
                simp (discharger := first | assumption | omega | decide) only [x_tg, w_tg, m_tg, ↓reduceIte, Option.bind_some, ↓x_0b, ↓x_1b, ↓x_2b, ↓x_3b, ↓x_4b, ↓x_5b, ↓x_6b, ↓x_7b, ↓x_8b, ↓x_9b, ↓x_10b, ↓x_11b, ↓x_12b, ↓x_13b, ↓x_14b, ↓x_15b, ↓x_16b, ↓x_17b, ↓x_18b, ↓x_19b, ↓xp_2b, ↓xp_6b, ↓xp_14b, ↓xp_17b, ↓xp_18b, ↓xp_19b, ↓X_f0b, ↓X_f2b, ↓X_f4b, ↓X_f8b, ↓wf_1b, ↓wf_3b, ↓wf_5b, ↓wf_6b, ↓wf_7b, ↓wf_9b, ↓wt_1_0b, ↓wt_1_1b, ↓wt_1_2b, ↓wt_1_3b, ↓wt_1_4b, ↓wt_11_0b, ↓wt_11_1b, ↓wt_11_2b, ↓wt_11_3b, ↓wt_11_4b, ↓wt_21_0b, ↓wt_21_1b, ↓wt_31_0b, ↓wt_31_1b, ↓wt_31_2b, ↓wt_31_3b, ↓wt_31_4b, ↓wt_31_5b, ↓wt_31_6b, ↓wt_41_0b, ↓wt_41_1b, ↓wt_41_2b, ↓wt_41_3b, ↓wt_41_4b, ↓wt_41_5b, ↓wt_41_6b, ↓wt_1b, ↓wt_11b, ↓wt_21b, ↓wt_31b, ↓wt_41b, ↓X_c0b, ↓X_c1b, ↓X_c2b, ↓X_c3b, ↓X_c4b, ↓X_e0b, ↓X_e1b, ↓X_e2b, ↓X_e3b, ↓X_e4b, ↓X_cb, ↓X_eb, ↓X_w0b, ↓X_w1b, ↓X_hb, ↓X_yb, ↓X_rb, ↓wp_0b, ↓wp_2b, ↓wp_4b, ↓wp_8b, ↓ws_2b, ↓ws_3b, ↓ws_4b, ↓ws_5b, ↓ws_6b, ↓ws_12b, ↓ws_13b, ↓ws_14b, ↓ws_15b, ↓ws_16b, ↓ws_22b, ↓ws_23b, ↓ws_51b, ↓wS_yb, ↓wS_rb, ↓wS_cb, ↓wS_eb, F_X0_sharedBy_J97, F_X0_sharedBy_J84, F_X0_sharedBy_J60, F_X0_sharedBy_J37, F_X0_sharedBy_B11, F_X0_sharedBy_L11, F_X0_sharedBy, ofN_lt, hlt, hz, hsub, not_true_eq_false, ↓cb9 r1, n1, not_false_eq_true, ↓cb9 t1, n2, hm, es, hm3, ofNs]
            · unfold bV; rw [if_pos hv6]
          · rw [if_neg hbest]
            have hm2 : (bs (shV ρ c d s) j).1 < 1000000 := by omega
            have hm : ¬ bV (bs (shV ρ c d s) j) = -1 := by unfold bV; rw [if_pos hm2]; exact ofN_nm1 (by omega)
            have hm3 : bV (bs (shV ρ c d s) j) ≤ Int32.ofNat (shV ρ c d s j) := by unfold bV; rw [if_pos hm2, ofN_le (by omega) (by omega)]; omega
            refine ⟨(σ3, bV (bs (shV ρ c d s) j)), ?_, rfl, ag13, xf_trans (xf_trans q3 r3) t3, fun q => by show σ3 0 18 = _; rw [e18']; exact q4 q⟩
            simp (discharger := first | assumption | omega | decide) only [x_tg, w_tg, m_tg, ↓reduceIte, Option.bind_some, ↓x_0b, ↓x_1b, ↓x_2b, ↓x_3b, ↓x_4b, ↓x_5b, ↓x_6b, ↓x_7b, ↓x_8b, ↓x_9b, ↓x_10b, ↓x_11b, ↓x_12b, ↓x_13b, ↓x_14b, ↓x_15b, ↓x_16b, ↓x_17b, ↓x_18b, ↓x_19b, ↓xp_2b, ↓xp_6b, ↓xp_14b, ↓xp_17b, ↓xp_18b, ↓xp_19b, ↓X_f0b, ↓X_f2b, ↓X_f4b, ↓X_f8b, ↓wf_1b, ↓wf_3b, ↓wf_5b, ↓wf_6b, ↓wf_7b, ↓wf_9b, ↓wt_1_0b, ↓wt_1_1b, ↓wt_1_2b, ↓wt_1_3b, ↓wt_1_4b, ↓wt_11_0b, ↓wt_11_1b, ↓wt_11_2b, ↓wt_11_3b, ↓wt_11_4b, ↓wt_21_0b, ↓wt_21_1b, ↓wt_31_0b, ↓wt_31_1b, ↓wt_31_2b, ↓wt_31_3b, ↓wt_31_4b, ↓wt_31_5b, ↓wt_31_6b, ↓wt_41_0b, ↓wt_41_1b, ↓wt_41_2b, ↓wt_41_3b, ↓wt_41_4b, ↓wt_41_5b, ↓wt_41_6b, ↓wt_1b, ↓wt_11b, ↓wt_21b, ↓wt_31b, ↓wt_41b, ↓X_c0b, ↓X_c1b, ↓X_c2b, ↓X_c3b, ↓X_c4b, ↓X_e0b, ↓X_e1b, ↓X_e2b, ↓X_e3b, ↓X_e4b, ↓X_cb, ↓X_eb, ↓X_w0b, ↓X_w1b, ↓X_hb, ↓X_yb, ↓X_rb, ↓wp_0b, ↓wp_2b, ↓wp_4b, ↓wp_8b, ↓ws_2b, ↓ws_3b, ↓ws_4b, ↓ws_5b, ↓ws_6b, ↓ws_12b, ↓ws_13b, ↓ws_14b, ↓ws_15b, ↓ws_16b, ↓ws_22b, ↓ws_23b, ↓ws_51b, ↓wS_yb, ↓wS_rb, ↓wS_cb, ↓wS_eb, F_X0_sharedBy_J97, F_X0_sharedBy_J84, F_X0_sharedBy_J60, F_X0_sharedBy_J37, F_X0_sharedBy_B11, F_X0_sharedBy_L11, F_X0_sharedBy, ofN_lt, hlt, hz, hsub, not_true_eq_false, ↓cb9 r1, n1, not_false_eq_true, ↓cb9 t1, n2, hm, es, eq_true hm3, ofNs]
        · rw [if_neg (by omega)]
          refine ⟨(σ3, bV (bs (shV ρ c d s) j)), ?_, rfl, ag13, xf_trans (xf_trans q3 r3) t3, fun q => by show σ3 0 18 = _; rw [e18']; exact q4 q⟩
          simp (discharger := first | assumption | omega | decide) only [x_tg, w_tg, m_tg, ↓reduceIte, Option.bind_some, ↓x_0b, ↓x_1b, ↓x_2b, ↓x_3b, ↓x_4b, ↓x_5b, ↓x_6b, ↓x_7b, ↓x_8b, ↓x_9b, ↓x_10b, ↓x_11b, ↓x_12b, ↓x_13b, ↓x_14b, ↓x_15b, ↓x_16b, ↓x_17b, ↓x_18b, ↓x_19b, ↓xp_2b, ↓xp_6b, ↓xp_14b, ↓xp_17b, ↓xp_18b, ↓xp_19b, ↓X_f0b, ↓X_f2b, ↓X_f4b, ↓X_f8b, ↓wf_1b, ↓wf_3b, ↓wf_5b, ↓wf_6b, ↓wf_7b, ↓wf_9b, ↓wt_1_0b, ↓wt_1_1b, ↓wt_1_2b, ↓wt_1_3b, ↓wt_1_4b, ↓wt_11_0b, ↓wt_11_1b, ↓wt_11_2b, ↓wt_11_3b, ↓wt_11_4b, ↓wt_21_0b, ↓wt_21_1b, ↓wt_31_0b, ↓wt_31_1b, ↓wt_31_2b, ↓wt_31_3b, ↓wt_31_4b, ↓wt_31_5b, ↓wt_31_6b, ↓wt_41_0b, ↓wt_41_1b, ↓wt_41_2b, ↓wt_41_3b, ↓wt_41_4b, ↓wt_41_5b, ↓wt_41_6b, ↓wt_1b, ↓wt_11b, ↓wt_21b, ↓wt_31b, ↓wt_41b, ↓X_c0b, ↓X_c1b, ↓X_c2b, ↓X_c3b, ↓X_c4b, ↓X_e0b, ↓X_e1b, ↓X_e2b, ↓X_e3b, ↓X_e4b, ↓X_cb, ↓X_eb, ↓X_w0b, ↓X_w1b, ↓X_hb, ↓X_yb, ↓X_rb, ↓wp_0b, ↓wp_2b, ↓wp_4b, ↓wp_8b, ↓ws_2b, ↓ws_3b, ↓ws_4b, ↓ws_5b, ↓ws_6b, ↓ws_12b, ↓ws_13b, ↓ws_14b, ↓ws_15b, ↓ws_16b, ↓ws_22b, ↓ws_23b, ↓ws_51b, ↓wS_yb, ↓wS_rb, ↓wS_cb, ↓wS_eb, F_X0_sharedBy_J97, F_X0_sharedBy_J84, F_X0_sharedBy_J60, F_X0_sharedBy_J37, F_X0_sharedBy_B11, F_X0_sharedBy_L11, F_X0_sharedBy, ofN_lt, hlt, hz, hsub, not_true_eq_false, ↓cb9 r1, n1, not_false_eq_true, ↓cb9 t1, oR_neg hfi2, ofNs]
      · rw [if_neg (by omega)]
        refine ⟨(σ2, bV (bs (shV ρ c d s) j)), ?_, rfl, ag12, xf_trans q3 r3, fun q => by show σ2 0 18 = _; rw [e18]; exact q4 q⟩
        simp (discharger := first | assumption | omega | decide) only [x_tg, w_tg, m_tg, ↓reduceIte, Option.bind_some, ↓x_0b, ↓x_1b, ↓x_2b, ↓x_3b, ↓x_4b, ↓x_5b, ↓x_6b, ↓x_7b, ↓x_8b, ↓x_9b, ↓x_10b, ↓x_11b, ↓x_12b, ↓x_13b, ↓x_14b, ↓x_15b, ↓x_16b, ↓x_17b, ↓x_18b, ↓x_19b, ↓xp_2b, ↓xp_6b, ↓xp_14b, ↓xp_17b, ↓xp_18b, ↓xp_19b, ↓X_f0b, ↓X_f2b, ↓X_f4b, ↓X_f8b, ↓wf_1b, ↓wf_3b, ↓wf_5b, ↓wf_6b, ↓wf_7b, ↓wf_9b, ↓wt_1_0b, ↓wt_1_1b, ↓wt_1_2b, ↓wt_1_3b, ↓wt_1_4b, ↓wt_11_0b, ↓wt_11_1b, ↓wt_11_2b, ↓wt_11_3b, ↓wt_11_4b, ↓wt_21_0b, ↓wt_21_1b, ↓wt_31_0b, ↓wt_31_1b, ↓wt_31_2b, ↓wt_31_3b, ↓wt_31_4b, ↓wt_31_5b, ↓wt_31_6b, ↓wt_41_0b, ↓wt_41_1b, ↓wt_41_2b, ↓wt_41_3b, ↓wt_41_4b, ↓wt_41_5b, ↓wt_41_6b, ↓wt_1b, ↓wt_11b, ↓wt_21b, ↓wt_31b, ↓wt_41b, ↓X_c0b, ↓X_c1b, ↓X_c2b, ↓X_c3b, ↓X_c4b, ↓X_e0b, ↓X_e1b, ↓X_e2b, ↓X_e3b, ↓X_e4b, ↓X_cb, ↓X_eb, ↓X_w0b, ↓X_w1b, ↓X_hb, ↓X_yb, ↓X_rb, ↓wp_0b, ↓wp_2b, ↓wp_4b, ↓wp_8b, ↓ws_2b, ↓ws_3b, ↓ws_4b, ↓ws_5b, ↓ws_6b, ↓ws_12b, ↓ws_13b, ↓ws_14b, ↓ws_15b, ↓ws_16b, ↓ws_22b, ↓ws_23b, ↓ws_51b, ↓wS_yb, ↓wS_rb, ↓wS_cb, ↓wS_eb, F_X0_sharedBy_J97, F_X0_sharedBy_J84, F_X0_sharedBy_J60, F_X0_sharedBy_J37, F_X0_sharedBy_B11, F_X0_sharedBy_L11, F_X0_sharedBy, ofN_lt, hlt, hz, hsub, not_true_eq_false, ↓cb9 r1, oR_neg hfi, ofNs]
    · have ev : shV ρ c d s j = 2000000 := by unfold shV; rw [if_neg hsub]
      rw [if_neg (by omega)]
      refine ⟨(g1, bV (bs (shV ρ c d s) j)), ?_, rfl, q2, q3, q4⟩
      simp (discharger := first | assumption | omega | decide) only [x_tg, w_tg, m_tg, ↓reduceIte, Option.bind_some, ↓x_0b, ↓x_1b, ↓x_2b, ↓x_3b, ↓x_4b, ↓x_5b, ↓x_6b, ↓x_7b, ↓x_8b, ↓x_9b, ↓x_10b, ↓x_11b, ↓x_12b, ↓x_13b, ↓x_14b, ↓x_15b, ↓x_16b, ↓x_17b, ↓x_18b, ↓x_19b, ↓xp_2b, ↓xp_6b, ↓xp_14b, ↓xp_17b, ↓xp_18b, ↓xp_19b, ↓X_f0b, ↓X_f2b, ↓X_f4b, ↓X_f8b, ↓wf_1b, ↓wf_3b, ↓wf_5b, ↓wf_6b, ↓wf_7b, ↓wf_9b, ↓wt_1_0b, ↓wt_1_1b, ↓wt_1_2b, ↓wt_1_3b, ↓wt_1_4b, ↓wt_11_0b, ↓wt_11_1b, ↓wt_11_2b, ↓wt_11_3b, ↓wt_11_4b, ↓wt_21_0b, ↓wt_21_1b, ↓wt_31_0b, ↓wt_31_1b, ↓wt_31_2b, ↓wt_31_3b, ↓wt_31_4b, ↓wt_31_5b, ↓wt_31_6b, ↓wt_41_0b, ↓wt_41_1b, ↓wt_41_2b, ↓wt_41_3b, ↓wt_41_4b, ↓wt_41_5b, ↓wt_41_6b, ↓wt_1b, ↓wt_11b, ↓wt_21b, ↓wt_31b, ↓wt_41b, ↓X_c0b, ↓X_c1b, ↓X_c2b, ↓X_c3b, ↓X_c4b, ↓X_e0b, ↓X_e1b, ↓X_e2b, ↓X_e3b, ↓X_e4b, ↓X_cb, ↓X_eb, ↓X_w0b, ↓X_w1b, ↓X_hb, ↓X_yb, ↓X_rb, ↓wp_0b, ↓wp_2b, ↓wp_4b, ↓wp_8b, ↓ws_2b, ↓ws_3b, ↓ws_4b, ↓ws_5b, ↓ws_6b, ↓ws_12b, ↓ws_13b, ↓ws_14b, ↓ws_15b, ↓ws_16b, ↓ws_22b, ↓ws_23b, ↓ws_51b, ↓wS_yb, ↓wS_rb, ↓wS_cb, ↓wS_eb, F_X0_sharedBy_J97, F_X0_sharedBy_J84, F_X0_sharedBy_J60, F_X0_sharedBy_J37, F_X0_sharedBy_B11, F_X0_sharedBy_L11, F_X0_sharedBy, ofN_lt, hlt, hz, hsub, not_false_eq_true, not_true_eq_false, ofNs]
set_option maxRecDepth 8000 in
theorem m_sharedL (h : Lok L) (hM : WM σ ρ) (hI : Inv ρ) (hP : PM σ) {c d s : Nat} (hc : c < NC ρ) (hd9 : d < NC ρ) (hs : s < 256) (hf : cbn s (NE ρ) ≤ 5) : ∃ σ', F_X13_refusesShared_L69 fu (some (L.1 1000)) (Int32.ofNat c) (Int32.ofNat d) (Int32.ofNat s) 0 (hp L (up2 σ 1000 11 1000000)) = some (if (bs (shV ρ c d s) (s + 1)).1 < 1000000 then 0 else -1000004, hp L σ') ∧ ag2 σ σ' ∧ mf σ σ' ∧ σ' 1000 11 = Int32.ofNat (bs (shV ρ c d s) (s + 1)).1 ∧ ((bs (shV ρ c d s) (s + 1)).1 < 1000000 → σ' 1000 10 = Int32.ofNat (bs (shV ρ c d s) (s + 1)).2) := by
  have h11 : s2 1000 11 = true := by decide
  have h10 : s2 1000 10 = true := by decide
  have key := lpQ (Lp := fun f j (g : St) => F_X13_refusesShared_L69 f (some (L.1 1000)) (Int32.ofNat c) (Int32.ofNat d) (Int32.ofNat s) (Int32.ofNat j) (hp L g)) (N := s + 1) (fun j g => ag2 σ g ∧ mf σ g ∧ g 1000 11 = Int32.ofNat (bs (shV ρ c d s) j).1 ∧ ((bs (shV ρ c d s) j).1 < 1000000 → g 1000 10 = Int32.ofNat (bs (shV ρ c d s) j).2)) (fun r => ∃ σ', r = (if (bs (shV ρ c d s) (s + 1)).1 < 1000000 then 0 else -1000004, hp L σ') ∧ ag2 σ σ' ∧ mf σ σ' ∧ σ' 1000 11 = Int32.ofNat (bs (shV ρ c d s) (s + 1)).1 ∧ ((bs (shV ρ c d s) (s + 1)).1 < 1000000 → σ' 1000 10 = Int32.ofNat (bs (shV ρ c d s) (s + 1)).2)) ?_ ?_ (by unfold fu; omega) (up2 σ 1000 11 1000000) ⟨ag2_up h11, mf_up (by omega), up2_same _ _ _ _, fun q => absurd q (Nat.lt_irrefl _)⟩
  · obtain ⟨r, e, σ', rfl, q1, q2, q3⟩ := key
    exact ⟨σ', e, q1, q2, q3⟩
  · intro f g ⟨q1, q2, q3, q4⟩
    refine ⟨_, ?_, g, rfl, q1, q2, q3, q4⟩
    have hlt : s < s + 1 := by omega
    have hb := bs_le (shV ρ c d s) (s + 1)
    simp (discharger := first | assumption | omega | decide) only [x_tg, w_tg, m_tg, ↓reduceIte, Option.bind_some, ↓m_0b, ↓m_1b, ↓m_2b, ↓m_3b, ↓m_4b, ↓m_5b, ↓m_6b, ↓m_7b, ↓m_8b, ↓m_9b, ↓m_10b, ↓m_11b, ↓m_12b, ↓m_13b, ↓m_14b, ↓m_15b, ↓m_16b, ↓m_17b, ↓m_18b, ↓m_19b, ↓m_20b, ↓m_21b, ↓m_22b, ↓m_23b, ↓m_24b, ↓m_25b, ↓m_26b, ↓m_27b, ↓m_28b, ↓m_29b, ↓mp_3b, ↓mp_6b, ↓mp_10b, ↓mp_11b, ↓mp_12b, ↓mp_14b, ↓mp_15b, ↓mp_16b, ↓mp_17b, ↓mp_18b, ↓mp_19b, ↓mp_22b, ↓mp_23b, ↓mp_24b, ↓mp_25b, ↓M_42b, ↓M_43b, ↓M_44b, ↓M_45b, ↓cIs_0b, ↓cIs_1b, ↓cIs_2b, ↓cIs_3b, ↓cIs_4b, ↓eIs_0b, ↓eIs_1b, ↓eIs_2b, ↓eIs_3b, ↓eIs_4b, ↓cIs_nb, ↓eIs_nb, ↓M_rb, ↓M_cAt_0b, ↓M_cAt_1b, ↓M_cAt_2b, ↓M_cAt_3b, ↓M_cAt_4b, ↓M_eAt_0b, ↓M_eAt_1b, ↓M_eAt_2b, ↓M_eAt_3b, ↓M_eAt_4b, ↓M_wAt_0b, ↓M_wAt_1b, cAt_0, cAt_1, cAt_2, cAt_3, cAt_4, eAt_0, eAt_1, eAt_2, eAt_3, eAt_4, wAt_0, wAt_1, cAt_n, eAt_n, wAt_n, F_X13_refusesShared_L69, F_X13_refusesShared_B69, ofN_lt, hlt, q3, li_1000000]
    by_cases hq : (bs (shV ρ c d s) (s + 1)).1 < 1000000
    · rw [if_pos hq, if_pos hq]
    · rw [if_neg hq, if_neg hq]
  · intro f j g hj ⟨q1, q2, q3, q4⟩
    have hlt : ¬ s < j := by omega
    have hj8 : j < 256 := by omega
    have hz := dif_z hj8 hs
    have hb := bs_le (shV ρ c d s) j
    have hM1 := WM_ag2 q1 hM
    rw [bs_succ]
    unfold bsS
    by_cases hsub : dif j s = 0
    · have ev : shV ρ c d s j = rnd ρ c j + rnd ρ d (dif s j) := by unfold shV; rw [if_pos hsub]
      have hcj : cbn j (NE ρ) ≤ 5 := Nat.le_trans (cbn_sub (sub_bit hj8 hs hsub) _) hf
      have hds := dif_le s j
      have hdj : cbn (dif s j) (NE ρ) ≤ 5 := Nat.le_trans (cbn_dif hs hj8 _) hf
      obtain ⟨σ2, r1, r2, r3, _⟩ := m_roundOf h hM1 hI (PM_ag2 q1 hP) hc hj8 hcj
      have ag12 := ag2_trans q1 (ag2_ag r2)
      obtain ⟨σ3, t1, t2, t3, _⟩ := m_roundOf h (WM_ag2 ag12 hM) hI (PM_ag2 ag12 hP) hd9 (show dif s j < 256 by omega) hdj
      rw [← an_n hs hj8] at t1
      have ag13 := ag2_trans ag12 (ag2_ag t2)
      have e11 : σ3 1000 11 = Int32.ofNat (bs (shV ρ c d s) j).1 := ((ag_at t2 (by decide)).trans (ag_at r2 (by decide))).trans q3
      have e10 : σ3 1000 10 = g 1000 10 := (ag_at t2 (by decide)).trans (ag_at r2 (by decide))
      have l1 := rnd_le ρ c j
      have l2 := rnd_le ρ d (dif s j)
      have es : Int32.ofNat (rnd ρ c j) + Int32.ofNat (rnd ρ d (dif s j)) = Int32.ofNat (shV ρ c d s j) := by rw [ofN_add, ev]
      by_cases hbest : shV ρ c d s j < (bs (shV ρ c d s) j).1
      · rw [if_pos hbest]
        have hn : ¬ (bs (shV ρ c d s) j).1 ≤ shV ρ c d s j := by omega
        refine ⟨up2 (up2 σ3 1000 11 (Int32.ofNat (shV ρ c d s j))) 1000 10 (Int32.ofNat j), ?_, ag2_trans ag13 (ag2_trans (ag2_up h11) (ag2_up h10)), mf_trans (mf_trans q2 r3) (mf_trans t3 (mf_trans (mf_up (by omega)) (mf_up (by omega)))), ?_, fun _ => up2_same _ _ _ _⟩
        · simp (discharger := first | assumption | omega | decide) only [x_tg, w_tg, m_tg, ↓reduceIte, Option.bind_some, ↓m_0b, ↓m_1b, ↓m_2b, ↓m_3b, ↓m_4b, ↓m_5b, ↓m_6b, ↓m_7b, ↓m_8b, ↓m_9b, ↓m_10b, ↓m_11b, ↓m_12b, ↓m_13b, ↓m_14b, ↓m_15b, ↓m_16b, ↓m_17b, ↓m_18b, ↓m_19b, ↓m_20b, ↓m_21b, ↓m_22b, ↓m_23b, ↓m_24b, ↓m_25b, ↓m_26b, ↓m_27b, ↓m_28b, ↓m_29b, ↓mp_3b, ↓mp_6b, ↓mp_10b, ↓mp_11b, ↓mp_12b, ↓mp_14b, ↓mp_15b, ↓mp_16b, ↓mp_17b, ↓mp_18b, ↓mp_19b, ↓mp_22b, ↓mp_23b, ↓mp_24b, ↓mp_25b, ↓M_42b, ↓M_43b, ↓M_44b, ↓M_45b, ↓cIs_0b, ↓cIs_1b, ↓cIs_2b, ↓cIs_3b, ↓cIs_4b, ↓eIs_0b, ↓eIs_1b, ↓eIs_2b, ↓eIs_3b, ↓eIs_4b, ↓cIs_nb, ↓eIs_nb, ↓M_rb, ↓M_cAt_0b, ↓M_cAt_1b, ↓M_cAt_2b, ↓M_cAt_3b, ↓M_cAt_4b, ↓M_eAt_0b, ↓M_eAt_1b, ↓M_eAt_2b, ↓M_eAt_3b, ↓M_eAt_4b, ↓M_wAt_0b, ↓M_wAt_1b, cAt_0, cAt_1, cAt_2, cAt_3, cAt_4, eAt_0, eAt_1, eAt_2, eAt_3, eAt_4, wAt_0, wAt_1, cAt_n, eAt_n, wAt_n, F_X13_refusesShared_J130, F_X13_refusesShared_B69, F_X13_refusesShared_L69, F_X13_refusesShared_J57, F_X13_refusesShared_J30, F_X13_refusesShared, ofN_lt, hlt, hz, hsub, not_true_eq_false, ↓cb9 r1, ↓cb9 t1, e11, es, ofN_le, hn, ofNs]
        · rw [up2_ne (by omega), up2_same]
      · rw [if_neg hbest]
        have hn : (bs (shV ρ c d s) j).1 ≤ shV ρ c d s j := by omega
        refine ⟨σ3, ?_, ag13, mf_trans (mf_trans q2 r3) t3, e11, fun q => by rw [e10]; exact q4 q⟩
        simp (discharger := first | assumption | omega | decide) only [x_tg, w_tg, m_tg, ↓reduceIte, Option.bind_some, ↓m_0b, ↓m_1b, ↓m_2b, ↓m_3b, ↓m_4b, ↓m_5b, ↓m_6b, ↓m_7b, ↓m_8b, ↓m_9b, ↓m_10b, ↓m_11b, ↓m_12b, ↓m_13b, ↓m_14b, ↓m_15b, ↓m_16b, ↓m_17b, ↓m_18b, ↓m_19b, ↓m_20b, ↓m_21b, ↓m_22b, ↓m_23b, ↓m_24b, ↓m_25b, ↓m_26b, ↓m_27b, ↓m_28b, ↓m_29b, ↓mp_3b, ↓mp_6b, ↓mp_10b, ↓mp_11b, ↓mp_12b, ↓mp_14b, ↓mp_15b, ↓mp_16b, ↓mp_17b, ↓mp_18b, ↓mp_19b, ↓mp_22b, ↓mp_23b, ↓mp_24b, ↓mp_25b, ↓M_42b, ↓M_43b, ↓M_44b, ↓M_45b, ↓cIs_0b, ↓cIs_1b, ↓cIs_2b, ↓cIs_3b, ↓cIs_4b, ↓eIs_0b, ↓eIs_1b, ↓eIs_2b, ↓eIs_3b, ↓eIs_4b, ↓cIs_nb, ↓eIs_nb, ↓M_rb, ↓M_cAt_0b, ↓M_cAt_1b, ↓M_cAt_2b, ↓M_cAt_3b, ↓M_cAt_4b, ↓M_eAt_0b, ↓M_eAt_1b, ↓M_eAt_2b, ↓M_eAt_3b, ↓M_eAt_4b, ↓M_wAt_0b, ↓M_wAt_1b, cAt_0, cAt_1, cAt_2, cAt_3, cAt_4, eAt_0, eAt_1, eAt_2, eAt_3, eAt_4, wAt_0, wAt_1, cAt_n, eAt_n, wAt_n, F_X13_refusesShared_J130, F_X13_refusesShared_B69, F_X13_refusesShared_L69, F_X13_refusesShared_J57, F_X13_refusesShared_J30, F_X13_refusesShared, ofN_lt, hlt, hz, hsub, not_true_eq_false, ↓cb9 r1, ↓cb9 t1, e11, es, ofN_le, hn, ofNs]
    · have ev : shV ρ c d s j = 2000000 := by unfold shV; rw [if_neg hsub]
      rw [if_neg (by omega)]
      refine ⟨g, ?_, q1, q2, q3, q4⟩
      simp (discharger := first | assumption | omega | decide) only [x_tg, w_tg, m_tg, ↓reduceIte, Option.bind_some, ↓m_0b, ↓m_1b, ↓m_2b, ↓m_3b, ↓m_4b, ↓m_5b, ↓m_6b, ↓m_7b, ↓m_8b, ↓m_9b, ↓m_10b, ↓m_11b, ↓m_12b, ↓m_13b, ↓m_14b, ↓m_15b, ↓m_16b, ↓m_17b, ↓m_18b, ↓m_19b, ↓m_20b, ↓m_21b, ↓m_22b, ↓m_23b, ↓m_24b, ↓m_25b, ↓m_26b, ↓m_27b, ↓m_28b, ↓m_29b, ↓mp_3b, ↓mp_6b, ↓mp_10b, ↓mp_11b, ↓mp_12b, ↓mp_14b, ↓mp_15b, ↓mp_16b, ↓mp_17b, ↓mp_18b, ↓mp_19b, ↓mp_22b, ↓mp_23b, ↓mp_24b, ↓mp_25b, ↓M_42b, ↓M_43b, ↓M_44b, ↓M_45b, ↓cIs_0b, ↓cIs_1b, ↓cIs_2b, ↓cIs_3b, ↓cIs_4b, ↓eIs_0b, ↓eIs_1b, ↓eIs_2b, ↓eIs_3b, ↓eIs_4b, ↓cIs_nb, ↓eIs_nb, ↓M_rb, ↓M_cAt_0b, ↓M_cAt_1b, ↓M_cAt_2b, ↓M_cAt_3b, ↓M_cAt_4b, ↓M_eAt_0b, ↓M_eAt_1b, ↓M_eAt_2b, ↓M_eAt_3b, ↓M_eAt_4b, ↓M_wAt_0b, ↓M_wAt_1b, cAt_0, cAt_1, cAt_2, cAt_3, cAt_4, eAt_0, eAt_1, eAt_2, eAt_3, eAt_4, wAt_0, wAt_1, cAt_n, eAt_n, wAt_n, F_X13_refusesShared_J130, F_X13_refusesShared_B69, F_X13_refusesShared_L69, F_X13_refusesShared_J57, F_X13_refusesShared_J30, F_X13_refusesShared, ofN_lt, hlt, hz, hsub, not_false_eq_true, ofNs]
/-- why not both: 0 they can -/
def whb (ρ : Rw) (v1 v2 v3 : Int32) : Nat := if icV (ρ 42) v1 = 0 then 1 else if icV (ρ 42) v2 = 0 then 1 else if v1 = v2 then 1 else if fwV ρ v3 = 0 then 1 else if alV ρ v3 = 0 then 2 else if emV ρ v1 = 0 then 2 else if emV ρ v2 = 0 then 2 else 0
set_option maxRecDepth 8000 in
theorem x_whyB (h : Lok L) (hW : WX σ 200 ρ) (hI : Inv ρ) (v1 v2 v3 : Int32) : F_X0_whyNotBoth (some (L.1 0)) v1 v2 v3 (hp L σ) = some (if whb ρ v1 v2 v3 = 0 then -1 else if whb ρ v1 v2 v3 = 1 then 0 else 4) := by
  unfold F_X0_whyNotBoth whb
  rw [if_pos (x_tg h), bn9 (x_isCarrier h hW v1)]
  by_cases h1 : icV (ρ 42) v1 = 0
  · simp only [h1, ↓reduceIte]; rfl
  · rw [if_neg h1, bn9 (x_isCarrier h hW v2)]
    by_cases h2 : icV (ρ 42) v2 = 0
    · simp only [h1, h2, ↓reduceIte]; rfl
    · rw [if_neg h2]
      by_cases h3 : v1 = v2
      · subst h3; simp only [h1, ↓reduceIte]; rfl
      · rw [if_neg h3, bn9 (x_isFew h hW hI v3)]
        by_cases h4 : fwV ρ v3 = 0
        · simp only [h1, h2, h3, h4, ↓reduceIte, not_true_eq_false]; rfl
        · rw [if_pos h4, bn9 (x_allLie h hW hI v3)]
          by_cases h5 : alV ρ v3 = 0
          · simp only [h1, h2, h3, h4, h5, ↓reduceIte]; rfl
          · rw [if_neg h5, bn9 (x_isEmpty h hW hI v1)]
            by_cases h6 : emV ρ v1 = 0
            · simp only [h1, h2, h3, h4, h5, h6, ↓reduceIte]; rfl
            · rw [if_neg h6, bn9 (x_isEmpty h hW hI v2)]
              by_cases h7 : emV ρ v2 = 0
              · simp only [h1, h2, h3, h4, h5, h6, h7, ↓reduceIte]; rfl
              · simp only [h1, h2, h3, h4, h5, h6, h7, ↓reduceIte]
set_option maxRecDepth 8000 in
theorem em_iff (hI : Inv ρ) (v : Int32) : Int32.ofNat (bset (Pcar ρ v) (NE ρ)) = 0 ↔ ¬ emV ρ v = 0 := by
  rw [z_iff (bset_lt8 (P := Pcar ρ v) hI.2.1.2)]
  unfold emV
  by_cases hq : bset (Pcar ρ v) (NE ρ) = 0 <;> simp [hq]
set_option maxRecDepth 8000 in
theorem m_refB (h : Lok L) (hM : WM σ ρ) (hI : Inv ρ) (v1 v2 v3 : Int32) : F_X13_refusesShared (some (L.1 1000)) v1 v2 v3 (hp L σ) = if whb ρ v1 v2 v3 = 0 then F_X13_refusesShared_L69 fu (some (L.1 1000)) v1 v2 v3 0 (hp L (up2 σ 1000 11 1000000)) else some (if whb ρ v1 v2 v3 = 1 then -1000001 else -1000005, hp L σ) := by
  unfold F_X13_refusesShared F_X13_refusesShared_J57 F_X13_refusesShared_J30 whb
  rw [if_pos (m_tg h), bn9 (m_isCarrier h hM v1)]
  by_cases h1 : icV (ρ 42) v1 = 0
  · simp only [h1, ↓reduceIte]; rfl
  · rw [if_neg h1, bn9 (m_isCarrier h hM v2)]
    by_cases h2 : icV (ρ 42) v2 = 0
    · simp only [h1, h2, ↓reduceIte]; rfl
    · rw [if_neg h2]
      by_cases h3 : v1 = v2
      · subst h3; simp only [h1, ↓reduceIte]; rfl
      · rw [if_neg h3, bn9 (m_isFew h hM hI v3)]
        by_cases h4 : fwV ρ v3 = 0
        · simp only [h1, h2, h3, h4, ↓reduceIte, not_true_eq_false]; rfl
        · rw [if_pos h4, bn9 (m_allLie h hM hI v3)]
          by_cases h5 : alV ρ v3 = 0
          · simp only [h1, h2, h3, h4, h5, ↓reduceIte]; rfl
          · rw [if_neg h5, bn9 (m_carries h hM hI.2.1.1 hI.2.1.2 v1)]
            simp only [em_iff hI]
            by_cases h6 : emV ρ v1 = 0
            · simp only [h1, h2, h3, h4, h5, h6, ↓reduceIte, not_true_eq_false, not_false_eq_true]; rfl
            · simp only [h1, h2, h3, h4, h5, h6, ↓reduceIte, not_true_eq_false, not_false_eq_true]
              rw [bn9 (m_carries h hM hI.2.1.1 hI.2.1.2 v2)]
              simp only [em_iff hI]
              by_cases h7 : emV ρ v2 = 0
              · simp only [h7, ↓reduceIte, not_true_eq_false]; rfl
              · simp only [h7, ↓reduceIte, not_false_eq_true]
                rw [bn9 (mp_11 h)]
set_option maxRecDepth 8000 in
theorem whb_cs (hI : Inv ρ) (v1 v2 v3 : Int32) : (whb ρ v1 v2 v3 = 0 ∧ ∃ c d s, c < NC ρ ∧ v1 = Int32.ofNat c ∧ d < NC ρ ∧ v2 = Int32.ofNat d ∧ s < 256 ∧ cbn s (NE ρ) ≤ 5 ∧ v3 = Int32.ofNat s) ∨ whb ρ v1 v2 v3 = 1 ∨ whb ρ v1 v2 v3 = 2 := by
  unfold whb
  rcases icC hI v1 with ⟨e1, c, hc, hc6, rfl⟩ | e1
  · rw [if_neg (by rw [e1]; decide)]
    rcases icC hI v2 with ⟨e2, d, hd, hd6, rfl⟩ | e2
    · rw [if_neg (by rw [e2]; decide)]
      by_cases h3 : Int32.ofNat c = Int32.ofNat d
      · rw [if_pos h3]; exact .inr (.inl rfl)
      · rw [if_neg h3]
        rcases fwV_cs hI v3 with ⟨e4, s, hs, hs8, hf, rfl⟩ | e4
        · rw [if_neg (by rw [e4]; decide)]
          by_cases h5 : alV ρ (Int32.ofNat s) = 0
          · rw [if_pos h5]; exact .inr (.inr rfl)
          · rw [if_neg h5]
            by_cases h6 : emV ρ (Int32.ofNat c) = 0
            · rw [if_pos h6]; exact .inr (.inr rfl)
            · rw [if_neg h6]
              by_cases h7 : emV ρ (Int32.ofNat d) = 0
              · rw [if_pos h7]; exact .inr (.inr rfl)
              · rw [if_neg h7]; exact .inl ⟨rfl, c, d, s, hc, rfl, hd, rfl, hs8, hf, rfl⟩
        · rw [if_pos e4]; exact .inr (.inl rfl)
    · rw [if_pos e2]; exact .inr (.inl rfl)
  · rw [if_pos e1]; exact .inr (.inl rfl)
set_option maxRecDepth 8000 in
theorem bV_pos {b : Nat × Nat} (h : b.1 < 1000000) : bV b = Int32.ofNat b.1 := by unfold bV; rw [if_pos h]
set_option maxRecDepth 8000 in
theorem bV_neg {b : Nat × Nat} (h : ¬ b.1 < 1000000) : bV b = -1 := by unfold bV; rw [if_neg h]
set_option maxRecDepth 8000 in
theorem op_shared (hR : RR L σ S) (x1 x2 x3 : Int32) : STEP L σ (F_X0_shared (some (L.1 0)) x1 x2 x3) (F_X13_shared (some (L.1 1000)) x1 x2 x3) := by
  have h := hR.1.1
  have hW := hR.1.2.1
  have hC := hR.1.2.2.1
  have hP := hR.1.2.2.2.1
  have hI := hR.2.2.1.1
  have hb : isW 200 = true := rfl
  have gx := x_whyB h hW hI x1 x2 x3
  rcases whb_cs hI x1 x2 x3 with ⟨hw, c, d, s, hc, rfl, hd, rfl, hs8, hf, rfl⟩ | hw | hw
  · rw [hw] at gx
    simp only [↓reduceIte] at gx
    obtain ⟨σ', r1, r2, r3, r4⟩ := x_sharedBy h hW hI hC hP hc hd hs8 hf
    have hb := bs_le (shV S.1 c d s) (s + 1)
    by_cases hlt : (bs (shV S.1 c d s) (s + 1)).1 < 1000000
    · rw [bV_pos hlt] at r1
      have n1 := ofN_nm1 (a := (bs (shV S.1 c d s) (s + 1)).1) (by omega)
      refine STEP_g hR (r := Int32.ofNat (bs (shV S.1 c d s) (s + 1)).1) hI ⟨σ', ?_, WX_ag2 r2 hW, ax_ag2 r2, r3⟩ (fun σ1 hM => ?_)
      · simp (discharger := first | assumption | omega | decide) only [x_tg, w_tg, m_tg, ↓reduceIte, Option.bind_some, ↓x_0b, ↓x_1b, ↓x_2b, ↓x_3b, ↓x_4b, ↓x_5b, ↓x_6b, ↓x_7b, ↓x_8b, ↓x_9b, ↓x_10b, ↓x_11b, ↓x_12b, ↓x_13b, ↓x_14b, ↓x_15b, ↓x_16b, ↓x_17b, ↓x_18b, ↓x_19b, ↓xp_2b, ↓xp_6b, ↓xp_14b, ↓xp_17b, ↓xp_18b, ↓xp_19b, ↓X_f0b, ↓X_f2b, ↓X_f4b, ↓X_f8b, ↓wf_1b, ↓wf_3b, ↓wf_5b, ↓wf_6b, ↓wf_7b, ↓wf_9b, ↓wt_1_0b, ↓wt_1_1b, ↓wt_1_2b, ↓wt_1_3b, ↓wt_1_4b, ↓wt_11_0b, ↓wt_11_1b, ↓wt_11_2b, ↓wt_11_3b, ↓wt_11_4b, ↓wt_21_0b, ↓wt_21_1b, ↓wt_31_0b, ↓wt_31_1b, ↓wt_31_2b, ↓wt_31_3b, ↓wt_31_4b, ↓wt_31_5b, ↓wt_31_6b, ↓wt_41_0b, ↓wt_41_1b, ↓wt_41_2b, ↓wt_41_3b, ↓wt_41_4b, ↓wt_41_5b, ↓wt_41_6b, ↓wt_1b, ↓wt_11b, ↓wt_21b, ↓wt_31b, ↓wt_41b, ↓X_c0b, ↓X_c1b, ↓X_c2b, ↓X_c3b, ↓X_c4b, ↓X_e0b, ↓X_e1b, ↓X_e2b, ↓X_e3b, ↓X_e4b, ↓X_cb, ↓X_eb, ↓X_w0b, ↓X_w1b, ↓X_hb, ↓X_yb, ↓X_rb, ↓wp_0b, ↓wp_2b, ↓wp_4b, ↓wp_8b, ↓ws_2b, ↓ws_3b, ↓ws_4b, ↓ws_5b, ↓ws_6b, ↓ws_12b, ↓ws_13b, ↓ws_14b, ↓ws_15b, ↓ws_16b, ↓ws_22b, ↓ws_23b, ↓ws_51b, ↓wS_yb, ↓wS_rb, ↓wS_cb, ↓wS_eb, ↓x_isCarrierb, ↓x_isErrandb, ↓x_isWareb, ↓x_isSetb, ↓x_isFewb, F_X0_isKind, F_X0_isPlace, F_X0_isPrice, F_X0_isSheet, F_X0_isSpot, F_X13_isKind, F_X13_isPlace, F_X13_isSheet, F_X13_isSpot, within_eq, one_and, zero_and, one_ne, not_true_eq_false, not_false_eq_true, F_X0_shared, F_X0_orNone, ↓bn9 gx, ↓cb9 r1, n1, cb_id]
      · have hM2 := hM.2.1
        have gm := m_refB h hM2 hI (Int32.ofNat c) (Int32.ofNat d) (Int32.ofNat s)
        obtain ⟨σb, m1, m2, m3, m4, m5⟩ := m_sharedL h hM2 hI hM.2.2.1 hc hd hs8 hf
        rw [if_pos hw, m1, if_pos hlt] at gm
        refine ⟨σb, ?_, WM_ag2 m2 hM2, am_ag2 m2, m3⟩
        simp (discharger := first | assumption | omega | decide) only [x_tg, w_tg, m_tg, ↓reduceIte, Option.bind_some, ↓m_0b, ↓m_1b, ↓m_2b, ↓m_3b, ↓m_4b, ↓m_5b, ↓m_6b, ↓m_7b, ↓m_8b, ↓m_9b, ↓m_10b, ↓m_11b, ↓m_12b, ↓m_13b, ↓m_14b, ↓m_15b, ↓m_16b, ↓m_17b, ↓m_18b, ↓m_19b, ↓m_20b, ↓m_21b, ↓m_22b, ↓m_23b, ↓m_24b, ↓m_25b, ↓m_26b, ↓m_27b, ↓m_28b, ↓m_29b, ↓mp_3b, ↓mp_6b, ↓mp_10b, ↓mp_11b, ↓mp_12b, ↓mp_14b, ↓mp_15b, ↓mp_16b, ↓mp_17b, ↓mp_18b, ↓mp_19b, ↓mp_22b, ↓mp_23b, ↓mp_24b, ↓mp_25b, ↓M_42b, ↓M_43b, ↓M_44b, ↓M_45b, ↓cIs_0b, ↓cIs_1b, ↓cIs_2b, ↓cIs_3b, ↓cIs_4b, ↓eIs_0b, ↓eIs_1b, ↓eIs_2b, ↓eIs_3b, ↓eIs_4b, ↓cIs_nb, ↓eIs_nb, ↓M_rb, ↓M_cAt_0b, ↓M_cAt_1b, ↓M_cAt_2b, ↓M_cAt_3b, ↓M_cAt_4b, ↓M_eAt_0b, ↓M_eAt_1b, ↓M_eAt_2b, ↓M_eAt_3b, ↓M_eAt_4b, ↓M_wAt_0b, ↓M_wAt_1b, cAt_0, cAt_1, cAt_2, cAt_3, cAt_4, eAt_0, eAt_1, eAt_2, eAt_3, eAt_4, wAt_0, wAt_1, cAt_n, eAt_n, wAt_n, ↓m_isCarrierb, ↓m_isErrandb, ↓m_isWareb, ↓m_isFewb, F_X0_isKind, F_X0_isPlace, F_X0_isPrice, F_X0_isSheet, F_X0_isSpot, F_X13_isKind, F_X13_isPlace, F_X13_isSheet, F_X13_isSpot, within_eq, one_and, zero_and, one_ne, not_true_eq_false, not_false_eq_true, F_X13_shared, ↓cb9 gm, m4]
    · rw [bV_neg hlt] at r1
      refine STEP_gf hR (k := 3) (xv := 3) (mv := -1000004) (by omega) rfl (by decide) hI ⟨σ', ?_, WX_ag2 r2 hW, ax_ag2 r2, r3⟩ (fun σ1 hM => ?_)
      · simp (discharger := first | assumption | omega | decide) only [x_tg, w_tg, m_tg, ↓reduceIte, Option.bind_some, ↓x_0b, ↓x_1b, ↓x_2b, ↓x_3b, ↓x_4b, ↓x_5b, ↓x_6b, ↓x_7b, ↓x_8b, ↓x_9b, ↓x_10b, ↓x_11b, ↓x_12b, ↓x_13b, ↓x_14b, ↓x_15b, ↓x_16b, ↓x_17b, ↓x_18b, ↓x_19b, ↓xp_2b, ↓xp_6b, ↓xp_14b, ↓xp_17b, ↓xp_18b, ↓xp_19b, ↓X_f0b, ↓X_f2b, ↓X_f4b, ↓X_f8b, ↓wf_1b, ↓wf_3b, ↓wf_5b, ↓wf_6b, ↓wf_7b, ↓wf_9b, ↓wt_1_0b, ↓wt_1_1b, ↓wt_1_2b, ↓wt_1_3b, ↓wt_1_4b, ↓wt_11_0b, ↓wt_11_1b, ↓wt_11_2b, ↓wt_11_3b, ↓wt_11_4b, ↓wt_21_0b, ↓wt_21_1b, ↓wt_31_0b, ↓wt_31_1b, ↓wt_31_2b, ↓wt_31_3b, ↓wt_31_4b, ↓wt_31_5b, ↓wt_31_6b, ↓wt_41_0b, ↓wt_41_1b, ↓wt_41_2b, ↓wt_41_3b, ↓wt_41_4b, ↓wt_41_5b, ↓wt_41_6b, ↓wt_1b, ↓wt_11b, ↓wt_21b, ↓wt_31b, ↓wt_41b, ↓X_c0b, ↓X_c1b, ↓X_c2b, ↓X_c3b, ↓X_c4b, ↓X_e0b, ↓X_e1b, ↓X_e2b, ↓X_e3b, ↓X_e4b, ↓X_cb, ↓X_eb, ↓X_w0b, ↓X_w1b, ↓X_hb, ↓X_yb, ↓X_rb, ↓wp_0b, ↓wp_2b, ↓wp_4b, ↓wp_8b, ↓ws_2b, ↓ws_3b, ↓ws_4b, ↓ws_5b, ↓ws_6b, ↓ws_12b, ↓ws_13b, ↓ws_14b, ↓ws_15b, ↓ws_16b, ↓ws_22b, ↓ws_23b, ↓ws_51b, ↓wS_yb, ↓wS_rb, ↓wS_cb, ↓wS_eb, ↓x_isCarrierb, ↓x_isErrandb, ↓x_isWareb, ↓x_isSetb, ↓x_isFewb, F_X0_isKind, F_X0_isPlace, F_X0_isPrice, F_X0_isSheet, F_X0_isSpot, F_X13_isKind, F_X13_isPlace, F_X13_isSheet, F_X13_isSpot, within_eq, one_and, zero_and, one_ne, not_true_eq_false, not_false_eq_true, F_X0_shared, F_X0_orNone, ↓bn9 gx, ↓cb9 r1, cb_id]
      · have hM2 := hM.2.1
        have gm := m_refB h hM2 hI (Int32.ofNat c) (Int32.ofNat d) (Int32.ofNat s)
        obtain ⟨σb, m1, m2, m3, m4, m5⟩ := m_sharedL h hM2 hI hM.2.2.1 hc hd hs8 hf
        rw [if_pos hw, m1, if_neg hlt] at gm
        refine ⟨σb, ?_, WM_ag2 m2 hM2, am_ag2 m2, m3⟩
        simp (discharger := first | assumption | omega | decide) only [x_tg, w_tg, m_tg, ↓reduceIte, Option.bind_some, ↓m_0b, ↓m_1b, ↓m_2b, ↓m_3b, ↓m_4b, ↓m_5b, ↓m_6b, ↓m_7b, ↓m_8b, ↓m_9b, ↓m_10b, ↓m_11b, ↓m_12b, ↓m_13b, ↓m_14b, ↓m_15b, ↓m_16b, ↓m_17b, ↓m_18b, ↓m_19b, ↓m_20b, ↓m_21b, ↓m_22b, ↓m_23b, ↓m_24b, ↓m_25b, ↓m_26b, ↓m_27b, ↓m_28b, ↓m_29b, ↓mp_3b, ↓mp_6b, ↓mp_10b, ↓mp_11b, ↓mp_12b, ↓mp_14b, ↓mp_15b, ↓mp_16b, ↓mp_17b, ↓mp_18b, ↓mp_19b, ↓mp_22b, ↓mp_23b, ↓mp_24b, ↓mp_25b, ↓M_42b, ↓M_43b, ↓M_44b, ↓M_45b, ↓cIs_0b, ↓cIs_1b, ↓cIs_2b, ↓cIs_3b, ↓cIs_4b, ↓eIs_0b, ↓eIs_1b, ↓eIs_2b, ↓eIs_3b, ↓eIs_4b, ↓cIs_nb, ↓eIs_nb, ↓M_rb, ↓M_cAt_0b, ↓M_cAt_1b, ↓M_cAt_2b, ↓M_cAt_3b, ↓M_cAt_4b, ↓M_eAt_0b, ↓M_eAt_1b, ↓M_eAt_2b, ↓M_eAt_3b, ↓M_eAt_4b, ↓M_wAt_0b, ↓M_wAt_1b, cAt_0, cAt_1, cAt_2, cAt_3, cAt_4, eAt_0, eAt_1, eAt_2, eAt_3, eAt_4, wAt_0, wAt_1, cAt_n, eAt_n, wAt_n, ↓m_isCarrierb, ↓m_isErrandb, ↓m_isWareb, ↓m_isFewb, F_X0_isKind, F_X0_isPlace, F_X0_isPrice, F_X0_isSheet, F_X0_isSpot, F_X13_isKind, F_X13_isPlace, F_X13_isSheet, F_X13_isSpot, within_eq, one_and, zero_and, one_ne, not_true_eq_false, not_false_eq_true, F_X13_shared, ↓cb9 gm, cb_id, show ¬ (-1000004 : Int32) = 0 by decide]
  · rw [hw] at gx
    have gx : F_X0_whyNotBoth (some (L.1 0)) x1 x2 x3 (hp L σ) = some 0 := gx
    exact STEP_fnd hR (k := 0) (xv := 0) (mv := -1000001) (by omega) rfl (by decide) ⟨σ, by simp (discharger := first | assumption | omega | decide) only [x_tg, w_tg, m_tg, ↓reduceIte, Option.bind_some, ↓x_0b, ↓x_1b, ↓x_2b, ↓x_3b, ↓x_4b, ↓x_5b, ↓x_6b, ↓x_7b, ↓x_8b, ↓x_9b, ↓x_10b, ↓x_11b, ↓x_12b, ↓x_13b, ↓x_14b, ↓x_15b, ↓x_16b, ↓x_17b, ↓x_18b, ↓x_19b, ↓xp_2b, ↓xp_6b, ↓xp_14b, ↓xp_17b, ↓xp_18b, ↓xp_19b, ↓X_f0b, ↓X_f2b, ↓X_f4b, ↓X_f8b, ↓wf_1b, ↓wf_3b, ↓wf_5b, ↓wf_6b, ↓wf_7b, ↓wf_9b, ↓wt_1_0b, ↓wt_1_1b, ↓wt_1_2b, ↓wt_1_3b, ↓wt_1_4b, ↓wt_11_0b, ↓wt_11_1b, ↓wt_11_2b, ↓wt_11_3b, ↓wt_11_4b, ↓wt_21_0b, ↓wt_21_1b, ↓wt_31_0b, ↓wt_31_1b, ↓wt_31_2b, ↓wt_31_3b, ↓wt_31_4b, ↓wt_31_5b, ↓wt_31_6b, ↓wt_41_0b, ↓wt_41_1b, ↓wt_41_2b, ↓wt_41_3b, ↓wt_41_4b, ↓wt_41_5b, ↓wt_41_6b, ↓wt_1b, ↓wt_11b, ↓wt_21b, ↓wt_31b, ↓wt_41b, ↓X_c0b, ↓X_c1b, ↓X_c2b, ↓X_c3b, ↓X_c4b, ↓X_e0b, ↓X_e1b, ↓X_e2b, ↓X_e3b, ↓X_e4b, ↓X_cb, ↓X_eb, ↓X_w0b, ↓X_w1b, ↓X_hb, ↓X_yb, ↓X_rb, ↓wp_0b, ↓wp_2b, ↓wp_4b, ↓wp_8b, ↓ws_2b, ↓ws_3b, ↓ws_4b, ↓ws_5b, ↓ws_6b, ↓ws_12b, ↓ws_13b, ↓ws_14b, ↓ws_15b, ↓ws_16b, ↓ws_22b, ↓ws_23b, ↓ws_51b, ↓wS_yb, ↓wS_rb, ↓wS_cb, ↓wS_eb, ↓x_isCarrierb, ↓x_isErrandb, ↓x_isWareb, ↓x_isSetb, ↓x_isFewb, F_X0_isKind, F_X0_isPlace, F_X0_isPrice, F_X0_isSheet, F_X0_isSpot, F_X13_isKind, F_X13_isPlace, F_X13_isSheet, F_X13_isSpot, within_eq, one_and, zero_and, one_ne, not_true_eq_false, not_false_eq_true, F_X0_shared, ↓bn9 gx, show ¬ (0 : Int32) = -1 by decide], ag_refl _, xf_refl _⟩ (fun σ1 hM => by
      have gm := m_refB h hM.2.1 hI x1 x2 x3
      rw [hw] at gm
      have gm : F_X13_refusesShared (some (L.1 1000)) x1 x2 x3 (hp L σ1) = some (-1000001, hp L σ1) := gm
      exact ⟨σ1, by simp (discharger := first | assumption | omega | decide) only [x_tg, w_tg, m_tg, ↓reduceIte, Option.bind_some, ↓m_0b, ↓m_1b, ↓m_2b, ↓m_3b, ↓m_4b, ↓m_5b, ↓m_6b, ↓m_7b, ↓m_8b, ↓m_9b, ↓m_10b, ↓m_11b, ↓m_12b, ↓m_13b, ↓m_14b, ↓m_15b, ↓m_16b, ↓m_17b, ↓m_18b, ↓m_19b, ↓m_20b, ↓m_21b, ↓m_22b, ↓m_23b, ↓m_24b, ↓m_25b, ↓m_26b, ↓m_27b, ↓m_28b, ↓m_29b, ↓mp_3b, ↓mp_6b, ↓mp_10b, ↓mp_11b, ↓mp_12b, ↓mp_14b, ↓mp_15b, ↓mp_16b, ↓mp_17b, ↓mp_18b, ↓mp_19b, ↓mp_22b, ↓mp_23b, ↓mp_24b, ↓mp_25b, ↓M_42b, ↓M_43b, ↓M_44b, ↓M_45b, ↓cIs_0b, ↓cIs_1b, ↓cIs_2b, ↓cIs_3b, ↓cIs_4b, ↓eIs_0b, ↓eIs_1b, ↓eIs_2b, ↓eIs_3b, ↓eIs_4b, ↓cIs_nb, ↓eIs_nb, ↓M_rb, ↓M_cAt_0b, ↓M_cAt_1b, ↓M_cAt_2b, ↓M_cAt_3b, ↓M_cAt_4b, ↓M_eAt_0b, ↓M_eAt_1b, ↓M_eAt_2b, ↓M_eAt_3b, ↓M_eAt_4b, ↓M_wAt_0b, ↓M_wAt_1b, cAt_0, cAt_1, cAt_2, cAt_3, cAt_4, eAt_0, eAt_1, eAt_2, eAt_3, eAt_4, wAt_0, wAt_1, cAt_n, eAt_n, wAt_n, ↓m_isCarrierb, ↓m_isErrandb, ↓m_isWareb, ↓m_isFewb, F_X0_isKind, F_X0_isPlace, F_X0_isPrice, F_X0_isSheet, F_X0_isSpot, F_X13_isKind, F_X13_isPlace, F_X13_isSheet, F_X13_isSpot, within_eq, one_and, zero_and, one_ne, not_true_eq_false, not_false_eq_true, F_X13_shared, ↓cb9 gm, show ¬ (-1000001 : Int32) = 0 by decide], ag_refl _, mf_refl _⟩)
  · rw [hw] at gx
    have gx : F_X0_whyNotBoth (some (L.1 0)) x1 x2 x3 (hp L σ) = some 4 := gx
    exact STEP_fnd hR (k := 4) (xv := 4) (mv := -1000005) (by omega) rfl (by decide) ⟨σ, by simp (discharger := first | assumption | omega | decide) only [x_tg, w_tg, m_tg, ↓reduceIte, Option.bind_some, ↓x_0b, ↓x_1b, ↓x_2b, ↓x_3b, ↓x_4b, ↓x_5b, ↓x_6b, ↓x_7b, ↓x_8b, ↓x_9b, ↓x_10b, ↓x_11b, ↓x_12b, ↓x_13b, ↓x_14b, ↓x_15b, ↓x_16b, ↓x_17b, ↓x_18b, ↓x_19b, ↓xp_2b, ↓xp_6b, ↓xp_14b, ↓xp_17b, ↓xp_18b, ↓xp_19b, ↓X_f0b, ↓X_f2b, ↓X_f4b, ↓X_f8b, ↓wf_1b, ↓wf_3b, ↓wf_5b, ↓wf_6b, ↓wf_7b, ↓wf_9b, ↓wt_1_0b, ↓wt_1_1b, ↓wt_1_2b, ↓wt_1_3b, ↓wt_1_4b, ↓wt_11_0b, ↓wt_11_1b, ↓wt_11_2b, ↓wt_11_3b, ↓wt_11_4b, ↓wt_21_0b, ↓wt_21_1b, ↓wt_31_0b, ↓wt_31_1b, ↓wt_31_2b, ↓wt_31_3b, ↓wt_31_4b, ↓wt_31_5b, ↓wt_31_6b, ↓wt_41_0b, ↓wt_41_1b, ↓wt_41_2b, ↓wt_41_3b, ↓wt_41_4b, ↓wt_41_5b, ↓wt_41_6b, ↓wt_1b, ↓wt_11b, ↓wt_21b, ↓wt_31b, ↓wt_41b, ↓X_c0b, ↓X_c1b, ↓X_c2b, ↓X_c3b, ↓X_c4b, ↓X_e0b, ↓X_e1b, ↓X_e2b, ↓X_e3b, ↓X_e4b, ↓X_cb, ↓X_eb, ↓X_w0b, ↓X_w1b, ↓X_hb, ↓X_yb, ↓X_rb, ↓wp_0b, ↓wp_2b, ↓wp_4b, ↓wp_8b, ↓ws_2b, ↓ws_3b, ↓ws_4b, ↓ws_5b, ↓ws_6b, ↓ws_12b, ↓ws_13b, ↓ws_14b, ↓ws_15b, ↓ws_16b, ↓ws_22b, ↓ws_23b, ↓ws_51b, ↓wS_yb, ↓wS_rb, ↓wS_cb, ↓wS_eb, ↓x_isCarrierb, ↓x_isErrandb, ↓x_isWareb, ↓x_isSetb, ↓x_isFewb, F_X0_isKind, F_X0_isPlace, F_X0_isPrice, F_X0_isSheet, F_X0_isSpot, F_X13_isKind, F_X13_isPlace, F_X13_isSheet, F_X13_isSpot, within_eq, one_and, zero_and, one_ne, not_true_eq_false, not_false_eq_true, F_X0_shared, ↓bn9 gx, show ¬ (4 : Int32) = -1 by decide], ag_refl _, xf_refl _⟩ (fun σ1 hM => by
      have gm := m_refB h hM.2.1 hI x1 x2 x3
      rw [hw] at gm
      have gm : F_X13_refusesShared (some (L.1 1000)) x1 x2 x3 (hp L σ1) = some (-1000005, hp L σ1) := gm
      exact ⟨σ1, by simp (discharger := first | assumption | omega | decide) only [x_tg, w_tg, m_tg, ↓reduceIte, Option.bind_some, ↓m_0b, ↓m_1b, ↓m_2b, ↓m_3b, ↓m_4b, ↓m_5b, ↓m_6b, ↓m_7b, ↓m_8b, ↓m_9b, ↓m_10b, ↓m_11b, ↓m_12b, ↓m_13b, ↓m_14b, ↓m_15b, ↓m_16b, ↓m_17b, ↓m_18b, ↓m_19b, ↓m_20b, ↓m_21b, ↓m_22b, ↓m_23b, ↓m_24b, ↓m_25b, ↓m_26b, ↓m_27b, ↓m_28b, ↓m_29b, ↓mp_3b, ↓mp_6b, ↓mp_10b, ↓mp_11b, ↓mp_12b, ↓mp_14b, ↓mp_15b, ↓mp_16b, ↓mp_17b, ↓mp_18b, ↓mp_19b, ↓mp_22b, ↓mp_23b, ↓mp_24b, ↓mp_25b, ↓M_42b, ↓M_43b, ↓M_44b, ↓M_45b, ↓cIs_0b, ↓cIs_1b, ↓cIs_2b, ↓cIs_3b, ↓cIs_4b, ↓eIs_0b, ↓eIs_1b, ↓eIs_2b, ↓eIs_3b, ↓eIs_4b, ↓cIs_nb, ↓eIs_nb, ↓M_rb, ↓M_cAt_0b, ↓M_cAt_1b, ↓M_cAt_2b, ↓M_cAt_3b, ↓M_cAt_4b, ↓M_eAt_0b, ↓M_eAt_1b, ↓M_eAt_2b, ↓M_eAt_3b, ↓M_eAt_4b, ↓M_wAt_0b, ↓M_wAt_1b, cAt_0, cAt_1, cAt_2, cAt_3, cAt_4, eAt_0, eAt_1, eAt_2, eAt_3, eAt_4, wAt_0, wAt_1, cAt_n, eAt_n, wAt_n, ↓m_isCarrierb, ↓m_isErrandb, ↓m_isWareb, ↓m_isFewb, F_X0_isKind, F_X0_isPlace, F_X0_isPrice, F_X0_isSheet, F_X0_isSpot, F_X13_isKind, F_X13_isPlace, F_X13_isSheet, F_X13_isSpot, within_eq, one_and, zero_and, one_ne, not_true_eq_false, not_false_eq_true, F_X13_shared, ↓cb9 gm, show ¬ (-1000005 : Int32) = 0 by decide], ag_refl _, mf_refl _⟩)
set_option maxRecDepth 8000 in
theorem op_part (hR : RR L σ S) (x1 x2 x3 : Int32) : STEP L σ (F_X0_part (some (L.1 0)) x1 x2 x3) (F_X13_part (some (L.1 1000)) x1 x2 x3) := by
  have h := hR.1.1
  have hW := hR.1.2.1
  have hC := hR.1.2.2.1
  have hP := hR.1.2.2.2.1
  have hI := hR.2.2.1.1
  have hb : isW 200 = true := rfl
  have gx := x_whyB h hW hI x1 x2 x3
  rcases whb_cs hI x1 x2 x3 with ⟨hw, c, d, s, hc, rfl, hd, rfl, hs8, hf, rfl⟩ | hw | hw
  · rw [hw] at gx
    simp only [↓reduceIte] at gx
    obtain ⟨σ', r1, r2, r3, r4⟩ := x_sharedBy h hW hI hC hP hc hd hs8 hf
    have hb := bs_le (shV S.1 c d s) (s + 1)
    by_cases hlt : (bs (shV S.1 c d s) (s + 1)).1 < 1000000
    · rw [bV_pos hlt] at r1
      have n1 := ofN_nm1 (a := (bs (shV S.1 c d s) (s + 1)).1) (by omega)
      refine STEP_g hR (r := Int32.ofNat (bs (shV S.1 c d s) (s + 1)).2) hI ⟨σ', ?_, WX_ag2 r2 hW, ax_ag2 r2, r3⟩ (fun σ1 hM => ?_)
      · simp (discharger := first | assumption | omega | decide) only [x_tg, w_tg, m_tg, ↓reduceIte, Option.bind_some, ↓x_0b, ↓x_1b, ↓x_2b, ↓x_3b, ↓x_4b, ↓x_5b, ↓x_6b, ↓x_7b, ↓x_8b, ↓x_9b, ↓x_10b, ↓x_11b, ↓x_12b, ↓x_13b, ↓x_14b, ↓x_15b, ↓x_16b, ↓x_17b, ↓x_18b, ↓x_19b, ↓xp_2b, ↓xp_6b, ↓xp_14b, ↓xp_17b, ↓xp_18b, ↓xp_19b, ↓X_f0b, ↓X_f2b, ↓X_f4b, ↓X_f8b, ↓wf_1b, ↓wf_3b, ↓wf_5b, ↓wf_6b, ↓wf_7b, ↓wf_9b, ↓wt_1_0b, ↓wt_1_1b, ↓wt_1_2b, ↓wt_1_3b, ↓wt_1_4b, ↓wt_11_0b, ↓wt_11_1b, ↓wt_11_2b, ↓wt_11_3b, ↓wt_11_4b, ↓wt_21_0b, ↓wt_21_1b, ↓wt_31_0b, ↓wt_31_1b, ↓wt_31_2b, ↓wt_31_3b, ↓wt_31_4b, ↓wt_31_5b, ↓wt_31_6b, ↓wt_41_0b, ↓wt_41_1b, ↓wt_41_2b, ↓wt_41_3b, ↓wt_41_4b, ↓wt_41_5b, ↓wt_41_6b, ↓wt_1b, ↓wt_11b, ↓wt_21b, ↓wt_31b, ↓wt_41b, ↓X_c0b, ↓X_c1b, ↓X_c2b, ↓X_c3b, ↓X_c4b, ↓X_e0b, ↓X_e1b, ↓X_e2b, ↓X_e3b, ↓X_e4b, ↓X_cb, ↓X_eb, ↓X_w0b, ↓X_w1b, ↓X_hb, ↓X_yb, ↓X_rb, ↓wp_0b, ↓wp_2b, ↓wp_4b, ↓wp_8b, ↓ws_2b, ↓ws_3b, ↓ws_4b, ↓ws_5b, ↓ws_6b, ↓ws_12b, ↓ws_13b, ↓ws_14b, ↓ws_15b, ↓ws_16b, ↓ws_22b, ↓ws_23b, ↓ws_51b, ↓wS_yb, ↓wS_rb, ↓wS_cb, ↓wS_eb, ↓x_isCarrierb, ↓x_isErrandb, ↓x_isWareb, ↓x_isSetb, ↓x_isFewb, F_X0_isKind, F_X0_isPlace, F_X0_isPrice, F_X0_isSheet, F_X0_isSpot, F_X13_isKind, F_X13_isPlace, F_X13_isSheet, F_X13_isSpot, within_eq, one_and, zero_and, one_ne, not_true_eq_false, not_false_eq_true, F_X0_part, ↓bn9 gx, ↓cb9 r1, n1, r4 hlt]
      · have hM2 := hM.2.1
        have gm := m_refB h hM2 hI (Int32.ofNat c) (Int32.ofNat d) (Int32.ofNat s)
        obtain ⟨σb, m1, m2, m3, m4, m5⟩ := m_sharedL h hM2 hI hM.2.2.1 hc hd hs8 hf
        rw [if_pos hw, m1, if_pos hlt] at gm
        refine ⟨σb, ?_, WM_ag2 m2 hM2, am_ag2 m2, m3⟩
        simp (discharger := first | assumption | omega | decide) only [x_tg, w_tg, m_tg, ↓reduceIte, Option.bind_some, ↓m_0b, ↓m_1b, ↓m_2b, ↓m_3b, ↓m_4b, ↓m_5b, ↓m_6b, ↓m_7b, ↓m_8b, ↓m_9b, ↓m_10b, ↓m_11b, ↓m_12b, ↓m_13b, ↓m_14b, ↓m_15b, ↓m_16b, ↓m_17b, ↓m_18b, ↓m_19b, ↓m_20b, ↓m_21b, ↓m_22b, ↓m_23b, ↓m_24b, ↓m_25b, ↓m_26b, ↓m_27b, ↓m_28b, ↓m_29b, ↓mp_3b, ↓mp_6b, ↓mp_10b, ↓mp_11b, ↓mp_12b, ↓mp_14b, ↓mp_15b, ↓mp_16b, ↓mp_17b, ↓mp_18b, ↓mp_19b, ↓mp_22b, ↓mp_23b, ↓mp_24b, ↓mp_25b, ↓M_42b, ↓M_43b, ↓M_44b, ↓M_45b, ↓cIs_0b, ↓cIs_1b, ↓cIs_2b, ↓cIs_3b, ↓cIs_4b, ↓eIs_0b, ↓eIs_1b, ↓eIs_2b, ↓eIs_3b, ↓eIs_4b, ↓cIs_nb, ↓eIs_nb, ↓M_rb, ↓M_cAt_0b, ↓M_cAt_1b, ↓M_cAt_2b, ↓M_cAt_3b, ↓M_cAt_4b, ↓M_eAt_0b, ↓M_eAt_1b, ↓M_eAt_2b, ↓M_eAt_3b, ↓M_eAt_4b, ↓M_wAt_0b, ↓M_wAt_1b, cAt_0, cAt_1, cAt_2, cAt_3, cAt_4, eAt_0, eAt_1, eAt_2, eAt_3, eAt_4, wAt_0, wAt_1, cAt_n, eAt_n, wAt_n, ↓m_isCarrierb, ↓m_isErrandb, ↓m_isWareb, ↓m_isFewb, F_X0_isKind, F_X0_isPlace, F_X0_isPrice, F_X0_isSheet, F_X0_isSpot, F_X13_isKind, F_X13_isPlace, F_X13_isSheet, F_X13_isSpot, within_eq, one_and, zero_and, one_ne, not_true_eq_false, not_false_eq_true, F_X13_part, ↓cb9 gm, m5 hlt]
    · rw [bV_neg hlt] at r1
      refine STEP_gf hR (k := 3) (xv := 3) (mv := -1000004) (by omega) rfl (by decide) hI ⟨σ', ?_, WX_ag2 r2 hW, ax_ag2 r2, r3⟩ (fun σ1 hM => ?_)
      · simp (discharger := first | assumption | omega | decide) only [x_tg, w_tg, m_tg, ↓reduceIte, Option.bind_some, ↓x_0b, ↓x_1b, ↓x_2b, ↓x_3b, ↓x_4b, ↓x_5b, ↓x_6b, ↓x_7b, ↓x_8b, ↓x_9b, ↓x_10b, ↓x_11b, ↓x_12b, ↓x_13b, ↓x_14b, ↓x_15b, ↓x_16b, ↓x_17b, ↓x_18b, ↓x_19b, ↓xp_2b, ↓xp_6b, ↓xp_14b, ↓xp_17b, ↓xp_18b, ↓xp_19b, ↓X_f0b, ↓X_f2b, ↓X_f4b, ↓X_f8b, ↓wf_1b, ↓wf_3b, ↓wf_5b, ↓wf_6b, ↓wf_7b, ↓wf_9b, ↓wt_1_0b, ↓wt_1_1b, ↓wt_1_2b, ↓wt_1_3b, ↓wt_1_4b, ↓wt_11_0b, ↓wt_11_1b, ↓wt_11_2b, ↓wt_11_3b, ↓wt_11_4b, ↓wt_21_0b, ↓wt_21_1b, ↓wt_31_0b, ↓wt_31_1b, ↓wt_31_2b, ↓wt_31_3b, ↓wt_31_4b, ↓wt_31_5b, ↓wt_31_6b, ↓wt_41_0b, ↓wt_41_1b, ↓wt_41_2b, ↓wt_41_3b, ↓wt_41_4b, ↓wt_41_5b, ↓wt_41_6b, ↓wt_1b, ↓wt_11b, ↓wt_21b, ↓wt_31b, ↓wt_41b, ↓X_c0b, ↓X_c1b, ↓X_c2b, ↓X_c3b, ↓X_c4b, ↓X_e0b, ↓X_e1b, ↓X_e2b, ↓X_e3b, ↓X_e4b, ↓X_cb, ↓X_eb, ↓X_w0b, ↓X_w1b, ↓X_hb, ↓X_yb, ↓X_rb, ↓wp_0b, ↓wp_2b, ↓wp_4b, ↓wp_8b, ↓ws_2b, ↓ws_3b, ↓ws_4b, ↓ws_5b, ↓ws_6b, ↓ws_12b, ↓ws_13b, ↓ws_14b, ↓ws_15b, ↓ws_16b, ↓ws_22b, ↓ws_23b, ↓ws_51b, ↓wS_yb, ↓wS_rb, ↓wS_cb, ↓wS_eb, ↓x_isCarrierb, ↓x_isErrandb, ↓x_isWareb, ↓x_isSetb, ↓x_isFewb, F_X0_isKind, F_X0_isPlace, F_X0_isPrice, F_X0_isSheet, F_X0_isSpot, F_X13_isKind, F_X13_isPlace, F_X13_isSheet, F_X13_isSpot, within_eq, one_and, zero_and, one_ne, not_true_eq_false, not_false_eq_true, F_X0_part, ↓bn9 gx, ↓cb9 r1, cb_id]
      · have hM2 := hM.2.1
        have gm := m_refB h hM2 hI (Int32.ofNat c) (Int32.ofNat d) (Int32.ofNat s)
        obtain ⟨σb, m1, m2, m3, m4, m5⟩ := m_sharedL h hM2 hI hM.2.2.1 hc hd hs8 hf
        rw [if_pos hw, m1, if_neg hlt] at gm
        refine ⟨σb, ?_, WM_ag2 m2 hM2, am_ag2 m2, m3⟩
        simp (discharger := first | assumption | omega | decide) only [x_tg, w_tg, m_tg, ↓reduceIte, Option.bind_some, ↓m_0b, ↓m_1b, ↓m_2b, ↓m_3b, ↓m_4b, ↓m_5b, ↓m_6b, ↓m_7b, ↓m_8b, ↓m_9b, ↓m_10b, ↓m_11b, ↓m_12b, ↓m_13b, ↓m_14b, ↓m_15b, ↓m_16b, ↓m_17b, ↓m_18b, ↓m_19b, ↓m_20b, ↓m_21b, ↓m_22b, ↓m_23b, ↓m_24b, ↓m_25b, ↓m_26b, ↓m_27b, ↓m_28b, ↓m_29b, ↓mp_3b, ↓mp_6b, ↓mp_10b, ↓mp_11b, ↓mp_12b, ↓mp_14b, ↓mp_15b, ↓mp_16b, ↓mp_17b, ↓mp_18b, ↓mp_19b, ↓mp_22b, ↓mp_23b, ↓mp_24b, ↓mp_25b, ↓M_42b, ↓M_43b, ↓M_44b, ↓M_45b, ↓cIs_0b, ↓cIs_1b, ↓cIs_2b, ↓cIs_3b, ↓cIs_4b, ↓eIs_0b, ↓eIs_1b, ↓eIs_2b, ↓eIs_3b, ↓eIs_4b, ↓cIs_nb, ↓eIs_nb, ↓M_rb, ↓M_cAt_0b, ↓M_cAt_1b, ↓M_cAt_2b, ↓M_cAt_3b, ↓M_cAt_4b, ↓M_eAt_0b, ↓M_eAt_1b, ↓M_eAt_2b, ↓M_eAt_3b, ↓M_eAt_4b, ↓M_wAt_0b, ↓M_wAt_1b, cAt_0, cAt_1, cAt_2, cAt_3, cAt_4, eAt_0, eAt_1, eAt_2, eAt_3, eAt_4, wAt_0, wAt_1, cAt_n, eAt_n, wAt_n, ↓m_isCarrierb, ↓m_isErrandb, ↓m_isWareb, ↓m_isFewb, F_X0_isKind, F_X0_isPlace, F_X0_isPrice, F_X0_isSheet, F_X0_isSpot, F_X13_isKind, F_X13_isPlace, F_X13_isSheet, F_X13_isSpot, within_eq, one_and, zero_and, one_ne, not_true_eq_false, not_false_eq_true, F_X13_part, ↓cb9 gm, cb_id, show ¬ (-1000004 : Int32) = 0 by decide]
  · rw [hw] at gx
    have gx : F_X0_whyNotBoth (some (L.1 0)) x1 x2 x3 (hp L σ) = some 0 := gx
    exact STEP_fnd hR (k := 0) (xv := 0) (mv := -1000001) (by omega) rfl (by decide) ⟨σ, by simp (discharger := first | assumption | omega | decide) only [x_tg, w_tg, m_tg, ↓reduceIte, Option.bind_some, ↓x_0b, ↓x_1b, ↓x_2b, ↓x_3b, ↓x_4b, ↓x_5b, ↓x_6b, ↓x_7b, ↓x_8b, ↓x_9b, ↓x_10b, ↓x_11b, ↓x_12b, ↓x_13b, ↓x_14b, ↓x_15b, ↓x_16b, ↓x_17b, ↓x_18b, ↓x_19b, ↓xp_2b, ↓xp_6b, ↓xp_14b, ↓xp_17b, ↓xp_18b, ↓xp_19b, ↓X_f0b, ↓X_f2b, ↓X_f4b, ↓X_f8b, ↓wf_1b, ↓wf_3b, ↓wf_5b, ↓wf_6b, ↓wf_7b, ↓wf_9b, ↓wt_1_0b, ↓wt_1_1b, ↓wt_1_2b, ↓wt_1_3b, ↓wt_1_4b, ↓wt_11_0b, ↓wt_11_1b, ↓wt_11_2b, ↓wt_11_3b, ↓wt_11_4b, ↓wt_21_0b, ↓wt_21_1b, ↓wt_31_0b, ↓wt_31_1b, ↓wt_31_2b, ↓wt_31_3b, ↓wt_31_4b, ↓wt_31_5b, ↓wt_31_6b, ↓wt_41_0b, ↓wt_41_1b, ↓wt_41_2b, ↓wt_41_3b, ↓wt_41_4b, ↓wt_41_5b, ↓wt_41_6b, ↓wt_1b, ↓wt_11b, ↓wt_21b, ↓wt_31b, ↓wt_41b, ↓X_c0b, ↓X_c1b, ↓X_c2b, ↓X_c3b, ↓X_c4b, ↓X_e0b, ↓X_e1b, ↓X_e2b, ↓X_e3b, ↓X_e4b, ↓X_cb, ↓X_eb, ↓X_w0b, ↓X_w1b, ↓X_hb, ↓X_yb, ↓X_rb, ↓wp_0b, ↓wp_2b, ↓wp_4b, ↓wp_8b, ↓ws_2b, ↓ws_3b, ↓ws_4b, ↓ws_5b, ↓ws_6b, ↓ws_12b, ↓ws_13b, ↓ws_14b, ↓ws_15b, ↓ws_16b, ↓ws_22b, ↓ws_23b, ↓ws_51b, ↓wS_yb, ↓wS_rb, ↓wS_cb, ↓wS_eb, ↓x_isCarrierb, ↓x_isErrandb, ↓x_isWareb, ↓x_isSetb, ↓x_isFewb, F_X0_isKind, F_X0_isPlace, F_X0_isPrice, F_X0_isSheet, F_X0_isSpot, F_X13_isKind, F_X13_isPlace, F_X13_isSheet, F_X13_isSpot, within_eq, one_and, zero_and, one_ne, not_true_eq_false, not_false_eq_true, F_X0_part, ↓bn9 gx, show ¬ (0 : Int32) = -1 by decide], ag_refl _, xf_refl _⟩ (fun σ1 hM => by
      have gm := m_refB h hM.2.1 hI x1 x2 x3
      rw [hw] at gm
      have gm : F_X13_refusesShared (some (L.1 1000)) x1 x2 x3 (hp L σ1) = some (-1000001, hp L σ1) := gm
      exact ⟨σ1, by simp (discharger := first | assumption | omega | decide) only [x_tg, w_tg, m_tg, ↓reduceIte, Option.bind_some, ↓m_0b, ↓m_1b, ↓m_2b, ↓m_3b, ↓m_4b, ↓m_5b, ↓m_6b, ↓m_7b, ↓m_8b, ↓m_9b, ↓m_10b, ↓m_11b, ↓m_12b, ↓m_13b, ↓m_14b, ↓m_15b, ↓m_16b, ↓m_17b, ↓m_18b, ↓m_19b, ↓m_20b, ↓m_21b, ↓m_22b, ↓m_23b, ↓m_24b, ↓m_25b, ↓m_26b, ↓m_27b, ↓m_28b, ↓m_29b, ↓mp_3b, ↓mp_6b, ↓mp_10b, ↓mp_11b, ↓mp_12b, ↓mp_14b, ↓mp_15b, ↓mp_16b, ↓mp_17b, ↓mp_18b, ↓mp_19b, ↓mp_22b, ↓mp_23b, ↓mp_24b, ↓mp_25b, ↓M_42b, ↓M_43b, ↓M_44b, ↓M_45b, ↓cIs_0b, ↓cIs_1b, ↓cIs_2b, ↓cIs_3b, ↓cIs_4b, ↓eIs_0b, ↓eIs_1b, ↓eIs_2b, ↓eIs_3b, ↓eIs_4b, ↓cIs_nb, ↓eIs_nb, ↓M_rb, ↓M_cAt_0b, ↓M_cAt_1b, ↓M_cAt_2b, ↓M_cAt_3b, ↓M_cAt_4b, ↓M_eAt_0b, ↓M_eAt_1b, ↓M_eAt_2b, ↓M_eAt_3b, ↓M_eAt_4b, ↓M_wAt_0b, ↓M_wAt_1b, cAt_0, cAt_1, cAt_2, cAt_3, cAt_4, eAt_0, eAt_1, eAt_2, eAt_3, eAt_4, wAt_0, wAt_1, cAt_n, eAt_n, wAt_n, ↓m_isCarrierb, ↓m_isErrandb, ↓m_isWareb, ↓m_isFewb, F_X0_isKind, F_X0_isPlace, F_X0_isPrice, F_X0_isSheet, F_X0_isSpot, F_X13_isKind, F_X13_isPlace, F_X13_isSheet, F_X13_isSpot, within_eq, one_and, zero_and, one_ne, not_true_eq_false, not_false_eq_true, F_X13_part, ↓cb9 gm, show ¬ (-1000001 : Int32) = 0 by decide], ag_refl _, mf_refl _⟩)
  · rw [hw] at gx
    have gx : F_X0_whyNotBoth (some (L.1 0)) x1 x2 x3 (hp L σ) = some 4 := gx
    exact STEP_fnd hR (k := 4) (xv := 4) (mv := -1000005) (by omega) rfl (by decide) ⟨σ, by simp (discharger := first | assumption | omega | decide) only [x_tg, w_tg, m_tg, ↓reduceIte, Option.bind_some, ↓x_0b, ↓x_1b, ↓x_2b, ↓x_3b, ↓x_4b, ↓x_5b, ↓x_6b, ↓x_7b, ↓x_8b, ↓x_9b, ↓x_10b, ↓x_11b, ↓x_12b, ↓x_13b, ↓x_14b, ↓x_15b, ↓x_16b, ↓x_17b, ↓x_18b, ↓x_19b, ↓xp_2b, ↓xp_6b, ↓xp_14b, ↓xp_17b, ↓xp_18b, ↓xp_19b, ↓X_f0b, ↓X_f2b, ↓X_f4b, ↓X_f8b, ↓wf_1b, ↓wf_3b, ↓wf_5b, ↓wf_6b, ↓wf_7b, ↓wf_9b, ↓wt_1_0b, ↓wt_1_1b, ↓wt_1_2b, ↓wt_1_3b, ↓wt_1_4b, ↓wt_11_0b, ↓wt_11_1b, ↓wt_11_2b, ↓wt_11_3b, ↓wt_11_4b, ↓wt_21_0b, ↓wt_21_1b, ↓wt_31_0b, ↓wt_31_1b, ↓wt_31_2b, ↓wt_31_3b, ↓wt_31_4b, ↓wt_31_5b, ↓wt_31_6b, ↓wt_41_0b, ↓wt_41_1b, ↓wt_41_2b, ↓wt_41_3b, ↓wt_41_4b, ↓wt_41_5b, ↓wt_41_6b, ↓wt_1b, ↓wt_11b, ↓wt_21b, ↓wt_31b, ↓wt_41b, ↓X_c0b, ↓X_c1b, ↓X_c2b, ↓X_c3b, ↓X_c4b, ↓X_e0b, ↓X_e1b, ↓X_e2b, ↓X_e3b, ↓X_e4b, ↓X_cb, ↓X_eb, ↓X_w0b, ↓X_w1b, ↓X_hb, ↓X_yb, ↓X_rb, ↓wp_0b, ↓wp_2b, ↓wp_4b, ↓wp_8b, ↓ws_2b, ↓ws_3b, ↓ws_4b, ↓ws_5b, ↓ws_6b, ↓ws_12b, ↓ws_13b, ↓ws_14b, ↓ws_15b, ↓ws_16b, ↓ws_22b, ↓ws_23b, ↓ws_51b, ↓wS_yb, ↓wS_rb, ↓wS_cb, ↓wS_eb, ↓x_isCarrierb, ↓x_isErrandb, ↓x_isWareb, ↓x_isSetb, ↓x_isFewb, F_X0_isKind, F_X0_isPlace, F_X0_isPrice, F_X0_isSheet, F_X0_isSpot, F_X13_isKind, F_X13_isPlace, F_X13_isSheet, F_X13_isSpot, within_eq, one_and, zero_and, one_ne, not_true_eq_false, not_false_eq_true, F_X0_part, ↓bn9 gx, show ¬ (4 : Int32) = -1 by decide], ag_refl _, xf_refl _⟩ (fun σ1 hM => by
      have gm := m_refB h hM.2.1 hI x1 x2 x3
      rw [hw] at gm
      have gm : F_X13_refusesShared (some (L.1 1000)) x1 x2 x3 (hp L σ1) = some (-1000005, hp L σ1) := gm
      exact ⟨σ1, by simp (discharger := first | assumption | omega | decide) only [x_tg, w_tg, m_tg, ↓reduceIte, Option.bind_some, ↓m_0b, ↓m_1b, ↓m_2b, ↓m_3b, ↓m_4b, ↓m_5b, ↓m_6b, ↓m_7b, ↓m_8b, ↓m_9b, ↓m_10b, ↓m_11b, ↓m_12b, ↓m_13b, ↓m_14b, ↓m_15b, ↓m_16b, ↓m_17b, ↓m_18b, ↓m_19b, ↓m_20b, ↓m_21b, ↓m_22b, ↓m_23b, ↓m_24b, ↓m_25b, ↓m_26b, ↓m_27b, ↓m_28b, ↓m_29b, ↓mp_3b, ↓mp_6b, ↓mp_10b, ↓mp_11b, ↓mp_12b, ↓mp_14b, ↓mp_15b, ↓mp_16b, ↓mp_17b, ↓mp_18b, ↓mp_19b, ↓mp_22b, ↓mp_23b, ↓mp_24b, ↓mp_25b, ↓M_42b, ↓M_43b, ↓M_44b, ↓M_45b, ↓cIs_0b, ↓cIs_1b, ↓cIs_2b, ↓cIs_3b, ↓cIs_4b, ↓eIs_0b, ↓eIs_1b, ↓eIs_2b, ↓eIs_3b, ↓eIs_4b, ↓cIs_nb, ↓eIs_nb, ↓M_rb, ↓M_cAt_0b, ↓M_cAt_1b, ↓M_cAt_2b, ↓M_cAt_3b, ↓M_cAt_4b, ↓M_eAt_0b, ↓M_eAt_1b, ↓M_eAt_2b, ↓M_eAt_3b, ↓M_eAt_4b, ↓M_wAt_0b, ↓M_wAt_1b, cAt_0, cAt_1, cAt_2, cAt_3, cAt_4, eAt_0, eAt_1, eAt_2, eAt_3, eAt_4, wAt_0, wAt_1, cAt_n, eAt_n, wAt_n, ↓m_isCarrierb, ↓m_isErrandb, ↓m_isWareb, ↓m_isFewb, F_X0_isKind, F_X0_isPlace, F_X0_isPrice, F_X0_isSheet, F_X0_isSpot, F_X13_isKind, F_X13_isPlace, F_X13_isSheet, F_X13_isSpot, within_eq, one_and, zero_and, one_ne, not_true_eq_false, not_false_eq_true, F_X13_part, ↓cb9 gm, show ¬ (-1000005 : Int32) = 0 by decide], ag_refl _, mf_refl _⟩)
end L5c
