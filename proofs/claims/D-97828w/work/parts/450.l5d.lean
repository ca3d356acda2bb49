/-! ### the acts: cheapest, which -/
section L5d
variable {L : Lt} {σ σ' : St} {S : Sg} {ρ ρ' : Rw}
def lie (ρ : Rw) : Nat := bset (Phow ρ 0) (NE ρ)
def erM (ρ : Rw) (c pr ea j : Nat) : Bool := match gf ρ (kdO ρ c) j (NE ρ) with
  | none => false
  | some g => decide (pr ≤ ea + g)
def erX (ρ : Rw) (c pr ea j : Nat) : Bool := match gf ρ (kdO ρ c) j (NE ρ) with
  | none => decide (pr < ea)
  | some g => decide (pr ≤ ea + g)
def chM (ρ : Rw) (c pr ea j : Nat) : Nat := if dif j (lie ρ) = 0 ∧ cbn j (NE ρ) ≤ 5 ∧ erM ρ c pr ea j = true then rnd ρ c j else 1000000
def chX (ρ : Rw) (c pr ea j : Nat) : Nat := if dif j (lie ρ) = 0 ∧ cbn j (NE ρ) ≤ 5 ∧ erX ρ c pr ea j = true then rnd ρ c j else 1000000
set_option maxRecDepth 8000 in
theorem bs_zero {v : Nat → Nat} (h : v 0 = 0) : ∀ n, bs v (n + 1) = (0, 0)
  | 0 => by rw [bs_succ]; unfold bsS bs; show (if v 0 < 1000000 then _ else _) = _; rw [h]; rfl
  | n + 1 => by rw [bs_succ, bs_zero h n]; unfold bsS; rw [if_neg (by simp)]
set_option maxRecDepth 8000 in
theorem dif_0 (s : Nat) : dif 0 s = 0 := by unfold dif; exact Nat.zero_and _
set_option maxRecDepth 8000 in
theorem cbn_0 (n : Nat) : cbn 0 n = 0 := by
  induction n with
  | zero => rfl
  | succ n ih => rw [cbn_succ, ih, Nat.zero_testBit]; rfl
set_option maxRecDepth 8000 in
theorem gf_0 (ρ : Rw) (kd n : Nat) : gf ρ kd 0 n = some 0 := by
  induction n with
  | zero => rfl
  | succ n ih => unfold gf at ih ⊢; rw [itF_snoc0, ih]; unfold gfS; simp
set_option maxRecDepth 8000 in
theorem rnd_0 (hI : Inv ρ) {c : Nat} (hc : c < NC ρ) : rnd ρ c 0 = 0 := by
  obtain ⟨k1, k2, k3, k4, k5, k6, k7⟩ := hI.2.2.2.1 c hc
  have hz : (col 0 (NE ρ)).1 = 0 := by rw [(col_spec 0 (NE ρ)).1, cbn_0]
  unfold rnd
  rw [hz]
  obtain ⟨b1, b2, b3⟩ := xdp_best (k := 0) (T := FT ρ (kdO ρ c)) (fr := efr ρ (col 0 (NE ρ))) (to := eto ρ (col 0 (NE ρ))) (lb := elb ρ (col 0 (NE ρ))) (B := brs (kdO ρ c) (stO ρ c)) (plO ρ c)
  have hl : lw 0 (xdp 0 (FT ρ (kdO ρ c)) (efr ρ (col 0 (NE ρ))) (eto ρ (col 0 (NE ρ))) (elb ρ (col 0 (NE ρ))) (brs (kdO ρ c) (stO ρ c)) (plO ρ c)).1 (t00 (plO ρ c)) := by
    unfold xdp
    refine itF_inv0 (f := xR 0 (FT ρ (kdO ρ c)) (efr ρ (col 0 (NE ρ))) (eto ρ (col 0 (NE ρ))) (elb ρ (col 0 (NE ρ))) (brs (kdO ρ c) (stO ρ c))) (fun _ (u : Tb × Nat) => lw 0 u.1 (t00 (plO ρ c))) (3 ^ 0) _ (lw_refl _ _) ?_
    intro e u _ h
    exact lw_trans (lw_mono (by omega) (xR_all e u).1) h
  have h0 := hl.1 0 (plO ρ c)
  unfold t00 at h0
  rw [tset_same] at h0
  have := b2 (plO ρ c) k5 (by rw [show 3 ^ 0 - 1 = 0 from rfl]; omega)
  rw [show 3 ^ 0 - 1 = 0 from rfl] at this
  omega
set_option maxRecDepth 8000 in
theorem ch_eq (hI : Inv ρ) {c pr ea : Nat} (hc : c < NC ρ) (n : Nat) : bs (chX ρ c pr ea) (n + 1) = bs (chM ρ c pr ea) (n + 1) := by
  by_cases hd : pr < ea
  · have hx : chX ρ c pr ea 0 = 0 := by
      unfold chX erX; rw [gf_0, dif_0, cbn_0, rnd_0 hI hc]; rw [if_pos ⟨rfl, by omega, decide_eq_true (by omega)⟩]
    have hm : chM ρ c pr ea 0 = 0 := by
      unfold chM erM; rw [gf_0, dif_0, cbn_0, rnd_0 hI hc]; rw [if_pos ⟨rfl, by omega, decide_eq_true (by omega)⟩]
    rw [bs_zero hx, bs_zero hm]
  · refine bs_congr (fun j _ => ?_)
    unfold chX chM erX erM
    cases gf ρ (kdO ρ c) j (NE ρ) with
    | none => simp [hd]
    | some g => rfl
set_option maxRecDepth 8000 in
theorem lie_lt (hI : Inv ρ) : lie ρ < 2 ^ NE ρ ∧ lie ρ < 256 := ⟨(bset_spec _ _).1, bset_lt8 hI.2.1.2⟩
set_option maxRecDepth 8000 in
theorem ch_ext (hI : Inv ρ) {c pr ea : Nat} : bs (chM ρ c pr ea) (2 ^ NE ρ) = bs (chM ρ c pr ea) (lie ρ + 1) := by
  have h1 := lie_lt hI
  have h2 := p2_8 hI.2.1.2
  refine bs_ext (by omega) (fun j h3 h4 => ?_)
  unfold chM
  rw [if_neg]
  · exact Nat.le_refl _
  · intro q
    have := sub_le (show j < 256 by omega) h1.2 q.1
    omega
set_option maxRecDepth 8000 in
theorem due_lt {pr ea : Nat} (hp9 : pr ≤ 9999) (he : ea ≤ 529000000) (v : Int32) : v < Int32.ofNat pr - Int32.ofNat ea ↔ v.toInt < (pr : Int) - ea := by
  rw [Int32.lt_iff_toInt_lt, Int32.toInt_sub, toI (by omega), toI (by omega)]
  rw [show ((pr : Int) - ea).bmod (2 ^ 32) = (pr : Int) - ea from by apply Int.bmod_eq_of_le <;> omega]
set_option maxRecDepth 8000 in
theorem er_iff (hI : Inv ρ) {c pr ea j : Nat} (hp9 : pr ≤ 9999) (he : ea ≤ 529000000) : oN (gf ρ (kdO ρ c) j (NE ρ)) < Int32.ofNat pr - Int32.ofNat ea ↔ erX ρ c pr ea j = false := by
  rw [due_lt hp9 he]
  have h8 := hI.2.1.2
  unfold erX
  cases hg : gf ρ (kdO ρ c) j (NE ρ) with
  | none =>
    show (-1 : Int32).toInt < _ ↔ _
    rw [show (-1 : Int32).toInt = -1 from rfl, decide_eq_false_iff_not]; omega
  | some g =>
    have := gf_le hI (NE ρ) (Nat.le_refl _) g hg
    show (Int32.ofNat g).toInt < _ ↔ _
    rw [toI (by omega), decide_eq_false_iff_not]; omega
set_option maxRecDepth 8000 in
theorem fwV_n (hI : Inv ρ) {j : Nat} (hj : j < 2 ^ NE ρ) : fwV ρ (Int32.ofNat j) = if 5 < cbn j (NE ρ) then 0 else 1 := by
  have h2 := p2_8 hI.2.1.2
  have hi : isV ρ (Int32.ofNat j) = 1 := by
    unfold isV
    rw [hI.2.1.1, shN _ hI.2.1.2, in_eq, toI (by omega), toI (by omega), show (0 : Int32).toInt = 0 from rfl, if_pos (by omega)]
  have hc := cbn_le j (NE ρ)
  have h8 := hI.2.1.2
  unfold fwV
  rw [hi, if_neg one_ne, bit_n j (by omega), cbn_8 hI.2.1.2 hj, li_5]
  by_cases h5 : 5 < cbn j (NE ρ)
  · rw [if_pos ((ofN_lt (by omega) (by omega)).mpr h5), if_pos h5]
  · rw [if_neg (fun q => h5 ((ofN_lt (by omega) (by omega)).mp q)), if_neg h5]
set_option maxRecDepth 8000 in
theorem x_shortestFor (h : Lok L) (hW : WX σ 200 ρ) (hI : Inv ρ) (hC : CN σ) (hP : PX σ) {c w pr : Nat} (hc : c < NC ρ) (hw : w < NWr ρ) (hpr : ρ (126 + 2 * w + 0) = Int32.ofNat pr) (hp9 : pr ≤ 9999) : ∃ σ', F_X0_shortestFor (some (L.1 0)) (Int32.ofNat c) (Int32.ofNat w) (hp L σ) = some (bV (bs (chM ρ c pr (eaO ρ c)) (2 ^ NE ρ)), hp L σ') ∧ ag2 σ σ' ∧ xf σ σ' ∧ ((bs (chM ρ c pr (eaO ρ c)) (2 ^ NE ρ)).1 < 1000000 → σ' 0 17 = Int32.ofNat (bs (chM ρ c pr (eaO ρ c)) (2 ^ NE ρ)).2) := by
  have h17 : s2 0 17 = true := by decide
  have hb9 : isW 200 = true := rfl
  have h6 := hI.1.2
  have h66 := hI.2.2.1.2
  have hl := lie_lt hI
  obtain ⟨ea1, ea2⟩ := hI.2.2.2.2.2.2.2.2 c hc
  have hnd : nDone ρ ≤ 8 := cbn_le _ _
  have g1 := (X_w0 h hb9 hW (show w < 6 by omega)).trans (congrArg some hpr)
  have g2 := (X_c3 h hb9 hW (show c < 6 by omega)).trans (congrArg some ea1)
  have g3 := x_being h hb9 hW hI.2.1.1 hI.2.1.2 0
  rw [ch_ext hI, ← ch_eq hI hc (lie ρ)]
  have eF : F_X0_shortestFor (some (L.1 0)) (Int32.ofNat c) (Int32.ofNat w) (hp L σ) = F_X0_shortestFor_L45 fu (some (L.1 0)) (Int32.ofNat c) (Int32.ofNat pr - Int32.ofNat (eaO ρ c)) (Int32.ofNat (lie ρ)) (-1) 0 (hp L (up2 σ 0 17 (-1))) := by
    simp (discharger := first | assumption | omega | decide) only [x_tg, w_tg, m_tg, ↓reduceIte, Option.bind_some, ↓x_0b, ↓x_1b, ↓x_2b, ↓x_3b, ↓x_4b, ↓x_5b, ↓x_6b, ↓x_7b, ↓x_8b, ↓x_9b, ↓x_10b, ↓x_11b, ↓x_12b, ↓x_13b, ↓x_14b, ↓x_15b, ↓x_16b, ↓x_17b, ↓x_18b, ↓x_19b, ↓xp_2b, ↓xp_6b, ↓xp_14b, ↓xp_17b, ↓xp_18b, ↓xp_19b, ↓X_f0b, ↓X_f2b, ↓X_f4b, ↓X_f8b, ↓wf_1b, ↓wf_3b, ↓wf_5b, ↓wf_6b, ↓wf_7b, ↓wf_9b, ↓wt_1_0b, ↓wt_1_1b, ↓wt_1_2b, ↓wt_1_3b, ↓wt_1_4b, ↓wt_11_0b, ↓wt_11_1b, ↓wt_11_2b, ↓wt_11_3b, ↓wt_11_4b, ↓wt_21_0b, ↓wt_21_1b, ↓wt_31_0b, ↓wt_31_1b, ↓wt_31_2b, ↓wt_31_3b, ↓wt_31_4b, ↓wt_31_5b, ↓wt_31_6b, ↓wt_41_0b, ↓wt_41_1b, ↓wt_41_2b, ↓wt_41_3b, ↓wt_41_4b, ↓wt_41_5b, ↓wt_41_6b, ↓wt_1b, ↓wt_11b, ↓wt_21b, ↓wt_31b, ↓wt_41b, ↓X_c0b, ↓X_c1b, ↓X_c2b, ↓X_c3b, ↓X_c4b, ↓X_e0b, ↓X_e1b, ↓X_e2b, ↓X_e3b, ↓X_e4b, ↓X_cb, ↓X_eb, ↓X_w0b, ↓X_w1b, ↓X_hb, ↓X_yb, ↓X_rb, ↓wp_0b, ↓wp_2b, ↓wp_4b, ↓wp_8b, ↓ws_2b, ↓ws_3b, ↓ws_4b, ↓ws_5b, ↓ws_6b, ↓ws_12b, ↓ws_13b, ↓ws_14b, ↓ws_15b, ↓ws_16b, ↓ws_22b, ↓ws_23b, ↓ws_51b, ↓wS_yb, ↓wS_rb, ↓wS_cb, ↓wS_eb, F_X0_shortestFor, ↓bn9 g1, ↓bn9 g2, ↓bn9 g3]
    rfl
  rw [eF]
  have hea : eaO ρ c ≤ 529000000 := by omega
  generalize eaO ρ c = ea at *
  have key := lpQ (Lp := fun f j (g : St × Int32) => F_X0_shortestFor_L45 f (some (L.1 0)) (Int32.ofNat c) (Int32.ofNat pr - Int32.ofNat ea) (Int32.ofNat (lie ρ)) g.2 (Int32.ofNat j) (hp L g.1)) (N := lie ρ + 1) (fun j g => g.2 = bV (bs (chX ρ c pr ea) j) ∧ ag2 σ g.1 ∧ xf σ g.1 ∧ ((bs (chX ρ c pr ea) j).1 < 1000000 → g.1 0 17 = Int32.ofNat (bs (chX ρ c pr ea) j).2)) (fun r => ∃ σ', r = (bV (bs (chX ρ c pr ea) (lie ρ + 1)), hp L σ') ∧ ag2 σ σ' ∧ xf σ σ' ∧ ((bs (chX ρ c pr ea) (lie ρ + 1)).1 < 1000000 → σ' 0 17 = Int32.ofNat (bs (chX ρ c pr ea) (lie ρ + 1)).2)) ?_ ?_ (by unfold fu; omega) (up2 σ 0 17 (-1), -1) ⟨rfl, ag2_up h17, xf_up (by omega), fun q => absurd q (Nat.lt_irrefl _)⟩
  · obtain ⟨r, e, σ', rfl, q1, q2, q3⟩ := key
    exact ⟨σ', e, q1, q2, q3⟩
  · intro f g ⟨q1, q2, q3, q4⟩
    refine ⟨_, ?_, g.1, rfl, q2, q3, q4⟩
    have hlt : lie ρ < lie ρ + 1 := by omega
    rw [q1]
    simp (discharger := first | assumption | omega | decide) only [x_tg, w_tg, m_tg, ↓reduceIte, Option.bind_some, ↓x_0b, ↓x_1b, ↓x_2b, ↓x_3b, ↓x_4b, ↓x_5b, ↓x_6b, ↓x_7b, ↓x_8b, ↓x_9b, ↓x_10b, ↓x_11b, ↓x_12b, ↓x_13b, ↓x_14b, ↓x_15b, ↓x_16b, ↓x_17b, ↓x_18b, ↓x_19b, ↓xp_2b, ↓xp_6b, ↓xp_14b, ↓xp_17b, ↓xp_18b, ↓xp_19b, ↓X_f0b, ↓X_f2b, ↓X_f4b, ↓X_f8b, ↓wf_1b, ↓wf_3b, ↓wf_5b, ↓wf_6b, ↓wf_7b, ↓wf_9b, ↓wt_1_0b, ↓wt_1_1b, ↓wt_1_2b, ↓wt_1_3b, ↓wt_1_4b, ↓wt_11_0b, ↓wt_11_1b, ↓wt_11_2b, ↓wt_11_3b, ↓wt_11_4b, ↓wt_21_0b, ↓wt_21_1b, ↓wt_31_0b, ↓wt_31_1b, ↓wt_31_2b, ↓wt_31_3b, ↓wt_31_4b, ↓wt_31_5b, ↓wt_31_6b, ↓wt_41_0b, ↓wt_41_1b, ↓wt_41_2b, ↓wt_41_3b, ↓wt_41_4b, ↓wt_41_5b, ↓wt_41_6b, ↓wt_1b, ↓wt_11b, ↓wt_21b, ↓wt_31b, ↓wt_41b, ↓X_c0b, ↓X_c1b, ↓X_c2b, ↓X_c3b, ↓X_c4b, ↓X_e0b, ↓X_e1b, ↓X_e2b, ↓X_e3b, ↓X_e4b, ↓X_cb, ↓X_eb, ↓X_w0b, ↓X_w1b, ↓X_hb, ↓X_yb, ↓X_rb, ↓wp_0b, ↓wp_2b, ↓wp_4b, ↓wp_8b, ↓ws_2b, ↓ws_3b, ↓ws_4b, ↓ws_5b, ↓ws_6b, ↓ws_12b, ↓ws_13b, ↓ws_14b, ↓ws_15b, ↓ws_16b, ↓ws_22b, ↓ws_23b, ↓ws_51b, ↓wS_yb, ↓wS_rb, ↓wS_cb, ↓wS_eb, F_X0_shortestFor_L45, F_X0_shortestFor_B45, ofN_lt, hlt]
  · intro f j g hj ⟨q1, q2, q3, q4⟩
    obtain ⟨g1', g2'⟩ := g
    dsimp only at q1 q2 q3 q4 ⊢
    subst q1
    have hlt : ¬ lie ρ < j := by omega
    have hj8 : j < 256 := by omega
    have hjN : j < 2 ^ NE ρ := by omega
    have hz := dif_z hj8 hl.2
    have hb := bs_le (chX ρ c pr ea) j
    have hW1 := WX_ag2 q2 hW
    have gfw := x_isFew h hW1 hI (Int32.ofNat j)
    rw [fwV_n hI hjN] at gfw
    have skip : ∀ σ2, ag2 σ σ2 → xf σ σ2 → σ2 0 17 = g1' 0 17 → chX ρ c pr ea j = 1000000 → F_X0_shortestFor_L45 (f + 1) (some (L.1 0)) (Int32.ofNat c) (Int32.ofNat pr - Int32.ofNat ea) (Int32.ofNat (lie ρ)) (bV (bs (chX ρ c pr ea) j)) (Int32.ofNat j) (hp L g1') = F_X0_shortestFor_L45 f (some (L.1 0)) (Int32.ofNat c) (Int32.ofNat pr - Int32.ofNat ea) (Int32.ofNat (lie ρ)) (bV (bs (chX ρ c pr ea) j)) (Int32.ofNat (j + 1)) (hp L σ2) → ∃ g' : St × Int32, F_X0_shortestFor_L45 (f + 1) (some (L.1 0)) (Int32.ofNat c) (Int32.ofNat pr - Int32.ofNat ea) (Int32.ofNat (lie ρ)) (bV (bs (chX ρ c pr ea) j)) (Int32.ofNat j) (hp L g1') = F_X0_shortestFor_L45 f (some (L.1 0)) (Int32.ofNat c) (Int32.ofNat pr - Int32.ofNat ea) (Int32.ofNat (lie ρ)) g'.2 (Int32.ofNat (j + 1)) (hp L g'.1) ∧ g'.2 = bV (bs (chX ρ c pr ea) (j + 1)) ∧ ag2 σ g'.1 ∧ xf σ g'.1 ∧ ((bs (chX ρ c pr ea) (j + 1)).1 < 1000000 → g'.1 0 17 = Int32.ofNat (bs (chX ρ c pr ea) (j + 1)).2) := by
      intro σ2 a1 a2 a3 a4 a5
      have eb : bs (chX ρ c pr ea) (j + 1) = bs (chX ρ c pr ea) j := by rw [bs_succ]; unfold bsS; rw [a4, if_neg (by omega)]
      refine ⟨(σ2, bV (bs (chX ρ c pr ea) j)), a5, by rw [eb], a1, a2, ?_⟩
      rw [eb]; intro q; show σ2 0 17 = _; rw [a3]; exact q4 q
    by_cases hsub : dif j (lie ρ) = 0
    · by_cases h5 : 5 < cbn j (NE ρ)
      · rw [if_pos h5] at gfw
        refine skip g1' q2 q3 rfl (by unfold chX; rw [if_neg (by omega)]) ?_
        simp (discharger := first | assumption | omega | decide) only [x_tg, w_tg, m_tg, ↓reduceIte, Option.bind_some, ↓x_0b, ↓x_1b, ↓x_2b, ↓x_3b, ↓x_4b, ↓x_5b, ↓x_6b, ↓x_7b, ↓x_8b, ↓x_9b, ↓x_10b, ↓x_11b, ↓x_12b, ↓x_13b, ↓x_14b, ↓x_15b, ↓x_16b, ↓x_17b, ↓x_18b, ↓x_19b, ↓xp_2b, ↓xp_6b, ↓xp_14b, ↓xp_17b, ↓xp_18b, ↓xp_19b, ↓X_f0b, ↓X_f2b, ↓X_f4b, ↓X_f8b, ↓wf_1b, ↓wf_3b, ↓wf_5b, ↓wf_6b, ↓wf_7b, ↓wf_9b, ↓wt_1_0b, ↓wt_1_1b, ↓wt_1_2b, ↓wt_1_3b, ↓wt_1_4b, ↓wt_11_0b, ↓wt_11_1b, ↓wt_11_2b, ↓wt_11_3b, ↓wt_11_4b, ↓wt_21_0b, ↓wt_21_1b, ↓wt_31_0b, ↓wt_31_1b, ↓wt_31_2b, ↓wt_31_3b, ↓wt_31_4b, ↓wt_31_5b, ↓wt_31_6b, ↓wt_41_0b, ↓wt_41_1b, ↓wt_41_2b, ↓wt_41_3b, ↓wt_41_4b, ↓wt_41_5b, ↓wt_41_6b, ↓wt_1b, ↓wt_11b, ↓wt_21b, ↓wt_31b, ↓wt_41b, ↓X_c0b, ↓X_c1b, ↓X_c2b, ↓X_c3b, ↓X_c4b, ↓X_e0b, ↓X_e1b, ↓X_e2b, ↓X_e3b, ↓X_e4b, ↓X_cb, ↓X_eb, ↓X_w0b, ↓X_w1b, ↓X_hb, ↓X_yb, ↓X_rb, ↓wp_0b, ↓wp_2b, ↓wp_4b, ↓wp_8b, ↓ws_2b, ↓ws_3b, ↓ws_4b, ↓ws_5b, ↓ws_6b, ↓ws_12b, ↓ws_13b, ↓ws_14b, ↓ws_15b, ↓ws_16b, ↓ws_22b, ↓ws_23b, ↓ws_51b, ↓wS_yb, ↓wS_rb, ↓wS_cb, ↓wS_eb, F_X0_shortestFor_J136, F_X0_shortestFor_J126, F_X0_shortestFor_J105, F_X0_shortestFor_J87, F_X0_shortestFor_J86, F_X0_shortestFor_B45, F_X0_shortestFor_L45, F_X0_shortestFor, ofN_lt, hlt, hz, hsub, not_true_eq_false, ↓bn9 gfw, ofNs]
      · rw [if_neg h5] at gfw
        have hcj : cbn j (NE ρ) ≤ 5 := by omega
        obtain ⟨σ2, r1, r2, r3⟩ := x_getsFor h hW1 hI hc hj8
        have hei := er_iff hI (c := c) (j := j) hp9 hea
        have ag12 := ag2_trans q2 (ag2_ag r2)
        by_cases her : erX ρ c pr ea j = true
        · have hnl : ¬ oN (gf ρ (kdO ρ c) j (NE ρ)) < Int32.ofNat pr - Int32.ofNat ea := by rw [hei, her]; decide
          obtain ⟨σ3, t1, t2, t3, _⟩ := x_roundOf h (WX_ag2 ag12 hW) hI (CN_ag2 ag12 hC) (PX_ag2 ag12 hP) hc hj8 hcj
          have ag13 := ag2_trans ag12 (ag2_ag t2)
          have e17 : σ3 0 17 = g1' 0 17 := (ag_at t2 (by decide)).trans (ag_at r2 (by decide))
          have ev : chX ρ c pr ea j = rnd ρ c j := by unfold chX; rw [if_pos ⟨hsub, hcj, her⟩]
          have l1 := rnd_le ρ c j
          have fx := xf_trans (xf_trans q3 r3) t3
          by_cases hfi : rnd ρ c j < 1000000
          · have n1 := oR_ne hfi
            by_cases hbest : rnd ρ c j < (bs (chX ρ c pr ea) j).1
            · have eb : bs (chX ρ c pr ea) (j + 1) = (rnd ρ c j, j) := by rw [bs_succ]; unfold bsS; rw [ev, if_pos hbest]
              refine ⟨(up2 σ3 0 17 (Int32.ofNat j), oR (rnd ρ c j)), ?_, ?_, ag2_trans ag13 (ag2_up h17), xf_trans fx (xf_up (by omega)), ?_⟩
              · by_cases hm : bV (bs (chX ρ c pr ea) j) = -1
                · simp (discharger := first | assumption | omega | decide) only [x_tg, w_tg, m_tg, ↓reduceIte, Option.bind_some, ↓x_0b, ↓x_1b, ↓x_2b, ↓x_3b, ↓x_4b, ↓x_5b, ↓x_6b, ↓x_7b, ↓x_8b, ↓x_9b, ↓x_10b, ↓x_11b, ↓x_12b, ↓x_13b, ↓x_14b, ↓x_15b, ↓x_16b, ↓x_17b, ↓x_18b, ↓x_19b, ↓xp_2b, ↓xp_6b, ↓xp_14b, ↓xp_17b, ↓xp_18b, ↓xp_19b, ↓X_f0b, ↓X_f2b, ↓X_f4b, ↓X_f8b, ↓wf_1b, ↓wf_3b, ↓wf_5b, ↓wf_6b, ↓wf_7b, ↓wf_9b, ↓wt_1_0b, ↓wt_1_1b, ↓wt_1_2b, ↓wt_1_3b, ↓wt_1_4b, ↓wt_11_0b, ↓wt_11_1b, ↓wt_11_2b, ↓wt_11_3b, ↓wt_11_4b, ↓wt_21_0b, ↓wt_21_1b, ↓wt_31_0b, ↓wt_31_1b, ↓wt_31_2b, ↓wt_31_3b, ↓wt_31_4b, ↓wt_31_5b, ↓wt_31_6b, ↓wt_41_0b, ↓wt_41_1b, ↓wt_41_2b, ↓wt_41_3b, ↓wt_41_4b, ↓wt_41_5b, ↓wt_41_6b, ↓wt_1b, ↓wt_11b, ↓wt_21b, ↓wt_31b, ↓wt_41b, ↓X_c0b, ↓X_c1b, ↓X_c2b, ↓X_c3b, ↓X_c4b, ↓X_e0b, ↓X_e1b, ↓X_e2b, ↓X_e3b, ↓X_e4b, ↓X_cb, ↓X_eb, ↓X_w0b, ↓X_w1b, ↓X_hb, ↓X_yb, ↓X_rb, ↓wp_0b, ↓wp_2b, ↓wp_4b, ↓wp_8b, ↓ws_2b, ↓ws_3b, ↓ws_4b, ↓ws_5b, ↓ws_6b, ↓ws_12b, ↓ws_13b, ↓ws_14b, ↓ws_15b, ↓ws_16b, ↓ws_22b, ↓ws_23b, ↓ws_51b, ↓wS_yb, ↓wS_rb, ↓wS_cb, ↓wS_eb, F_X0_shortestFor_J136, F_X0_shortestFor_J126, F_X0_shortestFor_J105, F_X0_shortestFor_J87, F_X0_shortestFor_J86, F_X0_shortestFor_B45, F_X0_shortestFor_L45, F_X0_shortestFor, ofN_lt, hlt, hz, hsub, not_true_eq_false, ↓bn9 gfw, one_ne, ↓cb9 r1, hnl, ↓cb9 t1, n1, eq_true hm, ofNs]
                · have hm2 : (bs (chX ρ c pr ea) j).1 < 1000000 := by
                    apply Nat.lt_of_not_le
                    intro q; apply hm; unfold bV; rw [if_neg (by omega)]
                  have hm3 : ¬ bV (bs (chX ρ c pr ea) j) ≤ oR (rnd ρ c j) := by unfold bV; rw [if_pos hm2, oR_pos hfi, ofN_le (by omega) (by omega)]; omega
                  simp (discharger := first | assumption | omega | decide) only [x_tg, w_tg, m_tg, ↓reduceIte, Option.bind_some, ↓x_0b, ↓x_1b, ↓x_2b, ↓x_3b, ↓x_4b, ↓x_5b, ↓x_6b, ↓x_7b, ↓x_8b, ↓x_9b, ↓x_10b, ↓x_11b, ↓x_12b, ↓x_13b, ↓x_14b, ↓x_15b, ↓x_16b, ↓x_17b, ↓x_18b, ↓x_19b, ↓xp_2b, ↓xp_6b, ↓xp_14b, ↓xp_17b, ↓xp_18b, ↓xp_19b, ↓X_f0b, ↓X_f2b, ↓X_f4b, ↓X_f8b, ↓wf_1b, ↓wf_3b, ↓wf_5b, ↓wf_6b, ↓wf_7b, ↓wf_9b, ↓wt_1_0b, ↓wt_1_1b, ↓wt_1_2b, ↓wt_1_3b, ↓wt_1_4b, ↓wt_11_0b, ↓wt_11_1b, ↓wt_11_2b, ↓wt_11_3b, ↓wt_11_4b, ↓wt_21_0b, ↓wt_21_1b, ↓wt_31_0b, ↓wt_31_1b, ↓wt_31_2b, ↓wt_31_3b, ↓wt_31_4b, ↓wt_31_5b, ↓wt_31_6b, ↓wt_41_0b, ↓wt_41_1b, ↓wt_41_2b, ↓wt_41_3b, ↓wt_41_4b, ↓wt_41_5b, ↓wt_41_6b, ↓wt_1b, ↓wt_11b, ↓wt_21b, ↓wt_31b, ↓wt_41b, ↓X_c0b, ↓X_c1b, ↓X_c2b, ↓X_c3b, ↓X_c4b, ↓X_e0b, ↓X_e1b, ↓X_e2b, ↓X_e3b, ↓X_e4b, ↓X_cb, ↓X_eb, ↓X_w0b, ↓X_w1b, ↓X_hb, ↓X_yb, ↓X_rb, ↓wp_0b, ↓wp_2b, ↓wp_4b, ↓wp_8b, ↓ws_2b, ↓ws_3b, ↓ws_4b, ↓ws_5b, ↓ws_6b, ↓ws_12b, ↓ws_13b, ↓ws_14b, ↓ws_15b, ↓ws_16b, ↓ws_22b, ↓ws_23b, ↓ws_51b, ↓wS_yb, ↓wS_rb, ↓wS_cb, ↓wS_eb, F_X0_shortestFor_J136, F_X0_shortestFor_J126, F_X0_shortestFor_J105, F_X0_shortestFor_J87, F_X0_shortestFor_J86, F_X0_shortestFor_B45, F_X0_shortestFor_L45, F_X0_shortestFor, ofN_lt, hlt, hz, hsub, not_true_eq_false, ↓bn9 gfw, one_ne, ↓cb9 r1, hnl, ↓cb9 t1, n1, hm, hm3, ofNs]
              · rw [eb, bV_pos (by exact hfi), oR_pos hfi]
              · rw [eb]; intro _; exact up2_same σ3 0 17 (Int32.ofNat j)
            · have eb : bs (chX ρ c pr ea) (j + 1) = bs (chX ρ c pr ea) j := by rw [bs_succ]; unfold bsS; rw [ev, if_neg hbest]
              have hm2 : (bs (chX ρ c pr ea) j).1 < 1000000 := by omega
              have hm : ¬ bV (bs (chX ρ c pr ea) j) = -1 := by unfold bV; rw [if_pos hm2]; exact ofN_nm1 (by omega)
              have hm3 : bV (bs (chX ρ c pr ea) j) ≤ oR (rnd ρ c j) := by unfold bV; rw [if_pos hm2, oR_pos hfi, ofN_le (by omega) (by omega)]; omega
              refine ⟨(σ3, bV (bs (chX ρ c pr ea) j)), ?_, by rw [eb], ag13, fx, ?_⟩
              · simp (discharger := first | assumption | omega | decide) only [x_tg, w_tg, m_tg, ↓reduceIte, Option.bind_some, ↓x_0b, ↓x_1b, ↓x_2b, ↓x_3b, ↓x_4b, ↓x_5b, ↓x_6b, ↓x_7b, ↓x_8b, ↓x_9b, ↓x_10b, ↓x_11b, ↓x_12b, ↓x_13b, ↓x_14b, ↓x_15b, ↓x_16b, ↓x_17b, ↓x_18b, ↓x_19b, ↓xp_2b, ↓xp_6b, ↓xp_14b, ↓xp_17b, ↓xp_18b, ↓xp_19b, ↓X_f0b, ↓X_f2b, ↓X_f4b, ↓X_f8b, ↓wf_1b, ↓wf_3b, ↓wf_5b, ↓wf_6b, ↓wf_7b, ↓wf_9b, ↓wt_1_0b, ↓wt_1_1b, ↓wt_1_2b, ↓wt_1_3b, ↓wt_1_4b, ↓wt_11_0b, ↓wt_11_1b, ↓wt_11_2b, ↓wt_11_3b, ↓wt_11_4b, ↓wt_21_0b, ↓wt_21_1b, ↓wt_31_0b, ↓wt_31_1b, ↓wt_31_2b, ↓wt_31_3b, ↓wt_31_4b, ↓wt_31_5b, ↓wt_31_6b, ↓wt_41_0b, ↓wt_41_1b, ↓wt_41_2b, ↓wt_41_3b, ↓wt_41_4b, ↓wt_41_5b, ↓wt_41_6b, ↓wt_1b, ↓wt_11b, ↓wt_21b, ↓wt_31b, ↓wt_41b, ↓X_c0b, ↓X_c1b, ↓X_c2b, ↓X_c3b, ↓X_c4b, ↓X_e0b, ↓X_e1b, ↓X_e2b, ↓X_e3b, ↓X_e4b, ↓X_cb, ↓X_eb, ↓X_w0b, ↓X_w1b, ↓X_hb, ↓X_yb, ↓X_rb, ↓wp_0b, ↓wp_2b, ↓wp_4b, ↓wp_8b, ↓ws_2b, ↓ws_3b, ↓ws_4b, ↓ws_5b, ↓ws_6b, ↓ws_12b, ↓ws_13b, ↓ws_14b, ↓ws_15b, ↓ws_16b, ↓ws_22b, ↓ws_23b, ↓ws_51b, ↓wS_yb, ↓wS_rb, ↓wS_cb, ↓wS_eb, F_X0_shortestFor_J136, F_X0_shortestFor_J126, F_X0_shortestFor_J105, F_X0_shortestFor_J87, F_X0_shortestFor_J86, F_X0_shortestFor_B45, F_X0_shortestFor_L45, F_X0_shortestFor, ofN_lt, hlt, hz, hsub, not_true_eq_false, ↓bn9 gfw, one_ne, ↓cb9 r1, hnl, ↓cb9 t1, n1, hm, eq_true hm3, ofNs]
              · rw [eb]; intro q; show σ3 0 17 = _; rw [e17]; exact q4 q
          · refine skip σ3 ag13 fx e17 (by omega) ?_
            simp (discharger := first | assumption | omega | decide) only [x_tg, w_tg, m_tg, ↓reduceIte, Option.bind_some, ↓x_0b, ↓x_1b, ↓x_2b, ↓x_3b, ↓x_4b, ↓x_5b, ↓x_6b, ↓x_7b, ↓x_8b, ↓x_9b, ↓x_10b, ↓x_11b, ↓x_12b, ↓x_13b, ↓x_14b, ↓x_15b, ↓x_16b, ↓x_17b, ↓x_18b, ↓x_19b, ↓xp_2b, ↓xp_6b, ↓xp_14b, ↓xp_17b, ↓xp_18b, ↓xp_19b, ↓X_f0b, ↓X_f2b, ↓X_f4b, ↓X_f8b, ↓wf_1b, ↓wf_3b, ↓wf_5b, ↓wf_6b, ↓wf_7b, ↓wf_9b, ↓wt_1_0b, ↓wt_1_1b, ↓wt_1_2b, ↓wt_1_3b, ↓wt_1_4b, ↓wt_11_0b, ↓wt_11_1b, ↓wt_11_2b, ↓wt_11_3b, ↓wt_11_4b, ↓wt_21_0b, ↓wt_21_1b, ↓wt_31_0b, ↓wt_31_1b, ↓wt_31_2b, ↓wt_31_3b, ↓wt_31_4b, ↓wt_31_5b, ↓wt_31_6b, ↓wt_41_0b, ↓wt_41_1b, ↓wt_41_2b, ↓wt_41_3b, ↓wt_41_4b, ↓wt_41_5b, ↓wt_41_6b, ↓wt_1b, ↓wt_11b, ↓wt_21b, ↓wt_31b, ↓wt_41b, ↓X_c0b, ↓X_c1b, ↓X_c2b, ↓X_c3b, ↓X_c4b, ↓X_e0b, ↓X_e1b, ↓X_e2b, ↓X_e3b, ↓X_e4b, ↓X_cb, ↓X_eb, ↓X_w0b, ↓X_w1b, ↓X_hb, ↓X_yb, ↓X_rb, ↓wp_0b, ↓wp_2b, ↓wp_4b, ↓wp_8b, ↓ws_2b, ↓ws_3b, ↓ws_4b, ↓ws_5b, ↓ws_6b, ↓ws_12b, ↓ws_13b, ↓ws_14b, ↓ws_15b, ↓ws_16b, ↓ws_22b, ↓ws_23b, ↓ws_51b, ↓wS_yb, ↓wS_rb, ↓wS_cb, ↓wS_eb, F_X0_shortestFor_J136, F_X0_shortestFor_J126, F_X0_shortestFor_J105, F_X0_shortestFor_J87, F_X0_shortestFor_J86, F_X0_shortestFor_B45, F_X0_shortestFor_L45, F_X0_shortestFor, ofN_lt, hlt, hz, hsub, not_true_eq_false, ↓bn9 gfw, one_ne, ↓cb9 r1, hnl, ↓cb9 t1, oR_neg hfi, ofNs]
        · have her' : erX ρ c pr ea j = false := by simpa using her
          have hnl : oN (gf ρ (kdO ρ c) j (NE ρ)) < Int32.ofNat pr - Int32.ofNat ea := hei.mpr her'
          refine skip σ2 ag12 (xf_trans q3 r3) (ag_at r2 (by decide)) (by unfold chX; rw [if_neg (fun q => her q.2.2)]) ?_
          simp (discharger := first | assumption | omega | decide) only [x_tg, w_tg, m_tg, ↓reduceIte, Option.bind_some, ↓x_0b, ↓x_1b, ↓x_2b, ↓x_3b, ↓x_4b, ↓x_5b, ↓x_6b, ↓x_7b, ↓x_8b, ↓x_9b, ↓x_10b, ↓x_11b, ↓x_12b, ↓x_13b, ↓x_14b, ↓x_15b, ↓x_16b, ↓x_17b, ↓x_18b, ↓x_19b, ↓xp_2b, ↓xp_6b, ↓xp_14b, ↓xp_17b, ↓xp_18b, ↓xp_19b, ↓X_f0b, ↓X_f2b, ↓X_f4b, ↓X_f8b, ↓wf_1b, ↓wf_3b, ↓wf_5b, ↓wf_6b, ↓wf_7b, ↓wf_9b, ↓wt_1_0b, ↓wt_1_1b, ↓wt_1_2b, ↓wt_1_3b, ↓wt_1_4b, ↓wt_11_0b, ↓wt_11_1b, ↓wt_11_2b, ↓wt_11_3b, ↓wt_11_4b, ↓wt_21_0b, ↓wt_21_1b, ↓wt_31_0b, ↓wt_31_1b, ↓wt_31_2b, ↓wt_31_3b, ↓wt_31_4b, ↓wt_31_5b, ↓wt_31_6b, ↓wt_41_0b, ↓wt_41_1b, ↓wt_41_2b, ↓wt_41_3b, ↓wt_41_4b, ↓wt_41_5b, ↓wt_41_6b, ↓wt_1b, ↓wt_11b, ↓wt_21b, ↓wt_31b, ↓wt_41b, ↓X_c0b, ↓X_c1b, ↓X_c2b, ↓X_c3b, ↓X_c4b, ↓X_e0b, ↓X_e1b, ↓X_e2b, ↓X_e3b, ↓X_e4b, ↓X_cb, ↓X_eb, ↓X_w0b, ↓X_w1b, ↓X_hb, ↓X_yb, ↓X_rb, ↓wp_0b, ↓wp_2b, ↓wp_4b, ↓wp_8b, ↓ws_2b, ↓ws_3b, ↓ws_4b, ↓ws_5b, ↓ws_6b, ↓ws_12b, ↓ws_13b, ↓ws_14b, ↓ws_15b, ↓ws_16b, ↓ws_22b, ↓ws_23b, ↓ws_51b, ↓wS_yb, ↓wS_rb, ↓wS_cb, ↓wS_eb, F_X0_shortestFor_J136, F_X0_shortestFor_J126, F_X0_shortestFor_J105, F_X0_shortestFor_J87, F_X0_shortestFor_J86, F_X0_shortestFor_B45, F_X0_shortestFor_L45, F_X0_shortestFor, ofN_lt, hlt, hz, hsub, not_true_eq_false, ↓bn9 gfw, one_ne, ↓cb9 r1, eq_true hnl, ofNs]
    · refine skip g1' q2 q3 rfl (by unfold chX; rw [if_neg (fun q => hsub q.1)]) ?_
      simp (discharger := first | assumption | omega | decide) only [x_tg, w_tg, m_tg, ↓reduceIte, Option.bind_some, ↓x_0b, ↓x_1b, ↓x_2b, ↓x_3b, ↓x_4b, ↓x_5b, ↓x_6b, ↓x_7b, ↓x_8b, ↓x_9b, ↓x_10b, ↓x_11b, ↓x_12b, ↓x_13b, ↓x_14b, ↓x_15b, ↓x_16b, ↓x_17b, ↓x_18b, ↓x_19b, ↓xp_2b, ↓xp_6b, ↓xp_14b, ↓xp_17b, ↓xp_18b, ↓xp_19b, ↓X_f0b, ↓X_f2b, ↓X_f4b, ↓X_f8b, ↓wf_1b, ↓wf_3b, ↓wf_5b, ↓wf_6b, ↓wf_7b, ↓wf_9b, ↓wt_1_0b, ↓wt_1_1b, ↓wt_1_2b, ↓wt_1_3b, ↓wt_1_4b, ↓wt_11_0b, ↓wt_11_1b, ↓wt_11_2b, ↓wt_11_3b, ↓wt_11_4b, ↓wt_21_0b, ↓wt_21_1b, ↓wt_31_0b, ↓wt_31_1b, ↓wt_31_2b, ↓wt_31_3b, ↓wt_31_4b, ↓wt_31_5b, ↓wt_31_6b, ↓wt_41_0b, ↓wt_41_1b, ↓wt_41_2b, ↓wt_41_3b, ↓wt_41_4b, ↓wt_41_5b, ↓wt_41_6b, ↓wt_1b, ↓wt_11b, ↓wt_21b, ↓wt_31b, ↓wt_41b, ↓X_c0b, ↓X_c1b, ↓X_c2b, ↓X_c3b, ↓X_c4b, ↓X_e0b, ↓X_e1b, ↓X_e2b, ↓X_e3b, ↓X_e4b, ↓X_cb, ↓X_eb, ↓X_w0b, ↓X_w1b, ↓X_hb, ↓X_yb, ↓X_rb, ↓wp_0b, ↓wp_2b, ↓wp_4b, ↓wp_8b, ↓ws_2b, ↓ws_3b, ↓ws_4b, ↓ws_5b, ↓ws_6b, ↓ws_12b, ↓ws_13b, ↓ws_14b, ↓ws_15b, ↓ws_16b, ↓ws_22b, ↓ws_23b, ↓ws_51b, ↓wS_yb, ↓wS_rb, ↓wS_cb, ↓wS_eb, F_X0_shortestFor_J136, F_X0_shortestFor_J126, F_X0_shortestFor_J105, F_X0_shortestFor_J87, F_X0_shortestFor_J86, F_X0_shortestFor_B45, F_X0_shortestFor_L45, F_X0_shortestFor, ofN_lt, hlt, hz, hsub, not_false_eq_true, ofNs]
set_option maxRecDepth 8000 in
theorem sh9 : ∀ e, e < 9 → (1 : Int32) <<< (Int32.ofNat e &&& 31) = Int32.ofNat (2 ^ e) := by decide +kernel
set_option maxRecDepth 8000 in
theorem m_wareL (h : Lok L) (hM : WM σ ρ) (hI : Inv ρ) (hP : PM σ) {c w pr : Nat} (hc : c < NC ρ) (hw : w < NWr ρ) (hpr : ρ (126 + 2 * w + 0) = Int32.ofNat pr) (hp9 : pr ≤ 9999) : ∃ σ', F_X13_refusesWare_L58 fu (some (L.1 1000)) (Int32.ofNat c) (Int32.ofNat w) (Int32.ofNat (lie ρ)) 0 (hp L (up2 σ 1000 11 1000000)) = some (if (bs (chM ρ c pr (eaO ρ c)) (2 ^ NE ρ)).1 < 1000000 then 0 else -1000004, hp L σ') ∧ ag2 σ σ' ∧ mf σ σ' ∧ σ' 1000 11 = Int32.ofNat (bs (chM ρ c pr (eaO ρ c)) (2 ^ NE ρ)).1 ∧ ((bs (chM ρ c pr (eaO ρ c)) (2 ^ NE ρ)).1 < 1000000 → σ' 1000 10 = Int32.ofNat (bs (chM ρ c pr (eaO ρ c)) (2 ^ NE ρ)).2) := by
  have h11 : s2 1000 11 = true := by decide
  have h10 : s2 1000 10 = true := by decide
  have h6 := hI.1.2
  have h66 := hI.2.2.1.2
  have h8 := hI.2.1.2
  have hl := lie_lt hI
  have hp2 := p2_8 h8
  obtain ⟨ea1, ea2⟩ := hI.2.2.2.2.2.2.2.2 c hc
  have hnd : nDone ρ ≤ 8 := cbn_le _ _
  have hea : eaO ρ c ≤ 529000000 := by omega
  have hsh := sh9 (NE ρ) (by omega)
  generalize hgea : eaO ρ c = ea at *
  have key := lpQ (Lp := fun f j (g : St) => F_X13_refusesWare_L58 f (some (L.1 1000)) (Int32.ofNat c) (Int32.ofNat w) (Int32.ofNat (lie ρ)) (Int32.ofNat j) (hp L g)) (N := 2 ^ NE ρ) (fun j g => ag2 σ g ∧ mf σ g ∧ g 1000 11 = Int32.ofNat (bs (chM ρ c pr ea) j).1 ∧ ((bs (chM ρ c pr ea) j).1 < 1000000 → g 1000 10 = Int32.ofNat (bs (chM ρ c pr ea) j).2)) (fun r => ∃ σ', r = (if (bs (chM ρ c pr ea) (2 ^ NE ρ)).1 < 1000000 then 0 else -1000004, hp L σ') ∧ ag2 σ σ' ∧ mf σ σ' ∧ σ' 1000 11 = Int32.ofNat (bs (chM ρ c pr ea) (2 ^ NE ρ)).1 ∧ ((bs (chM ρ c pr ea) (2 ^ NE ρ)).1 < 1000000 → σ' 1000 10 = Int32.ofNat (bs (chM ρ c pr ea) (2 ^ NE ρ)).2)) ?_ ?_ (by unfold fu; omega) (up2 σ 1000 11 1000000) ⟨ag2_up h11, mf_up (by omega), up2_same _ _ _ _, fun q => absurd q (Nat.lt_irrefl _)⟩
  · obtain ⟨r, e, σ', rfl, q1, q2, q3⟩ := key
    exact ⟨σ', e, q1, q2, q3⟩
  · intro f g ⟨q1, q2, q3, q4⟩
    refine ⟨_, ?_, g, rfl, q1, q2, q3, q4⟩
    have hM1 := WM_ag2 q1 hM
    have hb := bs_le (chM ρ c pr ea) (2 ^ NE ρ)
    simp (discharger := first | assumption | omega | decide) only [x_tg, w_tg, m_tg, ↓reduceIte, Option.bind_some, ↓m_0b, ↓m_1b, ↓m_2b, ↓m_3b, ↓m_4b, ↓m_5b, ↓m_6b, ↓m_7b, ↓m_8b, ↓m_9b, ↓m_10b, ↓m_11b, ↓m_12b, ↓m_13b, ↓m_14b, ↓m_15b, ↓m_16b, ↓m_17b, ↓m_18b, ↓m_19b, ↓m_20b, ↓m_21b, ↓m_22b, ↓m_23b, ↓m_24b, ↓m_25b, ↓m_26b, ↓m_27b, ↓m_28b, ↓m_29b, ↓mp_3b, ↓mp_6b, ↓mp_10b, ↓mp_11b, ↓mp_12b, ↓mp_14b, ↓mp_15b, ↓mp_16b, ↓mp_17b, ↓mp_18b, ↓mp_19b, ↓mp_22b, ↓mp_23b, ↓mp_24b, ↓mp_25b, ↓M_42b, ↓M_43b, ↓M_44b, ↓M_45b, ↓cIs_0b, ↓cIs_1b, ↓cIs_2b, ↓cIs_3b, ↓cIs_4b, ↓eIs_0b, ↓eIs_1b, ↓eIs_2b, ↓eIs_3b, ↓eIs_4b, ↓cIs_nb, ↓eIs_nb, ↓M_rb, ↓M_cAt_0b, ↓M_cAt_1b, ↓M_cAt_2b, ↓M_cAt_3b, ↓M_cAt_4b, ↓M_eAt_0b, ↓M_eAt_1b, ↓M_eAt_2b, ↓M_eAt_3b, ↓M_eAt_4b, ↓M_wAt_0b, ↓M_wAt_1b, cAt_0, cAt_1, cAt_2, cAt_3, cAt_4, eAt_0, eAt_1, eAt_2, eAt_3, eAt_4, wAt_0, wAt_1, cAt_n, eAt_n, wAt_n, F_X13_refusesWare_L58, F_X13_refusesWare_B58, hI.2.1.1, hsh, ofN_le, Nat.le_refl, q3, li_1000000, ofN_lt]
    by_cases hq : (bs (chM ρ c pr ea) (2 ^ NE ρ)).1 < 1000000
    · rw [if_pos hq, if_pos hq]
    · rw [if_neg hq, if_neg hq]
  · intro f j g hj ⟨q1, q2, q3, q4⟩
    have hlt : ¬ 2 ^ NE ρ ≤ j := by omega
    have hj8 : j < 256 := by omega
    have hz := dif_z hj8 hl.2
    have hb := bs_le (chM ρ c pr ea) j
    have hM1 := WM_ag2 q1 hM
    have gb := bits_n (hp L g) hj8
    rw [cbn_8 h8 hj] at gb
    have hcl := cbn_le j (NE ρ)
    have skip : ∀ σ2, ag2 σ σ2 → mf σ σ2 → σ2 1000 11 = g 1000 11 → σ2 1000 10 = g 1000 10 → chM ρ c pr ea j = 1000000 → F_X13_refusesWare_L58 (f + 1) (some (L.1 1000)) (Int32.ofNat c) (Int32.ofNat w) (Int32.ofNat (lie ρ)) (Int32.ofNat j) (hp L g) = F_X13_refusesWare_L58 f (some (L.1 1000)) (Int32.ofNat c) (Int32.ofNat w) (Int32.ofNat (lie ρ)) (Int32.ofNat (j + 1)) (hp L σ2) → ∃ g' : St, F_X13_refusesWare_L58 (f + 1) (some (L.1 1000)) (Int32.ofNat c) (Int32.ofNat w) (Int32.ofNat (lie ρ)) (Int32.ofNat j) (hp L g) = F_X13_refusesWare_L58 f (some (L.1 1000)) (Int32.ofNat c) (Int32.ofNat w) (Int32.ofNat (lie ρ)) (Int32.ofNat (j + 1)) (hp L g') ∧ ag2 σ g' ∧ mf σ g' ∧ g' 1000 11 = Int32.ofNat (bs (chM ρ c pr ea) (j + 1)).1 ∧ ((bs (chM ρ c pr ea) (j + 1)).1 < 1000000 → g' 1000 10 = Int32.ofNat (bs (chM ρ c pr ea) (j + 1)).2) := by
      intro σ2 a1 a2 a3 a3' a4 a5
      have eb : bs (chM ρ c pr ea) (j + 1) = bs (chM ρ c pr ea) j := by rw [bs_succ]; unfold bsS; rw [a4, if_neg (by omega)]
      refine ⟨σ2, a5, a1, a2, ?_, ?_⟩
      · rw [eb, a3]; exact q3
      · rw [eb, a3']; exact q4
    by_cases hsub : dif j (lie ρ) = 0
    · by_cases h5 : 5 < cbn j (NE ρ)
      · have h5' : (5 : Int32) < Int32.ofNat (cbn j (NE ρ)) := by rw [li_5, ofN_lt (by omega) (by omega)]; exact h5
        refine skip g q1 q2 rfl rfl (by unfold chM; rw [if_neg (by omega)]) ?_
        simp (discharger := first | assumption | omega | decide) only [x_tg, w_tg, m_tg, ↓reduceIte, Option.bind_some, ↓m_0b, ↓m_1b, ↓m_2b, ↓m_3b, ↓m_4b, ↓m_5b, ↓m_6b, ↓m_7b, ↓m_8b, ↓m_9b, ↓m_10b, ↓m_11b, ↓m_12b, ↓m_13b, ↓m_14b, ↓m_15b, ↓m_16b, ↓m_17b, ↓m_18b, ↓m_19b, ↓m_20b, ↓m_21b, ↓m_22b, ↓m_23b, ↓m_24b, ↓m_25b, ↓m_26b, ↓m_27b, ↓m_28b, ↓m_29b, ↓mp_3b, ↓mp_6b, ↓mp_10b, ↓mp_11b, ↓mp_12b, ↓mp_14b, ↓mp_15b, ↓mp_16b, ↓mp_17b, ↓mp_18b, ↓mp_19b, ↓mp_22b, ↓mp_23b, ↓mp_24b, ↓mp_25b, ↓M_42b, ↓M_43b, ↓M_44b, ↓M_45b, ↓cIs_0b, ↓cIs_1b, ↓cIs_2b, ↓cIs_3b, ↓cIs_4b, ↓eIs_0b, ↓eIs_1b, ↓eIs_2b, ↓eIs_3b, ↓eIs_4b, ↓cIs_nb, ↓eIs_nb, ↓M_rb, ↓M_cAt_0b, ↓M_cAt_1b, ↓M_cAt_2b, ↓M_cAt_3b, ↓M_cAt_4b, ↓M_eAt_0b, ↓M_eAt_1b, ↓M_eAt_2b, ↓M_eAt_3b, ↓M_eAt_4b, ↓M_wAt_0b, ↓M_wAt_1b, cAt_0, cAt_1, cAt_2, cAt_3, cAt_4, eAt_0, eAt_1, eAt_2, eAt_3, eAt_4, wAt_0, wAt_1, cAt_n, eAt_n, wAt_n, F_X13_refusesWare_J173, F_X13_refusesWare_J150, F_X13_refusesWare_J131, F_X13_refusesWare_J130, F_X13_refusesWare_B58, F_X13_refusesWare_L58, F_X13_refusesWare_J40, F_X13_refusesWare_J16, F_X13_refusesWare, hI.2.1.1, hsh, ofN_le, hlt, hz, hsub, not_true_eq_false, ↓bn9 gb, eq_true h5', ofNs]
      · have h5' : ¬ (5 : Int32) < Int32.ofNat (cbn j (NE ρ)) := by rw [li_5, ofN_lt (by omega) (by omega)]; exact h5
        have hcj : cbn j (NE ρ) ≤ 5 := by omega
        obtain ⟨σ2, r1, r2, r3⟩ := m_getsOf h hM1 hI hc hj8
        have ag12 := ag2_trans q1 (ag2_ag r2)
        have hM2 := WM_ag2 ag12 hM
        have f11 : σ2 1000 11 = g 1000 11 := ag_at r2 (by decide)
        have f10 : σ2 1000 10 = g 1000 10 := ag_at r2 (by decide)
        have nn : ¬ (bs (chM ρ c pr ea) j).1 ≤ 1000000 → False := fun q => q hb
        have le6 : Int32.ofNat (bs (chM ρ c pr ea) j).1 ≤ 1000000 := by rw [li_1000000, ofN_le (by omega) (by omega)]; exact hb
        cases hg : gf ρ (kdO ρ c) j (NE ρ) with
        | none =>
          rw [hg] at r1
          have e11 : σ2 1000 11 = Int32.ofNat (bs (chM ρ c pr ea) j).1 := f11.trans q3
          refine skip σ2 ag12 (mf_trans q2 r3) f11 f10 (by unfold chM erM; rw [hg, if_neg (by simp)]) ?_
          simp (discharger := first | assumption | omega | decide) only [x_tg, w_tg, m_tg, ↓reduceIte, Option.bind_some, ↓m_0b, ↓m_1b, ↓m_2b, ↓m_3b, ↓m_4b, ↓m_5b, ↓m_6b, ↓m_7b, ↓m_8b, ↓m_9b, ↓m_10b, ↓m_11b, ↓m_12b, ↓m_13b, ↓m_14b, ↓m_15b, ↓m_16b, ↓m_17b, ↓m_18b, ↓m_19b, ↓m_20b, ↓m_21b, ↓m_22b, ↓m_23b, ↓m_24b, ↓m_25b, ↓m_26b, ↓m_27b, ↓m_28b, ↓m_29b, ↓mp_3b, ↓mp_6b, ↓mp_10b, ↓mp_11b, ↓mp_12b, ↓mp_14b, ↓mp_15b, ↓mp_16b, ↓mp_17b, ↓mp_18b, ↓mp_19b, ↓mp_22b, ↓mp_23b, ↓mp_24b, ↓mp_25b, ↓M_42b, ↓M_43b, ↓M_44b, ↓M_45b, ↓cIs_0b, ↓cIs_1b, ↓cIs_2b, ↓cIs_3b, ↓cIs_4b, ↓eIs_0b, ↓eIs_1b, ↓eIs_2b, ↓eIs_3b, ↓eIs_4b, ↓cIs_nb, ↓eIs_nb, ↓M_rb, ↓M_cAt_0b, ↓M_cAt_1b, ↓M_cAt_2b, ↓M_cAt_3b, ↓M_cAt_4b, ↓M_eAt_0b, ↓M_eAt_1b, ↓M_eAt_2b, ↓M_eAt_3b, ↓M_eAt_4b, ↓M_wAt_0b, ↓M_wAt_1b, cAt_0, cAt_1, cAt_2, cAt_3, cAt_4, eAt_0, eAt_1, eAt_2, eAt_3, eAt_4, wAt_0, wAt_1, cAt_n, eAt_n, wAt_n, F_X13_refusesWare_J173, F_X13_refusesWare_J150, F_X13_refusesWare_J131, F_X13_refusesWare_J130, F_X13_refusesWare_B58, F_X13_refusesWare_L58, F_X13_refusesWare_J40, F_X13_refusesWare_J16, F_X13_refusesWare, hI.2.1.1, hsh, ofN_le, hlt, hz, hsub, not_true_eq_false, ↓bn9 gb, h5', ↓cb9 r1, oN, show (-1 : Int32) < 0 by decide, e11, eq_true le6, ofNs]
        | some gg =>
          rw [hg] at r1
          have hgg := gf_le hI (NE ρ) (Nat.le_refl _) gg hg
          have m1 : ¬ Int32.ofNat gg < 0 := ofN_ge0 (by omega)
          have m2 := (cIs_3 h hM2 (show c < 6 by omega)).trans (congrArg some ea1)
          have m3 := (M_r (n := 126 + 2 * w + 0) h hM2 (by omega)).trans (congrArg some hpr)
          rw [← wAt_0] at m3
          by_cases her : pr ≤ ea + gg
          · have m4 : ¬ ea + gg < pr := by omega
            obtain ⟨σ3, t1, t2, t3, _⟩ := m_roundOf h hM2 hI (PM_ag2 ag12 hP) hc hj8 hcj
            have ag13 := ag2_trans ag12 (ag2_ag t2)
            have e11 : σ3 1000 11 = Int32.ofNat (bs (chM ρ c pr ea) j).1 := ((ag_at t2 (by decide)).trans f11).trans q3
            have e10 : σ3 1000 10 = g 1000 10 := (ag_at t2 (by decide)).trans f10
            have ev : chM ρ c pr ea j = rnd ρ c j := by unfold chM erM; rw [hg, if_pos ⟨hsub, hcj, decide_eq_true her⟩]
            have l1 := rnd_le ρ c j
            have fm := mf_trans (mf_trans q2 r3) t3
            by_cases hbest : rnd ρ c j < (bs (chM ρ c pr ea) j).1
            · have eb : bs (chM ρ c pr ea) (j + 1) = (rnd ρ c j, j) := by rw [bs_succ]; unfold bsS; rw [ev, if_pos hbest]
              have hn : ¬ (bs (chM ρ c pr ea) j).1 ≤ rnd ρ c j := by omega
              refine ⟨up2 (up2 σ3 1000 11 (Int32.ofNat (rnd ρ c j))) 1000 10 (Int32.ofNat j), ?_, ag2_trans ag13 (ag2_trans (ag2_up h11) (ag2_up h10)), mf_trans fm (mf_trans (mf_up (by omega)) (mf_up (by omega))), ?_, ?_⟩
              · simp (discharger := first | assumption | omega | decide) only [x_tg, w_tg, m_tg, ↓reduceIte, Option.bind_some, ↓m_0b, ↓m_1b, ↓m_2b, ↓m_3b, ↓m_4b, ↓m_5b, ↓m_6b, ↓m_7b, ↓m_8b, ↓m_9b, ↓m_10b, ↓m_11b, ↓m_12b, ↓m_13b, ↓m_14b, ↓m_15b, ↓m_16b, ↓m_17b, ↓m_18b, ↓m_19b, ↓m_20b, ↓m_21b, ↓m_22b, ↓m_23b, ↓m_24b, ↓m_25b, ↓m_26b, ↓m_27b, ↓m_28b, ↓m_29b, ↓mp_3b, ↓mp_6b, ↓mp_10b, ↓mp_11b, ↓mp_12b, ↓mp_14b, ↓mp_15b, ↓mp_16b, ↓mp_17b, ↓mp_18b, ↓mp_19b, ↓mp_22b, ↓mp_23b, ↓mp_24b, ↓mp_25b, ↓M_42b, ↓M_43b, ↓M_44b, ↓M_45b, ↓cIs_0b, ↓cIs_1b, ↓cIs_2b, ↓cIs_3b, ↓cIs_4b, ↓eIs_0b, ↓eIs_1b, ↓eIs_2b, ↓eIs_3b, ↓eIs_4b, ↓cIs_nb, ↓eIs_nb, ↓M_rb, ↓M_cAt_0b, ↓M_cAt_1b, ↓M_cAt_2b, ↓M_cAt_3b, ↓M_cAt_4b, ↓M_eAt_0b, ↓M_eAt_1b, ↓M_eAt_2b, ↓M_eAt_3b, ↓M_eAt_4b, ↓M_wAt_0b, ↓M_wAt_1b, cAt_0, cAt_1, cAt_2, cAt_3, cAt_4, eAt_0, eAt_1, eAt_2, eAt_3, eAt_4, wAt_0, wAt_1, cAt_n, eAt_n, wAt_n, F_X13_refusesWare_J173, F_X13_refusesWare_J150, F_X13_refusesWare_J131, F_X13_refusesWare_J130, F_X13_refusesWare_B58, F_X13_refusesWare_L58, F_X13_refusesWare_J40, F_X13_refusesWare_J16, F_X13_refusesWare, hI.2.1.1, hsh, ofN_le, hlt, hz, hsub, not_true_eq_false, ↓bn9 gb, h5', ↓cb9 r1, oN, m1, ↓bn9 m2, ↓bn9 m3, ofN_add, ofN_lt, m4, one_ne, ↓cb9 t1, e11, hn, ofNs]
              · rw [eb, up2_ne (by omega), up2_same]
              · rw [eb]; intro _; exact up2_same _ _ _ _
            · have eb : bs (chM ρ c pr ea) (j + 1) = bs (chM ρ c pr ea) j := by rw [bs_succ]; unfold bsS; rw [ev, if_neg hbest]
              have hn : (bs (chM ρ c pr ea) j).1 ≤ rnd ρ c j := by omega
              refine ⟨σ3, ?_, ag13, fm, by rw [eb]; exact e11, ?_⟩
              · simp (discharger := first | assumption | omega | decide) only [x_tg, w_tg, m_tg, ↓reduceIte, Option.bind_some, ↓m_0b, ↓m_1b, ↓m_2b, ↓m_3b, ↓m_4b, ↓m_5b, ↓m_6b, ↓m_7b, ↓m_8b, ↓m_9b, ↓m_10b, ↓m_11b, ↓m_12b, ↓m_13b, ↓m_14b, ↓m_15b, ↓m_16b, ↓m_17b, ↓m_18b, ↓m_19b, ↓m_20b, ↓m_21b, ↓m_22b, ↓m_23b, ↓m_24b, ↓m_25b, ↓m_26b, ↓m_27b, ↓m_28b, ↓m_29b, ↓mp_3b, ↓mp_6b, ↓mp_10b, ↓mp_11b, ↓mp_12b, ↓mp_14b, ↓mp_15b, ↓mp_16b, ↓mp_17b, ↓mp_18b, ↓mp_19b, ↓mp_22b, ↓mp_23b, ↓mp_24b, ↓mp_25b, ↓M_42b, ↓M_43b, ↓M_44b, ↓M_45b, ↓cIs_0b, ↓cIs_1b, ↓cIs_2b, ↓cIs_3b, ↓cIs_4b, ↓eIs_0b, ↓eIs_1b, ↓eIs_2b, ↓eIs_3b, ↓eIs_4b, ↓cIs_nb, ↓eIs_nb, ↓M_rb, ↓M_cAt_0b, ↓M_cAt_1b, ↓M_cAt_2b, ↓M_cAt_3b, ↓M_cAt_4b, ↓M_eAt_0b, ↓M_eAt_1b, ↓M_eAt_2b, ↓M_eAt_3b, ↓M_eAt_4b, ↓M_wAt_0b, ↓M_wAt_1b, cAt_0, cAt_1, cAt_2, cAt_3, cAt_4, eAt_0, eAt_1, eAt_2, eAt_3, eAt_4, wAt_0, wAt_1, cAt_n, eAt_n, wAt_n, F_X13_refusesWare_J173, F_X13_refusesWare_J150, F_X13_refusesWare_J131, F_X13_refusesWare_J130, F_X13_refusesWare_B58, F_X13_refusesWare_L58, F_X13_refusesWare_J40, F_X13_refusesWare_J16, F_X13_refusesWare, hI.2.1.1, hsh, ofN_le, hlt, hz, hsub, not_true_eq_false, ↓bn9 gb, h5', ↓cb9 r1, oN, m1, ↓bn9 m2, ↓bn9 m3, ofN_add, ofN_lt, m4, one_ne, ↓cb9 t1, e11, eq_true hn, ofNs]
              · rw [eb, e10]; exact q4
          · have m4 : ea + gg < pr := by omega
            have e11 : σ2 1000 11 = Int32.ofNat (bs (chM ρ c pr ea) j).1 := f11.trans q3
            refine skip σ2 ag12 (mf_trans q2 r3) f11 f10 (by unfold chM erM; rw [hg, if_neg (by simp; intro _ _; omega)]) ?_
            simp (discharger := first | assumption | omega | decide) only [x_tg, w_tg, m_tg, ↓reduceIte, Option.bind_some, ↓m_0b, ↓m_1b, ↓m_2b, ↓m_3b, ↓m_4b, ↓m_5b, ↓m_6b, ↓m_7b, ↓m_8b, ↓m_9b, ↓m_10b, ↓m_11b, ↓m_12b, ↓m_13b, ↓m_14b, ↓m_15b, ↓m_16b, ↓m_17b, ↓m_18b, ↓m_19b, ↓m_20b, ↓m_21b, ↓m_22b, ↓m_23b, ↓m_24b, ↓m_25b, ↓m_26b, ↓m_27b, ↓m_28b, ↓m_29b, ↓mp_3b, ↓mp_6b, ↓mp_10b, ↓mp_11b, ↓mp_12b, ↓mp_14b, ↓mp_15b, ↓mp_16b, ↓mp_17b, ↓mp_18b, ↓mp_19b, ↓mp_22b, ↓mp_23b, ↓mp_24b, ↓mp_25b, ↓M_42b, ↓M_43b, ↓M_44b, ↓M_45b, ↓cIs_0b, ↓cIs_1b, ↓cIs_2b, ↓cIs_3b, ↓cIs_4b, ↓eIs_0b, ↓eIs_1b, ↓eIs_2b, ↓eIs_3b, ↓eIs_4b, ↓cIs_nb, ↓eIs_nb, ↓M_rb, ↓M_cAt_0b, ↓M_cAt_1b, ↓M_cAt_2b, ↓M_cAt_3b, ↓M_cAt_4b, ↓M_eAt_0b, ↓M_eAt_1b, ↓M_eAt_2b, ↓M_eAt_3b, ↓M_eAt_4b, ↓M_wAt_0b, ↓M_wAt_1b, cAt_0, cAt_1, cAt_2, cAt_3, cAt_4, eAt_0, eAt_1, eAt_2, eAt_3, eAt_4, wAt_0, wAt_1, cAt_n, eAt_n, wAt_n, F_X13_refusesWare_J173, F_X13_refusesWare_J150, F_X13_refusesWare_J131, F_X13_refusesWare_J130, F_X13_refusesWare_B58, F_X13_refusesWare_L58, F_X13_refusesWare_J40, F_X13_refusesWare_J16, F_X13_refusesWare, hI.2.1.1, hsh, ofN_le, hlt, hz, hsub, not_true_eq_false, ↓bn9 gb, h5', ↓cb9 r1, oN, m1, ↓bn9 m2, ↓bn9 m3, ofN_add, ofN_lt, m4, e11, eq_true le6, ofNs]
    · refine skip g q1 q2 rfl rfl (by unfold chM; rw [if_neg (fun q => hsub q.1)]) ?_
      simp (discharger := first | assumption | omega | decide) only [x_tg, w_tg, m_tg, ↓reduceIte, Option.bind_some, ↓m_0b, ↓m_1b, ↓m_2b, ↓m_3b, ↓m_4b, ↓m_5b, ↓m_6b, ↓m_7b, ↓m_8b, ↓m_9b, ↓m_10b, ↓m_11b, ↓m_12b, ↓m_13b, ↓m_14b, ↓m_15b, ↓m_16b, ↓m_17b, ↓m_18b, ↓m_19b, ↓m_20b, ↓m_21b, ↓m_22b, ↓m_23b, ↓m_24b, ↓m_25b, ↓m_26b, ↓m_27b, ↓m_28b, ↓m_29b, ↓mp_3b, ↓mp_6b, ↓mp_10b, ↓mp_11b, ↓mp_12b, ↓mp_14b, ↓mp_15b, ↓mp_16b, ↓mp_17b, ↓mp_18b, ↓mp_19b, ↓mp_22b, ↓mp_23b, ↓mp_24b, ↓mp_25b, ↓M_42b, ↓M_43b, ↓M_44b, ↓M_45b, ↓cIs_0b, ↓cIs_1b, ↓cIs_2b, ↓cIs_3b, ↓cIs_4b, ↓eIs_0b, ↓eIs_1b, ↓eIs_2b, ↓eIs_3b, ↓eIs_4b, ↓cIs_nb, ↓eIs_nb, ↓M_rb, ↓M_cAt_0b, ↓M_cAt_1b, ↓M_cAt_2b, ↓M_cAt_3b, ↓M_cAt_4b, ↓M_eAt_0b, ↓M_eAt_1b, ↓M_eAt_2b, ↓M_eAt_3b, ↓M_eAt_4b, ↓M_wAt_0b, ↓M_wAt_1b, cAt_0, cAt_1, cAt_2, cAt_3, cAt_4, eAt_0, eAt_1, eAt_2, eAt_3, eAt_4, wAt_0, wAt_1, cAt_n, eAt_n, wAt_n, F_X13_refusesWare_J173, F_X13_refusesWare_J150, F_X13_refusesWare_J131, F_X13_refusesWare_J130, F_X13_refusesWare_B58, F_X13_refusesWare_L58, F_X13_refusesWare_J40, F_X13_refusesWare_J16, F_X13_refusesWare, hI.2.1.1, hsh, ofN_le, hlt, hz, hsub, not_false_eq_true, ofNs]
end L5d
/-! ### the acts: cheapest, which; rounds with something changed -/
section L5e
variable {L : Lt} {σ σ' : St} {S : Sg} {ρ ρ' : Rw}
def whw (ρ : Rw) (v1 v2 : Int32) : Nat := if icV (ρ 42) v1 = 0 then 1 else if icV (ρ 44) v2 = 0 then 1 else if ρ (126 + 2 * nv v2 + 1) ≠ -1 then 2 else if emV ρ v1 = 0 then 2 else 0
set_option maxRecDepth 8000 in
theorem whw_cs (hI : Inv ρ) (v1 v2 : Int32) : (whw ρ v1 v2 = 0 ∧ ∃ c w pr, c < NC ρ ∧ v1 = Int32.ofNat c ∧ w < NWr ρ ∧ w < 6 ∧ v2 = Int32.ofNat w ∧ ρ (126 + 2 * w + 0) = Int32.ofNat pr ∧ pr ≤ 9999) ∨ whw ρ v1 v2 = 1 ∨ whw ρ v1 v2 = 2 := by
  unfold whw
  rcases icC hI v1 with ⟨e1, c, hc, hc6, rfl⟩ | e1
  · rw [if_neg (by rw [e1]; decide)]
    rcases icW hI v2 with ⟨e2, w, hw, hw6, rfl⟩ | e2
    · rw [if_neg (by rw [e2]; decide)]
      obtain ⟨⟨pr, p1, p2, p3⟩, _⟩ := hI.2.2.2.2.2.1 w hw
      split
      · exact .inr (.inr rfl)
      · split
        · exact .inr (.inr rfl)
        · exact .inl ⟨rfl, c, w, pr, hc, rfl, hw, hw6, rfl, p1, p3⟩
    · rw [if_pos e2]; exact .inr (.inl rfl)
  · rw [if_pos e1]; exact .inr (.inl rfl)
set_option maxRecDepth 8000 in
theorem x_whyW (h : Lok L) (hW : WX σ 200 ρ) (hI : Inv ρ) (v1 v2 : Int32) : F_X0_whyNoWare (some (L.1 0)) v1 v2 (hp L σ) = some (if whw ρ v1 v2 = 0 then -1 else if whw ρ v1 v2 = 1 then 0 else 4) := by
  have hb : isW 200 = true := rfl
  unfold F_X0_whyNoWare F_X0_whyNoWare_J16 whw
  rw [if_pos (x_tg h), bn9 (x_isCarrier h hW v1)]
  by_cases h1 : icV (ρ 42) v1 = 0
  · simp only [h1, ↓reduceIte]; rfl
  · rw [if_neg h1, bn9 (x_isWare h hW v2)]
    rcases icW hI v2 with ⟨e2, w, hw, hw6, rfl⟩ | e2
    · rw [e2, if_pos one_ne, bn9 (x_3 h), bn9 (wf_5 h hb), bn9 (wt_21_1 h hb), bn9 (X_w1 h hb hW hw6), nv_of (show w < 2147483648 by omega)]
      by_cases h3 : ρ (126 + 2 * w + 1) = -1
      · rw [if_neg (fun q => q h3), bn9 (x_isEmpty h hW hI v1)]
        by_cases h4 : emV ρ v1 = 0
        · simp only [h1, one_ne, h3, h4, ne_eq, not_true_eq_false, ↓reduceIte]; rfl
        · simp only [h1, one_ne, h3, h4, ne_eq, not_true_eq_false, ↓reduceIte]
      · rw [if_pos h3]; simp only [h1, one_ne, h3, ne_eq, not_false_eq_true, ↓reduceIte]; rfl
    · rw [e2]; simp only [h1, ↓reduceIte, not_true_eq_false]; rfl
set_option maxRecDepth 8000 in
theorem m_refW (h : Lok L) (hM : WM σ ρ) (hI : Inv ρ) (v1 v2 : Int32) : F_X13_refusesWare (some (L.1 1000)) v1 v2 (hp L σ) = if whw ρ v1 v2 = 0 then F_X13_refusesWare_L58 fu (some (L.1 1000)) v1 v2 (Int32.ofNat (lie ρ)) 0 (hp L (up2 σ 1000 11 1000000)) else some (if whw ρ v1 v2 = 1 then -1000001 else -1000005, hp L σ) := by
  unfold F_X13_refusesWare F_X13_refusesWare_J40 F_X13_refusesWare_J16 whw
  rw [if_pos (m_tg h), bn9 (m_isCarrier h hM v1)]
  by_cases h1 : icV (ρ 42) v1 = 0
  · simp only [h1, ↓reduceIte]; rfl
  · rw [if_neg h1, bn9 (m_isWare h hM v2)]
    rcases icW hI v2 with ⟨e2, w, hw, hw6, rfl⟩ | e2
    · have hwo := (who_lt hI.1.2 (hI.2.2.2.2.2.1 w hw).2).2
      rw [e2, if_pos one_ne, bn9 (m_0 h), M_wAt_1b h hM hw6, nv_of (show w < 2147483648 by omega)]
      simp only [hwo]
      by_cases h3 : ρ (126 + 2 * w + 1) = -1
      · rw [if_neg (fun q => q h3), bn9 (m_carries h hM hI.2.1.1 hI.2.1.2 v1)]
        simp only [em_iff hI]
        by_cases h4 : emV ρ v1 = 0
        · simp only [h1, one_ne, h3, h4, ne_eq, not_true_eq_false, ↓reduceIte]; rfl
        · simp only [h1, one_ne, h3, h4, ne_eq, not_true_eq_false, not_false_eq_true, ↓reduceIte]
          rw [bn9 (mp_11 h), bn9 (m_errandsThat h (WM_out (by omega) hM) hI.2.1.1 hI.2.1.2 0)]
          rfl
      · rw [if_pos h3]; simp only [h1, one_ne, h3, ne_eq, not_false_eq_true, ↓reduceIte]; rfl
    · rw [e2]; simp only [h1, ↓reduceIte, not_true_eq_false]; rfl
set_option maxRecDepth 8000 in
theorem op_cheapest (hR : RR L σ S) (x1 x2 : Int32) : STEP L σ (F_X0_cheapest (some (L.1 0)) x1 x2) (F_X13_cheapest (some (L.1 1000)) x1 x2) := by
  have h := hR.1.1
  have hW := hR.1.2.1
  have hC := hR.1.2.2.1
  have hP := hR.1.2.2.2.1
  have hI := hR.2.2.1.1
  have hb : isW 200 = true := rfl
  have gx := x_whyW h hW hI x1 x2
  rcases whw_cs hI x1 x2 with ⟨hw, c, w, pr, hc, rfl, hww, hw6, rfl, hpr, hp9⟩ | hw | hw
  · rw [hw] at gx
    simp only [↓reduceIte] at gx
    obtain ⟨σ', r1, r2, r3, r4⟩ := x_shortestFor h hW hI hC hP hc hww hpr hp9
    have hb := bs_le (chM S.1 c pr (eaO S.1 c)) (2 ^ NE S.1)
    by_cases hlt : (bs (chM S.1 c pr (eaO S.1 c)) (2 ^ NE S.1)).1 < 1000000
    · rw [bV_pos hlt] at r1
      have n1 := ofN_nm1 (a := (bs (chM S.1 c pr (eaO S.1 c)) (2 ^ NE S.1)).1) (by omega)
      refine STEP_g hR (r := Int32.ofNat (bs (chM S.1 c pr (eaO S.1 c)) (2 ^ NE S.1)).1) hI ⟨σ', ?_, WX_ag2 r2 hW, ax_ag2 r2, r3⟩ (fun σ1 hM => ?_)
      · simp (discharger := first | assumption | omega | decide) only [x_tg, w_tg, m_tg, ↓reduceIte, Option.bind_some, ↓x_0b, ↓x_1b, ↓x_2b, ↓x_3b, ↓x_4b, ↓x_5b, ↓x_6b, ↓x_7b, ↓x_8b, ↓x_9b, ↓x_10b, ↓x_11b, ↓x_12b, ↓x_13b, ↓x_14b, ↓x_15b, ↓x_16b, ↓x_17b, ↓x_18b, ↓x_19b, ↓xp_2b, ↓xp_6b, ↓xp_14b, ↓xp_17b, ↓xp_18b, ↓xp_19b, ↓X_f0b, ↓X_f2b, ↓X_f4b, ↓X_f8b, ↓wf_1b, ↓wf_3b, ↓wf_5b, ↓wf_6b, ↓wf_7b, ↓wf_9b, ↓wt_1_0b, ↓wt_1_1b, ↓wt_1_2b, ↓wt_1_3b, ↓wt_1_4b, ↓wt_11_0b, ↓wt_11_1b, ↓wt_11_2b, ↓wt_11_3b, ↓wt_11_4b, ↓wt_21_0b, ↓wt_21_1b, ↓wt_31_0b, ↓wt_31_1b, ↓wt_31_2b, ↓wt_31_3b, ↓wt_31_4b, ↓wt_31_5b, ↓wt_31_6b, ↓wt_41_0b, ↓wt_41_1b, ↓wt_41_2b, ↓wt_41_3b, ↓wt_41_4b, ↓wt_41_5b, ↓wt_41_6b, ↓wt_1b, ↓wt_11b, ↓wt_21b, ↓wt_31b, ↓wt_41b, ↓X_c0b, ↓X_c1b, ↓X_c2b, ↓X_c3b, ↓X_c4b, ↓X_e0b, ↓X_e1b, ↓X_e2b, ↓X_e3b, ↓X_e4b, ↓X_cb, ↓X_eb, ↓X_w0b, ↓X_w1b, ↓X_hb, ↓X_yb, ↓X_rb, ↓wp_0b, ↓wp_2b, ↓wp_4b, ↓wp_8b, ↓ws_2b, ↓ws_3b, ↓ws_4b, ↓ws_5b, ↓ws_6b, ↓ws_12b, ↓ws_13b, ↓ws_14b, ↓ws_15b, ↓ws_16b, ↓ws_22b, ↓ws_23b, ↓ws_51b, ↓wS_yb, ↓wS_rb, ↓wS_cb, ↓wS_eb, ↓x_isCarrierb, ↓x_isErrandb, ↓x_isWareb, ↓x_isSetb, ↓x_isFewb, F_X0_isKind, F_X0_isPlace, F_X0_isPrice, F_X0_isSheet, F_X0_isSpot, F_X13_isKind, F_X13_isPlace, F_X13_isSheet, F_X13_isSpot, within_eq, one_and, zero_and, one_ne, not_true_eq_false, not_false_eq_true, F_X0_cheapest, F_X0_orNone, ↓bn9 gx, ↓cb9 r1, n1, cb_id]
      · have hM2 := hM.2.1
        have gm := m_refW h hM2 hI (Int32.ofNat c) (Int32.ofNat w)
        obtain ⟨σb, m1, m2, m3, m4, m5⟩ := m_wareL h hM2 hI hM.2.2.1 hc hww hpr hp9
        rw [if_pos hw, m1, if_pos hlt] at gm
        refine ⟨σb, ?_, WM_ag2 m2 hM2, am_ag2 m2, m3⟩
        simp (discharger := first | assumption | omega | decide) only [x_tg, w_tg, m_tg, ↓reduceIte, Option.bind_some, ↓m_0b, ↓m_1b, ↓m_2b, ↓m_3b, ↓m_4b, ↓m_5b, ↓m_6b, ↓m_7b, ↓m_8b, ↓m_9b, ↓m_10b, ↓m_11b, ↓m_12b, ↓m_13b, ↓m_14b, ↓m_15b, ↓m_16b, ↓m_17b, ↓m_18b, ↓m_19b, ↓m_20b, ↓m_21b, ↓m_22b, ↓m_23b, ↓m_24b, ↓m_25b, ↓m_26b, ↓m_27b, ↓m_28b, ↓m_29b, ↓mp_3b, ↓mp_6b, ↓mp_10b, ↓mp_11b, ↓mp_12b, ↓mp_14b, ↓mp_15b, ↓mp_16b, ↓mp_17b, ↓mp_18b, ↓mp_19b, ↓mp_22b, ↓mp_23b, ↓mp_24b, ↓mp_25b, ↓M_42b, ↓M_43b, ↓M_44b, ↓M_45b, ↓cIs_0b, ↓cIs_1b, ↓cIs_2b, ↓cIs_3b, ↓cIs_4b, ↓eIs_0b, ↓eIs_1b, ↓eIs_2b, ↓eIs_3b, ↓eIs_4b, ↓cIs_nb, ↓eIs_nb, ↓M_rb, ↓M_cAt_0b, ↓M_cAt_1b, ↓M_cAt_2b, ↓M_cAt_3b, ↓M_cAt_4b, ↓M_eAt_0b, ↓M_eAt_1b, ↓M_eAt_2b, ↓M_eAt_3b, ↓M_eAt_4b, ↓M_wAt_0b, ↓M_wAt_1b, cAt_0, cAt_1, cAt_2, cAt_3, cAt_4, eAt_0, eAt_1, eAt_2, eAt_3, eAt_4, wAt_0, wAt_1, cAt_n, eAt_n, wAt_n, ↓m_isCarrierb, ↓m_isErrandb, ↓m_isWareb, ↓m_isFewb, F_X0_isKind, F_X0_isPlace, F_X0_isPrice, F_X0_isSheet, F_X0_isSpot, F_X13_isKind, F_X13_isPlace, F_X13_isSheet, F_X13_isSpot, within_eq, one_and, zero_and, one_ne, not_true_eq_false, not_false_eq_true, F_X13_cheapest, ↓cb9 gm, m4]
    · rw [bV_neg hlt] at r1
      refine STEP_gf hR (k := 3) (xv := 3) (mv := -1000004) (by omega) rfl (by decide) hI ⟨σ', ?_, WX_ag2 r2 hW, ax_ag2 r2, r3⟩ (fun σ1 hM => ?_)
      · simp (discharger := first | assumption | omega | decide) only [x_tg, w_tg, m_tg, ↓reduceIte, Option.bind_some, ↓x_0b, ↓x_1b, ↓x_2b, ↓x_3b, ↓x_4b, ↓x_5b, ↓x_6b, ↓x_7b, ↓x_8b, ↓x_9b, ↓x_10b, ↓x_11b, ↓x_12b, ↓x_13b, ↓x_14b, ↓x_15b, ↓x_16b, ↓x_17b, ↓x_18b, ↓x_19b, ↓xp_2b, ↓xp_6b, ↓xp_14b, ↓xp_17b, ↓xp_18b, ↓xp_19b, ↓X_f0b, ↓X_f2b, ↓X_f4b, ↓X_f8b, ↓wf_1b, ↓wf_3b, ↓wf_5b, ↓wf_6b, ↓wf_7b, ↓wf_9b, ↓wt_1_0b, ↓wt_1_1b, ↓wt_1_2b, ↓wt_1_3b, ↓wt_1_4b, ↓wt_11_0b, ↓wt_11_1b, ↓wt_11_2b, ↓wt_11_3b, ↓wt_11_4b, ↓wt_21_0b, ↓wt_21_1b, ↓wt_31_0b, ↓wt_31_1b, ↓wt_31_2b, ↓wt_31_3b, ↓wt_31_4b, ↓wt_31_5b, ↓wt_31_6b, ↓wt_41_0b, ↓wt_41_1b, ↓wt_41_2b, ↓wt_41_3b, ↓wt_41_4b, ↓wt_41_5b, ↓wt_41_6b, ↓wt_1b, ↓wt_11b, ↓wt_21b, ↓wt_31b, ↓wt_41b, ↓X_c0b, ↓X_c1b, ↓X_c2b, ↓X_c3b, ↓X_c4b, ↓X_e0b, ↓X_e1b, ↓X_e2b, ↓X_e3b, ↓X_e4b, ↓X_cb, ↓X_eb, ↓X_w0b, ↓X_w1b, ↓X_hb, ↓X_yb, ↓X_rb, ↓wp_0b, ↓wp_2b, ↓wp_4b, ↓wp_8b, ↓ws_2b, ↓ws_3b, ↓ws_4b, ↓ws_5b, ↓ws_6b, ↓ws_12b, ↓ws_13b, ↓ws_14b, ↓ws_15b, ↓ws_16b, ↓ws_22b, ↓ws_23b, ↓ws_51b, ↓wS_yb, ↓wS_rb, ↓wS_cb, ↓wS_eb, ↓x_isCarrierb, ↓x_isErrandb, ↓x_isWareb, ↓x_isSetb, ↓x_isFewb, F_X0_isKind, F_X0_isPlace, F_X0_isPrice, F_X0_isSheet, F_X0_isSpot, F_X13_isKind, F_X13_isPlace, F_X13_isSheet, F_X13_isSpot, within_eq, one_and, zero_and, one_ne, not_true_eq_false, not_false_eq_true, F_X0_cheapest, F_X0_orNone, ↓bn9 gx, ↓cb9 r1, cb_id]
      · have hM2 := hM.2.1
        have gm := m_refW h hM2 hI (Int32.ofNat c) (Int32.ofNat w)
        obtain ⟨σb, m1, m2, m3, m4, m5⟩ := m_wareL h hM2 hI hM.2.2.1 hc hww hpr hp9
        rw [if_pos hw, m1, if_neg hlt] at gm
        refine ⟨σb, ?_, WM_ag2 m2 hM2, am_ag2 m2, m3⟩
        simp (discharger := first | assumption | omega | decide) only [x_tg, w_tg, m_tg, ↓reduceIte, Option.bind_some, ↓m_0b, ↓m_1b, ↓m_2b, ↓m_3b, ↓m_4b, ↓m_5b, ↓m_6b, ↓m_7b, ↓m_8b, ↓m_9b, ↓m_10b, ↓m_11b, ↓m_12b, ↓m_13b, ↓m_14b, ↓m_15b, ↓m_16b, ↓m_17b, ↓m_18b, ↓m_19b, ↓m_20b, ↓m_21b, ↓m_22b, ↓m_23b, ↓m_24b, ↓m_25b, ↓m_26b, ↓m_27b, ↓m_28b, ↓m_29b, ↓mp_3b, ↓mp_6b, ↓mp_10b, ↓mp_11b, ↓mp_12b, ↓mp_14b, ↓mp_15b, ↓mp_16b, ↓mp_17b, ↓mp_18b, ↓mp_19b, ↓mp_22b, ↓mp_23b, ↓mp_24b, ↓mp_25b, ↓M_42b, ↓M_43b, ↓M_44b, ↓M_45b, ↓cIs_0b, ↓cIs_1b, ↓cIs_2b, ↓cIs_3b, ↓cIs_4b, ↓eIs_0b, ↓eIs_1b, ↓eIs_2b, ↓eIs_3b, ↓eIs_4b, ↓cIs_nb, ↓eIs_nb, ↓M_rb, ↓M_cAt_0b, ↓M_cAt_1b, ↓M_cAt_2b, ↓M_cAt_3b, ↓M_cAt_4b, ↓M_eAt_0b, ↓M_eAt_1b, ↓M_eAt_2b, ↓M_eAt_3b, ↓M_eAt_4b, ↓M_wAt_0b, ↓M_wAt_1b, cAt_0, cAt_1, cAt_2, cAt_3, cAt_4, eAt_0, eAt_1, eAt_2, eAt_3, eAt_4, wAt_0, wAt_1, cAt_n, eAt_n, wAt_n, ↓m_isCarrierb, ↓m_isErrandb, ↓m_isWareb, ↓m_isFewb, F_X0_isKind, F_X0_isPlace, F_X0_isPrice, F_X0_isSheet, F_X0_isSpot, F_X13_isKind, F_X13_isPlace, F_X13_isSheet, F_X13_isSpot, within_eq, one_and, zero_and, one_ne, not_true_eq_false, not_false_eq_true, F_X13_cheapest, ↓cb9 gm, cb_id, show ¬ (-1000004 : Int32) = 0 by decide]
  · rw [hw] at gx
    have gx : F_X0_whyNoWare (some (L.1 0)) x1 x2 (hp L σ) = some 0 := gx
    exact STEP_fnd hR (k := 0) (xv := 0) (mv := -1000001) (by omega) rfl (by decide) ⟨σ, by simp (discharger := first | assumption | omega | decide) only [x_tg, w_tg, m_tg, ↓reduceIte, Option.bind_some, ↓x_0b, ↓x_1b, ↓x_2b, ↓x_3b, ↓x_4b, ↓x_5b, ↓x_6b, ↓x_7b, ↓x_8b, ↓x_9b, ↓x_10b, ↓x_11b, ↓x_12b, ↓x_13b, ↓x_14b, ↓x_15b, ↓x_16b, ↓x_17b, ↓x_18b, ↓x_19b, ↓xp_2b, ↓xp_6b, ↓xp_14b, ↓xp_17b, ↓xp_18b, ↓xp_19b, ↓X_f0b, ↓X_f2b, ↓X_f4b, ↓X_f8b, ↓wf_1b, ↓wf_3b, ↓wf_5b, ↓wf_6b, ↓wf_7b, ↓wf_9b, ↓wt_1_0b, ↓wt_1_1b, ↓wt_1_2b, ↓wt_1_3b, ↓wt_1_4b, ↓wt_11_0b, ↓wt_11_1b, ↓wt_11_2b, ↓wt_11_3b, ↓wt_11_4b, ↓wt_21_0b, ↓wt_21_1b, ↓wt_31_0b, ↓wt_31_1b, ↓wt_31_2b, ↓wt_31_3b, ↓wt_31_4b, ↓wt_31_5b, ↓wt_31_6b, ↓wt_41_0b, ↓wt_41_1b, ↓wt_41_2b, ↓wt_41_3b, ↓wt_41_4b, ↓wt_41_5b, ↓wt_41_6b, ↓wt_1b, ↓wt_11b, ↓wt_21b, ↓wt_31b, ↓wt_41b, ↓X_c0b, ↓X_c1b, ↓X_c2b, ↓X_c3b, ↓X_c4b, ↓X_e0b, ↓X_e1b, ↓X_e2b, ↓X_e3b, ↓X_e4b, ↓X_cb, ↓X_eb, ↓X_w0b, ↓X_w1b, ↓X_hb, ↓X_yb, ↓X_rb, ↓wp_0b, ↓wp_2b, ↓wp_4b, ↓wp_8b, ↓ws_2b, ↓ws_3b, ↓ws_4b, ↓ws_5b, ↓ws_6b, ↓ws_12b, ↓ws_13b, ↓ws_14b, ↓ws_15b, ↓ws_16b, ↓ws_22b, ↓ws_23b, ↓ws_51b, ↓wS_yb, ↓wS_rb, ↓wS_cb, ↓wS_eb, ↓x_isCarrierb, ↓x_isErrandb, ↓x_isWareb, ↓x_isSetb, ↓x_isFewb, F_X0_isKind, F_X0_isPlace, F_X0_isPrice, F_X0_isSheet, F_X0_isSpot, F_X13_isKind, F_X13_isPlace, F_X13_isSheet, F_X13_isSpot, within_eq, one_and, zero_and, one_ne, not_true_eq_false, not_false_eq_true, F_X0_cheapest, ↓bn9 gx, show ¬ (0 : Int32) = -1 by decide], ag_refl _, xf_refl _⟩ (fun σ1 hM => by
      have gm := m_refW h hM.2.1 hI x1 x2
      rw [hw] at gm
      have gm : F_X13_refusesWare (some (L.1 1000)) x1 x2 (hp L σ1) = some (-1000001, hp L σ1) := gm
      exact ⟨σ1, by simp (discharger := first | assumption | omega | decide) only [x_tg, w_tg, m_tg, ↓reduceIte, Option.bind_some, ↓m_0b, ↓m_1b, ↓m_2b, ↓m_3b, ↓m_4b, ↓m_5b, ↓m_6b, ↓m_7b, ↓m_8b, ↓m_9b, ↓m_10b, ↓m_11b, ↓m_12b, ↓m_13b, ↓m_14b, ↓m_15b, ↓m_16b, ↓m_17b, ↓m_18b, ↓m_19b, ↓m_20b, ↓m_21b, ↓m_22b, ↓m_23b, ↓m_24b, ↓m_25b, ↓m_26b, ↓m_27b, ↓m_28b, ↓m_29b, ↓mp_3b, ↓mp_6b, ↓mp_10b, ↓mp_11b, ↓mp_12b, ↓mp_14b, ↓mp_15b, ↓mp_16b, ↓mp_17b, ↓mp_18b, ↓mp_19b, ↓mp_22b, ↓mp_23b, ↓mp_24b, ↓mp_25b, ↓M_42b, ↓M_43b, ↓M_44b, ↓M_45b, ↓cIs_0b, ↓cIs_1b, ↓cIs_2b, ↓cIs_3b, ↓cIs_4b, ↓eIs_0b, ↓eIs_1b, ↓eIs_2b, ↓eIs_3b, ↓eIs_4b, ↓cIs_nb, ↓eIs_nb, ↓M_rb, ↓M_cAt_0b, ↓M_cAt_1b, ↓M_cAt_2b, ↓M_cAt_3b, ↓M_cAt_4b, ↓M_eAt_0b, ↓M_eAt_1b, ↓M_eAt_2b, ↓M_eAt_3b, ↓M_eAt_4b, ↓M_wAt_0b, ↓M_wAt_1b, cAt_0, cAt_1, cAt_2, cAt_3, cAt_4, eAt_0, eAt_1, eAt_2, eAt_3, eAt_4, wAt_0, wAt_1, cAt_n, eAt_n, wAt_n, ↓m_isCarrierb, ↓m_isErrandb, ↓m_isWareb, ↓m_isFewb, F_X0_isKind, F_X0_isPlace, F_X0_isPrice, F_X0_isSheet, F_X0_isSpot, F_X13_isKind, F_X13_isPlace, F_X13_isSheet, F_X13_isSpot, within_eq, one_and, zero_and, one_ne, not_true_eq_false, not_false_eq_true, F_X13_cheapest, ↓cb9 gm, show ¬ (-1000001 : Int32) = 0 by decide], ag_refl _, mf_refl _⟩)
  · rw [hw] at gx
    have gx : F_X0_whyNoWare (some (L.1 0)) x1 x2 (hp L σ) = some 4 := gx
    exact STEP_fnd hR (k := 4) (xv := 4) (mv := -1000005) (by omega) rfl (by decide) ⟨σ, by simp (discharger := first | assumption | omega | decide) only [x_tg, w_tg, m_tg, ↓reduceIte, Option.bind_some, ↓x_0b, ↓x_1b, ↓x_2b, ↓x_3b, ↓x_4b, ↓x_5b, ↓x_6b, ↓x_7b, ↓x_8b, ↓x_9b, ↓x_10b, ↓x_11b, ↓x_12b, ↓x_13b, ↓x_14b, ↓x_15b, ↓x_16b, ↓x_17b, ↓x_18b, ↓x_19b, ↓xp_2b, ↓xp_6b, ↓xp_14b, ↓xp_17b, ↓xp_18b, ↓xp_19b, ↓X_f0b, ↓X_f2b, ↓X_f4b, ↓X_f8b, ↓wf_1b, ↓wf_3b, ↓wf_5b, ↓wf_6b, ↓wf_7b, ↓wf_9b, ↓wt_1_0b, ↓wt_1_1b, ↓wt_1_2b, ↓wt_1_3b, ↓wt_1_4b, ↓wt_11_0b, ↓wt_11_1b, ↓wt_11_2b, ↓wt_11_3b, ↓wt_11_4b, ↓wt_21_0b, ↓wt_21_1b, ↓wt_31_0b, ↓wt_31_1b, ↓wt_31_2b, ↓wt_31_3b, ↓wt_31_4b, ↓wt_31_5b, ↓wt_31_6b, ↓wt_41_0b, ↓wt_41_1b, ↓wt_41_2b, ↓wt_41_3b, ↓wt_41_4b, ↓wt_41_5b, ↓wt_41_6b, ↓wt_1b, ↓wt_11b, ↓wt_21b, ↓wt_31b, ↓wt_41b, ↓X_c0b, ↓X_c1b, ↓X_c2b, ↓X_c3b, ↓X_c4b, ↓X_e0b, ↓X_e1b, ↓X_e2b, ↓X_e3b, ↓X_e4b, ↓X_cb, ↓X_eb, ↓X_w0b, ↓X_w1b, ↓X_hb, ↓X_yb, ↓X_rb, ↓wp_0b, ↓wp_2b, ↓wp_4b, ↓wp_8b, ↓ws_2b, ↓ws_3b, ↓ws_4b, ↓ws_5b, ↓ws_6b, ↓ws_12b, ↓ws_13b, ↓ws_14b, ↓ws_15b, ↓ws_16b, ↓ws_22b, ↓ws_23b, ↓ws_51b, ↓wS_yb, ↓wS_rb, ↓wS_cb, ↓wS_eb, ↓x_isCarrierb, ↓x_isErrandb, ↓x_isWareb, ↓x_isSetb, ↓x_isFewb, F_X0_isKind, F_X0_isPlace, F_X0_isPrice, F_X0_isSheet, F_X0_isSpot, F_X13_isKind, F_X13_isPlace, F_X13_isSheet, F_X13_isSpot, within_eq, one_and, zero_and, one_ne, not_true_eq_false, not_false_eq_true, F_X0_cheapest, ↓bn9 gx, show ¬ (4 : Int32) = -1 by decide], ag_refl _, xf_refl _⟩ (fun σ1 hM => by
      have gm := m_refW h hM.2.1 hI x1 x2
      rw [hw] at gm
      have gm : F_X13_refusesWare (some (L.1 1000)) x1 x2 (hp L σ1) = some (-1000005, hp L σ1) := gm
      exact ⟨σ1, by simp (discharger := first | assumption | omega | decide) only [x_tg, w_tg, m_tg, ↓reduceIte, Option.bind_some, ↓m_0b, ↓m_1b, ↓m_2b, ↓m_3b, ↓m_4b, ↓m_5b, ↓m_6b, ↓m_7b, ↓m_8b, ↓m_9b, ↓m_10b, ↓m_11b, ↓m_12b, ↓m_13b, ↓m_14b, ↓m_15b, ↓m_16b, ↓m_17b, ↓m_18b, ↓m_19b, ↓m_20b, ↓m_21b, ↓m_22b, ↓m_23b, ↓m_24b, ↓m_25b, ↓m_26b, ↓m_27b, ↓m_28b, ↓m_29b, ↓mp_3b, ↓mp_6b, ↓mp_10b, ↓mp_11b, ↓mp_12b, ↓mp_14b, ↓mp_15b, ↓mp_16b, ↓mp_17b, ↓mp_18b, ↓mp_19b, ↓mp_22b, ↓mp_23b, ↓mp_24b, ↓mp_25b, ↓M_42b, ↓M_43b, ↓M_44b, ↓M_45b, ↓cIs_0b, ↓cIs_1b, ↓cIs_2b, ↓cIs_3b, ↓cIs_4b, ↓eIs_0b, ↓eIs_1b, ↓eIs_2b, ↓eIs_3b, ↓eIs_4b, ↓cIs_nb, ↓eIs_nb, ↓M_rb, ↓M_cAt_0b, ↓M_cAt_1b, ↓M_cAt_2b, ↓M_cAt_3b, ↓M_cAt_4b, ↓M_eAt_0b, ↓M_eAt_1b, ↓M_eAt_2b, ↓M_eAt_3b, ↓M_eAt_4b, ↓M_wAt_0b, ↓M_wAt_1b, cAt_0, cAt_1, cAt_2, cAt_3, cAt_4, eAt_0, eAt_1, eAt_2, eAt_3, eAt_4, wAt_0, wAt_1, cAt_n, eAt_n, wAt_n, ↓m_isCarrierb, ↓m_isErrandb, ↓m_isWareb, ↓m_isFewb, F_X0_isKind, F_X0_isPlace, F_X0_isPrice, F_X0_isSheet, F_X0_isSpot, F_X13_isKind, F_X13_isPlace, F_X13_isSheet, F_X13_isSpot, within_eq, one_and, zero_and, one_ne, not_true_eq_false, not_false_eq_true, F_X13_cheapest, ↓cb9 gm, show ¬ (-1000005 : Int32) = 0 by decide], ag_refl _, mf_refl _⟩)
set_option maxRecDepth 8000 in
theorem op_which (hR : RR L σ S) (x1 x2 : Int32) : STEP L σ (F_X0_which (some (L.1 0)) x1 x2) (F_X13_which (some (L.1 1000)) x1 x2) := by
  have h := hR.1.1
  have hW := hR.1.2.1
  have hC := hR.1.2.2.1
  have hP := hR.1.2.2.2.1
  have hI := hR.2.2.1.1
  have hb : isW 200 = true := rfl
  have gx := x_whyW h hW hI x1 x2
  rcases whw_cs hI x1 x2 with ⟨hw, c, w, pr, hc, rfl, hww, hw6, rfl, hpr, hp9⟩ | hw | hw
  · rw [hw] at gx
    simp only [↓reduceIte] at gx
    obtain ⟨σ', r1, r2, r3, r4⟩ := x_shortestFor h hW hI hC hP hc hww hpr hp9
    have hb := bs_le (chM S.1 c pr (eaO S.1 c)) (2 ^ NE S.1)
    by_cases hlt : (bs (chM S.1 c pr (eaO S.1 c)) (2 ^ NE S.1)).1 < 1000000
    · rw [bV_pos hlt] at r1
      have n1 := ofN_nm1 (a := (bs (chM S.1 c pr (eaO S.1 c)) (2 ^ NE S.1)).1) (by omega)
      refine STEP_g hR (r := Int32.ofNat (bs (chM S.1 c pr (eaO S.1 c)) (2 ^ NE S.1)).2) hI ⟨σ', ?_, WX_ag2 r2 hW, ax_ag2 r2, r3⟩ (fun σ1 hM => ?_)
      · simp (discharger := first | assumption | omega | decide) only [x_tg, w_tg, m_tg, ↓reduceIte, Option.bind_some, ↓x_0b, ↓x_1b, ↓x_2b, ↓x_3b, ↓x_4b, ↓x_5b, ↓x_6b, ↓x_7b, ↓x_8b, ↓x_9b, ↓x_10b, ↓x_11b, ↓x_12b, ↓x_13b, ↓x_14b, ↓x_15b, ↓x_16b, ↓x_17b, ↓x_18b, ↓x_19b, ↓xp_2b, ↓xp_6b, ↓xp_14b, ↓xp_17b, ↓xp_18b, ↓xp_19b, ↓X_f0b, ↓X_f2b, ↓X_f4b, ↓X_f8b, ↓wf_1b, ↓wf_3b, ↓wf_5b, ↓wf_6b, ↓wf_7b, ↓wf_9b, ↓wt_1_0b, ↓wt_1_1b, ↓wt_1_2b, ↓wt_1_3b, ↓wt_1_4b, ↓wt_11_0b, ↓wt_11_1b, ↓wt_11_2b, ↓wt_11_3b, ↓wt_11_4b, ↓wt_21_0b, ↓wt_21_1b, ↓wt_31_0b, ↓wt_31_1b, ↓wt_31_2b, ↓wt_31_3b, ↓wt_31_4b, ↓wt_31_5b, ↓wt_31_6b, ↓wt_41_0b, ↓wt_41_1b, ↓wt_41_2b, ↓wt_41_3b, ↓wt_41_4b, ↓wt_41_5b, ↓wt_41_6b, ↓wt_1b, ↓wt_11b, ↓wt_21b, ↓wt_31b, ↓wt_41b, ↓X_c0b, ↓X_c1b, ↓X_c2b, ↓X_c3b, ↓X_c4b, ↓X_e0b, ↓X_e1b, ↓X_e2b, ↓X_e3b, ↓X_e4b, ↓X_cb, ↓X_eb, ↓X_w0b, ↓X_w1b, ↓X_hb, ↓X_yb, ↓X_rb, ↓wp_0b, ↓wp_2b, ↓wp_4b, ↓wp_8b, ↓ws_2b, ↓ws_3b, ↓ws_4b, ↓ws_5b, ↓ws_6b, ↓ws_12b, ↓ws_13b, ↓ws_14b, ↓ws_15b, ↓ws_16b, ↓ws_22b, ↓ws_23b, ↓ws_51b, ↓wS_yb, ↓wS_rb, ↓wS_cb, ↓wS_eb, ↓x_isCarrierb, ↓x_isErrandb, ↓x_isWareb, ↓x_isSetb, ↓x_isFewb, F_X0_isKind, F_X0_isPlace, F_X0_isPrice, F_X0_isSheet, F_X0_isSpot, F_X13_isKind, F_X13_isPlace, F_X13_isSheet, F_X13_isSpot, within_eq, one_and, zero_and, one_ne, not_true_eq_false, not_false_eq_true, F_X0_which, ↓bn9 gx, ↓cb9 r1, n1, r4 hlt]
      · have hM2 := hM.2.1
        have gm := m_refW h hM2 hI (Int32.ofNat c) (Int32.ofNat w)
        obtain ⟨σb, m1, m2, m3, m4, m5⟩ := m_wareL h hM2 hI hM.2.2.1 hc hww hpr hp9
        rw [if_pos hw, m1, if_pos hlt] at gm
        refine ⟨σb, ?_, WM_ag2 m2 hM2, am_ag2 m2, m3⟩
        simp (discharger := first | assumption | omega | decide) only [x_tg, w_tg, m_tg, ↓reduceIte, Option.bind_some, ↓m_0b, ↓m_1b, ↓m_2b, ↓m_3b, ↓m_4b, ↓m_5b, ↓m_6b, ↓m_7b, ↓m_8b, ↓m_9b, ↓m_10b, ↓m_11b, ↓m_12b, ↓m_13b, ↓m_14b, ↓m_15b, ↓m_16b, ↓m_17b, ↓m_18b, ↓m_19b, ↓m_20b, ↓m_21b, ↓m_22b, ↓m_23b, ↓m_24b, ↓m_25b, ↓m_26b, ↓m_27b, ↓m_28b, ↓m_29b, ↓mp_3b, ↓mp_6b, ↓mp_10b, ↓mp_11b, ↓mp_12b, ↓mp_14b, ↓mp_15b, ↓mp_16b, ↓mp_17b, ↓mp_18b, ↓mp_19b, ↓mp_22b, ↓mp_23b, ↓mp_24b, ↓mp_25b, ↓M_42b, ↓M_43b, ↓M_44b, ↓M_45b, ↓cIs_0b, ↓cIs_1b, ↓cIs_2b, ↓cIs_3b, ↓cIs_4b, ↓eIs_0b, ↓eIs_1b, ↓eIs_2b, ↓eIs_3b, ↓eIs_4b, ↓cIs_nb, ↓eIs_nb, ↓M_rb, ↓M_cAt_0b, ↓M_cAt_1b, ↓M_cAt_2b, ↓M_cAt_3b, ↓M_cAt_4b, ↓M_eAt_0b, ↓M_eAt_1b, ↓M_eAt_2b, ↓M_eAt_3b, ↓M_eAt_4b, ↓M_wAt_0b, ↓M_wAt_1b, cAt_0, cAt_1, cAt_2, cAt_3, cAt_4, eAt_0, eAt_1, eAt_2, eAt_3, eAt_4, wAt_0, wAt_1, cAt_n, eAt_n, wAt_n, ↓m_isCarrierb, ↓m_isErrandb, ↓m_isWareb, ↓m_isFewb, F_X0_isKind, F_X0_isPlace, F_X0_isPrice, F_X0_isSheet, F_X0_isSpot, F_X13_isKind, F_X13_isPlace, F_X13_isSheet, F_X13_isSpot, within_eq, one_and, zero_and, one_ne, not_true_eq_false, not_false_eq_true, F_X13_which, ↓cb9 gm, m5 hlt]
    · rw [bV_neg hlt] at r1
      refine STEP_gf hR (k := 3) (xv := 3) (mv := -1000004) (by omega) rfl (by decide) hI ⟨σ', ?_, WX_ag2 r2 hW, ax_ag2 r2, r3⟩ (fun σ1 hM => ?_)
      · simp (discharger := first | assumption | omega | decide) only [x_tg, w_tg, m_tg, ↓reduceIte, Option.bind_some, ↓x_0b, ↓x_1b, ↓x_2b, ↓x_3b, ↓x_4b, ↓x_5b, ↓x_6b, ↓x_7b, ↓x_8b, ↓x_9b, ↓x_10b, ↓x_11b, ↓x_12b, ↓x_13b, ↓x_14b, ↓x_15b, ↓x_16b, ↓x_17b, ↓x_18b, ↓x_19b, ↓xp_2b, ↓xp_6b, ↓xp_14b, ↓xp_17b, ↓xp_18b, ↓xp_19b, ↓X_f0b, ↓X_f2b, ↓X_f4b, ↓X_f8b, ↓wf_1b, ↓wf_3b, ↓wf_5b, ↓wf_6b, ↓wf_7b, ↓wf_9b, ↓wt_1_0b, ↓wt_1_1b, ↓wt_1_2b, ↓wt_1_3b, ↓wt_1_4b, ↓wt_11_0b, ↓wt_11_1b, ↓wt_11_2b, ↓wt_11_3b, ↓wt_11_4b, ↓wt_21_0b, ↓wt_21_1b, ↓wt_31_0b, ↓wt_31_1b, ↓wt_31_2b, ↓wt_31_3b, ↓wt_31_4b, ↓wt_31_5b, ↓wt_31_6b, ↓wt_41_0b, ↓wt_41_1b, ↓wt_41_2b, ↓wt_41_3b, ↓wt_41_4b, ↓wt_41_5b, ↓wt_41_6b, ↓wt_1b, ↓wt_11b, ↓wt_21b, ↓wt_31b, ↓wt_41b, ↓X_c0b, ↓X_c1b, ↓X_c2b, ↓X_c3b, ↓X_c4b, ↓X_e0b, ↓X_e1b, ↓X_e2b, ↓X_e3b, ↓X_e4b, ↓X_cb, ↓X_eb, ↓X_w0b, ↓X_w1b, ↓X_hb, ↓X_yb, ↓X_rb, ↓wp_0b, ↓wp_2b, ↓wp_4b, ↓wp_8b, ↓ws_2b, ↓ws_3b, ↓ws_4b, ↓ws_5b, ↓ws_6b, ↓ws_12b, ↓ws_13b, ↓ws_14b, ↓ws_15b, ↓ws_16b, ↓ws_22b, ↓ws_23b, ↓ws_51b, ↓wS_yb, ↓wS_rb, ↓wS_cb, ↓wS_eb, ↓x_isCarrierb, ↓x_isErrandb, ↓x_isWareb, ↓x_isSetb, ↓x_isFewb, F_X0_isKind, F_X0_isPlace, F_X0_isPrice, F_X0_isSheet, F_X0_isSpot, F_X13_isKind, F_X13_isPlace, F_X13_isSheet, F_X13_isSpot, within_eq, one_and, zero_and, one_ne, not_true_eq_false, not_false_eq_true, F_X0_which, ↓bn9 gx, ↓cb9 r1, cb_id]
      · have hM2 := hM.2.1
        have gm := m_refW h hM2 hI (Int32.ofNat c) (Int32.ofNat w)
        obtain ⟨σb, m1, m2, m3, m4, m5⟩ := m_wareL h hM2 hI hM.2.2.1 hc hww hpr hp9
        rw [if_pos hw, m1, if_neg hlt] at gm
        refine ⟨σb, ?_, WM_ag2 m2 hM2, am_ag2 m2, m3⟩
        simp (discharger := first | assumption | omega | decide) only [x_tg, w_tg, m_tg, ↓reduceIte, Option.bind_some, ↓m_0b, ↓m_1b, ↓m_2b, ↓m_3b, ↓m_4b, ↓m_5b, ↓m_6b, ↓m_7b, ↓m_8b, ↓m_9b, ↓m_10b, ↓m_11b, ↓m_12b, ↓m_13b, ↓m_14b, ↓m_15b, ↓m_16b, ↓m_17b, ↓m_18b, ↓m_19b, ↓m_20b, ↓m_21b, ↓m_22b, ↓m_23b, ↓m_24b, ↓m_25b, ↓m_26b, ↓m_27b, ↓m_28b, ↓m_29b, ↓mp_3b, ↓mp_6b, ↓mp_10b, ↓mp_11b, ↓mp_12b, ↓mp_14b, ↓mp_15b, ↓mp_16b, ↓mp_17b, ↓mp_18b, ↓mp_19b, ↓mp_22b, ↓mp_23b, ↓mp_24b, ↓mp_25b, ↓M_42b, ↓M_43b, ↓M_44b, ↓M_45b, ↓cIs_0b, ↓cIs_1b, ↓cIs_2b, ↓cIs_3b, ↓cIs_4b, ↓eIs_0b, ↓eIs_1b, ↓eIs_2b, ↓eIs_3b, ↓eIs_4b, ↓cIs_nb, ↓eIs_nb, ↓M_rb, ↓M_cAt_0b, ↓M_cAt_1b, ↓M_cAt_2b, ↓M_cAt_3b, ↓M_cAt_4b, ↓M_eAt_0b, ↓M_eAt_1b, ↓M_eAt_2b, ↓M_eAt_3b, ↓M_eAt_4b, ↓M_wAt_0b, ↓M_wAt_1b, cAt_0, cAt_1, cAt_2, cAt_3, cAt_4, eAt_0, eAt_1, eAt_2, eAt_3, eAt_4, wAt_0, wAt_1, cAt_n, eAt_n, wAt_n, ↓m_isCarrierb, ↓m_isErrandb, ↓m_isWareb, ↓m_isFewb, F_X0_isKind, F_X0_isPlace, F_X0_isPrice, F_X0_isSheet, F_X0_isSpot, F_X13_isKind, F_X13_isPlace, F_X13_isSheet, F_X13_isSpot, within_eq, one_and, zero_and, one_ne, not_true_eq_false, not_false_eq_true, F_X13_which, ↓cb9 gm, cb_id, show ¬ (-1000004 : Int32) = 0 by decide]
  · rw [hw] at gx
    have gx : F_X0_whyNoWare (some (L.1 0)) x1 x2 (hp L σ) = some 0 := gx
    exact STEP_fnd hR (k := 0) (xv := 0) (mv := -1000001) (by omega) rfl (by decide) ⟨σ, by simp (discharger := first | assumption | omega | decide) only [x_tg, w_tg, m_tg, ↓reduceIte, Option.bind_some, ↓x_0b, ↓x_1b, ↓x_2b, ↓x_3b, ↓x_4b, ↓x_5b, ↓x_6b, ↓x_7b, ↓x_8b, ↓x_9b, ↓x_10b, ↓x_11b, ↓x_12b, ↓x_13b, ↓x_14b, ↓x_15b, ↓x_16b, ↓x_17b, ↓x_18b, ↓x_19b, ↓xp_2b, ↓xp_6b, ↓xp_14b, ↓xp_17b, ↓xp_18b, ↓xp_19b, ↓X_f0b, ↓X_f2b, ↓X_f4b, ↓X_f8b, ↓wf_1b, ↓wf_3b, ↓wf_5b, ↓wf_6b, ↓wf_7b, ↓wf_9b, ↓wt_1_0b, ↓wt_1_1b, ↓wt_1_2b, ↓wt_1_3b, ↓wt_1_4b, ↓wt_11_0b, ↓wt_11_1b, ↓wt_11_2b, ↓wt_11_3b, ↓wt_11_4b, ↓wt_21_0b, ↓wt_21_1b, ↓wt_31_0b, ↓wt_31_1b, ↓wt_31_2b, ↓wt_31_3b, ↓wt_31_4b, ↓wt_31_5b, ↓wt_31_6b, ↓wt_41_0b, ↓wt_41_1b, ↓wt_41_2b, ↓wt_41_3b, ↓wt_41_4b, ↓wt_41_5b, ↓wt_41_6b, ↓wt_1b, ↓wt_11b, ↓wt_21b, ↓wt_31b, ↓wt_41b, ↓X_c0b, ↓X_c1b, ↓X_c2b, ↓X_c3b, ↓X_c4b, ↓X_e0b, ↓X_e1b, ↓X_e2b, ↓X_e3b, ↓X_e4b, ↓X_cb, ↓X_eb, ↓X_w0b, ↓X_w1b, ↓X_hb, ↓X_yb, ↓X_rb, ↓wp_0b, ↓wp_2b, ↓wp_4b, ↓wp_8b, ↓ws_2b, ↓ws_3b, ↓ws_4b, ↓ws_5b, ↓ws_6b, ↓ws_12b, ↓ws_13b, ↓ws_14b, ↓ws_15b, ↓ws_16b, ↓ws_22b, ↓ws_23b, ↓ws_51b, ↓wS_yb, ↓wS_rb, ↓wS_cb, ↓wS_eb, ↓x_isCarrierb, ↓x_isErrandb, ↓x_isWareb, ↓x_isSetb, ↓x_isFewb, F_X0_isKind, F_X0_isPlace, F_X0_isPrice, F_X0_isSheet, F_X0_isSpot, F_X13_isKind, F_X13_isPlace, F_X13_isSheet, F_X13_isSpot, within_eq, one_and, zero_and, one_ne, not_true_eq_false, not_false_eq_true, F_X0_which, ↓bn9 gx, show ¬ (0 : Int32) = -1 by decide], ag_refl _, xf_refl _⟩ (fun σ1 hM => by
      have gm := m_refW h hM.2.1 hI x1 x2
      rw [hw] at gm
      have gm : F_X13_refusesWare (some (L.1 1000)) x1 x2 (hp L σ1) = some (-1000001, hp L σ1) := gm
      exact ⟨σ1, by simp (discharger := first | assumption | omega | decide) only [x_tg, w_tg, m_tg, ↓reduceIte, Option.bind_some, ↓m_0b, ↓m_1b, ↓m_2b, ↓m_3b, ↓m_4b, ↓m_5b, ↓m_6b, ↓m_7b, ↓m_8b, ↓m_9b, ↓m_10b, ↓m_11b, ↓m_12b, ↓m_13b, ↓m_14b, ↓m_15b, ↓m_16b, ↓m_17b, ↓m_18b, ↓m_19b, ↓m_20b, ↓m_21b, ↓m_22b, ↓m_23b, ↓m_24b, ↓m_25b, ↓m_26b, ↓m_27b, ↓m_28b, ↓m_29b, ↓mp_3b, ↓mp_6b, ↓mp_10b, ↓mp_11b, ↓mp_12b, ↓mp_14b, ↓mp_15b, ↓mp_16b, ↓mp_17b, ↓mp_18b, ↓mp_19b, ↓mp_22b, ↓mp_23b, ↓mp_24b, ↓mp_25b, ↓M_42b, ↓M_43b, ↓M_44b, ↓M_45b, ↓cIs_0b, ↓cIs_1b, ↓cIs_2b, ↓cIs_3b, ↓cIs_4b, ↓eIs_0b, ↓eIs_1b, ↓eIs_2b, ↓eIs_3b, ↓eIs_4b, ↓cIs_nb, ↓eIs_nb, ↓M_rb, ↓M_cAt_0b, ↓M_cAt_1b, ↓M_cAt_2b, ↓M_cAt_3b, ↓M_cAt_4b, ↓M_eAt_0b, ↓M_eAt_1b, ↓M_eAt_2b, ↓M_eAt_3b, ↓M_eAt_4b, ↓M_wAt_0b, ↓M_wAt_1b, cAt_0, cAt_1, cAt_2, cAt_3, cAt_4, eAt_0, eAt_1, eAt_2, eAt_3, eAt_4, wAt_0, wAt_1, cAt_n, eAt_n, wAt_n, ↓m_isCarrierb, ↓m_isErrandb, ↓m_isWareb, ↓m_isFewb, F_X0_isKind, F_X0_isPlace, F_X0_isPrice, F_X0_isSheet, F_X0_isSpot, F_X13_isKind, F_X13_isPlace, F_X13_isSheet, F_X13_isSpot, within_eq, one_and, zero_and, one_ne, not_true_eq_false, not_false_eq_true, F_X13_which, ↓cb9 gm, show ¬ (-1000001 : Int32) = 0 by decide], ag_refl _, mf_refl _⟩)
  · rw [hw] at gx
    have gx : F_X0_whyNoWare (some (L.1 0)) x1 x2 (hp L σ) = some 4 := gx
    exact STEP_fnd hR (k := 4) (xv := 4) (mv := -1000005) (by omega) rfl (by decide) ⟨σ, by simp (discharger := first | assumption | omega | decide) only [x_tg, w_tg, m_tg, ↓reduceIte, Option.bind_some, ↓x_0b, ↓x_1b, ↓x_2b, ↓x_3b, ↓x_4b, ↓x_5b, ↓x_6b, ↓x_7b, ↓x_8b, ↓x_9b, ↓x_10b, ↓x_11b, ↓x_12b, ↓x_13b, ↓x_14b, ↓x_15b, ↓x_16b, ↓x_17b, ↓x_18b, ↓x_19b, ↓xp_2b, ↓xp_6b, ↓xp_14b, ↓xp_17b, ↓xp_18b, ↓xp_19b, ↓X_f0b, ↓X_f2b, ↓X_f4b, ↓X_f8b, ↓wf_1b, ↓wf_3b, ↓wf_5b, ↓wf_6b, ↓wf_7b, ↓wf_9b, ↓wt_1_0b, ↓wt_1_1b, ↓wt_1_2b, ↓wt_1_3b, ↓wt_1_4b, ↓wt_11_0b, ↓wt_11_1b, ↓wt_11_2b, ↓wt_11_3b, ↓wt_11_4b, ↓wt_21_0b, ↓wt_21_1b, ↓wt_31_0b, ↓wt_31_1b, ↓wt_31_2b, ↓wt_31_3b, ↓wt_31_4b, ↓wt_31_5b, ↓wt_31_6b, ↓wt_41_0b, ↓wt_41_1b, ↓wt_41_2b, ↓wt_41_3b, ↓wt_41_4b, ↓wt_41_5b, ↓wt_41_6b, ↓wt_1b, ↓wt_11b, ↓wt_21b, ↓wt_31b, ↓wt_41b, ↓X_c0b, ↓X_c1b, ↓X_c2b, ↓X_c3b, ↓X_c4b, ↓X_e0b, ↓X_e1b, ↓X_e2b, ↓X_e3b, ↓X_e4b, ↓X_cb, ↓X_eb, ↓X_w0b, ↓X_w1b, ↓X_hb, ↓X_yb, ↓X_rb, ↓wp_0b, ↓wp_2b, ↓wp_4b, ↓wp_8b, ↓ws_2b, ↓ws_3b, ↓ws_4b, ↓ws_5b, ↓ws_6b, ↓ws_12b, ↓ws_13b, ↓ws_14b, ↓ws_15b, ↓ws_16b, ↓ws_22b, ↓ws_23b, ↓ws_51b, ↓wS_yb, ↓wS_rb, ↓wS_cb, ↓wS_eb, ↓x_isCarrierb, ↓x_isErrandb, ↓x_isWareb, ↓x_isSetb, ↓x_isFewb, F_X0_isKind, F_X0_isPlace, F_X0_isPrice, F_X0_isSheet, F_X0_isSpot, F_X13_isKind, F_X13_isPlace, F_X13_isSheet, F_X13_isSpot, within_eq, one_and, zero_and, one_ne, not_true_eq_false, not_false_eq_true, F_X0_which, ↓bn9 gx, show ¬ (4 : Int32) = -1 by decide], ag_refl _, xf_refl _⟩ (fun σ1 hM => by
      have gm := m_refW h hM.2.1 hI x1 x2
      rw [hw] at gm
      have gm : F_X13_refusesWare (some (L.1 1000)) x1 x2 (hp L σ1) = some (-1000005, hp L σ1) := gm
      exact ⟨σ1, by simp (discharger := first | assumption | omega | decide) only [x_tg, w_tg, m_tg, ↓reduceIte, Option.bind_some, ↓m_0b, ↓m_1b, ↓m_2b, ↓m_3b, ↓m_4b, ↓m_5b, ↓m_6b, ↓m_7b, ↓m_8b, ↓m_9b, ↓m_10b, ↓m_11b, ↓m_12b, ↓m_13b, ↓m_14b, ↓m_15b, ↓m_16b, ↓m_17b, ↓m_18b, ↓m_19b, ↓m_20b, ↓m_21b, ↓m_22b, ↓m_23b, ↓m_24b, ↓m_25b, ↓m_26b, ↓m_27b, ↓m_28b, ↓m_29b, ↓mp_3b, ↓mp_6b, ↓mp_10b, ↓mp_11b, ↓mp_12b, ↓mp_14b, ↓mp_15b, ↓mp_16b, ↓mp_17b, ↓mp_18b, ↓mp_19b, ↓mp_22b, ↓mp_23b, ↓mp_24b, ↓mp_25b, ↓M_42b, ↓M_43b, ↓M_44b, ↓M_45b, ↓cIs_0b, ↓cIs_1b, ↓cIs_2b, ↓cIs_3b, ↓cIs_4b, ↓eIs_0b, ↓eIs_1b, ↓eIs_2b, ↓eIs_3b, ↓eIs_4b, ↓cIs_nb, ↓eIs_nb, ↓M_rb, ↓M_cAt_0b, ↓M_cAt_1b, ↓M_cAt_2b, ↓M_cAt_3b, ↓M_cAt_4b, ↓M_eAt_0b, ↓M_eAt_1b, ↓M_eAt_2b, ↓M_eAt_3b, ↓M_eAt_4b, ↓M_wAt_0b, ↓M_wAt_1b, cAt_0, cAt_1, cAt_2, cAt_3, cAt_4, eAt_0, eAt_1, eAt_2, eAt_3, eAt_4, wAt_0, wAt_1, cAt_n, eAt_n, wAt_n, ↓m_isCarrierb, ↓m_isErrandb, ↓m_isWareb, ↓m_isFewb, F_X0_isKind, F_X0_isPlace, F_X0_isPrice, F_X0_isSheet, F_X0_isSpot, F_X13_isKind, F_X13_isPlace, F_X13_isSheet, F_X13_isSpot, within_eq, one_and, zero_and, one_ne, not_true_eq_false, not_false_eq_true, F_X13_which, ↓cb9 gm, show ¬ (-1000005 : Int32) = 0 by decide], ag_refl _, mf_refl _⟩)
/-! a carrier's row changed for a round, and put back -/
set_option maxRecDepth 8000 in
theorem up1_back {i : Nat} {v : Int32} : up1 (up1 ρ i v) i (ρ i) = ρ := by
  funext j
  by_cases hj : j = i
  · subst hj; rw [up1_same]
  · rw [up1_ne hj, up1_ne hj]
set_option maxRecDepth 8000 in
theorem WX_cs {f c : Nat} {v : Int32} (hf : f < 5) (hc : c < 6) (hW : WX σ 200 ρ) : WX (up2 σ (200 + 2 + f) c v) 200 (up1 ρ (56 + 5 * c + f) v) := by
  match f, hf with
  | 0, _ => exact WX_c0 hc hW
  | 1, _ => exact WX_c1 hc hW
  | 2, _ => exact WX_c2 hc hW
  | 3, _ => exact WX_c3 hc hW
  | 4, _ => exact WX_c4 hc hW
def rw9 (ρ : Rw) (c f v s : Nat) : Nat := rnd (up1 ρ (56 + 5 * c + f) (Int32.ofNat v)) c s
set_option maxRecDepth 8000 in
theorem x_roundWith (h : Lok L) (hW : WX σ 200 ρ) (hI : Inv ρ) (hC : CN σ) (hP : PX σ) {c f v s : Nat} (hc : c < NC ρ) (hv : (f = 0 ∧ v < 7) ∨ (f = 2 ∧ 1 ≤ v ∧ v ≤ 99)) (hs : s < 256) (hf : cbn s (NE ρ) ≤ 5) : ∃ σ', F_X0_roundWith (some (L.1 0)) (Int32.ofNat c) (Int32.ofNat f) (Int32.ofNat v) (Int32.ofNat s) (hp L σ) = some (oR (rw9 ρ c f v s), hp L σ') ∧ WX σ' 200 ρ ∧ ax σ σ' ∧ xf σ σ' := by
  have hb : isW 200 = true := rfl
  have h6 := hI.1.2
  have hc6 : c < 6 := by omega
  have hf5 : f < 5 := by omega
  have hI1 : Inv (up1 ρ (56 + 5 * c + f) (Int32.ofNat v)) := Inv_change hI hc (by omega)
  have nC : NC (up1 ρ (56 + 5 * c + f) (Int32.ofNat v)) = NC ρ := by unfold NC; rw [up1_ne (by omega)]
  have nE : NE (up1 ρ (56 + 5 * c + f) (Int32.ofNat v)) = NE ρ := by unfold NE; rw [up1_ne (by omega)]
  have hW1 := WX_cs (v := Int32.ofNat v) hf5 hc6 hW
  have a1 : ax σ (up2 σ (200 + 2 + f) c (Int32.ofNat v)) := ax_wf (wf_up (by omega) (wf_refl _ _))
  obtain ⟨σ2, r1, r2, r3, _⟩ := x_roundOf h hW1 hI1 (CN_ax a1 hC) (PX_ax a1 hP) (show c < NC (up1 ρ (56 + 5 * c + f) (Int32.ofNat v)) by omega) hs (by rw [nE]; exact hf)
  have hW2 := WX_ag r2 rfl hW1
  have hW3 := WX_cs (v := ρ (56 + 5 * c + f)) hf5 hc6 hW2
  rw [up1_back] at hW3
  refine ⟨_, ?_, hW3, ax_trans a1 (ax_trans (ax_ag r2) (ax_wf (wf_up (by omega) (wf_refl _ _)))), xf_trans (xf_up (by omega)) (xf_trans r3 (xf_up (by omega)))⟩
  simp (discharger := first | assumption | omega | decide) only [x_tg, w_tg, m_tg, ↓reduceIte, Option.bind_some, ↓x_0b, ↓x_1b, ↓x_2b, ↓x_3b, ↓x_4b, ↓x_5b, ↓x_6b, ↓x_7b, ↓x_8b, ↓x_9b, ↓x_10b, ↓x_11b, ↓x_12b, ↓x_13b, ↓x_14b, ↓x_15b, ↓x_16b, ↓x_17b, ↓x_18b, ↓x_19b, ↓xp_2b, ↓xp_6b, ↓xp_14b, ↓xp_17b, ↓xp_18b, ↓xp_19b, ↓X_f0b, ↓X_f2b, ↓X_f4b, ↓X_f8b, ↓wf_1b, ↓wf_3b, ↓wf_5b, ↓wf_6b, ↓wf_7b, ↓wf_9b, ↓wt_1_0b, ↓wt_1_1b, ↓wt_1_2b, ↓wt_1_3b, ↓wt_1_4b, ↓wt_11_0b, ↓wt_11_1b, ↓wt_11_2b, ↓wt_11_3b, ↓wt_11_4b, ↓wt_21_0b, ↓wt_21_1b, ↓wt_31_0b, ↓wt_31_1b, ↓wt_31_2b, ↓wt_31_3b, ↓wt_31_4b, ↓wt_31_5b, ↓wt_31_6b, ↓wt_41_0b, ↓wt_41_1b, ↓wt_41_2b, ↓wt_41_3b, ↓wt_41_4b, ↓wt_41_5b, ↓wt_41_6b, ↓wt_1b, ↓wt_11b, ↓wt_21b, ↓wt_31b, ↓wt_41b, ↓X_c0b, ↓X_c1b, ↓X_c2b, ↓X_c3b, ↓X_c4b, ↓X_e0b, ↓X_e1b, ↓X_e2b, ↓X_e3b, ↓X_e4b, ↓X_cb, ↓X_eb, ↓X_w0b, ↓X_w1b, ↓X_hb, ↓X_yb, ↓X_rb, ↓wp_0b, ↓wp_2b, ↓wp_4b, ↓wp_8b, ↓ws_2b, ↓ws_3b, ↓ws_4b, ↓ws_5b, ↓ws_6b, ↓ws_12b, ↓ws_13b, ↓ws_14b, ↓ws_15b, ↓ws_16b, ↓ws_22b, ↓ws_23b, ↓ws_51b, ↓wS_yb, ↓wS_rb, ↓wS_cb, ↓wS_eb, F_X0_roundWith, ↓cb9 r1]
  rfl
set_option maxRecDepth 8000 in
theorem m_roundWith (h : Lok L) (hM : WM σ ρ) (hI : Inv ρ) (hP : PM σ) {c f v s : Nat} (hc : c < NC ρ) (hv : (f = 0 ∧ v < 7) ∨ (f = 2 ∧ 1 ≤ v ∧ v ≤ 99)) (hs : s < 256) (hf : cbn s (NE ρ) ≤ 5) {ρ0 : Rw} (hρ : up1 ρ0 (56 + 5 * c + f) (Int32.ofNat v) = up1 ρ (56 + 5 * c + f) (Int32.ofNat v)) (hM0 : WM σ ρ0) : ∃ σ', F_X13_roundOf (some (L.1 1000)) (Int32.ofNat c) (Int32.ofNat s) (hp L (up2 σ 1001 (56 + 5 * c + f) (Int32.ofNat v))) = some (Int32.ofNat (rw9 ρ c f v s), hp L σ') ∧ WM σ' (up1 ρ (56 + 5 * c + f) (Int32.ofNat v)) ∧ am σ σ' ∧ mf σ σ' := by
  have hI1 : Inv (up1 ρ (56 + 5 * c + f) (Int32.ofNat v)) := Inv_change hI hc (by omega)
  have h6 := hI.1.2
  have nC : NC (up1 ρ (56 + 5 * c + f) (Int32.ofNat v)) = NC ρ := by unfold NC; rw [up1_ne (by omega)]
  have nE : NE (up1 ρ (56 + 5 * c + f) (Int32.ofNat v)) = NE ρ := by unfold NE; rw [up1_ne (by omega)]
  have hW1 := WM_up (i := 56 + 5 * c + f) (v := Int32.ofNat v) hM0
  rw [hρ] at hW1
  have a1 : am σ (up2 σ 1001 (56 + 5 * c + f) (Int32.ofNat v)) := am_m1f (m1f_up (m1f_refl _))
  obtain ⟨σ2, r1, r2, r3, _⟩ := m_roundOf h hW1 hI1 (PM_am a1 hP) (show c < NC (up1 ρ (56 + 5 * c + f) (Int32.ofNat v)) by omega) hs (by rw [nE]; exact hf)
  exact ⟨σ2, r1, WM_ag r2 hW1, am_trans a1 (am_ag r2), mf_trans (mf_up (by omega)) r3⟩
end L5e
/-! ### the acts: strength, kindFor -/
set_option maxRecDepth 8000 in
theorem lpR {γ β : Type} {Lp : Nat → Nat → γ → Option β} {N : Nat} (Q : Nat → γ → Prop) (hs : ∀ f j g, j < N → Q j g → ∃ g', Lp (f + 1) j g = Lp f (j + 1) g' ∧ Q (j + 1) g') (g : γ) (hq : Q 0 g) : ∀ (k f : Nat), k ≤ N → ∃ g', Lp (k + f) 0 g = Lp f k g' ∧ Q k g'
  | 0, f, _ => ⟨g, by rw [Nat.zero_add], hq⟩
  | k + 1, f, h => by
    obtain ⟨g', e, hq'⟩ := lpR Q hs g hq k (f + 1) (by omega)
    obtain ⟨g2, e2, hq2⟩ := hs f k g' (by omega) hq'
    exact ⟨g2, by rw [show k + 1 + f = k + (f + 1) by omega, e, e2], hq2⟩
section L5f
variable {L : Lt} {σ σ' : St} {S : Sg} {ρ ρ' : Rw}
set_option maxRecDepth 8000 in
theorem up1_id {i : Nat} : up1 ρ i (ρ i) = ρ := by
  funext j
  by_cases hj : j = i
  · subst hj; rw [up1_same]
  · rw [up1_ne hj]
set_option maxRecDepth 8000 in
theorem up1_up {i : Nat} {v w : Int32} : up1 (up1 ρ i v) i w = up1 ρ i w := by
  funext j
  by_cases hj : j = i
  · subst hj; rw [up1_same, up1_same]
  · rw [up1_ne hj, up1_ne hj, up1_ne hj]
set_option maxRecDepth 8000 in
theorem x_strS (h : Lok L) (hW : WX σ 200 ρ) (hI : Inv ρ) (hC : CN σ) (hP : PX σ) {c s n : Nat} (hc : c < NC ρ) (hs : s < 256) (hf : cbn s (NE ρ) ≤ 5) (hn : n ≤ 99) (hno : ∀ v, 1 ≤ v → v ≤ n → ¬ rw9 ρ c 2 v s < 1000000) (f : Nat) : ∃ g, F_X0_strength_L21 (n + f) (some (L.1 0)) (Int32.ofNat c) (Int32.ofNat s) 1 (hp L σ) = F_X0_strength_L21 f (some (L.1 0)) (Int32.ofNat c) (Int32.ofNat s) (Int32.ofNat (n + 1)) (hp L g) ∧ WX g 200 ρ ∧ ax σ g ∧ xf σ g := by
  refine lpR (Lp := fun f j (g : St) => F_X0_strength_L21 f (some (L.1 0)) (Int32.ofNat c) (Int32.ofNat s) (Int32.ofNat (j + 1)) (hp L g)) (N := n) (fun j g => WX g 200 ρ ∧ ax σ g ∧ xf σ g) (fun f j g hj ⟨q1, q2, q3⟩ => ?_) σ ⟨hW, ax_refl _, xf_refl _⟩ n f (Nat.le_refl _)
  obtain ⟨σ2, r1, r2, r3, r4⟩ := x_roundWith h q1 hI (CN_ax q2 hC) (PX_ax q2 hP) (f := 2) (v := j + 1) hc (.inr ⟨rfl, by omega, by omega⟩) hs hf
  rw [oR_neg (hno (j + 1) (by omega) (by omega))] at r1
  have r1 : F_X0_roundWith (some (L.1 0)) (Int32.ofNat c) 2 (Int32.ofNat (j + 1)) (Int32.ofNat s) (hp L g) = some (-1, hp L σ2) := r1
  have hd : ¬ (99 : Int32) < Int32.ofNat (j + 1) := by rw [li_99, ofN_lt (by omega) (by omega)]; omega
  refine ⟨σ2, ?_, r2, ax_trans q2 r3, xf_trans q3 r4⟩
  simp (discharger := first | assumption | omega | decide) only [F_X0_strength_L21, F_X0_strength_B21, hd, ↓reduceIte, ↓cb9 r1, not_true_eq_false, ofNs (j + 1)]
set_option maxRecDepth 8000 in
theorem m_strS (h : Lok L) (hM : WM σ ρ) (hI : Inv ρ) (hP : PM σ) {c s n : Nat} (hc : c < NC ρ) (hs : s < 256) (hf : cbn s (NE ρ) ≤ 5) (hn : n ≤ 99) (hno : ∀ v, 1 ≤ v → v < n → ¬ rw9 ρ c 2 v s < 1000000) (f : Nat) (x4 : Int32) : ∃ g, F_X13_strength_L32 (n + f) (some (L.1 1000)) (Int32.ofNat c) (Int32.ofNat s) x4 0 1000000 (hp L σ) = F_X13_strength_L32 f (some (L.1 1000)) (Int32.ofNat c) (Int32.ofNat s) x4 (Int32.ofNat n) (Int32.ofNat (if n = 0 then 1000000 else rw9 ρ c 2 n s)) (hp L g) ∧ (∃ ρ0, WM g ρ0 ∧ ∀ w, up1 ρ0 (56 + 5 * c + 2) w = up1 ρ (56 + 5 * c + 2) w) ∧ am σ g ∧ mf σ g := by
  have h6 := hI.1.2
  refine lpR (Lp := fun f j (g : St) => F_X13_strength_L32 f (some (L.1 1000)) (Int32.ofNat c) (Int32.ofNat s) x4 (Int32.ofNat j) (Int32.ofNat (if j = 0 then 1000000 else rw9 ρ c 2 j s)) (hp L g)) (N := n) (fun j g => (∃ ρ0, WM g ρ0 ∧ ∀ w, up1 ρ0 (56 + 5 * c + 2) w = up1 ρ (56 + 5 * c + 2) w) ∧ am σ g ∧ mf σ g) (fun f j g hj ⟨⟨ρ0, q1, q1'⟩, q2, q3⟩ => ?_) σ ⟨⟨ρ, hM, fun _ => rfl⟩, am_refl _, mf_refl _⟩ n f (Nat.le_refl _)
  have hd : ¬ (99 : Int32) ≤ Int32.ofNat j := by rw [li_99, ofN_le (by omega) (by omega)]; omega
  have hle : (if j = 0 then 1000000 else rw9 ρ c 2 j s) = 1000000 := by
    by_cases hj0 : j = 0
    · rw [if_pos hj0]
    · rw [if_neg hj0]
      have := hno j (by omega) hj
      have : rw9 ρ c 2 j s ≤ 1000000 := rnd_le _ _ _
      omega
  have hnl : ¬ Int32.ofNat (if j = 0 then 1000000 else rw9 ρ c 2 j s) < 1000000 := by rw [hle]; decide
  have hI1 : Inv (up1 ρ (56 + 5 * c + 2) (Int32.ofNat (j + 1))) := Inv_change hI hc (by omega)
  have nC : NC (up1 ρ (56 + 5 * c + 2) (Int32.ofNat (j + 1))) = NC ρ := by unfold NC; rw [up1_ne (by omega)]
  have nE : NE (up1 ρ (56 + 5 * c + 2) (Int32.ofNat (j + 1))) = NE ρ := by unfold NE; rw [up1_ne (by omega)]
  have w1 := WM_up (i := 56 + 5 * c + 2) (v := Int32.ofNat (j + 1)) q1
  rw [q1'] at w1
  have a1 : am σ (up2 g 1001 (56 + 5 * c + 2) (Int32.ofNat (j + 1))) := am_trans q2 (am_m1f (m1f_up (m1f_refl _)))
  obtain ⟨σ2, r1, r2, r3, _⟩ := m_roundOf h w1 hI1 (PM_am a1 hP) (show c < NC (up1 ρ (56 + 5 * c + 2) (Int32.ofNat (j + 1))) by omega) hs (by rw [nE]; exact hf)
  refine ⟨σ2, ?_, ⟨_, WM_ag r2 w1, fun w => up1_up⟩, am_trans a1 (am_ag r2), mf_trans q3 (mf_trans (mf_up (by omega)) r3)⟩
  rw [if_neg (show ¬ j + 1 = 0 by omega)]
  have hc6 : c < 6 := by omega
  simp (discharger := first | assumption | omega | decide) only [x_tg, w_tg, m_tg, ↓reduceIte, Option.bind_some, ↓m_0b, ↓m_1b, ↓m_2b, ↓m_3b, ↓m_4b, ↓m_5b, ↓m_6b, ↓m_7b, ↓m_8b, ↓m_9b, ↓m_10b, ↓m_11b, ↓m_12b, ↓m_13b, ↓m_14b, ↓m_15b, ↓m_16b, ↓m_17b, ↓m_18b, ↓m_19b, ↓m_20b, ↓m_21b, ↓m_22b, ↓m_23b, ↓m_24b, ↓m_25b, ↓m_26b, ↓m_27b, ↓m_28b, ↓m_29b, ↓mp_3b, ↓mp_6b, ↓mp_10b, ↓mp_11b, ↓mp_12b, ↓mp_14b, ↓mp_15b, ↓mp_16b, ↓mp_17b, ↓mp_18b, ↓mp_19b, ↓mp_22b, ↓mp_23b, ↓mp_24b, ↓mp_25b, ↓M_42b, ↓M_43b, ↓M_44b, ↓M_45b, ↓cIs_0b, ↓cIs_1b, ↓cIs_2b, ↓cIs_3b, ↓cIs_4b, ↓eIs_0b, ↓eIs_1b, ↓eIs_2b, ↓eIs_3b, ↓eIs_4b, ↓cIs_nb, ↓eIs_nb, ↓M_rb, ↓M_cAt_0b, ↓M_cAt_1b, ↓M_cAt_2b, ↓M_cAt_3b, ↓M_cAt_4b, ↓M_eAt_0b, ↓M_eAt_1b, ↓M_eAt_2b, ↓M_eAt_3b, ↓M_eAt_4b, ↓M_wAt_0b, ↓M_wAt_1b, cAt_0, cAt_1, cAt_2, cAt_3, cAt_4, eAt_0, eAt_1, eAt_2, eAt_3, eAt_4, wAt_0, wAt_1, cAt_n, eAt_n, wAt_n, ↓M_cS_0b, ↓M_cS_1b, ↓M_cS_2b, ↓M_cS_3b, ↓M_cS_4b, ↓M_eS_0b, ↓M_eS_1b, ↓M_eS_2b, ↓M_eS_3b, ↓M_eS_4b, ↓M_wS_0b, ↓M_wS_1b, ↓M_s42b, ↓M_s43b, ↓M_s44b, ↓M_s45b, ↓ms_1001b, ms_1001b, F_X13_strength_L32, F_X13_strength_B32, hd, hnl, ofNs j, ↓cb9 r1]
  rfl
set_option maxRecDepth 8000 in
theorem op_strength (hR : RR L σ S) (x1 x2 : Int32) : STEP L σ (F_X0_strength (some (L.1 0)) x1 x2) (F_X13_strength (some (L.1 1000)) x1 x2) := by
  have h := hR.1.1
  have hW := hR.1.2.1
  have hC := hR.1.2.2.1
  have hP := hR.1.2.2.2.1
  have hI := hR.2.2.1.1
  have hb : isW 200 = true := rfl
  rcases whc_cs hI x1 x2 with ⟨hw, c, s, hc, hc6, rfl, hs, hs8, hf, rfl, hal⟩ | hw
  · have gx := x_why0 h hW hI hw
    by_cases hex : ∃ v, v < 99 ∧ rw9 S.1 c 2 (v + 1) s < 1000000
    · obtain ⟨v, hv, hvf, hmin⟩ := least_of hex
      have hno : ∀ u, 1 ≤ u → u ≤ v → ¬ rw9 S.1 c 2 u s < 1000000 := fun u h1 h2 => by
        have := hmin (u - 1) (by omega); rwa [show u - 1 + 1 = u by omega] at this
      refine STEP_g hR (r := Int32.ofNat (v + 1)) hI ?_ (fun σ1 hM => ?_)
      · obtain ⟨g, e, q1, q2, q3⟩ := x_strS h hW hI hC hP hc hs8 hf (n := v) (by omega) hno (fu - v)
        rw [show v + (fu - v) = fu by unfold fu; omega, show fu - v = (fu - v - 1) + 1 by unfold fu; omega] at e
        obtain ⟨σ2, r1, r2, r3, r4⟩ := x_roundWith h q1 hI (CN_ax q2 hC) (PX_ax q2 hP) (f := 2) (v := v + 1) hc (.inr ⟨rfl, by omega, by omega⟩) hs8 hf
        have r1 : F_X0_roundWith (some (L.1 0)) (Int32.ofNat c) 2 (Int32.ofNat (v + 1)) (Int32.ofNat s) (hp L g) = some (oR (rw9 S.1 c 2 (v + 1) s), hp L σ2) := r1
        have hd : ¬ (99 : Int32) < Int32.ofNat (v + 1) := by rw [li_99, ofN_lt (by omega) (by omega)]; omega
        refine ⟨σ2, ?_, r2, ax_trans q2 r3, xf_trans q3 r4⟩
        unfold F_X0_strength
        rw [if_pos (x_tg h), bn9 gx, if_pos rfl, e]
        simp (discharger := first | assumption | omega | decide) only [F_X0_strength_L21, F_X0_strength_B21, F_X0_strength_J47, hd, ↓reduceIte, ↓cb9 r1, oR_ne hvf, not_false_eq_true]
      · have hM2 := hM.2.1
        have gm := m_why0 h hM2 hI hw
        obtain ⟨g, e, ⟨ρ0, q1, q1'⟩, q2, q3⟩ := m_strS h hM2 hI hM.2.2.1 hc hs8 hf (n := v + 1) (by omega) (fun u h1 h2 => hno u h1 (by omega)) (fu - (v + 1)) (S.1 (56 + 5 * c + 2))
        rw [show v + 1 + (fu - (v + 1)) = fu by unfold fu; omega, show fu - (v + 1) = (fu - (v + 1) - 1) + 1 by unfold fu; omega, if_neg (show ¬ v + 1 = 0 by omega)] at e
        have w1 := WM_up (i := 56 + 5 * c + 2) (v := S.1 (56 + 5 * c + 2)) q1
        rw [q1', up1_id] at w1
        have n1 : Int32.ofNat (rw9 S.1 c 2 (v + 1) s) < 1000000 := by rw [li_1000000, ofN_lt (by omega) (by omega)]; exact hvf
        refine ⟨_, ?_, w1, am_trans q2 (am_m1f (m1f_up (m1f_refl _))), mf_trans q3 (mf_up (by omega))⟩
        unfold F_X13_strength
        rw [if_pos (m_tg h), bn9 gm, if_pos rfl, bn9 (cIs_2 h hM2 hc6), e]
        by_cases h99 : (99 : Int32) ≤ Int32.ofNat (v + 1)
        · simp (discharger := first | assumption | omega | decide) only [x_tg, w_tg, m_tg, ↓reduceIte, Option.bind_some, ↓m_0b, ↓m_1b, ↓m_2b, ↓m_3b, ↓m_4b, ↓m_5b, ↓m_6b, ↓m_7b, ↓m_8b, ↓m_9b, ↓m_10b, ↓m_11b, ↓m_12b, ↓m_13b, ↓m_14b, ↓m_15b, ↓m_16b, ↓m_17b, ↓m_18b, ↓m_19b, ↓m_20b, ↓m_21b, ↓m_22b, ↓m_23b, ↓m_24b, ↓m_25b, ↓m_26b, ↓m_27b, ↓m_28b, ↓m_29b, ↓mp_3b, ↓mp_6b, ↓mp_10b, ↓mp_11b, ↓mp_12b, ↓mp_14b, ↓mp_15b, ↓mp_16b, ↓mp_17b, ↓mp_18b, ↓mp_19b, ↓mp_22b, ↓mp_23b, ↓mp_24b, ↓mp_25b, ↓M_42b, ↓M_43b, ↓M_44b, ↓M_45b, ↓cIs_0b, ↓cIs_1b, ↓cIs_2b, ↓cIs_3b, ↓cIs_4b, ↓eIs_0b, ↓eIs_1b, ↓eIs_2b, ↓eIs_3b, ↓eIs_4b, ↓cIs_nb, ↓eIs_nb, ↓M_rb, ↓M_cAt_0b, ↓M_cAt_1b, ↓M_cAt_2b, ↓M_cAt_3b, ↓M_cAt_4b, ↓M_eAt_0b, ↓M_eAt_1b, ↓M_eAt_2b, ↓M_eAt_3b, ↓M_eAt_4b, ↓M_wAt_0b, ↓M_wAt_1b, cAt_0, cAt_1, cAt_2, cAt_3, cAt_4, eAt_0, eAt_1, eAt_2, eAt_3, eAt_4, wAt_0, wAt_1, cAt_n, eAt_n, wAt_n, ↓M_cS_0b, ↓M_cS_1b, ↓M_cS_2b, ↓M_cS_3b, ↓M_cS_4b, ↓M_eS_0b, ↓M_eS_1b, ↓M_eS_2b, ↓M_eS_3b, ↓M_eS_4b, ↓M_wS_0b, ↓M_wS_1b, ↓M_s42b, ↓M_s43b, ↓M_s44b, ↓M_s45b, ↓ms_1001b, ms_1001b, F_X13_strength_L32, F_X13_strength_B32, F_X13_strength_J72, eq_true h99, eq_true n1]
        · simp (discharger := first | assumption | omega | decide) only [x_tg, w_tg, m_tg, ↓reduceIte, Option.bind_some, ↓m_0b, ↓m_1b, ↓m_2b, ↓m_3b, ↓m_4b, ↓m_5b, ↓m_6b, ↓m_7b, ↓m_8b, ↓m_9b, ↓m_10b, ↓m_11b, ↓m_12b, ↓m_13b, ↓m_14b, ↓m_15b, ↓m_16b, ↓m_17b, ↓m_18b, ↓m_19b, ↓m_20b, ↓m_21b, ↓m_22b, ↓m_23b, ↓m_24b, ↓m_25b, ↓m_26b, ↓m_27b, ↓m_28b, ↓m_29b, ↓mp_3b, ↓mp_6b, ↓mp_10b, ↓mp_11b, ↓mp_12b, ↓mp_14b, ↓mp_15b, ↓mp_16b, ↓mp_17b, ↓mp_18b, ↓mp_19b, ↓mp_22b, ↓mp_23b, ↓mp_24b, ↓mp_25b, ↓M_42b, ↓M_43b, ↓M_44b, ↓M_45b, ↓cIs_0b, ↓cIs_1b, ↓cIs_2b, ↓cIs_3b, ↓cIs_4b, ↓eIs_0b, ↓eIs_1b, ↓eIs_2b, ↓eIs_3b, ↓eIs_4b, ↓cIs_nb, ↓eIs_nb, ↓M_rb, ↓M_cAt_0b, ↓M_cAt_1b, ↓M_cAt_2b, ↓M_cAt_3b, ↓M_cAt_4b, ↓M_eAt_0b, ↓M_eAt_1b, ↓M_eAt_2b, ↓M_eAt_3b, ↓M_eAt_4b, ↓M_wAt_0b, ↓M_wAt_1b, cAt_0, cAt_1, cAt_2, cAt_3, cAt_4, eAt_0, eAt_1, eAt_2, eAt_3, eAt_4, wAt_0, wAt_1, cAt_n, eAt_n, wAt_n, ↓M_cS_0b, ↓M_cS_1b, ↓M_cS_2b, ↓M_cS_3b, ↓M_cS_4b, ↓M_eS_0b, ↓M_eS_1b, ↓M_eS_2b, ↓M_eS_3b, ↓M_eS_4b, ↓M_wS_0b, ↓M_wS_1b, ↓M_s42b, ↓M_s43b, ↓M_s44b, ↓M_s45b, ↓ms_1001b, ms_1001b, F_X13_strength_L32, F_X13_strength_B32, F_X13_strength_J72, h99, eq_true n1]
    · have hno : ∀ u, 1 ≤ u → u ≤ 99 → ¬ rw9 S.1 c 2 u s < 1000000 := fun u h1 h2 q => hex ⟨u - 1, by omega, by rw [show u - 1 + 1 = u by omega]; exact q⟩
      refine STEP_gf hR (k := 3) (xv := 3) (mv := -1000004) (by omega) rfl (by decide) hI ?_ (fun σ1 hM => ?_)
      · obtain ⟨g, e, q1, q2, q3⟩ := x_strS h hW hI hC hP hc hs8 hf (n := 99) (by omega) hno (fu - 99)
        rw [show 99 + (fu - 99) = fu from rfl, show fu - 99 = (fu - 99 - 1) + 1 from rfl] at e
        refine ⟨g, ?_, q1, q2, q3⟩
        unfold F_X0_strength
        rw [if_pos (x_tg h), bn9 gx, if_pos rfl, e]
        simp (discharger := first | assumption | omega | decide) only [F_X0_strength_L21, F_X0_strength_B21, F_X0_strength_J47, show (99 : Int32) < Int32.ofNat (99 + 1) by decide, ↓reduceIte, cb_id]
      · have hM2 := hM.2.1
        have gm := m_why0 h hM2 hI hw
        obtain ⟨g, e, ⟨ρ0, q1, q1'⟩, q2, q3⟩ := m_strS h hM2 hI hM.2.2.1 hc hs8 hf (n := 99) (by omega) (fun u h1 h2 => hno u h1 (by omega)) (fu - 99) (S.1 (56 + 5 * c + 2))
        rw [show 99 + (fu - 99) = fu from rfl, show fu - 99 = (fu - 99 - 1) + 1 from rfl, if_neg (show ¬ 99 = 0 by omega)] at e
        have w1 := WM_up (i := 56 + 5 * c + 2) (v := S.1 (56 + 5 * c + 2)) q1
        rw [q1', up1_id] at w1
        have hr : rw9 S.1 c 2 99 s = 1000000 := by
          have := hno 99 (by omega) (by omega)
          have : rw9 S.1 c 2 99 s ≤ 1000000 := rnd_le _ _ _
          omega
        have n1 : ¬ Int32.ofNat (rw9 S.1 c 2 99 s) < 1000000 := by rw [hr]; decide
        refine ⟨_, ?_, w1, am_trans q2 (am_m1f (m1f_up (m1f_refl _))), mf_trans q3 (mf_up (by omega))⟩
        unfold F_X13_strength
        rw [if_pos (m_tg h), bn9 gm, if_pos rfl, bn9 (cIs_2 h hM2 hc6), e]
        simp (discharger := first | assumption | omega | decide) only [x_tg, w_tg, m_tg, ↓reduceIte, Option.bind_some, ↓m_0b, ↓m_1b, ↓m_2b, ↓m_3b, ↓m_4b, ↓m_5b, ↓m_6b, ↓m_7b, ↓m_8b, ↓m_9b, ↓m_10b, ↓m_11b, ↓m_12b, ↓m_13b, ↓m_14b, ↓m_15b, ↓m_16b, ↓m_17b, ↓m_18b, ↓m_19b, ↓m_20b, ↓m_21b, ↓m_22b, ↓m_23b, ↓m_24b, ↓m_25b, ↓m_26b, ↓m_27b, ↓m_28b, ↓m_29b, ↓mp_3b, ↓mp_6b, ↓mp_10b, ↓mp_11b, ↓mp_12b, ↓mp_14b, ↓mp_15b, ↓mp_16b, ↓mp_17b, ↓mp_18b, ↓mp_19b, ↓mp_22b, ↓mp_23b, ↓mp_24b, ↓mp_25b, ↓M_42b, ↓M_43b, ↓M_44b, ↓M_45b, ↓cIs_0b, ↓cIs_1b, ↓cIs_2b, ↓cIs_3b, ↓cIs_4b, ↓eIs_0b, ↓eIs_1b, ↓eIs_2b, ↓eIs_3b, ↓eIs_4b, ↓cIs_nb, ↓eIs_nb, ↓M_rb, ↓M_cAt_0b, ↓M_cAt_1b, ↓M_cAt_2b, ↓M_cAt_3b, ↓M_cAt_4b, ↓M_eAt_0b, ↓M_eAt_1b, ↓M_eAt_2b, ↓M_eAt_3b, ↓M_eAt_4b, ↓M_wAt_0b, ↓M_wAt_1b, cAt_0, cAt_1, cAt_2, cAt_3, cAt_4, eAt_0, eAt_1, eAt_2, eAt_3, eAt_4, wAt_0, wAt_1, cAt_n, eAt_n, wAt_n, ↓M_cS_0b, ↓M_cS_1b, ↓M_cS_2b, ↓M_cS_3b, ↓M_cS_4b, ↓M_eS_0b, ↓M_eS_1b, ↓M_eS_2b, ↓M_eS_3b, ↓M_eS_4b, ↓M_wS_0b, ↓M_wS_1b, ↓M_s42b, ↓M_s43b, ↓M_s44b, ↓M_s45b, ↓ms_1001b, ms_1001b, F_X13_strength_L32, F_X13_strength_B32, F_X13_strength_J72, show (99 : Int32) ≤ Int32.ofNat 99 by decide, n1, cb_id]
  · refine STEP_why hR hw (fun i e hi => ?_) (fun σ1 i e hi => ?_)
    · unfold F_X0_strength; rw [if_pos (x_tg h), bn9 e, if_neg hi]
    · unfold F_X13_strength; rw [if_pos (m_tg h), bn9 e, if_neg hi]
def kdV (ρ : Rw) (c s k : Nat) : Nat := rw9 ρ c 0 k s
set_option maxRecDepth 8000 in
theorem x_kindS (h : Lok L) (hW : WX σ 200 ρ) (hI : Inv ρ) (hC : CN σ) (hP : PX σ) {c s : Nat} (hc : c < NC ρ) (hs : s < 256) (hf : cbn s (NE ρ) ≤ 5) (f : Nat) : ∃ g, F_X0_kindFor_L28 (7 + f) (some (L.1 0)) (Int32.ofNat c) (Int32.ofNat s) (-1) 1000000 0 (hp L σ) = F_X0_kindFor_L28 f (some (L.1 0)) (Int32.ofNat c) (Int32.ofNat s) (oB (bs (kdV ρ c s) 7)) (Int32.ofNat (bs (kdV ρ c s) 7).1) (Int32.ofNat 7) (hp L g) ∧ WX g 200 ρ ∧ ax σ g ∧ xf σ g := by
  refine lpR (Lp := fun f j (g : St) => F_X0_kindFor_L28 f (some (L.1 0)) (Int32.ofNat c) (Int32.ofNat s) (oB (bs (kdV ρ c s) j)) (Int32.ofNat (bs (kdV ρ c s) j).1) (Int32.ofNat j) (hp L g)) (N := 7) (fun j g => WX g 200 ρ ∧ ax σ g ∧ xf σ g) (fun f j g hj ⟨q1, q2, q3⟩ => ?_) σ ⟨hW, ax_refl _, xf_refl _⟩ 7 f (Nat.le_refl _)
  obtain ⟨σ2, r1, r2, r3, r4⟩ := x_roundWith h q1 hI (CN_ax q2 hC) (PX_ax q2 hP) (f := 0) (v := j) hc (.inl ⟨rfl, hj⟩) hs hf
  have r1 : F_X0_roundWith (some (L.1 0)) (Int32.ofNat c) 0 (Int32.ofNat j) (Int32.ofNat s) (hp L g) = some (oR (kdV ρ c s j), hp L σ2) := r1
  have hd : ¬ (7 : Int32) ≤ Int32.ofNat j := by rw [li_7, ofN_le (by omega) (by omega)]; omega
  have hb := bs_le (kdV ρ c s) j
  have hv : kdV ρ c s j ≤ 1000000 := rnd_le _ _ _
  refine ⟨σ2, ?_, r2, ax_trans q2 r3, xf_trans q3 r4⟩
  rw [bs_succ]
  unfold bsS
  by_cases hlt : kdV ρ c s j < (bs (kdV ρ c s) j).1
  · have hfi : kdV ρ c s j < 1000000 := by omega
    rw [if_pos hlt]
    have n1 := oR_ne hfi
    have n2 : ¬ Int32.ofNat (bs (kdV ρ c s) j).1 ≤ oR (kdV ρ c s j) := by rw [oR_pos hfi, ofN_le (by omega) (by omega)]; omega
    simp (discharger := first | assumption | omega | decide) only [F_X0_kindFor_J92, F_X0_kindFor_J78, F_X0_kindFor_J64, F_X0_kindFor_J63, F_X0_kindFor_B28, F_X0_kindFor_L28, F_X0_kindFor, hd, ↓reduceIte, ↓cb9 r1, n1, n2, one_ne, ofNs]
    unfold oB; rw [if_pos (show (kdV ρ c s j, j).1 < 1000000 from hfi), oR_pos hfi]
  · rw [if_neg hlt]
    by_cases hfi : kdV ρ c s j < 1000000
    · have n1 := oR_ne hfi
      have n2 : Int32.ofNat (bs (kdV ρ c s) j).1 ≤ oR (kdV ρ c s j) := by rw [oR_pos hfi, ofN_le (by omega) (by omega)]; omega
      simp (discharger := first | assumption | omega | decide) only [F_X0_kindFor_J92, F_X0_kindFor_J78, F_X0_kindFor_J64, F_X0_kindFor_J63, F_X0_kindFor_B28, F_X0_kindFor_L28, F_X0_kindFor, hd, ↓reduceIte, ↓cb9 r1, n1, eq_true n2, ofNs]
    · simp (discharger := first | assumption | omega | decide) only [F_X0_kindFor_J92, F_X0_kindFor_J78, F_X0_kindFor_J64, F_X0_kindFor_J63, F_X0_kindFor_B28, F_X0_kindFor_L28, F_X0_kindFor, hd, ↓reduceIte, ↓cb9 r1, oR_neg hfi, ofNs]
set_option maxRecDepth 8000 in
theorem m_kindS (h : Lok L) (hM : WM σ ρ) (hI : Inv ρ) (hP : PM σ) {c s : Nat} (hc : c < NC ρ) (hs : s < 256) (hf : cbn s (NE ρ) ≤ 5) (f : Nat) (x4 : Int32) : ∃ g, F_X13_kindFor_L35 (7 + f) (some (L.1 1000)) (Int32.ofNat c) (Int32.ofNat s) x4 (-1) 1000000 0 (hp L σ) = F_X13_kindFor_L35 f (some (L.1 1000)) (Int32.ofNat c) (Int32.ofNat s) x4 (oB (bs (kdV ρ c s) 7)) (Int32.ofNat (bs (kdV ρ c s) 7).1) (Int32.ofNat 7) (hp L g) ∧ (∃ ρ0, WM g ρ0 ∧ ∀ w, up1 ρ0 (56 + 5 * c + 0) w = up1 ρ (56 + 5 * c + 0) w) ∧ am σ g ∧ mf σ g := by
  have h6 := hI.1.2
  have hc6 : c < 6 := by omega
  refine lpR (Lp := fun f j (g : St) => F_X13_kindFor_L35 f (some (L.1 1000)) (Int32.ofNat c) (Int32.ofNat s) x4 (oB (bs (kdV ρ c s) j)) (Int32.ofNat (bs (kdV ρ c s) j).1) (Int32.ofNat j) (hp L g)) (N := 7) (fun j g => (∃ ρ0, WM g ρ0 ∧ ∀ w, up1 ρ0 (56 + 5 * c + 0) w = up1 ρ (56 + 5 * c + 0) w) ∧ am σ g ∧ mf σ g) (fun f j g hj ⟨⟨ρ0, q1, q1'⟩, q2, q3⟩ => ?_) σ ⟨⟨ρ, hM, fun _ => rfl⟩, am_refl _, mf_refl _⟩ 7 f (Nat.le_refl _)
  have hd : ¬ (6 : Int32) < Int32.ofNat j := by rw [li_6, ofN_lt (by omega) (by omega)]; omega
  have hI1 : Inv (up1 ρ (56 + 5 * c + 0) (Int32.ofNat j)) := Inv_change hI hc (by omega)
  have nC : NC (up1 ρ (56 + 5 * c + 0) (Int32.ofNat j)) = NC ρ := by unfold NC; rw [up1_ne (by omega)]
  have nE : NE (up1 ρ (56 + 5 * c + 0) (Int32.ofNat j)) = NE ρ := by unfold NE; rw [up1_ne (by omega)]
  have w1 := WM_up (i := 56 + 5 * c + 0) (v := Int32.ofNat j) q1
  rw [q1'] at w1
  have a1 : am σ (up2 g 1001 (56 + 5 * c + 0) (Int32.ofNat j)) := am_trans q2 (am_m1f (m1f_up (m1f_refl _)))
  obtain ⟨σ2, r1, r2, r3, _⟩ := m_roundOf h w1 hI1 (PM_am a1 hP) (show c < NC (up1 ρ (56 + 5 * c + 0) (Int32.ofNat j)) by omega) hs (by rw [nE]; exact hf)
  have r1 : F_X13_roundOf (some (L.1 1000)) (Int32.ofNat c) (Int32.ofNat s) (hp L (up2 g 1001 (56 + 5 * c + 0) (Int32.ofNat j))) = some (Int32.ofNat (kdV ρ c s j), hp L σ2) := r1
  have hb := bs_le (kdV ρ c s) j
  have hv : kdV ρ c s j ≤ 1000000 := rnd_le _ _ _
  have nx : (bs (kdV ρ c s) (j + 1)).1 = min (bs (kdV ρ c s) j).1 (kdV ρ c s j) := by
    rw [bs_succ]; unfold bsS; split
    · dsimp only; omega
    · omega
  have nb : oB (bs (kdV ρ c s) (j + 1)) = if kdV ρ c s j < (bs (kdV ρ c s) j).1 then Int32.ofNat j else oB (bs (kdV ρ c s) j) := by
    rw [bs_succ]; unfold bsS; split
    · unfold oB; rw [if_pos (by dsimp only; omega)]
    · rfl
  refine ⟨σ2, ?_, ⟨_, WM_ag r2 w1, fun w => up1_up⟩, am_trans a1 (am_ag r2), mf_trans q3 (mf_trans (mf_up (by omega)) r3)⟩
  rw [nb, nx, ← ofN_min (by omega) (by omega)]
  by_cases hlt : kdV ρ c s j < (bs (kdV ρ c s) j).1
  · have hn : ¬ (bs (kdV ρ c s) j).1 ≤ kdV ρ c s j := by omega
    rw [if_pos hlt]
    simp (discharger := first | assumption | omega | decide) only [x_tg, w_tg, m_tg, ↓reduceIte, Option.bind_some, ↓m_0b, ↓m_1b, ↓m_2b, ↓m_3b, ↓m_4b, ↓m_5b, ↓m_6b, ↓m_7b, ↓m_8b, ↓m_9b, ↓m_10b, ↓m_11b, ↓m_12b, ↓m_13b, ↓m_14b, ↓m_15b, ↓m_16b, ↓m_17b, ↓m_18b, ↓m_19b, ↓m_20b, ↓m_21b, ↓m_22b, ↓m_23b, ↓m_24b, ↓m_25b, ↓m_26b, ↓m_27b, ↓m_28b, ↓m_29b, ↓mp_3b, ↓mp_6b, ↓mp_10b, ↓mp_11b, ↓mp_12b, ↓mp_14b, ↓mp_15b, ↓mp_16b, ↓mp_17b, ↓mp_18b, ↓mp_19b, ↓mp_22b, ↓mp_23b, ↓mp_24b, ↓mp_25b, ↓M_42b, ↓M_43b, ↓M_44b, ↓M_45b, ↓cIs_0b, ↓cIs_1b, ↓cIs_2b, ↓cIs_3b, ↓cIs_4b, ↓eIs_0b, ↓eIs_1b, ↓eIs_2b, ↓eIs_3b, ↓eIs_4b, ↓cIs_nb, ↓eIs_nb, ↓M_rb, ↓M_cAt_0b, ↓M_cAt_1b, ↓M_cAt_2b, ↓M_cAt_3b, ↓M_cAt_4b, ↓M_eAt_0b, ↓M_eAt_1b, ↓M_eAt_2b, ↓M_eAt_3b, ↓M_eAt_4b, ↓M_wAt_0b, ↓M_wAt_1b, cAt_0, cAt_1, cAt_2, cAt_3, cAt_4, eAt_0, eAt_1, eAt_2, eAt_3, eAt_4, wAt_0, wAt_1, cAt_n, eAt_n, wAt_n, ↓M_cS_0b, ↓M_cS_1b, ↓M_cS_2b, ↓M_cS_3b, ↓M_cS_4b, ↓M_eS_0b, ↓M_eS_1b, ↓M_eS_2b, ↓M_eS_3b, ↓M_eS_4b, ↓M_wS_0b, ↓M_wS_1b, ↓M_s42b, ↓M_s43b, ↓M_s44b, ↓M_s45b, ↓ms_1001b, ms_1001b, F_X13_kindFor_J76, F_X13_kindFor_B35, F_X13_kindFor_L35, F_X13_kindFor, hd, ↓cb9 r1, ofN_le, hn, ofNs]
  · have hn : (bs (kdV ρ c s) j).1 ≤ kdV ρ c s j := by omega
    rw [if_neg hlt]
    simp (discharger := first | assumption | omega | decide) only [x_tg, w_tg, m_tg, ↓reduceIte, Option.bind_some, ↓m_0b, ↓m_1b, ↓m_2b, ↓m_3b, ↓m_4b, ↓m_5b, ↓m_6b, ↓m_7b, ↓m_8b, ↓m_9b, ↓m_10b, ↓m_11b, ↓m_12b, ↓m_13b, ↓m_14b, ↓m_15b, ↓m_16b, ↓m_17b, ↓m_18b, ↓m_19b, ↓m_20b, ↓m_21b, ↓m_22b, ↓m_23b, ↓m_24b, ↓m_25b, ↓m_26b, ↓m_27b, ↓m_28b, ↓m_29b, ↓mp_3b, ↓mp_6b, ↓mp_10b, ↓mp_11b, ↓mp_12b, ↓mp_14b, ↓mp_15b, ↓mp_16b, ↓mp_17b, ↓mp_18b, ↓mp_19b, ↓mp_22b, ↓mp_23b, ↓mp_24b, ↓mp_25b, ↓M_42b, ↓M_43b, ↓M_44b, ↓M_45b, ↓cIs_0b, ↓cIs_1b, ↓cIs_2b, ↓cIs_3b, ↓cIs_4b, ↓eIs_0b, ↓eIs_1b, ↓eIs_2b, ↓eIs_3b, ↓eIs_4b, ↓cIs_nb, ↓eIs_nb, ↓M_rb, ↓M_cAt_0b, ↓M_cAt_1b, ↓M_cAt_2b, ↓M_cAt_3b, ↓M_cAt_4b, ↓M_eAt_0b, ↓M_eAt_1b, ↓M_eAt_2b, ↓M_eAt_3b, ↓M_eAt_4b, ↓M_wAt_0b, ↓M_wAt_1b, cAt_0, cAt_1, cAt_2, cAt_3, cAt_4, eAt_0, eAt_1, eAt_2, eAt_3, eAt_4, wAt_0, wAt_1, cAt_n, eAt_n, wAt_n, ↓M_cS_0b, ↓M_cS_1b, ↓M_cS_2b, ↓M_cS_3b, ↓M_cS_4b, ↓M_eS_0b, ↓M_eS_1b, ↓M_eS_2b, ↓M_eS_3b, ↓M_eS_4b, ↓M_wS_0b, ↓M_wS_1b, ↓M_s42b, ↓M_s43b, ↓M_s44b, ↓M_s45b, ↓ms_1001b, ms_1001b, F_X13_kindFor_J76, F_X13_kindFor_B35, F_X13_kindFor_L35, F_X13_kindFor, hd, ↓cb9 r1, ofN_le, hn, ofNs]
set_option maxRecDepth 8000 in
theorem op_kindFor (hR : RR L σ S) (x1 x2 : Int32) : STEP L σ (F_X0_kindFor (some (L.1 0)) x1 x2) (F_X13_kindFor (some (L.1 1000)) x1 x2) := by
  have h := hR.1.1
  have hW := hR.1.2.1
  have hC := hR.1.2.2.1
  have hP := hR.1.2.2.2.1
  have hI := hR.2.2.1.1
  have hb : isW 200 = true := rfl
  rcases whc_cs hI x1 x2 with ⟨hw, c, s, hc, hc6, rfl, hs, hs8, hf, rfl, hal⟩ | hw
  · have gx := x_why0 h hW hI hw
    obtain ⟨g, e, q1, q2, q3⟩ := x_kindS h hW hI hC hP hc hs8 hf (fu - 7)
    rw [show 7 + (fu - 7) = fu from rfl, show fu - 7 = (fu - 7 - 1) + 1 from rfl] at e
    have ha := bs_arg (kdV S.1 c s) 7 (by omega)
    have mside : ∀ σ1, MR L σ1 S → ∃ σ2, F_X13_kindFor (some (L.1 1000)) (Int32.ofNat c) (Int32.ofNat s) (hp L σ1) = (if 0 ≤ oB (bs (kdV S.1 c s) 7) then some (oB (bs (kdV S.1 c s) 7), hp L σ2) else F_X13_finding (some (L.1 1000)) (-1000004) (hp L σ2)) ∧ WM σ2 S.1 ∧ am σ1 σ2 ∧ mf σ1 σ2 := by
      intro σ1 hM
      have hM2 := hM.2.1
      have gm := m_why0 h hM2 hI hw
      obtain ⟨g', e', ⟨ρ0, p1, p1'⟩, p2, p3⟩ := m_kindS h hM2 hI hM.2.2.1 hc hs8 hf (fu - 7) (S.1 (56 + 5 * c + 0))
      rw [show 7 + (fu - 7) = fu from rfl, show fu - 7 = (fu - 7 - 1) + 1 from rfl] at e'
      have w1 := WM_up (i := 56 + 5 * c + 0) (v := S.1 (56 + 5 * c + 0)) p1
      rw [p1', up1_id] at w1
      refine ⟨_, ?_, w1, am_trans p2 (am_m1f (m1f_up (m1f_refl _))), mf_trans p3 (mf_up (by omega))⟩
      unfold F_X13_kindFor
      rw [if_pos (m_tg h), bn9 gm, if_pos rfl, bn9 (cIs_0 h hM2 hc6), e']
      simp (discharger := first | assumption | omega | decide) only [x_tg, w_tg, m_tg, ↓reduceIte, Option.bind_some, ↓m_0b, ↓m_1b, ↓m_2b, ↓m_3b, ↓m_4b, ↓m_5b, ↓m_6b, ↓m_7b, ↓m_8b, ↓m_9b, ↓m_10b, ↓m_11b, ↓m_12b, ↓m_13b, ↓m_14b, ↓m_15b, ↓m_16b, ↓m_17b, ↓m_18b, ↓m_19b, ↓m_20b, ↓m_21b, ↓m_22b, ↓m_23b, ↓m_24b, ↓m_25b, ↓m_26b, ↓m_27b, ↓m_28b, ↓m_29b, ↓mp_3b, ↓mp_6b, ↓mp_10b, ↓mp_11b, ↓mp_12b, ↓mp_14b, ↓mp_15b, ↓mp_16b, ↓mp_17b, ↓mp_18b, ↓mp_19b, ↓mp_22b, ↓mp_23b, ↓mp_24b, ↓mp_25b, ↓M_42b, ↓M_43b, ↓M_44b, ↓M_45b, ↓cIs_0b, ↓cIs_1b, ↓cIs_2b, ↓cIs_3b, ↓cIs_4b, ↓eIs_0b, ↓eIs_1b, ↓eIs_2b, ↓eIs_3b, ↓eIs_4b, ↓cIs_nb, ↓eIs_nb, ↓M_rb, ↓M_cAt_0b, ↓M_cAt_1b, ↓M_cAt_2b, ↓M_cAt_3b, ↓M_cAt_4b, ↓M_eAt_0b, ↓M_eAt_1b, ↓M_eAt_2b, ↓M_eAt_3b, ↓M_eAt_4b, ↓M_wAt_0b, ↓M_wAt_1b, cAt_0, cAt_1, cAt_2, cAt_3, cAt_4, eAt_0, eAt_1, eAt_2, eAt_3, eAt_4, wAt_0, wAt_1, cAt_n, eAt_n, wAt_n, ↓M_cS_0b, ↓M_cS_1b, ↓M_cS_2b, ↓M_cS_3b, ↓M_cS_4b, ↓M_eS_0b, ↓M_eS_1b, ↓M_eS_2b, ↓M_eS_3b, ↓M_eS_4b, ↓M_wS_0b, ↓M_wS_1b, ↓M_s42b, ↓M_s43b, ↓M_s44b, ↓M_s45b, ↓ms_1001b, ms_1001b, F_X13_kindFor_L35, F_X13_kindFor_B35, show (6 : Int32) < Int32.ofNat 7 by decide, cb_id]
    by_cases hlt : (bs (kdV S.1 c s) 7).1 < 1000000
    · have eo : oB (bs (kdV S.1 c s) 7) = Int32.ofNat (bs (kdV S.1 c s) 7).2 := by unfold oB; rw [if_pos hlt]
      have n1 := ofN_nm1 (a := (bs (kdV S.1 c s) 7).2) (by omega)
      have n2 : (0 : Int32) ≤ Int32.ofNat (bs (kdV S.1 c s) 7).2 := by rw [li_0, ofN_le (by omega) (by omega)]; omega
      refine STEP_g hR (r := Int32.ofNat (bs (kdV S.1 c s) 7).2) hI ⟨g, ?_, q1, q2, q3⟩ (fun σ1 hM => ?_)
      · unfold F_X0_kindFor
        rw [if_pos (x_tg h), bn9 gx, if_pos rfl, e, eo]
        simp (discharger := first | assumption | omega | decide) only [x_tg, w_tg, m_tg, ↓reduceIte, Option.bind_some, ↓x_0b, ↓x_1b, ↓x_2b, ↓x_3b, ↓x_4b, ↓x_5b, ↓x_6b, ↓x_7b, ↓x_8b, ↓x_9b, ↓x_10b, ↓x_11b, ↓x_12b, ↓x_13b, ↓x_14b, ↓x_15b, ↓x_16b, ↓x_17b, ↓x_18b, ↓x_19b, ↓xp_2b, ↓xp_6b, ↓xp_14b, ↓xp_17b, ↓xp_18b, ↓xp_19b, ↓X_f0b, ↓X_f2b, ↓X_f4b, ↓X_f8b, ↓wf_1b, ↓wf_3b, ↓wf_5b, ↓wf_6b, ↓wf_7b, ↓wf_9b, ↓wt_1_0b, ↓wt_1_1b, ↓wt_1_2b, ↓wt_1_3b, ↓wt_1_4b, ↓wt_11_0b, ↓wt_11_1b, ↓wt_11_2b, ↓wt_11_3b, ↓wt_11_4b, ↓wt_21_0b, ↓wt_21_1b, ↓wt_31_0b, ↓wt_31_1b, ↓wt_31_2b, ↓wt_31_3b, ↓wt_31_4b, ↓wt_31_5b, ↓wt_31_6b, ↓wt_41_0b, ↓wt_41_1b, ↓wt_41_2b, ↓wt_41_3b, ↓wt_41_4b, ↓wt_41_5b, ↓wt_41_6b, ↓wt_1b, ↓wt_11b, ↓wt_21b, ↓wt_31b, ↓wt_41b, ↓X_c0b, ↓X_c1b, ↓X_c2b, ↓X_c3b, ↓X_c4b, ↓X_e0b, ↓X_e1b, ↓X_e2b, ↓X_e3b, ↓X_e4b, ↓X_cb, ↓X_eb, ↓X_w0b, ↓X_w1b, ↓X_hb, ↓X_yb, ↓X_rb, ↓wp_0b, ↓wp_2b, ↓wp_4b, ↓wp_8b, ↓ws_2b, ↓ws_3b, ↓ws_4b, ↓ws_5b, ↓ws_6b, ↓ws_12b, ↓ws_13b, ↓ws_14b, ↓ws_15b, ↓ws_16b, ↓ws_22b, ↓ws_23b, ↓ws_51b, ↓wS_yb, ↓wS_rb, ↓wS_cb, ↓wS_eb, F_X0_kindFor_L28, F_X0_kindFor_B28, F_X0_orNone, show (7 : Int32) ≤ Int32.ofNat 7 by decide, cb_id, n1, not_false_eq_true]
      · obtain ⟨σ2, m1, m2, m3, m4⟩ := mside σ1 hM
        rw [eo, if_pos n2] at m1
        exact ⟨σ2, m1, m2, m3, m4⟩
    · have eo : oB (bs (kdV S.1 c s) 7) = -1 := by unfold oB; rw [if_neg hlt]
      refine STEP_gf hR (k := 3) (xv := 3) (mv := -1000004) (by omega) rfl (by decide) hI ⟨g, ?_, q1, q2, q3⟩ (fun σ1 hM => ?_)
      · unfold F_X0_kindFor
        rw [if_pos (x_tg h), bn9 gx, if_pos rfl, e, eo]
        simp (discharger := first | assumption | omega | decide) only [x_tg, w_tg, m_tg, ↓reduceIte, Option.bind_some, ↓x_0b, ↓x_1b, ↓x_2b, ↓x_3b, ↓x_4b, ↓x_5b, ↓x_6b, ↓x_7b, ↓x_8b, ↓x_9b, ↓x_10b, ↓x_11b, ↓x_12b, ↓x_13b, ↓x_14b, ↓x_15b, ↓x_16b, ↓x_17b, ↓x_18b, ↓x_19b, ↓xp_2b, ↓xp_6b, ↓xp_14b, ↓xp_17b, ↓xp_18b, ↓xp_19b, ↓X_f0b, ↓X_f2b, ↓X_f4b, ↓X_f8b, ↓wf_1b, ↓wf_3b, ↓wf_5b, ↓wf_6b, ↓wf_7b, ↓wf_9b, ↓wt_1_0b, ↓wt_1_1b, ↓wt_1_2b, ↓wt_1_3b, ↓wt_1_4b, ↓wt_11_0b, ↓wt_11_1b, ↓wt_11_2b, ↓wt_11_3b, ↓wt_11_4b, ↓wt_21_0b, ↓wt_21_1b, ↓wt_31_0b, ↓wt_31_1b, ↓wt_31_2b, ↓wt_31_3b, ↓wt_31_4b, ↓wt_31_5b, ↓wt_31_6b, ↓wt_41_0b, ↓wt_41_1b, ↓wt_41_2b, ↓wt_41_3b, ↓wt_41_4b, ↓wt_41_5b, ↓wt_41_6b, ↓wt_1b, ↓wt_11b, ↓wt_21b, ↓wt_31b, ↓wt_41b, ↓X_c0b, ↓X_c1b, ↓X_c2b, ↓X_c3b, ↓X_c4b, ↓X_e0b, ↓X_e1b, ↓X_e2b, ↓X_e3b, ↓X_e4b, ↓X_cb, ↓X_eb, ↓X_w0b, ↓X_w1b, ↓X_hb, ↓X_yb, ↓X_rb, ↓wp_0b, ↓wp_2b, ↓wp_4b, ↓wp_8b, ↓ws_2b, ↓ws_3b, ↓ws_4b, ↓ws_5b, ↓ws_6b, ↓ws_12b, ↓ws_13b, ↓ws_14b, ↓ws_15b, ↓ws_16b, ↓ws_22b, ↓ws_23b, ↓ws_51b, ↓wS_yb, ↓wS_rb, ↓wS_cb, ↓wS_eb, F_X0_kindFor_L28, F_X0_kindFor_B28, F_X0_orNone, show (7 : Int32) ≤ Int32.ofNat 7 by decide, cb_id, not_true_eq_false]
      · obtain ⟨σ2, m1, m2, m3, m4⟩ := mside σ1 hM
        rw [eo, if_neg (by decide)] at m1
        exact ⟨σ2, m1, m2, m3, m4⟩
  · refine STEP_why hR hw (fun i e hi => ?_) (fun σ1 i e hi => ?_)
    · unfold F_X0_kindFor; rw [if_pos (x_tg h), bn9 e, if_neg hi]
    · unfold F_X13_kindFor; rw [if_pos (m_tg h), bn9 e, if_neg hi]
end L5f
