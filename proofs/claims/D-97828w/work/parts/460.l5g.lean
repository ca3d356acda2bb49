/-! ### the acts: bridge, worth -/
section L5g
variable {L : Lt} {σ σ' : St} {S : Sg} {ρ ρ' : Rw}
def brV (ρ : Rw) (c s p q : Nat) : Nat := rnd (layR ρ p q (ρ (wy p q)) 0) c s
def brS (ρ : Rw) (c s p i : Nat) (b : Nat × Nat) : Nat × Nat := if ρ (wy p (p + 1 + i)) ≠ 0 ∧ ρ (wy p (p + 1 + i) + 1) = 1 then (if brV ρ c s p (p + 1 + i) < b.1 then (brV ρ c s p (p + 1 + i), 10 * p + (p + 1 + i)) else b) else b
def brP (ρ : Rw) (c s p : Nat) (b : Nat × Nat) : Nat × Nat := itF (brS ρ c s p) 0 (6 - p) b
def br (ρ : Rw) (c s : Nat) : Nat × Nat := itF (brP ρ c s) 0 7 (1000000, 0)
set_option maxRecDepth 8000 in
theorem brS_le {c s p i : Nat} {b : Nat × Nat} (hb : b.1 ≤ 1000000) : (brS ρ c s p i b).1 ≤ 1000000 := by
  unfold brS; split
  · split
    · dsimp only; omega
    · exact hb
  · exact hb
set_option maxRecDepth 8000 in
theorem lay_id {p q : Nat} {v : Int32} : layR ρ p q (ρ (wy p q)) v = up1 ρ (wy p q + 1) v := by
  funext j
  unfold layR
  by_cases hj : j = wy p q
  · subst hj; rw [up1_same, up1_ne (by omega)]
  · rw [up1_ne hj]
set_option maxRecDepth 8000 in
theorem lay_y {p q : Nat} {v : Int32} : layR ρ p q (ρ (wy p q)) v (wy p q) = ρ (wy p q) := by unfold layR; rw [up1_same]
set_option maxRecDepth 8000 in
theorem lay_back {p q : Nat} (h1 : ρ (wy p q + 1) = 1) : layR (layR ρ p q (ρ (wy p q)) 0) p q (ρ (wy p q)) 1 = ρ := by
  have : layR (layR ρ p q (ρ (wy p q)) 0) p q (ρ (wy p q)) 1 = layR (layR ρ p q (ρ (wy p q)) 0) p q (layR ρ p q (ρ (wy p q)) 0 (wy p q)) 1 := by rw [lay_y]
  rw [this, lay_id, lay_id, up1_up, ← h1, up1_id]
set_option maxRecDepth 8000 in
theorem Inv_br (hI : Inv ρ) {p q : Nat} (hp9 : p < 7) (hq : q < 7) (hne : p ≠ q) : Inv (layR ρ p q (ρ (wy p q)) 0) ∧ NC (layR ρ p q (ρ (wy p q)) 0) = NC ρ ∧ NE (layR ρ p q (ρ (wy p q)) 0) = NE ρ := by
  obtain ⟨⟨y, hy, ey⟩, _⟩ := hI.2.2.2.2.2.2.2.1 p q hp9 hq hne
  have hl := wy_lt p q hp9 hq hne
  refine ⟨?_, ?_, ?_⟩
  · have := Inv_lay hI hp9 hq hne hy (show 0 ≤ 1 by omega)
    rw [ey]; exact this
  · unfold NC layR; rw [up1_ne (by omega), up1_ne (by omega)]
  · unfold NE layR; rw [up1_ne (by omega), up1_ne (by omega)]
set_option maxRecDepth 8000 in
theorem x_roundBridged (h : Lok L) (hW : WX σ 200 ρ) (hI : Inv ρ) (hC : CN σ) (hP : PX σ) {c s p q : Nat} (hc : c < NC ρ) (hs : s < 256) (hf : cbn s (NE ρ) ≤ 5) (hp9 : p < 7) (hq : q < 7) (hne : p ≠ q) (h1 : ρ (wy p q + 1) = 1) : ∃ σ', F_X0_roundBridged (some (L.1 0)) (Int32.ofNat c) (Int32.ofNat s) (Int32.ofNat p) (Int32.ofNat q) (hp L σ) = some (oR (brV ρ c s p q), hp L σ') ∧ WX σ' 200 ρ ∧ ax σ σ' ∧ xf σ σ' ∧ σ' 0 19 = σ 0 19 := by
  have hb : isW 200 = true := rfl
  obtain ⟨i1, i2, i3⟩ := Inv_br hI hp9 hq hne
  obtain ⟨σ1, g1, g2, g3⟩ := x_lays h hb hW hp9 hq hne (ρ (wy p q)) 0
  obtain ⟨σ2, r1, r2, r3, _⟩ := x_roundOf h g2 i1 (CN_ax (ax_wf g3) hC) (PX_ax (ax_wf g3) hP) (by rw [i2]; exact hc) hs (by rw [i3]; exact hf)
  have w2 := WX_ag r2 rfl g2
  obtain ⟨σ3, t1, t2, t3⟩ := x_lays h hb w2 hp9 hq hne (ρ (wy p q)) 1
  rw [lay_back h1] at t2
  refine ⟨σ3, ?_, t2, ax_trans (ax_wf g3) (ax_trans (ax_ag r2) (ax_wf t3)), xf_trans (xf_wf g3) (xf_trans r3 (xf_wf t3)), by rw [t3 0 (by omega), ag_at r2 (by decide), g3 0 (by omega)]⟩
  have r1 : F_X0_roundOf (some (L.1 0)) (Int32.ofNat c) (Int32.ofNat s) (hp L σ1) = some (oR (brV ρ c s p q), hp L σ2) := r1
  simp (discharger := first | assumption | omega | decide) only [x_tg, w_tg, m_tg, ↓reduceIte, Option.bind_some, ↓x_0b, ↓x_1b, ↓x_2b, ↓x_3b, ↓x_4b, ↓x_5b, ↓x_6b, ↓x_7b, ↓x_8b, ↓x_9b, ↓x_10b, ↓x_11b, ↓x_12b, ↓x_13b, ↓x_14b, ↓x_15b, ↓x_16b, ↓x_17b, ↓x_18b, ↓x_19b, ↓xp_2b, ↓xp_6b, ↓xp_14b, ↓xp_17b, ↓xp_18b, ↓xp_19b, ↓X_f0b, ↓X_f2b, ↓X_f4b, ↓X_f8b, ↓wf_1b, ↓wf_3b, ↓wf_5b, ↓wf_6b, ↓wf_7b, ↓wf_9b, ↓wt_1_0b, ↓wt_1_1b, ↓wt_1_2b, ↓wt_1_3b, ↓wt_1_4b, ↓wt_11_0b, ↓wt_11_1b, ↓wt_11_2b, ↓wt_11_3b, ↓wt_11_4b, ↓wt_21_0b, ↓wt_21_1b, ↓wt_31_0b, ↓wt_31_1b, ↓wt_31_2b, ↓wt_31_3b, ↓wt_31_4b, ↓wt_31_5b, ↓wt_31_6b, ↓wt_41_0b, ↓wt_41_1b, ↓wt_41_2b, ↓wt_41_3b, ↓wt_41_4b, ↓wt_41_5b, ↓wt_41_6b, ↓wt_1b, ↓wt_11b, ↓wt_21b, ↓wt_31b, ↓wt_41b, ↓X_c0b, ↓X_c1b, ↓X_c2b, ↓X_c3b, ↓X_c4b, ↓X_e0b, ↓X_e1b, ↓X_e2b, ↓X_e3b, ↓X_e4b, ↓X_cb, ↓X_eb, ↓X_w0b, ↓X_w1b, ↓X_hb, ↓X_yb, ↓X_rb, ↓wp_0b, ↓wp_2b, ↓wp_4b, ↓wp_8b, ↓ws_2b, ↓ws_3b, ↓ws_4b, ↓ws_5b, ↓ws_6b, ↓ws_12b, ↓ws_13b, ↓ws_14b, ↓ws_15b, ↓ws_16b, ↓ws_22b, ↓ws_23b, ↓ws_51b, ↓wS_yb, ↓wS_rb, ↓wS_cb, ↓wS_eb, F_X0_roundBridged, hne, ↓bn9 g1, ↓cb9 r1, lay_y, ↓bn9 t1]
set_option maxRecDepth 8000 in
theorem x_bridged (h : Lok L) (hW : WX σ 200 ρ) (hI : Inv ρ) (hC : CN σ) (hP : PX σ) {c s : Nat} (hc : c < NC ρ) (hs : s < 256) (hf : cbn s (NE ρ) ≤ 5) : ∃ σ', F_X0_bridged (some (L.1 0)) (Int32.ofNat c) (Int32.ofNat s) (hp L σ) = some (bV (br ρ c s), hp L σ') ∧ WX σ' 200 ρ ∧ ax σ σ' ∧ xf σ σ' ∧ ((br ρ c s).1 < 1000000 → σ' 0 19 = Int32.ofNat (br ρ c s).2) ∧ (br ρ c s).1 ≤ 1000000 := by
  have hb : isW 200 = true := rfl
  have hw9 := hI.2.2.2.2.2.2.2.1
  unfold F_X0_bridged
  rw [if_pos (x_tg h), bn9 (xp_19 h)]
  have a0 : ax σ (up2 σ 0 19 (-1)) := ax_ag2 (ag2_up (by decide))
  have key := lpQ (Lp := fun f p (g : St × Nat × Nat) => F_X0_bridged_L10 f (some (L.1 0)) (Int32.ofNat c) (Int32.ofNat s) (bV g.2) (Int32.ofNat p) (hp L g.1)) (N := 7) (fun p g => g.2 = itF (brP ρ c s) 0 p (1000000, 0) ∧ g.2.1 ≤ 1000000 ∧ WX g.1 200 ρ ∧ ax σ g.1 ∧ xf σ g.1 ∧ (g.2.1 < 1000000 → g.1 0 19 = Int32.ofNat g.2.2)) (fun r => ∃ σ', r = (bV (br ρ c s), hp L σ') ∧ WX σ' 200 ρ ∧ ax σ σ' ∧ xf σ σ' ∧ ((br ρ c s).1 < 1000000 → σ' 0 19 = Int32.ofNat (br ρ c s).2) ∧ (br ρ c s).1 ≤ 1000000) ?_ ?_ (by unfold fu; omega) (up2 σ 0 19 (-1), (1000000, 0)) ⟨rfl, Nat.le_refl _, WX_out (by omega) hW, a0, xf_up (by omega), fun q => absurd q (Nat.lt_irrefl _)⟩
  · obtain ⟨r, e, σ', rfl, q⟩ := key
    exact ⟨σ', e, q⟩
  · intro f g ⟨q0, q1, q2, q3, q4, q5⟩
    refine ⟨_, ?_, g.1, rfl, q2, q3, q4, ?_, ?_⟩
    · simp (discharger := first | assumption | omega | decide) only [F_X0_bridged_L10, F_X0_bridged_B10, show (7 : Int32) ≤ Int32.ofNat 7 by decide, ↓reduceIte]
      rw [q0]; rfl
    · unfold br; rw [← q0]; exact q5
    · unfold br; rw [← q0]; exact q1
  · intro f p g hp9 ⟨q0, q1, q2, q3, q4, q5⟩
    obtain ⟨g1, b0⟩ := g
    dsimp only at q0 q1 q2 q3 q4 q5
    have hd : ¬ (7 : Int32) ≤ Int32.ofNat p := by rw [li_7, ofN_le (by omega) (by omega)]; omega
    have hsn : itF (brP ρ c s) 0 (p + 1) (1000000, 0) = brP ρ c s p b0 := by rw [itF_snoc0, ← q0]
    rw [hsn]
    have inner := lpR (Lp := fun f2 i (g : St × Nat × Nat) => F_X0_bridged_L23 (F_X0_bridged_L10 f) f2 (some (L.1 0)) (Int32.ofNat c) (Int32.ofNat s) (bV g.2) (Int32.ofNat p) (Int32.ofNat (p + 1 + i)) (hp L g.1)) (N := 6 - p) (fun i g => g.2 = itF (brS ρ c s p) 0 i b0 ∧ g.2.1 ≤ 1000000 ∧ WX g.1 200 ρ ∧ ax σ g.1 ∧ xf σ g.1 ∧ (g.2.1 < 1000000 → g.1 0 19 = Int32.ofNat g.2.2)) ?_ (g1, b0) ⟨rfl, q1, q2, q3, q4, q5⟩ (6 - p) (fu - (6 - p)) (Nat.le_refl _)
    · obtain ⟨⟨g2, b2⟩, e, p0, p1, p2, p3, p4, p5⟩ := inner
      dsimp only at e p0 p1 p2 p3 p4 p5
      rw [show 6 - p + (fu - (6 - p)) = fu by unfold fu; omega, show fu - (6 - p) = (fu - (6 - p) - 1) + 1 by unfold fu; omega, show p + 1 + (6 - p) = 7 by omega] at e
      refine ⟨(g2, b2), ?_, p0, p1, p2, p3, p4, p5⟩
      simp (discharger := first | assumption | omega | decide) only [F_X0_bridged_L10, F_X0_bridged_B10, hd, ↓reduceIte, ofNs]
      rw [show Int32.ofNat (p + 1) = Int32.ofNat (p + 1 + 0) from rfl, e]
      simp (discharger := first | assumption | omega | decide) only [F_X0_bridged_L23, F_X0_bridged_B23, show (7 : Int32) ≤ Int32.ofNat 7 by decide, ↓reduceIte, ofNs]
    · intro f2 i g hi ⟨p0, p1, p2, p3, p4, p5⟩
      obtain ⟨g2, b2⟩ := g
      dsimp only at p0 p1 p2 p3 p4 p5
      have hq7 : p + 1 + i < 7 := by omega
      have hne : p ≠ p + 1 + i := by omega
      have on : Int32.ofNat (p + 1 + i) + 1 = Int32.ofNat (p + 1 + (i + 1)) := ofNs _
      have hd2 : ¬ (7 : Int32) ≤ Int32.ofNat (p + 1 + i) := by rw [li_7, ofN_le (by omega) (by omega)]; omega
      obtain ⟨⟨y, hy, ey⟩, hrv⟩ := hw9 p (p + 1 + i) hp9 hq7 hne
      have hz : Int32.ofNat y ≤ 0 ↔ y = 0 := by rw [li_0, ofN_le (by omega) (by omega)]; omega
      have hsn2 : itF (brS ρ c s p) 0 (i + 1) b0 = brS ρ c s p i b2 := by rw [itF_snoc0, ← p0]
      rw [hsn2]
      by_cases hy0 : y = 0
      · have e1 : brS ρ c s p i b2 = b2 := by unfold brS; rw [if_neg]; intro q; exact q.1 (by rw [ey, hy0]; rfl)
        rw [e1]
        refine ⟨(g2, b2), ?_, rfl, p1, p2, p3, p4, p5⟩
        simp (discharger := first | assumption | omega | decide) only [x_tg, w_tg, m_tg, ↓reduceIte, Option.bind_some, ↓x_0b, ↓x_1b, ↓x_2b, ↓x_3b, ↓x_4b, ↓x_5b, ↓x_6b, ↓x_7b, ↓x_8b, ↓x_9b, ↓x_10b, ↓x_11b, ↓x_12b, ↓x_13b, ↓x_14b, ↓x_15b, ↓x_16b, ↓x_17b, ↓x_18b, ↓x_19b, ↓xp_2b, ↓xp_6b, ↓xp_14b, ↓xp_17b, ↓xp_18b, ↓xp_19b, ↓X_f0b, ↓X_f2b, ↓X_f4b, ↓X_f8b, ↓wf_1b, ↓wf_3b, ↓wf_5b, ↓wf_6b, ↓wf_7b, ↓wf_9b, ↓wt_1_0b, ↓wt_1_1b, ↓wt_1_2b, ↓wt_1_3b, ↓wt_1_4b, ↓wt_11_0b, ↓wt_11_1b, ↓wt_11_2b, ↓wt_11_3b, ↓wt_11_4b, ↓wt_21_0b, ↓wt_21_1b, ↓wt_31_0b, ↓wt_31_1b, ↓wt_31_2b, ↓wt_31_3b, ↓wt_31_4b, ↓wt_31_5b, ↓wt_31_6b, ↓wt_41_0b, ↓wt_41_1b, ↓wt_41_2b, ↓wt_41_3b, ↓wt_41_4b, ↓wt_41_5b, ↓wt_41_6b, ↓wt_1b, ↓wt_11b, ↓wt_21b, ↓wt_31b, ↓wt_41b, ↓X_c0b, ↓X_c1b, ↓X_c2b, ↓X_c3b, ↓X_c4b, ↓X_e0b, ↓X_e1b, ↓X_e2b, ↓X_e3b, ↓X_e4b, ↓X_cb, ↓X_eb, ↓X_w0b, ↓X_w1b, ↓X_hb, ↓X_yb, ↓X_rb, ↓wp_0b, ↓wp_2b, ↓wp_4b, ↓wp_8b, ↓ws_2b, ↓ws_3b, ↓ws_4b, ↓ws_5b, ↓ws_6b, ↓ws_12b, ↓ws_13b, ↓ws_14b, ↓ws_15b, ↓ws_16b, ↓ws_22b, ↓ws_23b, ↓ws_51b, ↓wS_yb, ↓wS_rb, ↓wS_cb, ↓wS_eb, F_X0_bridged_J111, F_X0_bridged_J96, F_X0_bridged_J77, F_X0_bridged_J76, F_X0_bridged_B23, F_X0_bridged_L23, F_X0_bridged_B10, F_X0_bridged_L10, F_X0_bridged, hd2, hne, ey, hz, eq_true hy0, on]
      · have hyn : ρ (wy p (p + 1 + i)) ≠ 0 := by rw [ey, li_0, ne_eq, ofN_inj (by omega) (by omega)]; exact hy0
        by_cases hr1 : ρ (wy p (p + 1 + i) + 1) = 1
        · obtain ⟨σ3, r1, r2, r3, r4, r5⟩ := x_roundBridged h p2 hI (CN_ax p3 hC) (PX_ax p3 hP) hc hs hf hp9 hq7 hne hr1
          have hv : brV ρ c s p (p + 1 + i) ≤ 1000000 := rnd_le _ _ _
          have fr := And.intro (ax_trans p3 r3) (xf_trans p4 r4)
          by_cases hbest : brV ρ c s p (p + 1 + i) < b2.1
          · have e1 : brS ρ c s p i b2 = (brV ρ c s p (p + 1 + i), 10 * p + (p + 1 + i)) := by unfold brS; rw [if_pos ⟨hyn, hr1⟩, if_pos hbest]
            rw [e1]
            have hfi : brV ρ c s p (p + 1 + i) < 1000000 := by omega
            have n1' := ofN_nm1 (a := brV ρ c s p (p + 1 + i)) (by omega)
            rw [oR_pos hfi] at r1
            have ex : (10 : Int32) * Int32.ofNat p + Int32.ofNat (p + 1 + i) = Int32.ofNat (10 * p + (p + 1 + i)) := by rw [li_10, ofN_mul, ofN_add]
            refine ⟨(up2 σ3 0 19 (Int32.ofNat (10 * p + (p + 1 + i))), (brV ρ c s p (p + 1 + i), 10 * p + (p + 1 + i))), ?_, rfl, hv, WX_out (by omega) r2, ax_trans fr.1 (ax_ag2 (ag2_up (by decide))), xf_trans fr.2 (xf_up (by omega)), fun _ => up2_same σ3 0 19 _⟩
            rw [bV_pos (show (brV ρ c s p (p + 1 + i), 10 * p + (p + 1 + i)).1 < 1000000 from hfi)]
            by_cases hm : bV b2 = -1
            · simp (discharger := first | assumption | omega | decide) only [x_tg, w_tg, m_tg, ↓reduceIte, Option.bind_some, ↓x_0b, ↓x_1b, ↓x_2b, ↓x_3b, ↓x_4b, ↓x_5b, ↓x_6b, ↓x_7b, ↓x_8b, ↓x_9b, ↓x_10b, ↓x_11b, ↓x_12b, ↓x_13b, ↓x_14b, ↓x_15b, ↓x_16b, ↓x_17b, ↓x_18b, ↓x_19b, ↓xp_2b, ↓xp_6b, ↓xp_14b, ↓xp_17b, ↓xp_18b, ↓xp_19b, ↓X_f0b, ↓X_f2b, ↓X_f4b, ↓X_f8b, ↓wf_1b, ↓wf_3b, ↓wf_5b, ↓wf_6b, ↓wf_7b, ↓wf_9b, ↓wt_1_0b, ↓wt_1_1b, ↓wt_1_2b, ↓wt_1_3b, ↓wt_1_4b, ↓wt_11_0b, ↓wt_11_1b, ↓wt_11_2b, ↓wt_11_3b, ↓wt_11_4b, ↓wt_21_0b, ↓wt_21_1b, ↓wt_31_0b, ↓wt_31_1b, ↓wt_31_2b, ↓wt_31_3b, ↓wt_31_4b, ↓wt_31_5b, ↓wt_31_6b, ↓wt_41_0b, ↓wt_41_1b, ↓wt_41_2b, ↓wt_41_3b, ↓wt_41_4b, ↓wt_41_5b, ↓wt_41_6b, ↓wt_1b, ↓wt_11b, ↓wt_21b, ↓wt_31b, ↓wt_41b, ↓X_c0b, ↓X_c1b, ↓X_c2b, ↓X_c3b, ↓X_c4b, ↓X_e0b, ↓X_e1b, ↓X_e2b, ↓X_e3b, ↓X_e4b, ↓X_cb, ↓X_eb, ↓X_w0b, ↓X_w1b, ↓X_hb, ↓X_yb, ↓X_rb, ↓wp_0b, ↓wp_2b, ↓wp_4b, ↓wp_8b, ↓ws_2b, ↓ws_3b, ↓ws_4b, ↓ws_5b, ↓ws_6b, ↓ws_12b, ↓ws_13b, ↓ws_14b, ↓ws_15b, ↓ws_16b, ↓ws_22b, ↓ws_23b, ↓ws_51b, ↓wS_yb, ↓wS_rb, ↓wS_cb, ↓wS_eb, F_X0_bridged_J111, F_X0_bridged_J96, F_X0_bridged_J77, F_X0_bridged_J76, F_X0_bridged_B23, F_X0_bridged_L23, F_X0_bridged_B10, F_X0_bridged_L10, F_X0_bridged, hd2, hne, ey, hz, hy0, hr1, not_true_eq_false, ↓cb9 r1, n1', eq_true hm, ex, on]
            · have hm2 : b2.1 < 1000000 := by
                apply Nat.lt_of_not_le
                intro q; apply hm; unfold bV; rw [if_neg (by omega)]
              have hm3 : ¬ bV b2 ≤ Int32.ofNat (brV ρ c s p (p + 1 + i)) := by rw [bV_pos hm2, ofN_le (by omega) (by omega)]; omega
              simp (discharger := first | assumption | omega | decide) only [x_tg, w_tg, m_tg, ↓reduceIte, Option.bind_some, ↓x_0b, ↓x_1b, ↓x_2b, ↓x_3b, ↓x_4b, ↓x_5b, ↓x_6b, ↓x_7b, ↓x_8b, ↓x_9b, ↓x_10b, ↓x_11b, ↓x_12b, ↓x_13b, ↓x_14b, ↓x_15b, ↓x_16b, ↓x_17b, ↓x_18b, ↓x_19b, ↓xp_2b, ↓xp_6b, ↓xp_14b, ↓xp_17b, ↓xp_18b, ↓xp_19b, ↓X_f0b, ↓X_f2b, ↓X_f4b, ↓X_f8b, ↓wf_1b, ↓wf_3b, ↓wf_5b, ↓wf_6b, ↓wf_7b, ↓wf_9b, ↓wt_1_0b, ↓wt_1_1b, ↓wt_1_2b, ↓wt_1_3b, ↓wt_1_4b, ↓wt_11_0b, ↓wt_11_1b, ↓wt_11_2b, ↓wt_11_3b, ↓wt_11_4b, ↓wt_21_0b, ↓wt_21_1b, ↓wt_31_0b, ↓wt_31_1b, ↓wt_31_2b, ↓wt_31_3b, ↓wt_31_4b, ↓wt_31_5b, ↓wt_31_6b, ↓wt_41_0b, ↓wt_41_1b, ↓wt_41_2b, ↓wt_41_3b, ↓wt_41_4b, ↓wt_41_5b, ↓wt_41_6b, ↓wt_1b, ↓wt_11b, ↓wt_21b, ↓wt_31b, ↓wt_41b, ↓X_c0b, ↓X_c1b, ↓X_c2b, ↓X_c3b, ↓X_c4b, ↓X_e0b, ↓X_e1b, ↓X_e2b, ↓X_e3b, ↓X_e4b, ↓X_cb, ↓X_eb, ↓X_w0b, ↓X_w1b, ↓X_hb, ↓X_yb, ↓X_rb, ↓wp_0b, ↓wp_2b, ↓wp_4b, ↓wp_8b, ↓ws_2b, ↓ws_3b, ↓ws_4b, ↓ws_5b, ↓ws_6b, ↓ws_12b, ↓ws_13b, ↓ws_14b, ↓ws_15b, ↓ws_16b, ↓ws_22b, ↓ws_23b, ↓ws_51b, ↓wS_yb, ↓wS_rb, ↓wS_cb, ↓wS_eb, F_X0_bridged_J111, F_X0_bridged_J96, F_X0_bridged_J77, F_X0_bridged_J76, F_X0_bridged_B23, F_X0_bridged_L23, F_X0_bridged_B10, F_X0_bridged_L10, F_X0_bridged, hd2, hne, ey, hz, hy0, hr1, not_true_eq_false, ↓cb9 r1, n1', hm, hm3, ex, on]
          · have e1 : brS ρ c s p i b2 = b2 := by unfold brS; rw [if_pos ⟨hyn, hr1⟩, if_neg hbest]
            rw [e1]
            refine ⟨(σ3, b2), ?_, rfl, p1, r2, fr.1, fr.2, fun q => by show σ3 0 19 = _; rw [r5]; exact p5 q⟩
            by_cases hfi : brV ρ c s p (p + 1 + i) < 1000000
            · have n1 := oR_ne hfi
              have hm2 : b2.1 < 1000000 := by omega
              have hm : ¬ bV b2 = -1 := by rw [bV_pos hm2]; exact ofN_nm1 (by omega)
              have hm3 : bV b2 ≤ oR (brV ρ c s p (p + 1 + i)) := by rw [bV_pos hm2, oR_pos hfi, ofN_le (by omega) (by omega)]; omega
              simp (discharger := first | assumption | omega | decide) only [x_tg, w_tg, m_tg, ↓reduceIte, Option.bind_some, ↓x_0b, ↓x_1b, ↓x_2b, ↓x_3b, ↓x_4b, ↓x_5b, ↓x_6b, ↓x_7b, ↓x_8b, ↓x_9b, ↓x_10b, ↓x_11b, ↓x_12b, ↓x_13b, ↓x_14b, ↓x_15b, ↓x_16b, ↓x_17b, ↓x_18b, ↓x_19b, ↓xp_2b, ↓xp_6b, ↓xp_14b, ↓xp_17b, ↓xp_18b, ↓xp_19b, ↓X_f0b, ↓X_f2b, ↓X_f4b, ↓X_f8b, ↓wf_1b, ↓wf_3b, ↓wf_5b, ↓wf_6b, ↓wf_7b, ↓wf_9b, ↓wt_1_0b, ↓wt_1_1b, ↓wt_1_2b, ↓wt_1_3b, ↓wt_1_4b, ↓wt_11_0b, ↓wt_11_1b, ↓wt_11_2b, ↓wt_11_3b, ↓wt_11_4b, ↓wt_21_0b, ↓wt_21_1b, ↓wt_31_0b, ↓wt_31_1b, ↓wt_31_2b, ↓wt_31_3b, ↓wt_31_4b, ↓wt_31_5b, ↓wt_31_6b, ↓wt_41_0b, ↓wt_41_1b, ↓wt_41_2b, ↓wt_41_3b, ↓wt_41_4b, ↓wt_41_5b, ↓wt_41_6b, ↓wt_1b, ↓wt_11b, ↓wt_21b, ↓wt_31b, ↓wt_41b, ↓X_c0b, ↓X_c1b, ↓X_c2b, ↓X_c3b, ↓X_c4b, ↓X_e0b, ↓X_e1b, ↓X_e2b, ↓X_e3b, ↓X_e4b, ↓X_cb, ↓X_eb, ↓X_w0b, ↓X_w1b, ↓X_hb, ↓X_yb, ↓X_rb, ↓wp_0b, ↓wp_2b, ↓wp_4b, ↓wp_8b, ↓ws_2b, ↓ws_3b, ↓ws_4b, ↓ws_5b, ↓ws_6b, ↓ws_12b, ↓ws_13b, ↓ws_14b, ↓ws_15b, ↓ws_16b, ↓ws_22b, ↓ws_23b, ↓ws_51b, ↓wS_yb, ↓wS_rb, ↓wS_cb, ↓wS_eb, F_X0_bridged_J111, F_X0_bridged_J96, F_X0_bridged_J77, F_X0_bridged_J76, F_X0_bridged_B23, F_X0_bridged_L23, F_X0_bridged_B10, F_X0_bridged_L10, F_X0_bridged, hd2, hne, ey, hz, hy0, hr1, not_true_eq_false, ↓cb9 r1, n1, hm, eq_true hm3, on]
            · simp (discharger := first | assumption | omega | decide) only [x_tg, w_tg, m_tg, ↓reduceIte, Option.bind_some, ↓x_0b, ↓x_1b, ↓x_2b, ↓x_3b, ↓x_4b, ↓x_5b, ↓x_6b, ↓x_7b, ↓x_8b, ↓x_9b, ↓x_10b, ↓x_11b, ↓x_12b, ↓x_13b, ↓x_14b, ↓x_15b, ↓x_16b, ↓x_17b, ↓x_18b, ↓x_19b, ↓xp_2b, ↓xp_6b, ↓xp_14b, ↓xp_17b, ↓xp_18b, ↓xp_19b, ↓X_f0b, ↓X_f2b, ↓X_f4b, ↓X_f8b, ↓wf_1b, ↓wf_3b, ↓wf_5b, ↓wf_6b, ↓wf_7b, ↓wf_9b, ↓wt_1_0b, ↓wt_1_1b, ↓wt_1_2b, ↓wt_1_3b, ↓wt_1_4b, ↓wt_11_0b, ↓wt_11_1b, ↓wt_11_2b, ↓wt_11_3b, ↓wt_11_4b, ↓wt_21_0b, ↓wt_21_1b, ↓wt_31_0b, ↓wt_31_1b, ↓wt_31_2b, ↓wt_31_3b, ↓wt_31_4b, ↓wt_31_5b, ↓wt_31_6b, ↓wt_41_0b, ↓wt_41_1b, ↓wt_41_2b, ↓wt_41_3b, ↓wt_41_4b, ↓wt_41_5b, ↓wt_41_6b, ↓wt_1b, ↓wt_11b, ↓wt_21b, ↓wt_31b, ↓wt_41b, ↓X_c0b, ↓X_c1b, ↓X_c2b, ↓X_c3b, ↓X_c4b, ↓X_e0b, ↓X_e1b, ↓X_e2b, ↓X_e3b, ↓X_e4b, ↓X_cb, ↓X_eb, ↓X_w0b, ↓X_w1b, ↓X_hb, ↓X_yb, ↓X_rb, ↓wp_0b, ↓wp_2b, ↓wp_4b, ↓wp_8b, ↓ws_2b, ↓ws_3b, ↓ws_4b, ↓ws_5b, ↓ws_6b, ↓ws_12b, ↓ws_13b, ↓ws_14b, ↓ws_15b, ↓ws_16b, ↓ws_22b, ↓ws_23b, ↓ws_51b, ↓wS_yb, ↓wS_rb, ↓wS_cb, ↓wS_eb, F_X0_bridged_J111, F_X0_bridged_J96, F_X0_bridged_J77, F_X0_bridged_J76, F_X0_bridged_B23, F_X0_bridged_L23, F_X0_bridged_B10, F_X0_bridged_L10, F_X0_bridged, hd2, hne, ey, hz, hy0, hr1, not_true_eq_false, ↓cb9 r1, oR_neg hfi, on]
        · have e1 : brS ρ c s p i b2 = b2 := by unfold brS; rw [if_neg (fun q => hr1 q.2)]
          rw [e1]
          refine ⟨(g2, b2), ?_, rfl, p1, p2, p3, p4, p5⟩
          simp (discharger := first | assumption | omega | decide) only [x_tg, w_tg, m_tg, ↓reduceIte, Option.bind_some, ↓x_0b, ↓x_1b, ↓x_2b, ↓x_3b, ↓x_4b, ↓x_5b, ↓x_6b, ↓x_7b, ↓x_8b, ↓x_9b, ↓x_10b, ↓x_11b, ↓x_12b, ↓x_13b, ↓x_14b, ↓x_15b, ↓x_16b, ↓x_17b, ↓x_18b, ↓x_19b, ↓xp_2b, ↓xp_6b, ↓xp_14b, ↓xp_17b, ↓xp_18b, ↓xp_19b, ↓X_f0b, ↓X_f2b, ↓X_f4b, ↓X_f8b, ↓wf_1b, ↓wf_3b, ↓wf_5b, ↓wf_6b, ↓wf_7b, ↓wf_9b, ↓wt_1_0b, ↓wt_1_1b, ↓wt_1_2b, ↓wt_1_3b, ↓wt_1_4b, ↓wt_11_0b, ↓wt_11_1b, ↓wt_11_2b, ↓wt_11_3b, ↓wt_11_4b, ↓wt_21_0b, ↓wt_21_1b, ↓wt_31_0b, ↓wt_31_1b, ↓wt_31_2b, ↓wt_31_3b, ↓wt_31_4b, ↓wt_31_5b, ↓wt_31_6b, ↓wt_41_0b, ↓wt_41_1b, ↓wt_41_2b, ↓wt_41_3b, ↓wt_41_4b, ↓wt_41_5b, ↓wt_41_6b, ↓wt_1b, ↓wt_11b, ↓wt_21b, ↓wt_31b, ↓wt_41b, ↓X_c0b, ↓X_c1b, ↓X_c2b, ↓X_c3b, ↓X_c4b, ↓X_e0b, ↓X_e1b, ↓X_e2b, ↓X_e3b, ↓X_e4b, ↓X_cb, ↓X_eb, ↓X_w0b, ↓X_w1b, ↓X_hb, ↓X_yb, ↓X_rb, ↓wp_0b, ↓wp_2b, ↓wp_4b, ↓wp_8b, ↓ws_2b, ↓ws_3b, ↓ws_4b, ↓ws_5b, ↓ws_6b, ↓ws_12b, ↓ws_13b, ↓ws_14b, ↓ws_15b, ↓ws_16b, ↓ws_22b, ↓ws_23b, ↓ws_51b, ↓wS_yb, ↓wS_rb, ↓wS_cb, ↓wS_eb, F_X0_bridged_J111, F_X0_bridged_J96, F_X0_bridged_J77, F_X0_bridged_J76, F_X0_bridged_B23, F_X0_bridged_L23, F_X0_bridged_B10, F_X0_bridged_L10, F_X0_bridged, hd2, hne, ey, hz, hy0, hr1, not_false_eq_true, on]
set_option maxRecDepth 8000 in
theorem m_bridgeL (h : Lok L) (hM : WM σ ρ) (hI : Inv ρ) (hP : PM σ) {c s : Nat} (hc : c < NC ρ) (hs : s < 256) (hf : cbn s (NE ρ) ≤ 5) : ∃ σ', F_X13_refusesBridge_L22 fu (some (L.1 1000)) (Int32.ofNat c) (Int32.ofNat s) 0 (hp L (up2 σ 1000 11 1000000)) = some (if (br ρ c s).1 < 1000000 then 0 else -1000004, hp L σ') ∧ WM σ' ρ ∧ am σ σ' ∧ mf σ σ' ∧ σ' 1000 11 = Int32.ofNat (br ρ c s).1 ∧ ((br ρ c s).1 < 1000000 → σ' 1000 12 = Int32.ofNat (br ρ c s).2) := by
  have hw9 := hI.2.2.2.2.2.2.2.1
  have h11 : s2 1000 11 = true := by decide
  have h12 : s2 1000 12 = true := by decide
  have key := lpQ (Lp := fun f p (g : St × Nat × Nat) => F_X13_refusesBridge_L22 f (some (L.1 1000)) (Int32.ofNat c) (Int32.ofNat s) (Int32.ofNat p) (hp L g.1)) (N := 7) (fun p g => g.2 = itF (brP ρ c s) 0 p (1000000, 0) ∧ g.2.1 ≤ 1000000 ∧ WM g.1 ρ ∧ am σ g.1 ∧ mf σ g.1 ∧ g.1 1000 11 = Int32.ofNat g.2.1 ∧ (g.2.1 < 1000000 → g.1 1000 12 = Int32.ofNat g.2.2)) (fun r => ∃ σ', r = (if (br ρ c s).1 < 1000000 then 0 else -1000004, hp L σ') ∧ WM σ' ρ ∧ am σ σ' ∧ mf σ σ' ∧ σ' 1000 11 = Int32.ofNat (br ρ c s).1 ∧ ((br ρ c s).1 < 1000000 → σ' 1000 12 = Int32.ofNat (br ρ c s).2)) ?_ ?_ (by unfold fu; omega) (up2 σ 1000 11 1000000, (1000000, 0)) ⟨rfl, Nat.le_refl _, WM_out (by omega) hM, am_ag2 (ag2_up h11), mf_up (by omega), up2_same σ 1000 11 _, fun q => absurd q (Nat.lt_irrefl _)⟩
  · obtain ⟨r, e, σ', rfl, q⟩ := key
    exact ⟨σ', e, q⟩
  · intro f g ⟨q0, q1, q2, q3, q4, q5, q6⟩
    have ebr : br ρ c s = g.2 := q0.symm
    rw [ebr]
    refine ⟨_, ?_, g.1, rfl, q2, q3, q4, q5, q6⟩
    simp (discharger := first | assumption | omega | decide) only [x_tg, w_tg, m_tg, ↓reduceIte, Option.bind_some, ↓m_0b, ↓m_1b, ↓m_2b, ↓m_3b, ↓m_4b, ↓m_5b, ↓m_6b, ↓m_7b, ↓m_8b, ↓m_9b, ↓m_10b, ↓m_11b, ↓m_12b, ↓m_13b, ↓m_14b, ↓m_15b, ↓m_16b, ↓m_17b, ↓m_18b, ↓m_19b, ↓m_20b, ↓m_21b, ↓m_22b, ↓m_23b, ↓m_24b, ↓m_25b, ↓m_26b, ↓m_27b, ↓m_28b, ↓m_29b, ↓mp_3b, ↓mp_6b, ↓mp_10b, ↓mp_11b, ↓mp_12b, ↓mp_14b, ↓mp_15b, ↓mp_16b, ↓mp_17b, ↓mp_18b, ↓mp_19b, ↓mp_22b, ↓mp_23b, ↓mp_24b, ↓mp_25b, ↓M_42b, ↓M_43b, ↓M_44b, ↓M_45b, ↓cIs_0b, ↓cIs_1b, ↓cIs_2b, ↓cIs_3b, ↓cIs_4b, ↓eIs_0b, ↓eIs_1b, ↓eIs_2b, ↓eIs_3b, ↓eIs_4b, ↓cIs_nb, ↓eIs_nb, ↓M_rb, ↓M_cAt_0b, ↓M_cAt_1b, ↓M_cAt_2b, ↓M_cAt_3b, ↓M_cAt_4b, ↓M_eAt_0b, ↓M_eAt_1b, ↓M_eAt_2b, ↓M_eAt_3b, ↓M_eAt_4b, ↓M_wAt_0b, ↓M_wAt_1b, cAt_0, cAt_1, cAt_2, cAt_3, cAt_4, eAt_0, eAt_1, eAt_2, eAt_3, eAt_4, wAt_0, wAt_1, cAt_n, eAt_n, wAt_n, F_X13_refusesBridge_L22, F_X13_refusesBridge_B22, show (7 : Int32) ≤ Int32.ofNat 7 by decide, q5, li_1000000, ofN_lt]
    by_cases hq : g.2.1 < 1000000
    · rw [if_pos hq, if_pos hq]
    · rw [if_neg hq, if_neg hq]
  · intro f p g hp9 ⟨q0, q1, q2, q3, q4, q5, q6⟩
    obtain ⟨g1, b0⟩ := g
    dsimp only at q0 q1 q2 q3 q4 q5 q6
    have hd : ¬ (7 : Int32) ≤ Int32.ofNat p := by rw [li_7, ofN_le (by omega) (by omega)]; omega
    have hsn : itF (brP ρ c s) 0 (p + 1) (1000000, 0) = brP ρ c s p b0 := by rw [itF_snoc0, ← q0]
    rw [hsn]
    have inner := lpR (Lp := fun f2 i (g : St × Nat × Nat) => F_X13_refusesBridge_L35 (F_X13_refusesBridge_L22 f) f2 (some (L.1 1000)) (Int32.ofNat c) (Int32.ofNat s) (Int32.ofNat p) (Int32.ofNat (p + 1 + i)) (hp L g.1)) (N := 6 - p) (fun i g => g.2 = itF (brS ρ c s p) 0 i b0 ∧ g.2.1 ≤ 1000000 ∧ WM g.1 ρ ∧ am σ g.1 ∧ mf σ g.1 ∧ g.1 1000 11 = Int32.ofNat g.2.1 ∧ (g.2.1 < 1000000 → g.1 1000 12 = Int32.ofNat g.2.2)) ?_ (g1, b0) ⟨rfl, q1, q2, q3, q4, q5, q6⟩ (6 - p) (fu - (6 - p)) (Nat.le_refl _)
    · obtain ⟨⟨g2, b2⟩, e, p0, p1, p2, p3, p4, p5, p6⟩ := inner
      dsimp only at e p0 p1 p2 p3 p4 p5 p6
      rw [show 6 - p + (fu - (6 - p)) = fu by unfold fu; omega, show fu - (6 - p) = (fu - (6 - p) - 1) + 1 by unfold fu; omega, show p + 1 + (6 - p) = 7 by omega] at e
      refine ⟨(g2, b2), ?_, p0, p1, p2, p3, p4, p5, p6⟩
      simp (discharger := first | assumption | omega | decide) only [F_X13_refusesBridge_L22, F_X13_refusesBridge_B22, hd, ↓reduceIte, ofNs]
      rw [show Int32.ofNat (p + 1) = Int32.ofNat (p + 1 + 0) from rfl, e]
      simp (discharger := first | assumption | omega | decide) only [F_X13_refusesBridge_L35, F_X13_refusesBridge_B35, show (7 : Int32) ≤ Int32.ofNat 7 by decide, ↓reduceIte, ofNs]
    · intro f2 i g hi ⟨p0, p1, p2, p3, p4, p5, p6⟩
      obtain ⟨g2, b2⟩ := g
      dsimp only at p0 p1 p2 p3 p4 p5 p6
      have hq7 : p + 1 + i < 7 := by omega
      have hne : p ≠ p + 1 + i := by omega
      have hwl := wy_lt p (p + 1 + i) hp9 hq7 hne
      have on : Int32.ofNat (p + 1 + i) + 1 = Int32.ofNat (p + 1 + (i + 1)) := ofNs _
      have hd2 : ¬ (7 : Int32) ≤ Int32.ofNat (p + 1 + i) := by rw [li_7, ofN_le (by omega) (by omega)]; omega
      obtain ⟨⟨y, hy, ey⟩, hrv⟩ := hw9 p (p + 1 + i) hp9 hq7 hne
      have hz : Int32.ofNat y ≤ 0 ↔ y = 0 := by rw [li_0, ofN_le (by omega) (by omega)]; omega
      have ew := wayAt_n p (p + 1 + i) hp9 hq7 hne
      have er := (M_r (n := wy p (p + 1 + i)) h p2 (by omega)).trans (congrArg some ey)
      have er1 := M_r (n := wy p (p + 1 + i) + 1) h p2 (by omega)
      rw [← ew] at er
      rw [← ofNs, ← ew] at er1
      have hsn2 : itF (brS ρ c s p) 0 (i + 1) b0 = brS ρ c s p i b2 := by rw [itF_snoc0, ← p0]
      rw [hsn2]
      by_cases hy0 : y = 0
      · have e1 : brS ρ c s p i b2 = b2 := by unfold brS; rw [if_neg]; intro q; exact q.1 (by rw [ey, hy0]; rfl)
        rw [e1]
        refine ⟨(g2, b2), ?_, rfl, p1, p2, p3, p4, p5, p6⟩
        simp (discharger := first | assumption | omega | decide) only [x_tg, w_tg, m_tg, ↓reduceIte, Option.bind_some, ↓m_0b, ↓m_1b, ↓m_2b, ↓m_3b, ↓m_4b, ↓m_5b, ↓m_6b, ↓m_7b, ↓m_8b, ↓m_9b, ↓m_10b, ↓m_11b, ↓m_12b, ↓m_13b, ↓m_14b, ↓m_15b, ↓m_16b, ↓m_17b, ↓m_18b, ↓m_19b, ↓m_20b, ↓m_21b, ↓m_22b, ↓m_23b, ↓m_24b, ↓m_25b, ↓m_26b, ↓m_27b, ↓m_28b, ↓m_29b, ↓mp_3b, ↓mp_6b, ↓mp_10b, ↓mp_11b, ↓mp_12b, ↓mp_14b, ↓mp_15b, ↓mp_16b, ↓mp_17b, ↓mp_18b, ↓mp_19b, ↓mp_22b, ↓mp_23b, ↓mp_24b, ↓mp_25b, ↓M_42b, ↓M_43b, ↓M_44b, ↓M_45b, ↓cIs_0b, ↓cIs_1b, ↓cIs_2b, ↓cIs_3b, ↓cIs_4b, ↓eIs_0b, ↓eIs_1b, ↓eIs_2b, ↓eIs_3b, ↓eIs_4b, ↓cIs_nb, ↓eIs_nb, ↓M_rb, ↓M_cAt_0b, ↓M_cAt_1b, ↓M_cAt_2b, ↓M_cAt_3b, ↓M_cAt_4b, ↓M_eAt_0b, ↓M_eAt_1b, ↓M_eAt_2b, ↓M_eAt_3b, ↓M_eAt_4b, ↓M_wAt_0b, ↓M_wAt_1b, cAt_0, cAt_1, cAt_2, cAt_3, cAt_4, eAt_0, eAt_1, eAt_2, eAt_3, eAt_4, wAt_0, wAt_1, cAt_n, eAt_n, wAt_n, F_X13_refusesBridge_J154, F_X13_refusesBridge_J138, F_X13_refusesBridge_B35, F_X13_refusesBridge_L35, F_X13_refusesBridge_B22, F_X13_refusesBridge_L22, F_X13_refusesBridge, hd2, ↓bn9 er, hz, eq_true hy0, on]
      · have hyn : ρ (wy p (p + 1 + i)) ≠ 0 := by rw [ey, li_0, ne_eq, ofN_inj (by omega) (by omega)]; exact hy0
        by_cases hr1 : ρ (wy p (p + 1 + i) + 1) = 1
        · obtain ⟨i1, i2, i3⟩ := Inv_br hI hp9 hq7 hne
          have w1 := WM_up (i := wy p (p + 1 + i) + 1) (v := 0) p2
          rw [← lay_id] at w1
          have es0 := ms_1001 (σ := g2) (n := wy p (p + 1 + i) + 1) (v := 0) h (by omega)
          rw [← ofNs, ← ew] at es0
          have a1 : am σ (up2 g2 1001 (wy p (p + 1 + i) + 1) 0) := am_trans p3 (am_m1f (m1f_up (m1f_refl _)))
          obtain ⟨σ2, r1, r2, r3, _⟩ := m_roundOf h w1 i1 (PM_am a1 hP) (by rw [i2]; exact hc) hs (by rw [i3]; exact hf)
          have r1 : F_X13_roundOf (some (L.1 1000)) (Int32.ofNat c) (Int32.ofNat s) (hp L (up2 g2 1001 (wy p (p + 1 + i) + 1) 0)) = some (Int32.ofNat (brV ρ c s p (p + 1 + i)), hp L σ2) := r1
          have w2 := WM_up (i := wy p (p + 1 + i) + 1) (v := 1) (WM_ag r2 w1)
          rw [lay_id, up1_up, ← hr1, up1_id] at w2
          have es1 := ms_1001 (σ := σ2) (n := wy p (p + 1 + i) + 1) (v := 1) h (by omega)
          rw [← ofNs, ← ew] at es1
          rw [hr1] at w2
          have hv : brV ρ c s p (p + 1 + i) ≤ 1000000 := rnd_le _ _ _
          have a2 : am σ (up2 σ2 1001 (wy p (p + 1 + i) + 1) 1) := am_trans a1 (am_trans (am_ag r2) (am_m1f (m1f_up (m1f_refl _))))
          have f2m : mf σ (up2 σ2 1001 (wy p (p + 1 + i) + 1) 1) := mf_trans p4 (mf_trans (mf_up (by omega)) (mf_trans r3 (mf_up (by omega))))
          have e11 : up2 σ2 1001 (wy p (p + 1 + i) + 1) 1 1000 11 = Int32.ofNat b2.1 := by rw [up2_ne (by omega), ag_at r2 (by decide), up2_ne (by omega)]; exact p5
          have e12 : up2 σ2 1001 (wy p (p + 1 + i) + 1) 1 1000 12 = g2 1000 12 := by rw [up2_ne (by omega), ag_at r2 (by decide), up2_ne (by omega)]
          generalize up2 σ2 1001 (wy p (p + 1 + i) + 1) 1 = σ3 at *
          have hmin : F_J3_min (Int32.ofNat b2.1) (Int32.ofNat (brV ρ c s p (p + 1 + i))) = Int32.ofNat (min b2.1 (brV ρ c s p (p + 1 + i))) := ofN_min (by omega) (by omega)
          by_cases hbest : brV ρ c s p (p + 1 + i) < b2.1
          · have e1 : brS ρ c s p i b2 = (brV ρ c s p (p + 1 + i), 10 * p + (p + 1 + i)) := by unfold brS; rw [if_pos ⟨hyn, hr1⟩, if_pos hbest]
            rw [e1]
            have hn : ¬ b2.1 ≤ brV ρ c s p (p + 1 + i) := by omega
            have ex : (10 : Int32) * Int32.ofNat p + Int32.ofNat (p + 1 + i) = Int32.ofNat (10 * p + (p + 1 + i)) := by rw [li_10, ofN_mul, ofN_add]
            have e11b : up2 σ3 1000 12 (Int32.ofNat (10 * p + (p + 1 + i))) 1000 11 = Int32.ofNat b2.1 := by rw [up2_ne (by omega)]; exact e11
            refine ⟨(up2 (up2 σ3 1000 12 (Int32.ofNat (10 * p + (p + 1 + i)))) 1000 11 (Int32.ofNat (brV ρ c s p (p + 1 + i))), (brV ρ c s p (p + 1 + i), 10 * p + (p + 1 + i))), ?_, rfl, hv, WM_out (by omega) (WM_out (by omega) w2), am_trans a2 (am_trans (am_ag2 (ag2_up h12)) (am_ag2 (ag2_up h11))), mf_trans f2m (mf_trans (mf_up (by omega)) (mf_up (by omega))), up2_same (up2 σ3 1000 12 (Int32.ofNat (10 * p + (p + 1 + i)))) 1000 11 (Int32.ofNat (brV ρ c s p (p + 1 + i))), fun _ => ?_⟩
            · rw [show min b2.1 (brV ρ c s p (p + 1 + i)) = brV ρ c s p (p + 1 + i) by omega] at hmin
              simp (discharger := first | assumption | omega | decide) only [x_tg, w_tg, m_tg, ↓reduceIte, Option.bind_some, ↓m_0b, ↓m_1b, ↓m_2b, ↓m_3b, ↓m_4b, ↓m_5b, ↓m_6b, ↓m_7b, ↓m_8b, ↓m_9b, ↓m_10b, ↓m_11b, ↓m_12b, ↓m_13b, ↓m_14b, ↓m_15b, ↓m_16b, ↓m_17b, ↓m_18b, ↓m_19b, ↓m_20b, ↓m_21b, ↓m_22b, ↓m_23b, ↓m_24b, ↓m_25b, ↓m_26b, ↓m_27b, ↓m_28b, ↓m_29b, ↓mp_3b, ↓mp_6b, ↓mp_10b, ↓mp_11b, ↓mp_12b, ↓mp_14b, ↓mp_15b, ↓mp_16b, ↓mp_17b, ↓mp_18b, ↓mp_19b, ↓mp_22b, ↓mp_23b, ↓mp_24b, ↓mp_25b, ↓M_42b, ↓M_43b, ↓M_44b, ↓M_45b, ↓cIs_0b, ↓cIs_1b, ↓cIs_2b, ↓cIs_3b, ↓cIs_4b, ↓eIs_0b, ↓eIs_1b, ↓eIs_2b, ↓eIs_3b, ↓eIs_4b, ↓cIs_nb, ↓eIs_nb, ↓M_rb, ↓M_cAt_0b, ↓M_cAt_1b, ↓M_cAt_2b, ↓M_cAt_3b, ↓M_cAt_4b, ↓M_eAt_0b, ↓M_eAt_1b, ↓M_eAt_2b, ↓M_eAt_3b, ↓M_eAt_4b, ↓M_wAt_0b, ↓M_wAt_1b, cAt_0, cAt_1, cAt_2, cAt_3, cAt_4, eAt_0, eAt_1, eAt_2, eAt_3, eAt_4, wAt_0, wAt_1, cAt_n, eAt_n, wAt_n, F_X13_refusesBridge_J154, F_X13_refusesBridge_J138, F_X13_refusesBridge_B35, F_X13_refusesBridge_L35, F_X13_refusesBridge_B22, F_X13_refusesBridge_L22, F_X13_refusesBridge, hd2, ↓bn9 er, hz, hy0, ↓bn9 er1, hr1, not_true_eq_false, ↓bn9 es0, ↓cb9 r1, ↓bn9 es1, e11, ofN_le, hn, ex, e11b, hmin, on]
            · dsimp only
              rw [up2_ne (by omega), up2_same]
          · have e1 : brS ρ c s p i b2 = b2 := by unfold brS; rw [if_pos ⟨hyn, hr1⟩, if_neg hbest]
            rw [e1]
            have hn : b2.1 ≤ brV ρ c s p (p + 1 + i) := by omega
            have e11b : up2 σ3 1000 12 (g2 1000 12) 1000 11 = Int32.ofNat b2.1 := by rw [up2_ne (by omega)]; exact e11
            refine ⟨(up2 (up2 σ3 1000 12 (g2 1000 12)) 1000 11 (Int32.ofNat b2.1), b2), ?_, rfl, p1, WM_out (by omega) (WM_out (by omega) w2), am_trans a2 (am_trans (am_ag2 (ag2_up h12)) (am_ag2 (ag2_up h11))), mf_trans f2m (mf_trans (mf_up (by omega)) (mf_up (by omega))), up2_same (up2 σ3 1000 12 (g2 1000 12)) 1000 11 (Int32.ofNat b2.1), fun q => ?_⟩
            · rw [show min b2.1 (brV ρ c s p (p + 1 + i)) = b2.1 by omega] at hmin
              simp (discharger := first | assumption | omega | decide) only [x_tg, w_tg, m_tg, ↓reduceIte, Option.bind_some, ↓m_0b, ↓m_1b, ↓m_2b, ↓m_3b, ↓m_4b, ↓m_5b, ↓m_6b, ↓m_7b, ↓m_8b, ↓m_9b, ↓m_10b, ↓m_11b, ↓m_12b, ↓m_13b, ↓m_14b, ↓m_15b, ↓m_16b, ↓m_17b, ↓m_18b, ↓m_19b, ↓m_20b, ↓m_21b, ↓m_22b, ↓m_23b, ↓m_24b, ↓m_25b, ↓m_26b, ↓m_27b, ↓m_28b, ↓m_29b, ↓mp_3b, ↓mp_6b, ↓mp_10b, ↓mp_11b, ↓mp_12b, ↓mp_14b, ↓mp_15b, ↓mp_16b, ↓mp_17b, ↓mp_18b, ↓mp_19b, ↓mp_22b, ↓mp_23b, ↓mp_24b, ↓mp_25b, ↓M_42b, ↓M_43b, ↓M_44b, ↓M_45b, ↓cIs_0b, ↓cIs_1b, ↓cIs_2b, ↓cIs_3b, ↓cIs_4b, ↓eIs_0b, ↓eIs_1b, ↓eIs_2b, ↓eIs_3b, ↓eIs_4b, ↓cIs_nb, ↓eIs_nb, ↓M_rb, ↓M_cAt_0b, ↓M_cAt_1b, ↓M_cAt_2b, ↓M_cAt_3b, ↓M_cAt_4b, ↓M_eAt_0b, ↓M_eAt_1b, ↓M_eAt_2b, ↓M_eAt_3b, ↓M_eAt_4b, ↓M_wAt_0b, ↓M_wAt_1b, cAt_0, cAt_1, cAt_2, cAt_3, cAt_4, eAt_0, eAt_1, eAt_2, eAt_3, eAt_4, wAt_0, wAt_1, cAt_n, eAt_n, wAt_n, F_X13_refusesBridge_J154, F_X13_refusesBridge_J138, F_X13_refusesBridge_B35, F_X13_refusesBridge_L35, F_X13_refusesBridge_B22, F_X13_refusesBridge_L22, F_X13_refusesBridge, hd2, ↓bn9 er, hz, hy0, ↓bn9 er1, hr1, not_true_eq_false, ↓bn9 es0, ↓cb9 r1, ↓bn9 es1, e11, e12, ofN_le, hn, e11b, hmin, on]
            · dsimp only
              rw [up2_ne (by omega), up2_same]; exact p6 q
        · have e1 : brS ρ c s p i b2 = b2 := by unfold brS; rw [if_neg (fun q => hr1 q.2)]
          rw [e1]
          refine ⟨(g2, b2), ?_, rfl, p1, p2, p3, p4, p5, p6⟩
          simp (discharger := first | assumption | omega | decide) only [x_tg, w_tg, m_tg, ↓reduceIte, Option.bind_some, ↓m_0b, ↓m_1b, ↓m_2b, ↓m_3b, ↓m_4b, ↓m_5b, ↓m_6b, ↓m_7b, ↓m_8b, ↓m_9b, ↓m_10b, ↓m_11b, ↓m_12b, ↓m_13b, ↓m_14b, ↓m_15b, ↓m_16b, ↓m_17b, ↓m_18b, ↓m_19b, ↓m_20b, ↓m_21b, ↓m_22b, ↓m_23b, ↓m_24b, ↓m_25b, ↓m_26b, ↓m_27b, ↓m_28b, ↓m_29b, ↓mp_3b, ↓mp_6b, ↓mp_10b, ↓mp_11b, ↓mp_12b, ↓mp_14b, ↓mp_15b, ↓mp_16b, ↓mp_17b, ↓mp_18b, ↓mp_19b, ↓mp_22b, ↓mp_23b, ↓mp_24b, ↓mp_25b, ↓M_42b, ↓M_43b, ↓M_44b, ↓M_45b, ↓cIs_0b, ↓cIs_1b, ↓cIs_2b, ↓cIs_3b, ↓cIs_4b, ↓eIs_0b, ↓eIs_1b, ↓eIs_2b, ↓eIs_3b, ↓eIs_4b, ↓cIs_nb, ↓eIs_nb, ↓M_rb, ↓M_cAt_0b, ↓M_cAt_1b, ↓M_cAt_2b, ↓M_cAt_3b, ↓M_cAt_4b, ↓M_eAt_0b, ↓M_eAt_1b, ↓M_eAt_2b, ↓M_eAt_3b, ↓M_eAt_4b, ↓M_wAt_0b, ↓M_wAt_1b, cAt_0, cAt_1, cAt_2, cAt_3, cAt_4, eAt_0, eAt_1, eAt_2, eAt_3, eAt_4, wAt_0, wAt_1, cAt_n, eAt_n, wAt_n, F_X13_refusesBridge_J154, F_X13_refusesBridge_J138, F_X13_refusesBridge_B35, F_X13_refusesBridge_L35, F_X13_refusesBridge_B22, F_X13_refusesBridge_L22, F_X13_refusesBridge, hd2, ↓bn9 er, hz, hy0, ↓bn9 er1, hr1, not_false_eq_true, on]
set_option maxRecDepth 8000 in
theorem m_refBr (h : Lok L) (hM : WM σ ρ) (hI : Inv ρ) (v1 v2 : Int32) : F_X13_refusesBridge (some (L.1 1000)) v1 v2 (hp L σ) = if whc ρ v1 v2 = 0 then F_X13_refusesBridge_L22 fu (some (L.1 1000)) v1 v2 0 (hp L (up2 σ 1000 11 1000000)) else some (if whc ρ v1 v2 = 1 then -1000001 else -1000005, hp L σ) := by
  unfold F_X13_refusesBridge
  rw [if_pos (m_tg h), bn9 (m_refuses h hM hI v1 v2)]
  rcases whc_cs hI v1 v2 with ⟨hw, _⟩ | hw | hw
  · rw [hw]; simp only [↓reduceIte]; rw [bn9 (mp_11 h)]
  · rw [hw]; rfl
  · rw [hw]; rfl
set_option maxRecDepth 8000 in
theorem op_bridge (hR : RR L σ S) (x1 x2 : Int32) : STEP L σ (F_X0_bridge (some (L.1 0)) x1 x2) (F_X13_bridge (some (L.1 1000)) x1 x2) := by
  have h := hR.1.1
  have hW := hR.1.2.1
  have hC := hR.1.2.2.1
  have hP := hR.1.2.2.2.1
  have hI := hR.2.2.1.1
  have hb : isW 200 = true := rfl
  rcases whc_cs hI x1 x2 with ⟨hw, c, s, hc, hc6, rfl, hs, hs8, hf, rfl, hal⟩ | hw
  · have gx := x_why0 h hW hI hw
    obtain ⟨σ', r1, r2, r3, r4, r5, r6⟩ := x_bridged h hW hI hC hP hc hs8 hf
    by_cases hlt : (br S.1 c s).1 < 1000000
    · rw [bV_pos hlt] at r1
      have n1 := ofN_nm1 (a := (br S.1 c s).1) (by omega)
      refine STEP_g hR (r := Int32.ofNat (br S.1 c s).2) hI ⟨σ', ?_, r2, r3, r4⟩ (fun σ1 hM => ?_)
      · simp (discharger := first | assumption | omega | decide) only [x_tg, w_tg, m_tg, ↓reduceIte, Option.bind_some, ↓x_0b, ↓x_1b, ↓x_2b, ↓x_3b, ↓x_4b, ↓x_5b, ↓x_6b, ↓x_7b, ↓x_8b, ↓x_9b, ↓x_10b, ↓x_11b, ↓x_12b, ↓x_13b, ↓x_14b, ↓x_15b, ↓x_16b, ↓x_17b, ↓x_18b, ↓x_19b, ↓xp_2b, ↓xp_6b, ↓xp_14b, ↓xp_17b, ↓xp_18b, ↓xp_19b, ↓X_f0b, ↓X_f2b, ↓X_f4b, ↓X_f8b, ↓wf_1b, ↓wf_3b, ↓wf_5b, ↓wf_6b, ↓wf_7b, ↓wf_9b, ↓wt_1_0b, ↓wt_1_1b, ↓wt_1_2b, ↓wt_1_3b, ↓wt_1_4b, ↓wt_11_0b, ↓wt_11_1b, ↓wt_11_2b, ↓wt_11_3b, ↓wt_11_4b, ↓wt_21_0b, ↓wt_21_1b, ↓wt_31_0b, ↓wt_31_1b, ↓wt_31_2b, ↓wt_31_3b, ↓wt_31_4b, ↓wt_31_5b, ↓wt_31_6b, ↓wt_41_0b, ↓wt_41_1b, ↓wt_41_2b, ↓wt_41_3b, ↓wt_41_4b, ↓wt_41_5b, ↓wt_41_6b, ↓wt_1b, ↓wt_11b, ↓wt_21b, ↓wt_31b, ↓wt_41b, ↓X_c0b, ↓X_c1b, ↓X_c2b, ↓X_c3b, ↓X_c4b, ↓X_e0b, ↓X_e1b, ↓X_e2b, ↓X_e3b, ↓X_e4b, ↓X_cb, ↓X_eb, ↓X_w0b, ↓X_w1b, ↓X_hb, ↓X_yb, ↓X_rb, ↓wp_0b, ↓wp_2b, ↓wp_4b, ↓wp_8b, ↓ws_2b, ↓ws_3b, ↓ws_4b, ↓ws_5b, ↓ws_6b, ↓ws_12b, ↓ws_13b, ↓ws_14b, ↓ws_15b, ↓ws_16b, ↓ws_22b, ↓ws_23b, ↓ws_51b, ↓wS_yb, ↓wS_rb, ↓wS_cb, ↓wS_eb, ↓x_isCarrierb, ↓x_isErrandb, ↓x_isWareb, ↓x_isSetb, ↓x_isFewb, F_X0_isKind, F_X0_isPlace, F_X0_isPrice, F_X0_isSheet, F_X0_isSpot, F_X13_isKind, F_X13_isPlace, F_X13_isSheet, F_X13_isSpot, within_eq, one_and, zero_and, one_ne, not_true_eq_false, not_false_eq_true, F_X0_bridge, ↓bn9 gx, ↓cb9 r1, n1, r5 hlt]
      · have hM2 := hM.2.1
        have gm := m_refBr h hM2 hI (Int32.ofNat c) (Int32.ofNat s)
        obtain ⟨σb, m1, m2, m3, m4, m5, m6⟩ := m_bridgeL h hM2 hI hM.2.2.1 hc hs8 hf
        rw [if_pos hw, m1, if_pos hlt] at gm
        refine ⟨σb, ?_, m2, m3, m4⟩
        simp (discharger := first | assumption | omega | decide) only [x_tg, w_tg, m_tg, ↓reduceIte, Option.bind_some, ↓m_0b, ↓m_1b, ↓m_2b, ↓m_3b, ↓m_4b, ↓m_5b, ↓m_6b, ↓m_7b, ↓m_8b, ↓m_9b, ↓m_10b, ↓m_11b, ↓m_12b, ↓m_13b, ↓m_14b, ↓m_15b, ↓m_16b, ↓m_17b, ↓m_18b, ↓m_19b, ↓m_20b, ↓m_21b, ↓m_22b, ↓m_23b, ↓m_24b, ↓m_25b, ↓m_26b, ↓m_27b, ↓m_28b, ↓m_29b, ↓mp_3b, ↓mp_6b, ↓mp_10b, ↓mp_11b, ↓mp_12b, ↓mp_14b, ↓mp_15b, ↓mp_16b, ↓mp_17b, ↓mp_18b, ↓mp_19b, ↓mp_22b, ↓mp_23b, ↓mp_24b, ↓mp_25b, ↓M_42b, ↓M_43b, ↓M_44b, ↓M_45b, ↓cIs_0b, ↓cIs_1b, ↓cIs_2b, ↓cIs_3b, ↓cIs_4b, ↓eIs_0b, ↓eIs_1b, ↓eIs_2b, ↓eIs_3b, ↓eIs_4b, ↓cIs_nb, ↓eIs_nb, ↓M_rb, ↓M_cAt_0b, ↓M_cAt_1b, ↓M_cAt_2b, ↓M_cAt_3b, ↓M_cAt_4b, ↓M_eAt_0b, ↓M_eAt_1b, ↓M_eAt_2b, ↓M_eAt_3b, ↓M_eAt_4b, ↓M_wAt_0b, ↓M_wAt_1b, cAt_0, cAt_1, cAt_2, cAt_3, cAt_4, eAt_0, eAt_1, eAt_2, eAt_3, eAt_4, wAt_0, wAt_1, cAt_n, eAt_n, wAt_n, ↓m_isCarrierb, ↓m_isErrandb, ↓m_isWareb, ↓m_isFewb, F_X0_isKind, F_X0_isPlace, F_X0_isPrice, F_X0_isSheet, F_X0_isSpot, F_X13_isKind, F_X13_isPlace, F_X13_isSheet, F_X13_isSpot, within_eq, one_and, zero_and, one_ne, not_true_eq_false, not_false_eq_true, F_X13_bridge, ↓cb9 gm, m6 hlt]
    · rw [bV_neg hlt] at r1
      refine STEP_gf hR (k := 3) (xv := 3) (mv := -1000004) (by omega) rfl (by decide) hI ⟨σ', ?_, r2, r3, r4⟩ (fun σ1 hM => ?_)
      · simp (discharger := first | assumption | omega | decide) only [x_tg, w_tg, m_tg, ↓reduceIte, Option.bind_some, ↓x_0b, ↓x_1b, ↓x_2b, ↓x_3b, ↓x_4b, ↓x_5b, ↓x_6b, ↓x_7b, ↓x_8b, ↓x_9b, ↓x_10b, ↓x_11b, ↓x_12b, ↓x_13b, ↓x_14b, ↓x_15b, ↓x_16b, ↓x_17b, ↓x_18b, ↓x_19b, ↓xp_2b, ↓xp_6b, ↓xp_14b, ↓xp_17b, ↓xp_18b, ↓xp_19b, ↓X_f0b, ↓X_f2b, ↓X_f4b, ↓X_f8b, ↓wf_1b, ↓wf_3b, ↓wf_5b, ↓wf_6b, ↓wf_7b, ↓wf_9b, ↓wt_1_0b, ↓wt_1_1b, ↓wt_1_2b, ↓wt_1_3b, ↓wt_1_4b, ↓wt_11_0b, ↓wt_11_1b, ↓wt_11_2b, ↓wt_11_3b, ↓wt_11_4b, ↓wt_21_0b, ↓wt_21_1b, ↓wt_31_0b, ↓wt_31_1b, ↓wt_31_2b, ↓wt_31_3b, ↓wt_31_4b, ↓wt_31_5b, ↓wt_31_6b, ↓wt_41_0b, ↓wt_41_1b, ↓wt_41_2b, ↓wt_41_3b, ↓wt_41_4b, ↓wt_41_5b, ↓wt_41_6b, ↓wt_1b, ↓wt_11b, ↓wt_21b, ↓wt_31b, ↓wt_41b, ↓X_c0b, ↓X_c1b, ↓X_c2b, ↓X_c3b, ↓X_c4b, ↓X_e0b, ↓X_e1b, ↓X_e2b, ↓X_e3b, ↓X_e4b, ↓X_cb, ↓X_eb, ↓X_w0b, ↓X_w1b, ↓X_hb, ↓X_yb, ↓X_rb, ↓wp_0b, ↓wp_2b, ↓wp_4b, ↓wp_8b, ↓ws_2b, ↓ws_3b, ↓ws_4b, ↓ws_5b, ↓ws_6b, ↓ws_12b, ↓ws_13b, ↓ws_14b, ↓ws_15b, ↓ws_16b, ↓ws_22b, ↓ws_23b, ↓ws_51b, ↓wS_yb, ↓wS_rb, ↓wS_cb, ↓wS_eb, ↓x_isCarrierb, ↓x_isErrandb, ↓x_isWareb, ↓x_isSetb, ↓x_isFewb, F_X0_isKind, F_X0_isPlace, F_X0_isPrice, F_X0_isSheet, F_X0_isSpot, F_X13_isKind, F_X13_isPlace, F_X13_isSheet, F_X13_isSpot, within_eq, one_and, zero_and, one_ne, not_true_eq_false, not_false_eq_true, F_X0_bridge, ↓bn9 gx, ↓cb9 r1, cb_id]
      · have hM2 := hM.2.1
        have gm := m_refBr h hM2 hI (Int32.ofNat c) (Int32.ofNat s)
        obtain ⟨σb, m1, m2, m3, m4, m5, m6⟩ := m_bridgeL h hM2 hI hM.2.2.1 hc hs8 hf
        rw [if_pos hw, m1, if_neg hlt] at gm
        refine ⟨σb, ?_, m2, m3, m4⟩
        simp (discharger := first | assumption | omega | decide) only [x_tg, w_tg, m_tg, ↓reduceIte, Option.bind_some, ↓m_0b, ↓m_1b, ↓m_2b, ↓m_3b, ↓m_4b, ↓m_5b, ↓m_6b, ↓m_7b, ↓m_8b, ↓m_9b, ↓m_10b, ↓m_11b, ↓m_12b, ↓m_13b, ↓m_14b, ↓m_15b, ↓m_16b, ↓m_17b, ↓m_18b, ↓m_19b, ↓m_20b, ↓m_21b, ↓m_22b, ↓m_23b, ↓m_24b, ↓m_25b, ↓m_26b, ↓m_27b, ↓m_28b, ↓m_29b, ↓mp_3b, ↓mp_6b, ↓mp_10b, ↓mp_11b, ↓mp_12b, ↓mp_14b, ↓mp_15b, ↓mp_16b, ↓mp_17b, ↓mp_18b, ↓mp_19b, ↓mp_22b, ↓mp_23b, ↓mp_24b, ↓mp_25b, ↓M_42b, ↓M_43b, ↓M_44b, ↓M_45b, ↓cIs_0b, ↓cIs_1b, ↓cIs_2b, ↓cIs_3b, ↓cIs_4b, ↓eIs_0b, ↓eIs_1b, ↓eIs_2b, ↓eIs_3b, ↓eIs_4b, ↓cIs_nb, ↓eIs_nb, ↓M_rb, ↓M_cAt_0b, ↓M_cAt_1b, ↓M_cAt_2b, ↓M_cAt_3b, ↓M_cAt_4b, ↓M_eAt_0b, ↓M_eAt_1b, ↓M_eAt_2b, ↓M_eAt_3b, ↓M_eAt_4b, ↓M_wAt_0b, ↓M_wAt_1b, cAt_0, cAt_1, cAt_2, cAt_3, cAt_4, eAt_0, eAt_1, eAt_2, eAt_3, eAt_4, wAt_0, wAt_1, cAt_n, eAt_n, wAt_n, ↓m_isCarrierb, ↓m_isErrandb, ↓m_isWareb, ↓m_isFewb, F_X0_isKind, F_X0_isPlace, F_X0_isPrice, F_X0_isSheet, F_X0_isSpot, F_X13_isKind, F_X13_isPlace, F_X13_isSheet, F_X13_isSpot, within_eq, one_and, zero_and, one_ne, not_true_eq_false, not_false_eq_true, F_X13_bridge, ↓cb9 gm, cb_id, show ¬ (-1000004 : Int32) = 0 by decide]
  · refine STEP_why hR hw (fun i e hi => ?_) (fun σ1 i e hi => ?_)
    · unfold F_X0_bridge; rw [if_pos (x_tg h), bn9 e, if_neg hi]
    · unfold F_X13_bridge F_X13_refusesBridge; rw [if_pos (m_tg h), if_pos (m_tg h), bn9 e, if_neg hi]
      show (if i = 0 then _ else _) = _
      rw [if_neg hi]
set_option maxRecDepth 8000 in
theorem op_worth (hR : RR L σ S) (x1 x2 : Int32) : STEP L σ (F_X0_worth (some (L.1 0)) x1 x2) (F_X13_worth (some (L.1 1000)) x1 x2) := by
  have h := hR.1.1
  have hW := hR.1.2.1
  have hC := hR.1.2.2.1
  have hP := hR.1.2.2.2.1
  have hI := hR.2.2.1.1
  have hb : isW 200 = true := rfl
  rcases whc_cs hI x1 x2 with ⟨hw, c, s, hc, hc6, rfl, hs, hs8, hf, rfl, hal⟩ | hw
  · have gx := x_why0 h hW hI hw
    obtain ⟨σ0, t1, t2, t3, _⟩ := x_roundOf h hW hI hC hP hc hs8 hf
    obtain ⟨σ', r1, r2, r3, r4, r5, r6⟩ := x_bridged h (WX_ag t2 rfl hW) hI (CN_ag t2 hC) (PX_ag t2 hP) hc hs8 hf
    have hle := rnd_le S.1 c s
    have fx := And.intro (ax_trans (ax_ag t2) r3) (xf_trans t3 r4)
    have mb : ∀ σ1, MR L σ1 S → ∃ σb, F_X13_refusesBridge (some (L.1 1000)) (Int32.ofNat c) (Int32.ofNat s) (hp L σ1) = some (if (br S.1 c s).1 < 1000000 then 0 else -1000004, hp L σb) ∧ WM σb S.1 ∧ am σ1 σb ∧ mf σ1 σb ∧ σb 1000 11 = Int32.ofNat (br S.1 c s).1 := by
      intro σ1 hM
      have gm := m_refBr h hM.2.1 hI (Int32.ofNat c) (Int32.ofNat s)
      obtain ⟨σb, m1, m2, m3, m4, m5, m6⟩ := m_bridgeL h hM.2.1 hI hM.2.2.1 hc hs8 hf
      rw [if_pos hw, m1] at gm
      exact ⟨σb, gm, m2, m3, m4, m5⟩
    by_cases hfi : rnd S.1 c s < 1000000
    · by_cases hlt : (br S.1 c s).1 < 1000000
      · rw [bV_pos hlt] at r1
        rw [oR_pos hfi] at t1
        have n1 := ofN_nm1 (a := (br S.1 c s).1) (by omega)
        have n2 := ofN_nm1 (a := rnd S.1 c s) (by omega)
        refine STEP_g hR (r := Int32.ofNat (rnd S.1 c s) - Int32.ofNat (br S.1 c s).1) hI ⟨σ', ?_, r2, fx⟩ (fun σ1 hM => ?_)
        · simp (discharger := first | assumption | omega | decide) only [x_tg, w_tg, m_tg, ↓reduceIte, Option.bind_some, ↓x_0b, ↓x_1b, ↓x_2b, ↓x_3b, ↓x_4b, ↓x_5b, ↓x_6b, ↓x_7b, ↓x_8b, ↓x_9b, ↓x_10b, ↓x_11b, ↓x_12b, ↓x_13b, ↓x_14b, ↓x_15b, ↓x_16b, ↓x_17b, ↓x_18b, ↓x_19b, ↓xp_2b, ↓xp_6b, ↓xp_14b, ↓xp_17b, ↓xp_18b, ↓xp_19b, ↓X_f0b, ↓X_f2b, ↓X_f4b, ↓X_f8b, ↓wf_1b, ↓wf_3b, ↓wf_5b, ↓wf_6b, ↓wf_7b, ↓wf_9b, ↓wt_1_0b, ↓wt_1_1b, ↓wt_1_2b, ↓wt_1_3b, ↓wt_1_4b, ↓wt_11_0b, ↓wt_11_1b, ↓wt_11_2b, ↓wt_11_3b, ↓wt_11_4b, ↓wt_21_0b, ↓wt_21_1b, ↓wt_31_0b, ↓wt_31_1b, ↓wt_31_2b, ↓wt_31_3b, ↓wt_31_4b, ↓wt_31_5b, ↓wt_31_6b, ↓wt_41_0b, ↓wt_41_1b, ↓wt_41_2b, ↓wt_41_3b, ↓wt_41_4b, ↓wt_41_5b, ↓wt_41_6b, ↓wt_1b, ↓wt_11b, ↓wt_21b, ↓wt_31b, ↓wt_41b, ↓X_c0b, ↓X_c1b, ↓X_c2b, ↓X_c3b, ↓X_c4b, ↓X_e0b, ↓X_e1b, ↓X_e2b, ↓X_e3b, ↓X_e4b, ↓X_cb, ↓X_eb, ↓X_w0b, ↓X_w1b, ↓X_hb, ↓X_yb, ↓X_rb, ↓wp_0b, ↓wp_2b, ↓wp_4b, ↓wp_8b, ↓ws_2b, ↓ws_3b, ↓ws_4b, ↓ws_5b, ↓ws_6b, ↓ws_12b, ↓ws_13b, ↓ws_14b, ↓ws_15b, ↓ws_16b, ↓ws_22b, ↓ws_23b, ↓ws_51b, ↓wS_yb, ↓wS_rb, ↓wS_cb, ↓wS_eb, ↓x_isCarrierb, ↓x_isErrandb, ↓x_isWareb, ↓x_isSetb, ↓x_isFewb, F_X0_isKind, F_X0_isPlace, F_X0_isPrice, F_X0_isSheet, F_X0_isSpot, F_X13_isKind, F_X13_isPlace, F_X13_isSheet, F_X13_isSpot, within_eq, one_and, zero_and, one_ne, not_true_eq_false, not_false_eq_true, F_X0_worth_J46, F_X0_worth, ↓bn9 gx, ↓cb9 t1, ↓cb9 r1, n1, n2]
        · obtain ⟨σb, m1, m2, m3, m4, m5⟩ := mb σ1 hM
          rw [if_pos hlt] at m1
          obtain ⟨σc, u1, u2, u3, _⟩ := m_roundOf h m2 hI (PM_am m3 hM.2.2.1) hc hs8 hf
          have n3 : Int32.ofNat (rnd S.1 c s) < 1000000 := by rw [li_1000000, ofN_lt (by omega) (by omega)]; exact hfi
          have e11 : σc 1000 11 = Int32.ofNat (br S.1 c s).1 := (ag_at u2 (by decide)).trans m5
          refine ⟨σc, ?_, WM_ag u2 m2, am_trans m3 (am_ag u2), mf_trans m4 u3⟩
          simp (discharger := first | assumption | omega | decide) only [x_tg, w_tg, m_tg, ↓reduceIte, Option.bind_some, ↓m_0b, ↓m_1b, ↓m_2b, ↓m_3b, ↓m_4b, ↓m_5b, ↓m_6b, ↓m_7b, ↓m_8b, ↓m_9b, ↓m_10b, ↓m_11b, ↓m_12b, ↓m_13b, ↓m_14b, ↓m_15b, ↓m_16b, ↓m_17b, ↓m_18b, ↓m_19b, ↓m_20b, ↓m_21b, ↓m_22b, ↓m_23b, ↓m_24b, ↓m_25b, ↓m_26b, ↓m_27b, ↓m_28b, ↓m_29b, ↓mp_3b, ↓mp_6b, ↓mp_10b, ↓mp_11b, ↓mp_12b, ↓mp_14b, ↓mp_15b, ↓mp_16b, ↓mp_17b, ↓mp_18b, ↓mp_19b, ↓mp_22b, ↓mp_23b, ↓mp_24b, ↓mp_25b, ↓M_42b, ↓M_43b, ↓M_44b, ↓M_45b, ↓cIs_0b, ↓cIs_1b, ↓cIs_2b, ↓cIs_3b, ↓cIs_4b, ↓eIs_0b, ↓eIs_1b, ↓eIs_2b, ↓eIs_3b, ↓eIs_4b, ↓cIs_nb, ↓eIs_nb, ↓M_rb, ↓M_cAt_0b, ↓M_cAt_1b, ↓M_cAt_2b, ↓M_cAt_3b, ↓M_cAt_4b, ↓M_eAt_0b, ↓M_eAt_1b, ↓M_eAt_2b, ↓M_eAt_3b, ↓M_eAt_4b, ↓M_wAt_0b, ↓M_wAt_1b, cAt_0, cAt_1, cAt_2, cAt_3, cAt_4, eAt_0, eAt_1, eAt_2, eAt_3, eAt_4, wAt_0, wAt_1, cAt_n, eAt_n, wAt_n, ↓m_isCarrierb, ↓m_isErrandb, ↓m_isWareb, ↓m_isFewb, F_X0_isKind, F_X0_isPlace, F_X0_isPrice, F_X0_isSheet, F_X0_isSpot, F_X13_isKind, F_X13_isPlace, F_X13_isSheet, F_X13_isSpot, within_eq, one_and, zero_and, one_ne, not_true_eq_false, not_false_eq_true, F_X13_worth, ↓cb9 m1, ↓cb9 u1, eq_true n3, e11]
      · rw [bV_neg hlt] at r1
        rw [oR_pos hfi] at t1
        have n2 := ofN_nm1 (a := rnd S.1 c s) (by omega)
        refine STEP_gf hR (k := 3) (xv := 3) (mv := -1000004) (by omega) rfl (by decide) hI ⟨σ', ?_, r2, fx⟩ (fun σ1 hM => ?_)
        · simp (discharger := first | assumption | omega | decide) only [x_tg, w_tg, m_tg, ↓reduceIte, Option.bind_some, ↓x_0b, ↓x_1b, ↓x_2b, ↓x_3b, ↓x_4b, ↓x_5b, ↓x_6b, ↓x_7b, ↓x_8b, ↓x_9b, ↓x_10b, ↓x_11b, ↓x_12b, ↓x_13b, ↓x_14b, ↓x_15b, ↓x_16b, ↓x_17b, ↓x_18b, ↓x_19b, ↓xp_2b, ↓xp_6b, ↓xp_14b, ↓xp_17b, ↓xp_18b, ↓xp_19b, ↓X_f0b, ↓X_f2b, ↓X_f4b, ↓X_f8b, ↓wf_1b, ↓wf_3b, ↓wf_5b, ↓wf_6b, ↓wf_7b, ↓wf_9b, ↓wt_1_0b, ↓wt_1_1b, ↓wt_1_2b, ↓wt_1_3b, ↓wt_1_4b, ↓wt_11_0b, ↓wt_11_1b, ↓wt_11_2b, ↓wt_11_3b, ↓wt_11_4b, ↓wt_21_0b, ↓wt_21_1b, ↓wt_31_0b, ↓wt_31_1b, ↓wt_31_2b, ↓wt_31_3b, ↓wt_31_4b, ↓wt_31_5b, ↓wt_31_6b, ↓wt_41_0b, ↓wt_41_1b, ↓wt_41_2b, ↓wt_41_3b, ↓wt_41_4b, ↓wt_41_5b, ↓wt_41_6b, ↓wt_1b, ↓wt_11b, ↓wt_21b, ↓wt_31b, ↓wt_41b, ↓X_c0b, ↓X_c1b, ↓X_c2b, ↓X_c3b, ↓X_c4b, ↓X_e0b, ↓X_e1b, ↓X_e2b, ↓X_e3b, ↓X_e4b, ↓X_cb, ↓X_eb, ↓X_w0b, ↓X_w1b, ↓X_hb, ↓X_yb, ↓X_rb, ↓wp_0b, ↓wp_2b, ↓wp_4b, ↓wp_8b, ↓ws_2b, ↓ws_3b, ↓ws_4b, ↓ws_5b, ↓ws_6b, ↓ws_12b, ↓ws_13b, ↓ws_14b, ↓ws_15b, ↓ws_16b, ↓ws_22b, ↓ws_23b, ↓ws_51b, ↓wS_yb, ↓wS_rb, ↓wS_cb, ↓wS_eb, ↓x_isCarrierb, ↓x_isErrandb, ↓x_isWareb, ↓x_isSetb, ↓x_isFewb, F_X0_isKind, F_X0_isPlace, F_X0_isPrice, F_X0_isSheet, F_X0_isSpot, F_X13_isKind, F_X13_isPlace, F_X13_isSheet, F_X13_isSpot, within_eq, one_and, zero_and, one_ne, not_true_eq_false, not_false_eq_true, F_X0_worth_J46, F_X0_worth, ↓bn9 gx, ↓cb9 t1, ↓cb9 r1, n2, cb_id]
        · obtain ⟨σb, m1, m2, m3, m4, m5⟩ := mb σ1 hM
          rw [if_neg hlt] at m1
          refine ⟨σb, ?_, m2, m3, m4⟩
          simp (discharger := first | assumption | omega | decide) only [x_tg, w_tg, m_tg, ↓reduceIte, Option.bind_some, ↓m_0b, ↓m_1b, ↓m_2b, ↓m_3b, ↓m_4b, ↓m_5b, ↓m_6b, ↓m_7b, ↓m_8b, ↓m_9b, ↓m_10b, ↓m_11b, ↓m_12b, ↓m_13b, ↓m_14b, ↓m_15b, ↓m_16b, ↓m_17b, ↓m_18b, ↓m_19b, ↓m_20b, ↓m_21b, ↓m_22b, ↓m_23b, ↓m_24b, ↓m_25b, ↓m_26b, ↓m_27b, ↓m_28b, ↓m_29b, ↓mp_3b, ↓mp_6b, ↓mp_10b, ↓mp_11b, ↓mp_12b, ↓mp_14b, ↓mp_15b, ↓mp_16b, ↓mp_17b, ↓mp_18b, ↓mp_19b, ↓mp_22b, ↓mp_23b, ↓mp_24b, ↓mp_25b, ↓M_42b, ↓M_43b, ↓M_44b, ↓M_45b, ↓cIs_0b, ↓cIs_1b, ↓cIs_2b, ↓cIs_3b, ↓cIs_4b, ↓eIs_0b, ↓eIs_1b, ↓eIs_2b, ↓eIs_3b, ↓eIs_4b, ↓cIs_nb, ↓eIs_nb, ↓M_rb, ↓M_cAt_0b, ↓M_cAt_1b, ↓M_cAt_2b, ↓M_cAt_3b, ↓M_cAt_4b, ↓M_eAt_0b, ↓M_eAt_1b, ↓M_eAt_2b, ↓M_eAt_3b, ↓M_eAt_4b, ↓M_wAt_0b, ↓M_wAt_1b, cAt_0, cAt_1, cAt_2, cAt_3, cAt_4, eAt_0, eAt_1, eAt_2, eAt_3, eAt_4, wAt_0, wAt_1, cAt_n, eAt_n, wAt_n, ↓m_isCarrierb, ↓m_isErrandb, ↓m_isWareb, ↓m_isFewb, F_X0_isKind, F_X0_isPlace, F_X0_isPrice, F_X0_isSheet, F_X0_isSpot, F_X13_isKind, F_X13_isPlace, F_X13_isSheet, F_X13_isSpot, within_eq, one_and, zero_and, one_ne, not_true_eq_false, not_false_eq_true, F_X13_worth, ↓cb9 m1, cb_id, show ¬ (-1000004 : Int32) = 0 by decide]
    · rw [oR_neg hfi] at t1
      refine STEP_gf hR (k := 3) (xv := 3) (mv := -1000004) (by omega) rfl (by decide) hI ⟨σ', ?_, r2, fx⟩ (fun σ1 hM => ?_)
      · simp (discharger := first | assumption | omega | decide) only [x_tg, w_tg, m_tg, ↓reduceIte, Option.bind_some, ↓x_0b, ↓x_1b, ↓x_2b, ↓x_3b, ↓x_4b, ↓x_5b, ↓x_6b, ↓x_7b, ↓x_8b, ↓x_9b, ↓x_10b, ↓x_11b, ↓x_12b, ↓x_13b, ↓x_14b, ↓x_15b, ↓x_16b, ↓x_17b, ↓x_18b, ↓x_19b, ↓xp_2b, ↓xp_6b, ↓xp_14b, ↓xp_17b, ↓xp_18b, ↓xp_19b, ↓X_f0b, ↓X_f2b, ↓X_f4b, ↓X_f8b, ↓wf_1b, ↓wf_3b, ↓wf_5b, ↓wf_6b, ↓wf_7b, ↓wf_9b, ↓wt_1_0b, ↓wt_1_1b, ↓wt_1_2b, ↓wt_1_3b, ↓wt_1_4b, ↓wt_11_0b, ↓wt_11_1b, ↓wt_11_2b, ↓wt_11_3b, ↓wt_11_4b, ↓wt_21_0b, ↓wt_21_1b, ↓wt_31_0b, ↓wt_31_1b, ↓wt_31_2b, ↓wt_31_3b, ↓wt_31_4b, ↓wt_31_5b, ↓wt_31_6b, ↓wt_41_0b, ↓wt_41_1b, ↓wt_41_2b, ↓wt_41_3b, ↓wt_41_4b, ↓wt_41_5b, ↓wt_41_6b, ↓wt_1b, ↓wt_11b, ↓wt_21b, ↓wt_31b, ↓wt_41b, ↓X_c0b, ↓X_c1b, ↓X_c2b, ↓X_c3b, ↓X_c4b, ↓X_e0b, ↓X_e1b, ↓X_e2b, ↓X_e3b, ↓X_e4b, ↓X_cb, ↓X_eb, ↓X_w0b, ↓X_w1b, ↓X_hb, ↓X_yb, ↓X_rb, ↓wp_0b, ↓wp_2b, ↓wp_4b, ↓wp_8b, ↓ws_2b, ↓ws_3b, ↓ws_4b, ↓ws_5b, ↓ws_6b, ↓ws_12b, ↓ws_13b, ↓ws_14b, ↓ws_15b, ↓ws_16b, ↓ws_22b, ↓ws_23b, ↓ws_51b, ↓wS_yb, ↓wS_rb, ↓wS_cb, ↓wS_eb, ↓x_isCarrierb, ↓x_isErrandb, ↓x_isWareb, ↓x_isSetb, ↓x_isFewb, F_X0_isKind, F_X0_isPlace, F_X0_isPrice, F_X0_isSheet, F_X0_isSpot, F_X13_isKind, F_X13_isPlace, F_X13_isSheet, F_X13_isSpot, within_eq, one_and, zero_and, one_ne, not_true_eq_false, not_false_eq_true, F_X0_worth_J46, F_X0_worth, ↓bn9 gx, ↓cb9 t1, ↓cb9 r1, cb_id]
      · obtain ⟨σb, m1, m2, m3, m4, m5⟩ := mb σ1 hM
        by_cases hlt : (br S.1 c s).1 < 1000000
        · rw [if_pos hlt] at m1
          obtain ⟨σc, u1, u2, u3, _⟩ := m_roundOf h m2 hI (PM_am m3 hM.2.2.1) hc hs8 hf
          have n3 : ¬ Int32.ofNat (rnd S.1 c s) < 1000000 := by rw [li_1000000, ofN_lt (by omega) (by omega)]; exact hfi
          refine ⟨σc, ?_, WM_ag u2 m2, am_trans m3 (am_ag u2), mf_trans m4 u3⟩
          simp (discharger := first | assumption | omega | decide) only [x_tg, w_tg, m_tg, ↓reduceIte, Option.bind_some, ↓m_0b, ↓m_1b, ↓m_2b, ↓m_3b, ↓m_4b, ↓m_5b, ↓m_6b, ↓m_7b, ↓m_8b, ↓m_9b, ↓m_10b, ↓m_11b, ↓m_12b, ↓m_13b, ↓m_14b, ↓m_15b, ↓m_16b, ↓m_17b, ↓m_18b, ↓m_19b, ↓m_20b, ↓m_21b, ↓m_22b, ↓m_23b, ↓m_24b, ↓m_25b, ↓m_26b, ↓m_27b, ↓m_28b, ↓m_29b, ↓mp_3b, ↓mp_6b, ↓mp_10b, ↓mp_11b, ↓mp_12b, ↓mp_14b, ↓mp_15b, ↓mp_16b, ↓mp_17b, ↓mp_18b, ↓mp_19b, ↓mp_22b, ↓mp_23b, ↓mp_24b, ↓mp_25b, ↓M_42b, ↓M_43b, ↓M_44b, ↓M_45b, ↓cIs_0b, ↓cIs_1b, ↓cIs_2b, ↓cIs_3b, ↓cIs_4b, ↓eIs_0b, ↓eIs_1b, ↓eIs_2b, ↓eIs_3b, ↓eIs_4b, ↓cIs_nb, ↓eIs_nb, ↓M_rb, ↓M_cAt_0b, ↓M_cAt_1b, ↓M_cAt_2b, ↓M_cAt_3b, ↓M_cAt_4b, ↓M_eAt_0b, ↓M_eAt_1b, ↓M_eAt_2b, ↓M_eAt_3b, ↓M_eAt_4b, ↓M_wAt_0b, ↓M_wAt_1b, cAt_0, cAt_1, cAt_2, cAt_3, cAt_4, eAt_0, eAt_1, eAt_2, eAt_3, eAt_4, wAt_0, wAt_1, cAt_n, eAt_n, wAt_n, ↓m_isCarrierb, ↓m_isErrandb, ↓m_isWareb, ↓m_isFewb, F_X0_isKind, F_X0_isPlace, F_X0_isPrice, F_X0_isSheet, F_X0_isSpot, F_X13_isKind, F_X13_isPlace, F_X13_isSheet, F_X13_isSpot, within_eq, one_and, zero_and, one_ne, not_true_eq_false, not_false_eq_true, F_X13_worth, ↓cb9 m1, ↓cb9 u1, n3, cb_id]
        · rw [if_neg hlt] at m1
          refine ⟨σb, ?_, m2, m3, m4⟩
          simp (discharger := first | assumption | omega | decide) only [x_tg, w_tg, m_tg, ↓reduceIte, Option.bind_some, ↓m_0b, ↓m_1b, ↓m_2b, ↓m_3b, ↓m_4b, ↓m_5b, ↓m_6b, ↓m_7b, ↓m_8b, ↓m_9b, ↓m_10b, ↓m_11b, ↓m_12b, ↓m_13b, ↓m_14b, ↓m_15b, ↓m_16b, ↓m_17b, ↓m_18b, ↓m_19b, ↓m_20b, ↓m_21b, ↓m_22b, ↓m_23b, ↓m_24b, ↓m_25b, ↓m_26b, ↓m_27b, ↓m_28b, ↓m_29b, ↓mp_3b, ↓mp_6b, ↓mp_10b, ↓mp_11b, ↓mp_12b, ↓mp_14b, ↓mp_15b, ↓mp_16b, ↓mp_17b, ↓mp_18b, ↓mp_19b, ↓mp_22b, ↓mp_23b, ↓mp_24b, ↓mp_25b, ↓M_42b, ↓M_43b, ↓M_44b, ↓M_45b, ↓cIs_0b, ↓cIs_1b, ↓cIs_2b, ↓cIs_3b, ↓cIs_4b, ↓eIs_0b, ↓eIs_1b, ↓eIs_2b, ↓eIs_3b, ↓eIs_4b, ↓cIs_nb, ↓eIs_nb, ↓M_rb, ↓M_cAt_0b, ↓M_cAt_1b, ↓M_cAt_2b, ↓M_cAt_3b, ↓M_cAt_4b, ↓M_eAt_0b, ↓M_eAt_1b, ↓M_eAt_2b, ↓M_eAt_3b, ↓M_eAt_4b, ↓M_wAt_0b, ↓M_wAt_1b, cAt_0, cAt_1, cAt_2, cAt_3, cAt_4, eAt_0, eAt_1, eAt_2, eAt_3, eAt_4, wAt_0, wAt_1, cAt_n, eAt_n, wAt_n, ↓m_isCarrierb, ↓m_isErrandb, ↓m_isWareb, ↓m_isFewb, F_X0_isKind, F_X0_isPlace, F_X0_isPrice, F_X0_isSheet, F_X0_isSpot, F_X13_isKind, F_X13_isPlace, F_X13_isSheet, F_X13_isSpot, within_eq, one_and, zero_and, one_ne, not_true_eq_false, not_false_eq_true, F_X13_worth, ↓cb9 m1, cb_id, show ¬ (-1000004 : Int32) = 0 by decide]
  · refine STEP_why hR hw (fun i e hi => ?_) (fun σ1 i e hi => ?_)
    · unfold F_X0_worth; rw [if_pos (x_tg h), bn9 e, if_neg hi]
    · unfold F_X13_worth F_X13_refusesBridge; rw [if_pos (m_tg h), if_pos (m_tg h), bn9 e, if_neg hi]
      show (if i = 0 then _ else _) = _
      rw [if_neg hi]
end L5g
