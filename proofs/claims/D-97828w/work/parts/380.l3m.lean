/-! ### rounds: the model's walk -/
section L3m
variable {L : Lt} {σ : St} {ρ : Rw} {T : Tb} {u : Cl} {c i p q B s N kd : Nat}
set_option maxRecDepth 8000 in
theorem mL_get (h : Lok L) {t : Tb} {K : Nat} (hK : K ≤ 243) (hc : c < K) (hp9 : p < 7) : aI (hp L (mL σ t K)) (some (L.1 1006)) 100 (7 * Int32.ofNat c + Int32.ofNat p) = some (Int32.ofNat (t c p)) := by
  rw [ix7, mi_1006 h (by omega)]; unfold mL; rw [if_pos (by omega)]; congr 3 <;> omega
set_option maxRecDepth 8000 in
theorem mL_set (h : Lok L) {t : Tb} {K v : Nat} (hK : K ≤ 243) (hc : c < K) (hp9 : p < 7) : aS (hp L (mL σ t K)) (some (L.1 1006)) 100 (7 * Int32.ofNat c + Int32.ofNat p) (.int (Int32.ofNat v)) = some (hp L (mL σ (tset t c p v) K)) := by
  rw [ix7, ms_1006 h (by omega), mL_up hc hp9]
set_option maxRecDepth 8000 in
theorem m_shorter (h : Lok L) {t : Tb} {K v : Nat} (hK : K ≤ 243) (hc : c < K) (hp9 : p < 7) (ht : tA t) (hv : v < 2147483648) : F_X13_shorter (some (L.1 1000)) (Int32.ofNat c) (Int32.ofNat p) (Int32.ofNat v) (hp L (mL σ t K)) = some (hp L (mL σ (rlx t c p v) K)) := by
  have hb := ht c p
  unfold F_X13_shorter rlx
  rw [if_pos (m_tg h)]
  simp (discharger := first | assumption | omega | decide) only [m_7 h, Option.bind_some, mL_get h hK, ofN_min, mL_set h hK]
set_option maxRecDepth 8000 in
theorem m_fr (h : Lok L) (hD : DM σ ρ T u) (hp9 : p < 7) (hq : q < 7) : aI (hp L σ) (some (L.1 1005)) 100 (7 * Int32.ofNat p + Int32.ofNat q) = some (Int32.ofNat (T p q)) := by
  rw [ix7, mi_1005 h (by omega), hD.2.2.2 p q hp9 hq]
set_option maxRecDepth 8000 in
theorem tA_wkS {k : Nat} {to : Nat → Nat} {t : Tb} (ht : tA t) (c f y q : Nat) : tA (wkS k T to c f y q t) := by
  unfold wkS; split
  · exact tA_rlx ht _ _ _
  · exact ht
set_option maxRecDepth 8000 in
/-- one way on: what goes there is done -/
theorem m_walk_i (h : Lok L) (hM : MEM ρ u) (hD : DM σ ρ T u) (hT : tB T) {t : Tb} (ht : tA t) (hc : c < 3 ^ u.1) {f y : Nat} (hf : f < 7) (hq : q < 7) (hy : y ≤ 1000000) {rc2 : Option Nat → Int32 → Int32 → Int32 → cH → Option cH} {rc24 : Option Nat → Int32 → Int32 → Int32 → Int32 → Int32 → cH → Option cH} :
    F_X13_walkOn_L44 rc2 rc24 fu (some (L.1 1000)) (Int32.ofNat c) (Int32.ofNat u.1) (Int32.ofNat f) (Int32.ofNat y) (Int32.ofNat q) (Int32.ofNat c) 0 (hp L (mL σ t (3 ^ u.1))) = rc24 (some (L.1 1000)) (Int32.ofNat c) (Int32.ofNat u.1) (Int32.ofNat f) (Int32.ofNat y) (Int32.ofNat (q + 1)) (hp L (mL σ (wkS u.1 T (eto ρ u) c f y q t) (3 ^ u.1))) := by
  have hk := hM.1
  have hK := p3_le hk
  have hc9 : c < 2147483648 := by omega
  have hD' := DM_mL (t := t) (K := 3 ^ u.1) hD
  have ef := m_fr h hD' hf hq
  have hTb := hT f q hf hq
  have hdn := dn_spec (to := eto ρ u) (pl := q) hk hc
  refine (lpF (Lp := fun g j a => F_X13_walkOn_L44 rc2 rc24 g (some (L.1 1000)) (Int32.ofNat c) (Int32.ofNat u.1) (Int32.ofNat f) (Int32.ofNat y) (Int32.ofNat q) (Int32.ofNat a) (Int32.ofNat j) (hp L (mL σ t (3 ^ u.1)))) (st := dnS (eto ρ u) c q) (fin := fun a => if 1000000 ≤ Int32.ofNat (T f q) then rc24 (some (L.1 1000)) (Int32.ofNat c) (Int32.ofNat u.1) (Int32.ofNat f) (Int32.ofNat y) (Int32.ofNat (q + 1)) (hp L (mL σ t (3 ^ u.1))) else (F_X13_shorter (some (L.1 1000)) (Int32.ofNat a) (Int32.ofNat q) (Int32.ofNat y + Int32.ofNat (T f q)) (hp L (mL σ t (3 ^ u.1)))).bind fun w => rc24 (some (L.1 1000)) (Int32.ofNat c) (Int32.ofNat u.1) (Int32.ofNat f) (Int32.ofNat y) (Int32.ofNat (q + 1)) w) (N := u.1) (fun g a => ?_) (fun g j a hj => ?_) (by unfold fu; omega) c).trans ?_
  · simp (discharger := first | assumption | omega | decide) only [x_tg, w_tg, m_tg, ↓reduceIte, Option.bind_some, ↓m_0b, ↓m_1b, ↓m_2b, ↓m_3b, ↓m_4b, ↓m_5b, ↓m_6b, ↓m_7b, ↓m_8b, ↓m_9b, ↓m_10b, ↓m_11b, ↓m_12b, ↓m_13b, ↓m_14b, ↓m_15b, ↓m_16b, ↓m_17b, ↓m_18b, ↓m_19b, ↓m_20b, ↓m_21b, ↓m_22b, ↓m_23b, ↓m_24b, ↓m_25b, ↓m_26b, ↓m_27b, ↓m_28b, ↓m_29b, ↓mp_3b, ↓mp_6b, ↓mp_10b, ↓mp_11b, ↓mp_12b, ↓mp_14b, ↓mp_15b, ↓mp_16b, ↓mp_17b, ↓mp_18b, ↓mp_19b, ↓mp_22b, ↓mp_23b, ↓mp_24b, ↓mp_25b, ↓M_42b, ↓M_43b, ↓M_44b, ↓M_45b, ↓cIs_0b, ↓cIs_1b, ↓cIs_2b, ↓cIs_3b, ↓cIs_4b, ↓eIs_0b, ↓eIs_1b, ↓eIs_2b, ↓eIs_3b, ↓eIs_4b, ↓cIs_nb, ↓eIs_nb, ↓M_rb, ↓M_cAt_0b, ↓M_cAt_1b, ↓M_cAt_2b, ↓M_cAt_3b, ↓M_cAt_4b, ↓M_eAt_0b, ↓M_eAt_1b, ↓M_eAt_2b, ↓M_eAt_3b, ↓M_eAt_4b, ↓M_wAt_0b, ↓M_wAt_1b, cAt_0, cAt_1, cAt_2, cAt_3, cAt_4, eAt_0, eAt_1, eAt_2, eAt_3, eAt_4, wAt_0, wAt_1, cAt_n, eAt_n, wAt_n, F_X13_walkOn_L44, F_X13_walkOn_B44, F_X13_walkOn_J140, ofN_le, Nat.le_refl, ↓bn9 ef, ofNs]
  · have hd : ¬ u.1 ≤ j := by omega
    have hdl : dg c j < 3 := dg_lt c j
    obtain ⟨m1, m2, m3, m4, m5, m6, m7, m8⟩ := hM.2 j hj
    have ed := m_digit (c := c) (i := j) h hD'.2.1 hc9 (by omega)
    have em := (mi_1007 (n := j) (σ := mL σ t (3 ^ u.1)) h (by omega)).trans (congrArg some (hD'.2.2.1 j hj))
    have ee := (eIs_2 h hD'.1 m1).trans (congrArg some m4)
    have ep := m_pw (i := j) h hD'.2.1 (by omega)
    unfold dnS
    by_cases h1 : dg c j = 1
    · have h1' : Int32.ofNat (dg c j) = 1 := by rw [h1]; rfl
      by_cases h2 : eto ρ u j = q
      · rw [if_pos ⟨h1, h2⟩]
        simp (discharger := first | assumption | omega | decide) only [x_tg, w_tg, m_tg, ↓reduceIte, Option.bind_some, ↓m_0b, ↓m_1b, ↓m_2b, ↓m_3b, ↓m_4b, ↓m_5b, ↓m_6b, ↓m_7b, ↓m_8b, ↓m_9b, ↓m_10b, ↓m_11b, ↓m_12b, ↓m_13b, ↓m_14b, ↓m_15b, ↓m_16b, ↓m_17b, ↓m_18b, ↓m_19b, ↓m_20b, ↓m_21b, ↓m_22b, ↓m_23b, ↓m_24b, ↓m_25b, ↓m_26b, ↓m_27b, ↓m_28b, ↓m_29b, ↓mp_3b, ↓mp_6b, ↓mp_10b, ↓mp_11b, ↓mp_12b, ↓mp_14b, ↓mp_15b, ↓mp_16b, ↓mp_17b, ↓mp_18b, ↓mp_19b, ↓mp_22b, ↓mp_23b, ↓mp_24b, ↓mp_25b, ↓M_42b, ↓M_43b, ↓M_44b, ↓M_45b, ↓cIs_0b, ↓cIs_1b, ↓cIs_2b, ↓cIs_3b, ↓cIs_4b, ↓eIs_0b, ↓eIs_1b, ↓eIs_2b, ↓eIs_3b, ↓eIs_4b, ↓cIs_nb, ↓eIs_nb, ↓M_rb, ↓M_cAt_0b, ↓M_cAt_1b, ↓M_cAt_2b, ↓M_cAt_3b, ↓M_cAt_4b, ↓M_eAt_0b, ↓M_eAt_1b, ↓M_eAt_2b, ↓M_eAt_3b, ↓M_eAt_4b, ↓M_wAt_0b, ↓M_wAt_1b, cAt_0, cAt_1, cAt_2, cAt_3, cAt_4, eAt_0, eAt_1, eAt_2, eAt_3, eAt_4, wAt_0, wAt_1, cAt_n, eAt_n, wAt_n, F_X13_walkOn_L44, F_X13_walkOn_B44, F_X13_walkOn_J90, F_X13_walkOn_J91, ofN_le, hd, ↓bn9 ed, eq_true h1', not_true_eq_false, ↓bn9 em, ↓bn9 ee, ofN_inj, eq_true h2, ↓bn9 ep, ofN_add, ofNs]
      · rw [if_neg (fun q => h2 q.2)]
        simp (discharger := first | assumption | omega | decide) only [x_tg, w_tg, m_tg, ↓reduceIte, Option.bind_some, ↓m_0b, ↓m_1b, ↓m_2b, ↓m_3b, ↓m_4b, ↓m_5b, ↓m_6b, ↓m_7b, ↓m_8b, ↓m_9b, ↓m_10b, ↓m_11b, ↓m_12b, ↓m_13b, ↓m_14b, ↓m_15b, ↓m_16b, ↓m_17b, ↓m_18b, ↓m_19b, ↓m_20b, ↓m_21b, ↓m_22b, ↓m_23b, ↓m_24b, ↓m_25b, ↓m_26b, ↓m_27b, ↓m_28b, ↓m_29b, ↓mp_3b, ↓mp_6b, ↓mp_10b, ↓mp_11b, ↓mp_12b, ↓mp_14b, ↓mp_15b, ↓mp_16b, ↓mp_17b, ↓mp_18b, ↓mp_19b, ↓mp_22b, ↓mp_23b, ↓mp_24b, ↓mp_25b, ↓M_42b, ↓M_43b, ↓M_44b, ↓M_45b, ↓cIs_0b, ↓cIs_1b, ↓cIs_2b, ↓cIs_3b, ↓cIs_4b, ↓eIs_0b, ↓eIs_1b, ↓eIs_2b, ↓eIs_3b, ↓eIs_4b, ↓cIs_nb, ↓eIs_nb, ↓M_rb, ↓M_cAt_0b, ↓M_cAt_1b, ↓M_cAt_2b, ↓M_cAt_3b, ↓M_cAt_4b, ↓M_eAt_0b, ↓M_eAt_1b, ↓M_eAt_2b, ↓M_eAt_3b, ↓M_eAt_4b, ↓M_wAt_0b, ↓M_wAt_1b, cAt_0, cAt_1, cAt_2, cAt_3, cAt_4, eAt_0, eAt_1, eAt_2, eAt_3, eAt_4, wAt_0, wAt_1, cAt_n, eAt_n, wAt_n, F_X13_walkOn_L44, F_X13_walkOn_B44, F_X13_walkOn_J90, F_X13_walkOn_J91, ofN_le, hd, ↓bn9 ed, eq_true h1', not_true_eq_false, ↓bn9 em, ↓bn9 ee, ofN_inj, h2, not_false_eq_true, Int32.add_zero, Nat.add_zero, ofNs]
    · have h1' : ¬ Int32.ofNat (dg c j) = 1 := by rw [li_1, ofN_inj (by omega) (by omega)]; exact h1
      rw [if_neg (fun q => h1 q.1)]
      simp (discharger := first | assumption | omega | decide) only [x_tg, w_tg, m_tg, ↓reduceIte, Option.bind_some, ↓m_0b, ↓m_1b, ↓m_2b, ↓m_3b, ↓m_4b, ↓m_5b, ↓m_6b, ↓m_7b, ↓m_8b, ↓m_9b, ↓m_10b, ↓m_11b, ↓m_12b, ↓m_13b, ↓m_14b, ↓m_15b, ↓m_16b, ↓m_17b, ↓m_18b, ↓m_19b, ↓m_20b, ↓m_21b, ↓m_22b, ↓m_23b, ↓m_24b, ↓m_25b, ↓m_26b, ↓m_27b, ↓m_28b, ↓m_29b, ↓mp_3b, ↓mp_6b, ↓mp_10b, ↓mp_11b, ↓mp_12b, ↓mp_14b, ↓mp_15b, ↓mp_16b, ↓mp_17b, ↓mp_18b, ↓mp_19b, ↓mp_22b, ↓mp_23b, ↓mp_24b, ↓mp_25b, ↓M_42b, ↓M_43b, ↓M_44b, ↓M_45b, ↓cIs_0b, ↓cIs_1b, ↓cIs_2b, ↓cIs_3b, ↓cIs_4b, ↓eIs_0b, ↓eIs_1b, ↓eIs_2b, ↓eIs_3b, ↓eIs_4b, ↓cIs_nb, ↓eIs_nb, ↓M_rb, ↓M_cAt_0b, ↓M_cAt_1b, ↓M_cAt_2b, ↓M_cAt_3b, ↓M_cAt_4b, ↓M_eAt_0b, ↓M_eAt_1b, ↓M_eAt_2b, ↓M_eAt_3b, ↓M_eAt_4b, ↓M_wAt_0b, ↓M_wAt_1b, cAt_0, cAt_1, cAt_2, cAt_3, cAt_4, eAt_0, eAt_1, eAt_2, eAt_3, eAt_4, wAt_0, wAt_1, cAt_n, eAt_n, wAt_n, F_X13_walkOn_L44, F_X13_walkOn_B44, F_X13_walkOn_J90, F_X13_walkOn_J91, ofN_le, hd, ↓bn9 ed, h1', not_false_eq_true, Int32.add_zero, Nat.add_zero, ofNs]
  · show (if 1000000 ≤ Int32.ofNat (T f q) then _ else (F_X13_shorter (some (L.1 1000)) (Int32.ofNat (dn u.1 (eto ρ u) c q)) (Int32.ofNat q) (Int32.ofNat y + Int32.ofNat (T f q)) (hp L (mL σ t (3 ^ u.1)))).bind _) = _
    rw [ofN_add, m_shorter h hK hdn.1 hq ht (by omega)]
    unfold wkS
    by_cases hx : T f q < 1000000
    · rw [if_neg (by rw [li_1000000, ofN_le (by omega) (by omega)]; omega), if_pos hx]; rfl
    · rw [if_pos (by rw [li_1000000, ofN_le (by omega) (by omega)]; omega), if_neg hx]
set_option maxRecDepth 8000 in
theorem m_walk_q (h : Lok L) (hM : MEM ρ u) (hD : DM σ ρ T u) (hT : tB T) {t : Tb} (ht : tA t) (hc : c < 3 ^ u.1) {f : Nat} (hf : f < 7) {rc2 : Option Nat → Int32 → Int32 → Int32 → cH → Option cH} :
    F_X13_walkOn_L24 rc2 fu (some (L.1 1000)) (Int32.ofNat c) (Int32.ofNat u.1) (Int32.ofNat f) (Int32.ofNat (t c f)) 0 (hp L (mL σ t (3 ^ u.1))) = rc2 (some (L.1 1000)) (Int32.ofNat c) (Int32.ofNat u.1) (Int32.ofNat (f + 1)) (hp L (mL σ (wkF u.1 T (eto ρ u) c f t) (3 ^ u.1))) := by
  have hy := ht c f
  unfold wkF
  by_cases hy9 : t c f < 1000000
  · rw [if_pos hy9]
    have hn : ¬ (1000000 : Int32) ≤ Int32.ofNat (t c f) := by rw [li_1000000, ofN_le (by omega) (by omega)]; omega
    refine (lpP (Lp := fun g q t' => F_X13_walkOn_L24 rc2 g (some (L.1 1000)) (Int32.ofNat c) (Int32.ofNat u.1) (Int32.ofNat f) (Int32.ofNat (t c f)) (Int32.ofNat q) (hp L (mL σ t' (3 ^ u.1)))) (st := wkS u.1 T (eto ρ u) c f (t c f)) (fin := fun t' => rc2 (some (L.1 1000)) (Int32.ofNat c) (Int32.ofNat u.1) (Int32.ofNat (f + 1)) (hp L (mL σ t' (3 ^ u.1)))) (N := 7) (fun _ t' => tA t') (fun g t' ht' => ?_) (fun g q t' hq ht' => ?_) (fun q t' _ ht' => tA_wkS ht' _ _ _ _) 7 0 fu t (by omega) (by unfold fu; omega) ht).1
    · simp (discharger := first | assumption | omega | decide) only [F_X13_walkOn_L24, F_X13_walkOn_B24, F_X13_walkOn_J146, show (7 : Int32) ≤ Int32.ofNat 7 from by decide, ↓reduceIte, ofNs]
    · have hd : ¬ (7 : Int32) ≤ Int32.ofNat q := by rw [li_7, ofN_le (by omega) (by omega)]; omega
      simp (discharger := first | assumption | omega | decide) only [F_X13_walkOn_L24, F_X13_walkOn_B24, hd, hn, ↓reduceIte]
      exact m_walk_i h hM hD hT ht' hc hf hq hy
  · rw [if_neg hy9]
    have hn : (1000000 : Int32) ≤ Int32.ofNat (t c f) := by rw [li_1000000, ofN_le (by omega) (by omega)]; omega
    show F_X13_walkOn_L24 rc2 (4095 + 1) _ _ _ _ _ _ _ = _
    simp (discharger := first | assumption | omega | decide) only [F_X13_walkOn_L24, F_X13_walkOn_B24, F_X13_walkOn_J146, hn, show ¬ (7 : Int32) ≤ 0 from by decide, ↓reduceIte, ofNs]
set_option maxRecDepth 8000 in
theorem tA_wkF {k : Nat} {to : Nat → Nat} {t : Tb} (ht : tA t) (c f : Nat) : tA (wkF k T to c f t) := by
  unfold wkF; split
  · exact itF_inv0 (fun _ t => tA t) 7 t ht fun e b _ h => tA_wkS h _ _ _ _
  · exact ht
set_option maxRecDepth 8000 in
theorem m_walkOn (h : Lok L) (hM : MEM ρ u) (hD : DM σ ρ T u) (hT : tB T) {t : Tb} (ht : tA t) (hc : c < 3 ^ u.1) : F_X13_walkOn (some (L.1 1000)) (Int32.ofNat c) (Int32.ofNat u.1) (hp L (mL σ t (3 ^ u.1))) = some (hp L (mL σ (wkO u.1 T (eto ρ u) c t) (3 ^ u.1))) := by
  have hk := hM.1
  have hK := p3_le hk
  unfold F_X13_walkOn
  rw [if_pos (m_tg h)]
  refine (lpP (Lp := fun g f t' => F_X13_walkOn_L2 g (some (L.1 1000)) (Int32.ofNat c) (Int32.ofNat u.1) (Int32.ofNat f) (hp L (mL σ t' (3 ^ u.1)))) (st := wkF u.1 T (eto ρ u) c) (fin := fun t' => some (hp L (mL σ t' (3 ^ u.1)))) (N := 7) (fun _ t' => tA t') (fun g t' ht' => ?_) (fun g f t' hf ht' => ?_) (fun f t' _ ht' => tA_wkF ht' _ _) 7 0 fu t (by omega) (by unfold fu; omega) ht).1
  · simp (discharger := first | assumption | omega | decide) only [F_X13_walkOn_L2, F_X13_walkOn_B2, show (7 : Int32) ≤ Int32.ofNat 7 from by decide, ↓reduceIte, ofNs]
  · have hd : ¬ (7 : Int32) ≤ Int32.ofNat f := by rw [li_7, ofN_le (by omega) (by omega)]; omega
    have e1 := mL_get (σ := σ) (t := t') h hK hc hf
    simp (discharger := first | assumption | omega | decide) only [F_X13_walkOn_L2, F_X13_walkOn_B2, hd, ↓reduceIte, ↓m_7b, ↓bn9 e1]
    exact m_walk_q h hM hD hT ht' hc hf
set_option maxRecDepth 8000 in
theorem tA_tkS {t : Tb} {fr lb : Nat → Nat} (ht : tA t) (c w i : Nat) : tA (tkS fr lb B c w i t) := by
  unfold tkS; split
  · exact tA_rlx ht _ _ _
  · exact ht
set_option maxRecDepth 8000 in
theorem m_takeOn (h : Lok L) (hM : MEM ρ u) (hD : DM σ ρ T u) {t : Tb} (ht : tA t) (hc : c < 3 ^ u.1) (hB : B < 1000) : F_X13_takeOn (some (L.1 1000)) (Int32.ofNat c) (Int32.ofNat u.1) (Int32.ofNat B) (hp L (mL σ t (3 ^ u.1))) = some (hp L (mL σ (tkO u.1 (efr ρ u) (elb ρ u) B c t) (3 ^ u.1))) := by
  have hk := hM.1
  have hK := p3_le hk
  have hc9 : c < 2147483648 := by omega
  have ldb : ld u.1 (elb ρ u) c 0 ≤ 300 := by
    have := itF_inv0 (f := ldS (elb ρ u) c) (fun n v => v ≤ 60 * n) u.1 0 (by omega) (fun e v he hv => by
      unfold ldS
      have := (hM.2 e he).2.2.2.2.1
      split <;> omega)
    unfold ld; omega
  unfold F_X13_takeOn
  rw [if_pos (m_tg h)]
  refine (lpF (Lp := fun g j a => F_X13_takeOn_L6 g (some (L.1 1000)) (Int32.ofNat c) (Int32.ofNat u.1) (Int32.ofNat B) (Int32.ofNat a) (Int32.ofNat j) (hp L (mL σ t (3 ^ u.1)))) (st := ldS (elb ρ u) c) (fin := fun a => F_X13_takeOn_L53 fu (some (L.1 1000)) (Int32.ofNat c) (Int32.ofNat u.1) (Int32.ofNat B) (Int32.ofNat a) 0 (hp L (mL σ t (3 ^ u.1)))) (N := u.1) (fun g a => ?_) (fun g j a hj => ?_) (by unfold fu; omega) 0).trans ?_
  · simp (discharger := first | assumption | omega | decide) only [F_X13_takeOn_L6, F_X13_takeOn_B6, ofN_le, Nat.le_refl, ↓reduceIte]
  · have hD' := DM_mL (t := t) (K := 3 ^ u.1) hD
    have hd : ¬ u.1 ≤ j := by omega
    have hdl : dg c j < 3 := dg_lt c j
    obtain ⟨m1, m2, m3, m4, m5, m6, m7, m8⟩ := hM.2 j hj
    have ed := m_digit (c := c) (i := j) h hD'.2.1 hc9 (by omega)
    have em := (mi_1007 (n := j) (σ := mL σ t (3 ^ u.1)) h (by omega)).trans (congrArg some (hD'.2.2.1 j hj))
    have ee := (eIs_0 h hD'.1 m1).trans (congrArg some m2)
    unfold ldS
    by_cases h1 : dg c j = 1
    · have h1' : Int32.ofNat (dg c j) = 1 := by rw [h1]; rfl
      rw [if_pos h1]
      simp (discharger := first | assumption | omega | decide) only [x_tg, w_tg, m_tg, ↓reduceIte, Option.bind_some, ↓m_0b, ↓m_1b, ↓m_2b, ↓m_3b, ↓m_4b, ↓m_5b, ↓m_6b, ↓m_7b, ↓m_8b, ↓m_9b, ↓m_10b, ↓m_11b, ↓m_12b, ↓m_13b, ↓m_14b, ↓m_15b, ↓m_16b, ↓m_17b, ↓m_18b, ↓m_19b, ↓m_20b, ↓m_21b, ↓m_22b, ↓m_23b, ↓m_24b, ↓m_25b, ↓m_26b, ↓m_27b, ↓m_28b, ↓m_29b, ↓mp_3b, ↓mp_6b, ↓mp_10b, ↓mp_11b, ↓mp_12b, ↓mp_14b, ↓mp_15b, ↓mp_16b, ↓mp_17b, ↓mp_18b, ↓mp_19b, ↓mp_22b, ↓mp_23b, ↓mp_24b, ↓mp_25b, ↓M_42b, ↓M_43b, ↓M_44b, ↓M_45b, ↓cIs_0b, ↓cIs_1b, ↓cIs_2b, ↓cIs_3b, ↓cIs_4b, ↓eIs_0b, ↓eIs_1b, ↓eIs_2b, ↓eIs_3b, ↓eIs_4b, ↓cIs_nb, ↓eIs_nb, ↓M_rb, ↓M_cAt_0b, ↓M_cAt_1b, ↓M_cAt_2b, ↓M_cAt_3b, ↓M_cAt_4b, ↓M_eAt_0b, ↓M_eAt_1b, ↓M_eAt_2b, ↓M_eAt_3b, ↓M_eAt_4b, ↓M_wAt_0b, ↓M_wAt_1b, cAt_0, cAt_1, cAt_2, cAt_3, cAt_4, eAt_0, eAt_1, eAt_2, eAt_3, eAt_4, wAt_0, wAt_1, cAt_n, eAt_n, wAt_n, F_X13_takeOn_L6, F_X13_takeOn_B6, F_X13_takeOn_J41, ofN_le, hd, ↓bn9 ed, eq_true h1', not_true_eq_false, ↓bn9 em, ↓bn9 ee, ofN_add, ofNs]
    · have h1' : ¬ Int32.ofNat (dg c j) = 1 := by rw [li_1, ofN_inj (by omega) (by omega)]; exact h1
      rw [if_neg h1]
      simp (discharger := first | assumption | omega | decide) only [x_tg, w_tg, m_tg, ↓reduceIte, Option.bind_some, ↓m_0b, ↓m_1b, ↓m_2b, ↓m_3b, ↓m_4b, ↓m_5b, ↓m_6b, ↓m_7b, ↓m_8b, ↓m_9b, ↓m_10b, ↓m_11b, ↓m_12b, ↓m_13b, ↓m_14b, ↓m_15b, ↓m_16b, ↓m_17b, ↓m_18b, ↓m_19b, ↓m_20b, ↓m_21b, ↓m_22b, ↓m_23b, ↓m_24b, ↓m_25b, ↓m_26b, ↓m_27b, ↓m_28b, ↓m_29b, ↓mp_3b, ↓mp_6b, ↓mp_10b, ↓mp_11b, ↓mp_12b, ↓mp_14b, ↓mp_15b, ↓mp_16b, ↓mp_17b, ↓mp_18b, ↓mp_19b, ↓mp_22b, ↓mp_23b, ↓mp_24b, ↓mp_25b, ↓M_42b, ↓M_43b, ↓M_44b, ↓M_45b, ↓cIs_0b, ↓cIs_1b, ↓cIs_2b, ↓cIs_3b, ↓cIs_4b, ↓eIs_0b, ↓eIs_1b, ↓eIs_2b, ↓eIs_3b, ↓eIs_4b, ↓cIs_nb, ↓eIs_nb, ↓M_rb, ↓M_cAt_0b, ↓M_cAt_1b, ↓M_cAt_2b, ↓M_cAt_3b, ↓M_cAt_4b, ↓M_eAt_0b, ↓M_eAt_1b, ↓M_eAt_2b, ↓M_eAt_3b, ↓M_eAt_4b, ↓M_wAt_0b, ↓M_wAt_1b, cAt_0, cAt_1, cAt_2, cAt_3, cAt_4, eAt_0, eAt_1, eAt_2, eAt_3, eAt_4, wAt_0, wAt_1, cAt_n, eAt_n, wAt_n, F_X13_takeOn_L6, F_X13_takeOn_B6, F_X13_takeOn_J41, ofN_le, hd, ↓bn9 ed, h1', not_false_eq_true, Int32.add_zero, Nat.add_zero, ofNs]
  · show F_X13_takeOn_L53 fu (some (L.1 1000)) (Int32.ofNat c) (Int32.ofNat u.1) (Int32.ofNat B) (Int32.ofNat (ld u.1 (elb ρ u) c 0)) 0 (hp L (mL σ t (3 ^ u.1))) = _
    have hgen : ∀ w9', w9' ≤ 300 → F_X13_takeOn_L53 fu (some (L.1 1000)) (Int32.ofNat c) (Int32.ofNat u.1) (Int32.ofNat B) (Int32.ofNat w9') 0 (hp L (mL σ t (3 ^ u.1))) = some (hp L (mL σ (itF (tkS (efr ρ u) (elb ρ u) B c w9') 0 u.1 t) (3 ^ u.1))) := by
      intro w9' hw9
      refine (lpP (Lp := fun g j t' => F_X13_takeOn_L53 g (some (L.1 1000)) (Int32.ofNat c) (Int32.ofNat u.1) (Int32.ofNat B) (Int32.ofNat w9') (Int32.ofNat j) (hp L (mL σ t' (3 ^ u.1)))) (st := tkS (efr ρ u) (elb ρ u) B c w9') (fin := fun t' => some (hp L (mL σ t' (3 ^ u.1)))) (N := u.1) (fun _ t' => tA t') (fun g t' ht' => ?_) (fun g j t' hj ht' => ?_) (fun f t' _ ht' => tA_tkS ht' _ _ _) u.1 0 fu t (by omega) (by unfold fu; omega) ht).1
      · simp (discharger := first | assumption | omega | decide) only [F_X13_takeOn_L53, F_X13_takeOn_B53, ofN_le, Nat.le_refl, ↓reduceIte]
      · have hD' := DM_mL (t := t') (K := 3 ^ u.1) hD
        have hd : ¬ u.1 ≤ j := by omega
        have hdl : dg c j < 3 := dg_lt c j
        obtain ⟨m1, m2, m3, m4, m5, m6, m7, m8⟩ := hM.2 j hj
        have hv := ht' c (efr ρ u j)
        have ed := m_digit (c := c) (i := j) h hD'.2.1 hc9 (by omega)
        have em := (mi_1007 (n := j) (σ := mL σ t' (3 ^ u.1)) h (by omega)).trans (congrArg some (hD'.2.2.1 j hj))
        have ee := (eIs_0 h hD'.1 m1).trans (congrArg some m2)
        have ee1 := (eIs_1 h hD'.1 m1).trans (congrArg some m3)
        have ep := m_pw (i := j) h hD'.2.1 (by omega)
        have eg := mL_get (σ := σ) (t := t') h hK hc m6
        unfold tkS
        by_cases h1 : dg c j = 0
        · have h1' : Int32.ofNat (dg c j) = 0 := by rw [h1]; rfl
          by_cases h2 : w9' + elb ρ u j ≤ B
          · have h2' : ¬ B < w9' + elb ρ u j := by omega
            have hmx := dg_max hk hj hc (by omega)
            have es := m_shorter (σ := σ) h hK hmx m6 ht' (v := t' c (efr ρ u j)) (by omega)
            rw [if_pos ⟨h1, h2⟩]
            simp (discharger := first | assumption | omega | decide) only [x_tg, w_tg, m_tg, ↓reduceIte, Option.bind_some, ↓m_0b, ↓m_1b, ↓m_2b, ↓m_3b, ↓m_4b, ↓m_5b, ↓m_6b, ↓m_7b, ↓m_8b, ↓m_9b, ↓m_10b, ↓m_11b, ↓m_12b, ↓m_13b, ↓m_14b, ↓m_15b, ↓m_16b, ↓m_17b, ↓m_18b, ↓m_19b, ↓m_20b, ↓m_21b, ↓m_22b, ↓m_23b, ↓m_24b, ↓m_25b, ↓m_26b, ↓m_27b, ↓m_28b, ↓m_29b, ↓mp_3b, ↓mp_6b, ↓mp_10b, ↓mp_11b, ↓mp_12b, ↓mp_14b, ↓mp_15b, ↓mp_16b, ↓mp_17b, ↓mp_18b, ↓mp_19b, ↓mp_22b, ↓mp_23b, ↓mp_24b, ↓mp_25b, ↓M_42b, ↓M_43b, ↓M_44b, ↓M_45b, ↓cIs_0b, ↓cIs_1b, ↓cIs_2b, ↓cIs_3b, ↓cIs_4b, ↓eIs_0b, ↓eIs_1b, ↓eIs_2b, ↓eIs_3b, ↓eIs_4b, ↓cIs_nb, ↓eIs_nb, ↓M_rb, ↓M_cAt_0b, ↓M_cAt_1b, ↓M_cAt_2b, ↓M_cAt_3b, ↓M_cAt_4b, ↓M_eAt_0b, ↓M_eAt_1b, ↓M_eAt_2b, ↓M_eAt_3b, ↓M_eAt_4b, ↓M_wAt_0b, ↓M_wAt_1b, cAt_0, cAt_1, cAt_2, cAt_3, cAt_4, eAt_0, eAt_1, eAt_2, eAt_3, eAt_4, wAt_0, wAt_1, cAt_n, eAt_n, wAt_n, F_X13_takeOn_L53, F_X13_takeOn_B53, F_X13_takeOn_J129, ofN_le, hd, ↓bn9 em, ↓bn9 ee1, ↓bn9 ed, eq_true h1', not_true_eq_false, ↓bn9 ee, ofN_add, ofN_lt, h2', ↓bn9 ep, ↓bn9 eg, ↓bn9 es, ofNs]
          · have h2' : B < w9' + elb ρ u j := by omega
            rw [if_neg (fun q => h2 q.2)]
            simp (discharger := first | assumption | omega | decide) only [x_tg, w_tg, m_tg, ↓reduceIte, Option.bind_some, ↓m_0b, ↓m_1b, ↓m_2b, ↓m_3b, ↓m_4b, ↓m_5b, ↓m_6b, ↓m_7b, ↓m_8b, ↓m_9b, ↓m_10b, ↓m_11b, ↓m_12b, ↓m_13b, ↓m_14b, ↓m_15b, ↓m_16b, ↓m_17b, ↓m_18b, ↓m_19b, ↓m_20b, ↓m_21b, ↓m_22b, ↓m_23b, ↓m_24b, ↓m_25b, ↓m_26b, ↓m_27b, ↓m_28b, ↓m_29b, ↓mp_3b, ↓mp_6b, ↓mp_10b, ↓mp_11b, ↓mp_12b, ↓mp_14b, ↓mp_15b, ↓mp_16b, ↓mp_17b, ↓mp_18b, ↓mp_19b, ↓mp_22b, ↓mp_23b, ↓mp_24b, ↓mp_25b, ↓M_42b, ↓M_43b, ↓M_44b, ↓M_45b, ↓cIs_0b, ↓cIs_1b, ↓cIs_2b, ↓cIs_3b, ↓cIs_4b, ↓eIs_0b, ↓eIs_1b, ↓eIs_2b, ↓eIs_3b, ↓eIs_4b, ↓cIs_nb, ↓eIs_nb, ↓M_rb, ↓M_cAt_0b, ↓M_cAt_1b, ↓M_cAt_2b, ↓M_cAt_3b, ↓M_cAt_4b, ↓M_eAt_0b, ↓M_eAt_1b, ↓M_eAt_2b, ↓M_eAt_3b, ↓M_eAt_4b, ↓M_wAt_0b, ↓M_wAt_1b, cAt_0, cAt_1, cAt_2, cAt_3, cAt_4, eAt_0, eAt_1, eAt_2, eAt_3, eAt_4, wAt_0, wAt_1, cAt_n, eAt_n, wAt_n, F_X13_takeOn_L53, F_X13_takeOn_B53, F_X13_takeOn_J129, ofN_le, hd, ↓bn9 em, ↓bn9 ee1, ↓bn9 ed, eq_true h1', not_true_eq_false, ↓bn9 ee, ofN_add, ofN_lt, h2', ofNs]
        · have h1' : ¬ Int32.ofNat (dg c j) = 0 := by rw [li_0, ofN_inj (by omega) (by omega)]; exact h1
          rw [if_neg (fun q => h1 q.1)]
          simp (discharger := first | assumption | omega | decide) only [x_tg, w_tg, m_tg, ↓reduceIte, Option.bind_some, ↓m_0b, ↓m_1b, ↓m_2b, ↓m_3b, ↓m_4b, ↓m_5b, ↓m_6b, ↓m_7b, ↓m_8b, ↓m_9b, ↓m_10b, ↓m_11b, ↓m_12b, ↓m_13b, ↓m_14b, ↓m_15b, ↓m_16b, ↓m_17b, ↓m_18b, ↓m_19b, ↓m_20b, ↓m_21b, ↓m_22b, ↓m_23b, ↓m_24b, ↓m_25b, ↓m_26b, ↓m_27b, ↓m_28b, ↓m_29b, ↓mp_3b, ↓mp_6b, ↓mp_10b, ↓mp_11b, ↓mp_12b, ↓mp_14b, ↓mp_15b, ↓mp_16b, ↓mp_17b, ↓mp_18b, ↓mp_19b, ↓mp_22b, ↓mp_23b, ↓mp_24b, ↓mp_25b, ↓M_42b, ↓M_43b, ↓M_44b, ↓M_45b, ↓cIs_0b, ↓cIs_1b, ↓cIs_2b, ↓cIs_3b, ↓cIs_4b, ↓eIs_0b, ↓eIs_1b, ↓eIs_2b, ↓eIs_3b, ↓eIs_4b, ↓cIs_nb, ↓eIs_nb, ↓M_rb, ↓M_cAt_0b, ↓M_cAt_1b, ↓M_cAt_2b, ↓M_cAt_3b, ↓M_cAt_4b, ↓M_eAt_0b, ↓M_eAt_1b, ↓M_eAt_2b, ↓M_eAt_3b, ↓M_eAt_4b, ↓M_wAt_0b, ↓M_wAt_1b, cAt_0, cAt_1, cAt_2, cAt_3, cAt_4, eAt_0, eAt_1, eAt_2, eAt_3, eAt_4, wAt_0, wAt_1, cAt_n, eAt_n, wAt_n, F_X13_takeOn_L53, F_X13_takeOn_B53, F_X13_takeOn_J129, ofN_le, hd, ↓bn9 em, ↓bn9 ee1, ↓bn9 ed, h1', not_false_eq_true, ofNs]
    exact hgen _ ldb
set_option maxRecDepth 8000 in
theorem cM_step (σ : St) (u : Cl) (e : Nat) : up2 (cM σ u) 1007 u.1 (Int32.ofNat e) = cM σ (u.1 + 1, fun i => if i = u.1 then e else u.2 i) := by
  funext i j
  unfold up2 cM
  dsimp only
  by_cases h2 : i = 1007 ∧ j = u.1
  · rw [if_pos h2, if_pos (by omega), if_pos h2.2]
  · rw [if_neg h2]
    by_cases h3 : i = 1007 ∧ j < u.1
    · rw [if_pos h3, if_pos (by omega), if_neg (by omega)]
    · rw [if_neg h3, if_neg (by omega)]
def mI (σ : St) (n : Nat) : St := fun i k => if i = 1006 ∧ k < n then 1000000 else σ i k
set_option maxRecDepth 8000 in
theorem mI_ge {σ : St} {n i : Nat} (h : i ≠ 1006) : mI σ n i = σ i := by
  funext k; unfold mI; rw [if_neg (by omega)]
set_option maxRecDepth 8000 in
theorem mI_up {σ : St} {n : Nat} : up2 (mI σ n) 1006 n 1000000 = mI σ (n + 1) := by
  funext i k
  unfold up2 mI
  by_cases h : i = 1006 ∧ k = n
  · rw [if_pos h, if_pos (by omega)]
  · rw [if_neg h]
    by_cases h2 : i = 1006 ∧ k < n
    · rw [if_pos h2, if_pos (by omega)]
    · rw [if_neg h2, if_neg (by omega)]
set_option maxRecDepth 8000 in
theorem mI_end {σ : St} {K : Nat} : mI σ (7 * K) = mL σ (fun _ _ => 1000000) K := rfl
set_option maxRecDepth 8000 in
theorem DM_mI {n : Nat} (h : DM σ ρ T u) : DM (mI σ n) ρ T u := by
  obtain ⟨h1, h2, h3, h5⟩ := h
  refine ⟨fun i hi => ?_, fun i hi => ?_, fun i hi => ?_, fun p q hp9 hq => ?_⟩
  · rw [mI_ge (by omega)]; exact h1 i hi
  · rw [mI_ge (by omega)]; exact h2 i hi
  · rw [mI_ge (by omega)]; exact h3 i hi
  · rw [mI_ge (by omega)]; exact h5 p q hp9 hq
set_option maxRecDepth 8000 in
theorem tA_mC {k : Nat} {fr to lb : Nat → Nat} {t : Tb} (ht : tA t) (c : Nat) : tA (mC k T fr to lb B c t) := by
  unfold mC tkO wkO
  exact itF_inv0 (fun _ t => tA t) k _ (itF_inv0 (fun _ t => tA t) 7 t ht fun e b _ h => tA_wkF h _ _) fun e b _ h => tA_tkS h _ _ _
set_option maxRecDepth 8000 in
theorem m_best (h : Lok L) {t : Tb} {K : Nat} (hK : K ≤ 243) (ht : tA t) (hc : c < K) : F_X13_roundOf_L157 fu (some (L.1 1000)) (Int32.ofNat c) 1000000 0 (hp L (mL σ t K)) = some (Int32.ofNat (itF (fun p b => min b (t c p)) 0 7 1000000), hp L (mL σ t K)) := by
  refine (lpP (Lp := fun g p b => F_X13_roundOf_L157 g (some (L.1 1000)) (Int32.ofNat c) (Int32.ofNat b) (Int32.ofNat p) (hp L (mL σ t K))) (st := fun p b => min b (t c p)) (fin := fun b => some (Int32.ofNat b, hp L (mL σ t K))) (N := 7) (fun _ b => b ≤ 1000000) (fun g b hb => ?_) (fun g p b hp9 hb => ?_) (fun p b _ hb => by omega) 7 0 fu 1000000 (by omega) (by unfold fu; omega) (by omega)).1
  · simp (discharger := first | assumption | omega | decide) only [F_X13_roundOf_L157, F_X13_roundOf_B157, show (7 : Int32) ≤ Int32.ofNat 7 from by decide, ↓reduceIte]
  · have hd : ¬ (7 : Int32) ≤ Int32.ofNat p := by rw [li_7, ofN_le (by omega) (by omega)]; omega
    have e1 := mL_get (σ := σ) (t := t) h hK hc hp9
    have hv := ht c p
    simp (discharger := first | assumption | omega | decide) only [F_X13_roundOf_L157, F_X13_roundOf_B157, hd, ↓reduceIte, ↓m_7b, ↓bn9 e1, ofN_min, ofNs]
set_option maxRecDepth 8000 in
theorem m_run (h : Lok L) (hM : MEM ρ u) (hD : DM σ ρ T u) (hT : tB T) (hB : B < 1000) (pl : Nat) :
    F_X13_roundOf_L120 fu (some (L.1 1000)) (Int32.ofNat B) (Int32.ofNat u.1) (Int32.ofNat (3 ^ u.1 - 1)) 0 (hp L (mL σ (t00 pl) (3 ^ u.1))) = some (Int32.ofNat (mbest u.1 T (efr ρ u) (eto ρ u) (elb ρ u) B pl), hp L (mL σ (mdp u.1 T (efr ρ u) (eto ρ u) (elb ρ u) B pl) (3 ^ u.1))) := by
  have hk := hM.1
  have hK := p3_le hk
  have hpos : 0 < 3 ^ u.1 := Nat.pow_pos (by decide)
  have key := lpP (Lp := fun g c t => F_X13_roundOf_L120 g (some (L.1 1000)) (Int32.ofNat B) (Int32.ofNat u.1) (Int32.ofNat (3 ^ u.1 - 1)) (Int32.ofNat c) (hp L (mL σ t (3 ^ u.1)))) (st := mC u.1 T (efr ρ u) (eto ρ u) (elb ρ u) B) (fin := fun t => F_X13_roundOf_L157 fu (some (L.1 1000)) (Int32.ofNat (3 ^ u.1 - 1)) 1000000 0 (hp L (mL σ t (3 ^ u.1)))) (N := 3 ^ u.1 - 1) (fun _ t => tA t) (fun g t ht => ?_) (fun g c t hc ht => ?_) (fun c t _ ht => tA_mC ht c) (3 ^ u.1 - 1) 0 fu (t00 pl) (by omega) (by unfold fu; omega) (tA_t00 pl)
  · refine key.1.trans ?_
    exact m_best h hK key.2 (by omega)
  · simp (discharger := first | assumption | omega | decide) only [F_X13_roundOf_L120, F_X13_roundOf_B120, ofN_le, Nat.le_refl, ↓reduceIte]
  · have hd : ¬ 3 ^ u.1 - 1 ≤ c := by omega
    have e1 := m_walkOn h hM hD hT ht (show c < 3 ^ u.1 by omega)
    have htw : tA (wkO u.1 T (eto ρ u) c t) := itF_inv0 (fun _ t => tA t) 7 t ht fun e b _ h => tA_wkF h _ _
    have e2 := m_takeOn h hM hD htw (show c < 3 ^ u.1 by omega) hB
    simp (discharger := first | assumption | omega | decide) only [F_X13_roundOf_L120, F_X13_roundOf_B120, ofN_le, hd, ↓reduceIte, ↓bn9 e1, ↓bn9 e2, ofNs]
    rfl
set_option maxRecDepth 8000 in
theorem m_init (h : Lok L) (hM : MEM ρ u) (hD : DM σ ρ T u) (hT : tB T) (hB : B < 1000) (hc : c < 6) {pl : Nat} (hpl : ρ (56 + 5 * c + 1) = Int32.ofNat pl) (hpl7 : pl < 7) :
    F_X13_roundOf_L75 fu (some (L.1 1000)) (Int32.ofNat c) (Int32.ofNat B) (Int32.ofNat u.1) (Int32.ofNat (3 ^ u.1) - 1) 0 (hp L σ) = some (Int32.ofNat (mbest u.1 T (efr ρ u) (eto ρ u) (elb ρ u) B pl), hp L (mL σ (mdp u.1 T (efr ρ u) (eto ρ u) (elb ρ u) B pl) (3 ^ u.1))) := by
  have hk := hM.1
  have hK := p3_le hk
  have hpos : 0 < 3 ^ u.1 := Nat.pow_pos (by decide)
  have e7 : Int32.ofNat (3 ^ u.1) - 1 = Int32.ofNat (3 ^ u.1 - 1) := ofN_sub (b := 1) hpos
  have e0 : hp L σ = hp L (mI σ 0) := by congr 1; funext i k; unfold mI; rw [if_neg (by omega)]
  rw [e7, e0]
  refine (lpF (Lp := fun g n (_ : Unit) => F_X13_roundOf_L75 g (some (L.1 1000)) (Int32.ofNat c) (Int32.ofNat B) (Int32.ofNat u.1) (Int32.ofNat (3 ^ u.1 - 1)) (Int32.ofNat n) (hp L (mI σ n))) (st := fun _ a => a) (fin := fun _ => some (Int32.ofNat (mbest u.1 T (efr ρ u) (eto ρ u) (elb ρ u) B pl), hp L (mL σ (mdp u.1 T (efr ρ u) (eto ρ u) (elb ρ u) B pl) (3 ^ u.1)))) (N := 7 * 3 ^ u.1) (fun g _ => ?_) (fun g n _ hn => ?_) (by unfold fu; omega) ())
  · rw [mI_end]
    have hD2 := DM_mL (t := fun _ _ => 1000000) (K := 3 ^ u.1) hD
    have e4 := m_pw (i := u.1) h hD2.2.1 (by omega)
    have e5 := (cIs_1 h hD2.1 hc).trans (congrArg some hpl)
    have e6 := mL_set (σ := σ) (t := fun _ _ => 1000000) (K := 3 ^ u.1) (c := 0) (p := pl) (v := 0) h hK hpos hpl7
    rw [ix7, show 7 * 0 + pl = pl by omega, show tset (fun _ _ => 1000000) 0 pl 0 = t00 pl from rfl, show Int32.ofNat 0 = 0 from rfl] at e6
    simp (discharger := first | assumption | omega | decide) only [F_X13_roundOf_L75, F_X13_roundOf_B75, ↓m_9b, ↓bn9 e4, li_7, ofN_mul, ofN_le, Nat.le_refl, ↓reduceIte, ↓m_7b, ↓bn9 e5, ↓bn9 e6]
    exact m_run h hM hD hT hB pl
  · have hD2 := DM_mI (n := n) hD
    have e4 := m_pw (i := u.1) h hD2.2.1 (by omega)
    have hd : ¬ 7 * 3 ^ u.1 ≤ n := by omega
    have e6 := ms_1006 (σ := mI σ n) (n := n) (v := 1000000) h (by omega)
    rw [mI_up] at e6
    simp (discharger := first | assumption | omega | decide) only [F_X13_roundOf_L75, F_X13_roundOf_B75, ↓m_9b, ↓bn9 e4, li_7, ofN_mul, ofN_le, hd, ↓reduceIte, ↓m_7b, ↓bn9 e6, ofNs]
set_option maxRecDepth 8000 in
/-- the model's round, from the far table on -/
theorem m_round2 (h : Lok L) (hW : WM σ ρ) (hP : PM σ) (hF : ∀ p q, p < 7 → q < 7 → σ 1005 (7 * p + q) = Int32.ofNat (T p q)) (hT : tB T) (hN : ρ 43 = Int32.ofNat N) (h8 : N ≤ 8) (hs : s < 256) (hf : cbn s N ≤ 5) (hM : MEM ρ (col s N)) (hB : B < 1000) (hc : c < 6) {pl : Nat} (hpl : ρ (56 + 5 * c + 1) = Int32.ofNat pl) (hpl7 : pl < 7) :
    F_X13_roundOf_L22 fu (some (L.1 1000)) (Int32.ofNat c) (Int32.ofNat s) (Int32.ofNat B) 0 0 (hp L σ) = some (Int32.ofNat (mbest (col s N).1 T (efr ρ (col s N)) (eto ρ (col s N)) (elb ρ (col s N)) B pl), hp L (mL (cM σ (col s N)) (mdp (col s N).1 T (efr ρ (col s N)) (eto ρ (col s N)) (elb ρ (col s N)) B pl) (3 ^ (col s N).1))) := by
  have e0 : hp L σ = hp L (cM σ (0, fun _ => 0)) := by congr 1; funext i k; unfold cM; rw [if_neg (by dsimp only; omega)]
  rw [e0]
  refine ((lpP (Lp := fun g e u => F_X13_roundOf_L22 g (some (L.1 1000)) (Int32.ofNat c) (Int32.ofNat s) (Int32.ofNat B) (Int32.ofNat u.1) (Int32.ofNat e) (hp L (cM σ u))) (st := colS s) (fin := fun u => (aI (hp L (cM σ u)) (some (L.1 1008)) 100 (Int32.ofNat u.1)).bind fun i67 => F_X13_roundOf_L75 fu (some (L.1 1000)) (Int32.ofNat c) (Int32.ofNat B) (Int32.ofNat u.1) (i67 - 1) 0 (hp L (cM σ u))) (N := N) (fun e u => u.1 = cbn s e) (fun f u hu => ?_) (fun f e u he hu => ?_) (fun e u he hu => ?_) N 0 fu (0, fun _ => 0) (by omega) (by unfold fu; omega) rfl).1).trans ?_
  · have hW' : WM (cM σ u) ρ := fun i hi => by rw [cM_ge (by omega)]; exact hW i hi
    simp (discharger := first | assumption | omega | decide) only [x_tg, w_tg, m_tg, ↓reduceIte, Option.bind_some, ↓m_0b, ↓m_1b, ↓m_2b, ↓m_3b, ↓m_4b, ↓m_5b, ↓m_6b, ↓m_7b, ↓m_8b, ↓m_9b, ↓m_10b, ↓m_11b, ↓m_12b, ↓m_13b, ↓m_14b, ↓m_15b, ↓m_16b, ↓m_17b, ↓m_18b, ↓m_19b, ↓m_20b, ↓m_21b, ↓m_22b, ↓m_23b, ↓m_24b, ↓m_25b, ↓m_26b, ↓m_27b, ↓m_28b, ↓m_29b, ↓mp_3b, ↓mp_6b, ↓mp_10b, ↓mp_11b, ↓mp_12b, ↓mp_14b, ↓mp_15b, ↓mp_16b, ↓mp_17b, ↓mp_18b, ↓mp_19b, ↓mp_22b, ↓mp_23b, ↓mp_24b, ↓mp_25b, ↓M_42b, ↓M_43b, ↓M_44b, ↓M_45b, ↓cIs_0b, ↓cIs_1b, ↓cIs_2b, ↓cIs_3b, ↓cIs_4b, ↓eIs_0b, ↓eIs_1b, ↓eIs_2b, ↓eIs_3b, ↓eIs_4b, ↓cIs_nb, ↓eIs_nb, ↓M_rb, ↓M_cAt_0b, ↓M_cAt_1b, ↓M_cAt_2b, ↓M_cAt_3b, ↓M_cAt_4b, ↓M_eAt_0b, ↓M_eAt_1b, ↓M_eAt_2b, ↓M_eAt_3b, ↓M_eAt_4b, ↓M_wAt_0b, ↓M_wAt_1b, cAt_0, cAt_1, cAt_2, cAt_3, cAt_4, eAt_0, eAt_1, eAt_2, eAt_3, eAt_4, wAt_0, wAt_1, cAt_n, eAt_n, wAt_n, F_X13_roundOf_L22, F_X13_roundOf_B22, hN, ofN_le, Nat.le_refl]
  · have hW' : WM (cM σ u) ρ := fun i hi => by rw [cM_ge (by omega)]; exact hW i hi
    have hd : ¬ N ≤ e := by omega
    have hh := has_n s hs e (by omega)
    rw [← hasM] at hh
    unfold colS
    by_cases hb9 : s.testBit e = true
    · have hm := cbn_mono s (show e + 1 ≤ N by omega)
      rw [cbn_succ, if_pos hb9] at hm
      have ew := ms_1007 (σ := cM σ u) (n := u.1) (v := Int32.ofNat e) h (by omega)
      rw [cM_step] at ew
      rw [if_pos hb9]
      rw [hb9] at hh
      simp (discharger := first | assumption | omega | decide) only [x_tg, w_tg, m_tg, ↓reduceIte, Option.bind_some, ↓m_0b, ↓m_1b, ↓m_2b, ↓m_3b, ↓m_4b, ↓m_5b, ↓m_6b, ↓m_7b, ↓m_8b, ↓m_9b, ↓m_10b, ↓m_11b, ↓m_12b, ↓m_13b, ↓m_14b, ↓m_15b, ↓m_16b, ↓m_17b, ↓m_18b, ↓m_19b, ↓m_20b, ↓m_21b, ↓m_22b, ↓m_23b, ↓m_24b, ↓m_25b, ↓m_26b, ↓m_27b, ↓m_28b, ↓m_29b, ↓mp_3b, ↓mp_6b, ↓mp_10b, ↓mp_11b, ↓mp_12b, ↓mp_14b, ↓mp_15b, ↓mp_16b, ↓mp_17b, ↓mp_18b, ↓mp_19b, ↓mp_22b, ↓mp_23b, ↓mp_24b, ↓mp_25b, ↓M_42b, ↓M_43b, ↓M_44b, ↓M_45b, ↓cIs_0b, ↓cIs_1b, ↓cIs_2b, ↓cIs_3b, ↓cIs_4b, ↓eIs_0b, ↓eIs_1b, ↓eIs_2b, ↓eIs_3b, ↓eIs_4b, ↓cIs_nb, ↓eIs_nb, ↓M_rb, ↓M_cAt_0b, ↓M_cAt_1b, ↓M_cAt_2b, ↓M_cAt_3b, ↓M_cAt_4b, ↓M_eAt_0b, ↓M_eAt_1b, ↓M_eAt_2b, ↓M_eAt_3b, ↓M_eAt_4b, ↓M_wAt_0b, ↓M_wAt_1b, cAt_0, cAt_1, cAt_2, cAt_3, cAt_4, eAt_0, eAt_1, eAt_2, eAt_3, eAt_4, wAt_0, wAt_1, cAt_n, eAt_n, wAt_n, F_X13_roundOf_L22, F_X13_roundOf_B22, F_X13_roundOf_J55, hN, ofN_le, hd, hh, ↓bn9 ew, ofNs, show ¬ (1 : Int32) = 0 by decide]
    · rw [if_neg hb9]
      rw [if_neg hb9] at hh
      simp (discharger := first | assumption | omega | decide) only [x_tg, w_tg, m_tg, ↓reduceIte, Option.bind_some, ↓m_0b, ↓m_1b, ↓m_2b, ↓m_3b, ↓m_4b, ↓m_5b, ↓m_6b, ↓m_7b, ↓m_8b, ↓m_9b, ↓m_10b, ↓m_11b, ↓m_12b, ↓m_13b, ↓m_14b, ↓m_15b, ↓m_16b, ↓m_17b, ↓m_18b, ↓m_19b, ↓m_20b, ↓m_21b, ↓m_22b, ↓m_23b, ↓m_24b, ↓m_25b, ↓m_26b, ↓m_27b, ↓m_28b, ↓m_29b, ↓mp_3b, ↓mp_6b, ↓mp_10b, ↓mp_11b, ↓mp_12b, ↓mp_14b, ↓mp_15b, ↓mp_16b, ↓mp_17b, ↓mp_18b, ↓mp_19b, ↓mp_22b, ↓mp_23b, ↓mp_24b, ↓mp_25b, ↓M_42b, ↓M_43b, ↓M_44b, ↓M_45b, ↓cIs_0b, ↓cIs_1b, ↓cIs_2b, ↓cIs_3b, ↓cIs_4b, ↓eIs_0b, ↓eIs_1b, ↓eIs_2b, ↓eIs_3b, ↓eIs_4b, ↓cIs_nb, ↓eIs_nb, ↓M_rb, ↓M_cAt_0b, ↓M_cAt_1b, ↓M_cAt_2b, ↓M_cAt_3b, ↓M_cAt_4b, ↓M_eAt_0b, ↓M_eAt_1b, ↓M_eAt_2b, ↓M_eAt_3b, ↓M_eAt_4b, ↓M_wAt_0b, ↓M_wAt_1b, cAt_0, cAt_1, cAt_2, cAt_3, cAt_4, eAt_0, eAt_1, eAt_2, eAt_3, eAt_4, wAt_0, wAt_1, cAt_n, eAt_n, wAt_n, F_X13_roundOf_L22, F_X13_roundOf_B22, F_X13_roundOf_J55, hN, ofN_le, hd, hh, ofNs]
  · unfold colS
    rw [cbn_succ]
    split <;> simp [hu]
  · show (aI (hp L (cM σ (col s N))) (some (L.1 1008)) 100 (Int32.ofNat (col s N).1)).bind _ = _
    have hk := hM.1
    have hP' : PM (cM σ (col s N)) := fun i hi => by rw [cM_ge (by omega)]; exact hP i hi
    rw [bn9 (m_pw (i := (col s N).1) h hP' (by omega))]
    refine m_init h hM ⟨fun i hi => by rw [cM_ge (by omega)]; exact hW i hi, hP', fun i hi => by unfold cM; rw [if_pos ⟨rfl, hi⟩], fun p q hp9 hq => by rw [cM_ge (by omega)]; exact hF p q hp9 hq⟩ hT hB hc hpl hpl7
end L3m
/-! ### what is kept, abstractly; the two sides' relations to it -/
def up1 (ρ : Rw) (i : Nat) (v : Int32) : Rw := fun j => if j = i then v else ρ j
set_option maxRecDepth 8000 in
theorem up1_same (ρ : Rw) (i : Nat) (v : Int32) : up1 ρ i v i = v := by unfold up1; rw [if_pos rfl]
set_option maxRecDepth 8000 in
theorem up1_ne {ρ : Rw} {i j : Nat} {v : Int32} (h : j ≠ i) : up1 ρ i v j = ρ j := by unfold up1; rw [if_neg h]
/-- the row; what an image keeps; findings; the tape; the sheets: bits, size, numbers -/
abbrev Sg : Type := Rw × Option Rw × (Nat → Int32) × (Nat × (Nat → Nat)) × (Nat → Nat × Nat × (Nat → Int32))
def NC (ρ : Rw) : Nat := nv (ρ 42)
def NE (ρ : Rw) : Nat := nv (ρ 43)
def NWr (ρ : Rw) : Nat := nv (ρ 44)
def kdO (ρ : Rw) (c : Nat) : Nat := nv (ρ (56 + 5 * c + 0))
def plO (ρ : Rw) (c : Nat) : Nat := nv (ρ (56 + 5 * c + 1))
def stO (ρ : Rw) (c : Nat) : Nat := nv (ρ (56 + 5 * c + 2))
def eaO (ρ : Rw) (c : Nat) : Nat := nv (ρ (56 + 5 * c + 3))
def CARf (ρ : Rw) (c : Nat) : Prop := ρ (56 + 5 * c + 0) = Int32.ofNat (kdO ρ c) ∧ ρ (56 + 5 * c + 1) = Int32.ofNat (plO ρ c) ∧ ρ (56 + 5 * c + 2) = Int32.ofNat (stO ρ c) ∧ kdO ρ c < 7 ∧ plO ρ c < 7 ∧ 1 ≤ stO ρ c ∧ stO ρ c ≤ 99
def whoOk (v : Int32) (n : Nat) : Prop := v = -1 ∨ ∃ c, c < n ∧ v = Int32.ofNat c
def ERRf (ρ : Rw) (e : Nat) : Prop := ERR ρ e ∧ (ρ (86 + 5 * e + 3) = 0 ∨ ρ (86 + 5 * e + 3) = 1 ∨ ρ (86 + 5 * e + 3) = 2) ∧ whoOk (ρ (86 + 5 * e + 4)) (NC ρ)
def WARf (ρ : Rw) (w : Nat) : Prop := (∃ v, ρ (126 + 2 * w + 0) = Int32.ofNat v ∧ 1 ≤ v ∧ v ≤ 9999) ∧ whoOk (ρ (126 + 2 * w + 1)) (NC ρ)
def nDone (ρ : Rw) : Nat := cbn (bset (Phow ρ 2) (NE ρ)) 8
def Inv (ρ : Rw) : Prop := (ρ 42 = Int32.ofNat (NC ρ) ∧ NC ρ ≤ 6) ∧ (ρ 43 = Int32.ofNat (NE ρ) ∧ NE ρ ≤ 8) ∧ (ρ 44 = Int32.ofNat (NWr ρ) ∧ NWr ρ ≤ 6) ∧ (∀ c, c < NC ρ → CARf ρ c) ∧ (∀ e, e < NE ρ → ERRf ρ e) ∧ (∀ w, w < NWr ρ → WARf ρ w) ∧ (∀ s, s < 10 → whoOk (ρ (46 + s)) (NC ρ)) ∧ WAY ρ ∧ ∀ c, c < NC ρ → ρ (56 + 5 * c + 3) = Int32.ofNat (eaO ρ c) ∧ eaO ρ c ≤ 1000000 + 66000000 * nDone ρ
/-- scratch of rounds and ways -/
def s1 (i k : Nat) : Bool := i == 11 || (decide (20 ≤ i) && decide (i < 27)) || (decide (30 ≤ i) && decide (i < 37)) || (decide (600 ≤ i) && decide (i < 843)) || (i == 0 && k == 14) || i == 1005 || i == 1006 || i == 1007
def ag (σ σ' : St) : Prop := ∀ i k, s1 i k = false → σ' i k = σ i k
set_option maxRecDepth 8000 in
theorem ag_refl (σ : St) : ag σ σ := fun _ _ _ => rfl
set_option maxRecDepth 8000 in
theorem ag_trans {a b c : St} (h1 : ag a b) (h2 : ag b c) : ag a c := fun i k h => (h2 i k h).trans (h1 i k h)
/-- x's acts leave the model's cells, the model's acts the class's -/
def xf (σ σ' : St) : Prop := ∀ i, 1000 ≤ i → σ' i = σ i
def mf (σ σ' : St) : Prop := ∀ i, i < 1000 ∨ 1016 ≤ i → σ' i = σ i
set_option maxRecDepth 8000 in
theorem xf_refl (σ : St) : xf σ σ := fun _ _ => rfl
set_option maxRecDepth 8000 in
theorem mf_refl (σ : St) : mf σ σ := fun _ _ => rfl
set_option maxRecDepth 8000 in
theorem xf_trans {a b c : St} (h1 : xf a b) (h2 : xf b c) : xf a c := fun i h => (h2 i h).trans (h1 i h)
set_option maxRecDepth 8000 in
theorem mf_trans {a b c : St} (h1 : mf a b) (h2 : mf b c) : mf a c := fun i h => (h2 i h).trans (h1 i h)
set_option maxRecDepth 8000 in
theorem ag_x {σ σ' : St} (h : ag σ σ') {i : Nat} (hi : (40 ≤ i ∧ i < 600) ∨ (1 ≤ i ∧ i < 11) ∨ i = 12 ∨ i = 13 ∨ (1000 ≤ i ∧ i ≠ 1005 ∧ i ≠ 1006 ∧ i ≠ 1007)) : σ' i = σ i := by
  funext k
  apply h
  unfold s1
  simp only [Bool.or_eq_false_iff, Bool.and_eq_false_iff, beq_eq_false_iff_ne, decide_eq_false_iff_not]
  omega
set_option maxRecDepth 8000 in
theorem ag_0 {σ σ' : St} (h : ag σ σ') {k : Nat} (hk : k ≠ 14) : σ' 0 k = σ 0 k := by
  apply h
  unfold s1
  simp only [Bool.or_eq_false_iff, Bool.and_eq_false_iff, beq_eq_false_iff_ne, decide_eq_false_iff_not]
  omega
set_option maxRecDepth 8000 in
theorem WX_ag {σ σ' : St} (h : ag σ σ') {b : Nat} (hb : isW b = true) {ρ : Rw} (hW : WX σ b ρ) : WX σ' b ρ := by
  simp only [isW, Bool.or_eq_true, beq_iff_eq] at hb
  exact WX_congr (fun i h1 h2 => ag_x h (by omega)) hW
set_option maxRecDepth 8000 in
theorem WM_ag {σ σ' : St} (h : ag σ σ') {ρ : Rw} (hW : WM σ ρ) : WM σ' ρ := fun i hi => by rw [ag_x h (by omega)]; exact hW i hi
set_option maxRecDepth 8000 in
theorem CN_ag {σ σ' : St} (h : ag σ σ') (hC : CN σ) : CN σ' := fun k hk => by rw [ag_x h (by omega)]; exact hC k hk
set_option maxRecDepth 8000 in
theorem PX_ag {σ σ' : St} (h : ag σ σ') (hC : PX σ) : PX σ' := fun k hk => by rw [ag_x h (by omega)]; exact hC k hk
set_option maxRecDepth 8000 in
theorem PM_ag {σ σ' : St} (h : ag σ σ') (hC : PM σ) : PM σ' := fun k hk => by rw [ag_x h (by omega)]; exact hC k hk
set_option maxRecDepth 8000 in
theorem s1_x {i k : Nat} (h : s1 i k = false) : i ≠ 11 ∧ ¬ (20 ≤ i ∧ i < 27) ∧ ¬ (30 ≤ i ∧ i < 37) ∧ ¬ (600 ≤ i ∧ i < 843) ∧ ¬ (i = 0 ∧ k = 14) ∧ i ≠ 1005 ∧ i ≠ 1006 ∧ i ≠ 1007 := by
  unfold s1 at h
  simp only [Bool.or_eq_false_iff, Bool.and_eq_false_iff, beq_eq_false_iff_ne, decide_eq_false_iff_not] at h
  omega
set_option maxRecDepth 8000 in
theorem ag_tX {σ : St} {tz z : Nat} (hz : isT tz z) (V : TI) : ag σ (tX σ z V) := by
  intro i k h
  have := s1_x h
  rw [tX_ge (by unfold isT at hz; omega)]
set_option maxRecDepth 8000 in
theorem ag_tM (σ : St) (V : TI) : ag σ (tM σ V) := by
  intro i k h
  have := s1_x h
  rw [tM_ne (by omega)]
set_option maxRecDepth 8000 in
theorem ag_cX (σ : St) (u : Cl) : ag σ (cX σ u) := by
  intro i k h
  have := s1_x h
  unfold cX
  rw [if_neg (by omega), if_neg (by omega)]
set_option maxRecDepth 8000 in
theorem ag_cM (σ : St) (u : Cl) : ag σ (cM σ u) := by
  intro i k h
  have := s1_x h
  rw [cM_ge (by omega)]
set_option maxRecDepth 8000 in
theorem ag_xL {σ : St} {t : Tb} {K : Nat} (hK : K ≤ 243) : ag σ (xL σ t K) := by
  intro i k h
  have := s1_x h
  rw [xL_ge (by omega)]
set_option maxRecDepth 8000 in
theorem ag_mL {σ : St} {t : Tb} {K : Nat} : ag σ (mL σ t K) := by
  intro i k h
  have := s1_x h
  rw [mL_ge (by omega)]
def rnd (ρ : Rw) (c s : Nat) : Nat := (xdp (col s (NE ρ)).1 (FT ρ (kdO ρ c)) (efr ρ (col s (NE ρ))) (eto ρ (col s (NE ρ))) (elb ρ (col s (NE ρ))) (brs (kdO ρ c) (stO ρ c)) (plO ρ c)).2
def oR (n : Nat) : Int32 := if n < 1000000 then Int32.ofNat n else -1
section L3n
variable {L : Lt} {σ : St} {ρ : Rw} {c s e : Nat}
set_option maxRecDepth 8000 in
theorem MEM_col (hI : Inv ρ) (hf : cbn s (NE ρ) ≤ 5) : MEM ρ (col s (NE ρ)) := by
  obtain ⟨c1, c2, _⟩ := col_spec s (NE ρ)
  exact MEM_of (by omega) hI.2.1.2 (fun i hi => (c2 i hi).1) (fun e he => (hI.2.2.2.2.1 e he).1)
set_option maxRecDepth 8000 in
theorem tB_FT (hI : Inv ρ) (kd : Nat) : tB (FT ρ kd) := fun p q hp9 hq => FT_le hI.2.2.2.2.2.2.2.1 hp9 hq
set_option maxRecDepth 8000 in
theorem x_roundOf (h : Lok L) (hW : WX σ 200 ρ) (hI : Inv ρ) (hC : CN σ) (hP : PX σ) (hc : c < NC ρ) (hs : s < 256) (hf : cbn s (NE ρ) ≤ 5) : ∃ σ', F_X0_roundOf (some (L.1 0)) (Int32.ofNat c) (Int32.ofNat s) (hp L σ) = some (oR (rnd ρ c s), hp L σ') ∧ ag σ σ' ∧ xf σ σ' ∧ ∀ p q, p < 7 → q < 7 → σ' (30 + p) q = Int32.ofNat (FT ρ (kdO ρ c) p q) := by
  obtain ⟨k1, k2, k3, k4, k5, k6, k7⟩ := hI.2.2.2.1 c hc
  have hc6 : c < 6 := by have := hI.1.2; omega
  have hw := hI.2.2.2.2.2.2.2.1
  have hM := MEM_col hI hf
  have hK := p3_le hM.1
  have hz : isT 10 30 := Or.inr ⟨rfl, rfl⟩
  have hW1 : WX (cX σ (col s (NE ρ))) 200 ρ := WX_ag (ag_cX _ _) rfl hW
  have hW2 := WX_tX (V := nT (FT ρ (kdO ρ c))) hz (Nat.le_refl 200) hW1
  have hD : DX (tX (cX σ (col s (NE ρ))) 30 (nT (FT ρ (kdO ρ c)))) ρ (FT ρ (kdO ρ c)) (col s (NE ρ)) := by
    refine ⟨hW2, fun i hi => ?_, fun i hi => ?_, ?_, fun p q hp9 hq => ?_⟩
    · rw [tX_ge (by omega), cX_ge (by omega) (by omega)]; exact hP i hi
    · rw [tX_ge (by omega)]; unfold cX; rw [if_pos ⟨rfl, hi⟩]
    · rw [tX_ge (by omega)]; unfold cX; rw [if_neg (by omega), if_pos ⟨rfl, rfl⟩]
    · unfold tX; rw [if_pos (by omega)]; unfold nT; congr 2; omega
  have hC2 : CN (tX (cX σ (col s (NE ρ))) 30 (nT (FT ρ (kdO ρ c)))) := CN_tX hz (CN_ag (ag_cX _ _) hC)
  refine ⟨xL (tX (cX σ (col s (NE ρ))) 30 (nT (FT ρ (kdO ρ c)))) (xdp (col s (NE ρ)).1 (FT ρ (kdO ρ c)) (efr ρ (col s (NE ρ))) (eto ρ (col s (NE ρ))) (elb ρ (col s (NE ρ))) (brs (kdO ρ c) (stO ρ c)) (plO ρ c)).1 (3 ^ (col s (NE ρ)).1), ?_, ag_trans (ag_cX _ _) (ag_trans (ag_tX hz _) (ag_xL hK)), fun i hi => ?_, fun p q hp9 hq => ?_⟩
  · unfold F_X0_roundOf
    rw [if_pos (x_tg h), bn9 (x_collects h hW hI.2.1.1 hI.2.1.2 hs hf), bn9 (x_tellsFor h hW1 hw hc6 k4 k1)]
    exact x_init h hM hD (tB_FT hI _) hC2 hc6 k4 k1 k3 (by omega) k2 k5
  · rw [xL_ge (by omega), tX_ge (by omega), cX_ge (by omega) (by omega)]
  · rw [xL_ge (by omega)]; exact hD.2.2.2.2 p q hp9 hq
set_option maxRecDepth 8000 in
theorem rnd_m (hI : Inv ρ) (hc : c < NC ρ) (hf : cbn s (NE ρ) ≤ 5) : mbest (col s (NE ρ)).1 (FT ρ (kdO ρ c)) (efr ρ (col s (NE ρ))) (eto ρ (col s (NE ρ))) (elb ρ (col s (NE ρ))) (brs (kdO ρ c) (stO ρ c)) (plO ρ c) = rnd ρ c s := by
  obtain ⟨k1, k2, k3, k4, k5, k6, k7⟩ := hI.2.2.2.1 c hc
  have hM := MEM_col hI hf
  have hcl := FT_clo hI.2.2.2.2.2.2.2.1 (kdO ρ c)
  exact (dp_eq hM.1 (fun i hi => (hM.2 i hi).2.2.2.2.2.1) (fun i hi => (hM.2 i hi).2.2.2.2.2.2.1) (fun i hi => (hM.2 i hi).2.2.2.2.2.2.2) k5 hcl.1 hcl.2.1).symm
set_option maxRecDepth 8000 in
theorem m_roundOf (h : Lok L) (hW : WM σ ρ) (hI : Inv ρ) (hP : PM σ) (hc : c < NC ρ) (hs : s < 256) (hf : cbn s (NE ρ) ≤ 5) : ∃ σ', F_X13_roundOf (some (L.1 1000)) (Int32.ofNat c) (Int32.ofNat s) (hp L σ) = some (Int32.ofNat (rnd ρ c s), hp L σ') ∧ ag σ σ' ∧ mf σ σ' ∧ ∀ p q, p < 7 → q < 7 → σ' 1005 (7 * p + q) = Int32.ofNat (FT ρ (kdO ρ c) p q) := by
  obtain ⟨k1, k2, k3, k4, k5, k6, k7⟩ := hI.2.2.2.1 c hc
  have hc6 : c < 6 := by have := hI.1.2; omega
  have hw := hI.2.2.2.2.2.2.2.1
  have hM := MEM_col hI hf
  have hW2 := WM_tM (V := nT (FT ρ (kdO ρ c))) hW
  have hP2 : PM (tM σ (nT (FT ρ (kdO ρ c)))) := PM_ag (ag_tM _ _) hP
  have hbr : brs (kdO ρ c) (stO ρ c) < 1000 := by unfold brs; split; omega; split <;> omega
  have hF : ∀ p q, p < 7 → q < 7 → tM σ (nT (FT ρ (kdO ρ c))) 1005 (7 * p + q) = Int32.ofNat (FT ρ (kdO ρ c) p q) := by
    intro p q hp9 hq
    unfold tM; rw [if_pos (by omega)]; unfold nT; congr 2 <;> omega
  refine ⟨_, ?_, ag_trans (ag_tM _ (nT (FT ρ (kdO ρ c)))) (ag_trans (ag_cM _ (col s (NE ρ))) (ag_mL (t := (mdp (col s (NE ρ)).1 (FT ρ (kdO ρ c)) (efr ρ (col s (NE ρ))) (eto ρ (col s (NE ρ))) (elb ρ (col s (NE ρ))) (brs (kdO ρ c) (stO ρ c)) (plO ρ c))) (K := 3 ^ (col s (NE ρ)).1))), fun i hi => ?_, fun p q hp9 hq => ?_⟩
  · unfold F_X13_roundOf
    rw [if_pos (m_tg h), bn9 (cIs_0 h hW hc6), k1, bn9 (m_findFar h hW hw k4), bn9 (m_bears h hW2 hc6 k4 k1 k3 (by omega)), ← rnd_m hI hc hf]
    exact m_round2 h hW2 hP2 hF (tB_FT hI _) hI.2.1.1 hI.2.1.2 hs hf hM hbr hc6 k2 k5
  · rw [mL_ge (by omega), cM_ge (by omega), tM_ne (by omega)]
  · rw [mL_ge (by omega), cM_ge (by omega)]; exact hF p q hp9 hq
set_option maxRecDepth 8000 in
theorem rnd_le (ρ : Rw) (c s : Nat) : rnd ρ c s ≤ 1000000 := (xdp_best _).1
set_option maxRecDepth 8000 in
theorem rnd_b (hI : Inv ρ) (hc : c < NC ρ) (hf : cbn s (NE ρ) ≤ 5) (h : rnd ρ c s < 1000000) : rnd ρ c s ≤ 253440 := by
  obtain ⟨k1, k2, k3, k4, k5, k6, k7⟩ := hI.2.2.2.1 c hc
  have hM := MEM_col hI hf
  have hcl := FT_clo hI.2.2.2.2.2.2.2.1 (kdO ρ c)
  exact dp_bound hM.1 (fun i hi => (hM.2 i hi).2.2.2.2.2.1) (fun i hi => (hM.2 i hi).2.2.2.2.2.2.1) k5 hcl.2.2.2.2.1 h
set_option maxRecDepth 8000 in
theorem oR_neg {n : Nat} (h : ¬ n < 1000000) : oR n = -1 := by unfold oR; rw [if_neg h]
set_option maxRecDepth 8000 in
theorem oR_pos {n : Nat} (h : n < 1000000) : oR n = Int32.ofNat n := by unfold oR; rw [if_pos h]
set_option maxRecDepth 8000 in
theorem oR_iff {n : Nat} (hn : n ≤ 1000000) : oR n = -1 ↔ n = 1000000 := by
  by_cases h : n < 1000000
  · rw [oR_pos h]
    constructor
    · intro q; exact absurd q (ofN_nm1 (by omega))
    · intro q; omega
  · rw [oR_neg h]
    exact ⟨fun _ => by omega, fun _ => rfl⟩
end L3n
