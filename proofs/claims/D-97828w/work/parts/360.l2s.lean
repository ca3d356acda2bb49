/-! ### sets as naturals -/
def nv (v : Int32) : Nat := v.toNatClampNeg
theorem ofN_or (a b : Nat) : Int32.ofNat a ||| Int32.ofNat b = Int32.ofNat (a ||| b) := by
  apply Int32.toBitVec_inj.mp
  show BitVec.ofNat 32 a ||| BitVec.ofNat 32 b = BitVec.ofNat 32 (a ||| b)
  apply BitVec.eq_of_toNat_eq
  simp only [BitVec.toNat_or, BitVec.toNat_ofNat]
  exact (Nat.or_mod_two_pow).symm
theorem sh_n : ∀ e, e < 8 → (1 : Int32) <<< (Int32.ofNat e &&& 31) = Int32.ofNat (2 ^ e) := by decide +kernel
theorem has_n : ∀ s, s < 256 → ∀ e, e < 8 → F_X0_has (Int32.ofNat s) (Int32.ofNat e) = if s.testBit e then 1 else 0 := by decide +kernel
theorem hasM (a b : Int32) : F_X13_has a b = F_X0_has a b := rfl
def bS (P : Nat → Bool) (e a : Nat) : Nat := a ||| if P e then 2 ^ e else 0
def bset (P : Nat → Bool) (N : Nat) : Nat := itF (bS P) 0 N 0
theorem bset_spec (P : Nat → Bool) (N : Nat) : bset P N < 2 ^ N ∧ ∀ e, (bset P N).testBit e = (decide (e < N) && P e) := by
  refine itF_inv0 (f := bS P) (fun n s => s < 2 ^ n ∧ ∀ e, s.testBit e = (decide (e < n) && P e)) N 0 ⟨by decide, fun e => by simp⟩ ?_
  intro n s hn ⟨h1, h2⟩
  unfold bS
  refine ⟨?_, fun e => ?_⟩
  · apply Nat.or_lt_two_pow
    · rw [Nat.pow_succ]; omega
    · split
      · exact Nat.pow_lt_pow_right (by decide) (by omega)
      · exact Nat.pow_pos (by decide)
  · rw [Nat.testBit_or, h2 e]
    by_cases hP : P n = true
    · rw [if_pos hP, Nat.testBit_two_pow]
      by_cases he : n = e
      · subst he; simp [hP]
      · by_cases h3 : e < n
        · simp [he, h3, show e < n + 1 by omega]
        · simp [he, h3, show ¬ e < n + 1 by omega]
    · rw [if_neg hP, Nat.zero_testBit, Bool.or_false]
      by_cases he : e = n
      · subst he; simp [hP]
      · by_cases h3 : e < n
        · simp [h3, show e < n + 1 by omega]
        · simp [h3, show ¬ e < n + 1 by omega]
theorem bset_lt8 {P : Nat → Bool} {N : Nat} (h : N ≤ 8) : bset P N < 256 := Nat.lt_of_lt_of_le (bset_spec P N).1 (Nat.le_trans (Nat.pow_le_pow_right (by decide) h) (by decide))
def Pcar (ρ : Rw) (c : Int32) (e : Nat) : Bool := decide (ρ (86 + 5 * e + 3) = 1 ∧ ρ (86 + 5 * e + 4) = c)
def Phow (ρ : Rw) (h : Int32) (e : Nat) : Bool := decide (ρ (86 + 5 * e + 3) = h)
section L2s
variable {L : Lt} {σ : St} {b N : Nat} {ρ : Rw}
theorem x_carriedBy9 (h : Lok L) (hb : isW b = true) (hW : WX σ b ρ) (hN : ρ 43 = Int32.ofNat N) (h8 : N ≤ 8) (c : Int32) : F_X4_carriedBy (some (L.1 b)) c (hp L σ) = some (Int32.ofNat (bset (Pcar ρ c) N)) := by
  unfold F_X4_carriedBy
  simp (discharger := first | assumption | omega | decide) only [x_tg, w_tg, m_tg, ↓reduceIte, Option.bind_some, ↓x_0b, ↓x_1b, ↓x_2b, ↓x_3b, ↓x_4b, ↓x_5b, ↓x_6b, ↓x_7b, ↓x_8b, ↓x_9b, ↓x_10b, ↓x_11b, ↓x_12b, ↓x_13b, ↓x_14b, ↓x_15b, ↓x_16b, ↓x_17b, ↓x_18b, ↓x_19b, ↓xp_2b, ↓xp_6b, ↓xp_14b, ↓xp_17b, ↓xp_18b, ↓xp_19b, ↓X_f0b, ↓X_f2b, ↓X_f4b, ↓X_f8b, ↓wf_1b, ↓wf_3b, ↓wf_5b, ↓wf_6b, ↓wf_7b, ↓wf_9b, ↓wt_1_0b, ↓wt_1_1b, ↓wt_1_2b, ↓wt_1_3b, ↓wt_1_4b, ↓wt_11_0b, ↓wt_11_1b, ↓wt_11_2b, ↓wt_11_3b, ↓wt_11_4b, ↓wt_21_0b, ↓wt_21_1b, ↓wt_31_0b, ↓wt_31_1b, ↓wt_31_2b, ↓wt_31_3b, ↓wt_31_4b, ↓wt_31_5b, ↓wt_31_6b, ↓wt_41_0b, ↓wt_41_1b, ↓wt_41_2b, ↓wt_41_3b, ↓wt_41_4b, ↓wt_41_5b, ↓wt_41_6b, ↓wt_1b, ↓wt_11b, ↓wt_21b, ↓wt_31b, ↓wt_41b, ↓X_c0b, ↓X_c1b, ↓X_c2b, ↓X_c3b, ↓X_c4b, ↓X_e0b, ↓X_e1b, ↓X_e2b, ↓X_e3b, ↓X_e4b, ↓X_cb, ↓X_eb, ↓X_w0b, ↓X_w1b, ↓X_hb, ↓X_yb, ↓X_rb, ↓wp_0b, ↓wp_2b, ↓wp_4b, ↓wp_8b, ↓ws_2b, ↓ws_3b, ↓ws_4b, ↓ws_5b, ↓ws_6b, ↓ws_12b, ↓ws_13b, ↓ws_14b, ↓ws_15b, ↓ws_16b, ↓ws_22b, ↓ws_23b, ↓ws_51b, ↓wS_yb, ↓wS_rb, ↓wS_cb, ↓wS_eb]
  refine lpF (Lp := fun f j a => F_X4_carriedBy_L4 f (some (L.1 b)) c (Int32.ofNat a) (Int32.ofNat j) (hp L σ)) (st := bS (Pcar ρ c)) (fin := fun a => some (Int32.ofNat a)) (N := N) (fun f a => ?_) (fun f j a hj => ?_) (by unfold fu; omega) 0
  · simp (discharger := first | assumption | omega | decide) only [x_tg, w_tg, m_tg, ↓reduceIte, Option.bind_some, ↓x_0b, ↓x_1b, ↓x_2b, ↓x_3b, ↓x_4b, ↓x_5b, ↓x_6b, ↓x_7b, ↓x_8b, ↓x_9b, ↓x_10b, ↓x_11b, ↓x_12b, ↓x_13b, ↓x_14b, ↓x_15b, ↓x_16b, ↓x_17b, ↓x_18b, ↓x_19b, ↓xp_2b, ↓xp_6b, ↓xp_14b, ↓xp_17b, ↓xp_18b, ↓xp_19b, ↓X_f0b, ↓X_f2b, ↓X_f4b, ↓X_f8b, ↓wf_1b, ↓wf_3b, ↓wf_5b, ↓wf_6b, ↓wf_7b, ↓wf_9b, ↓wt_1_0b, ↓wt_1_1b, ↓wt_1_2b, ↓wt_1_3b, ↓wt_1_4b, ↓wt_11_0b, ↓wt_11_1b, ↓wt_11_2b, ↓wt_11_3b, ↓wt_11_4b, ↓wt_21_0b, ↓wt_21_1b, ↓wt_31_0b, ↓wt_31_1b, ↓wt_31_2b, ↓wt_31_3b, ↓wt_31_4b, ↓wt_31_5b, ↓wt_31_6b, ↓wt_41_0b, ↓wt_41_1b, ↓wt_41_2b, ↓wt_41_3b, ↓wt_41_4b, ↓wt_41_5b, ↓wt_41_6b, ↓wt_1b, ↓wt_11b, ↓wt_21b, ↓wt_31b, ↓wt_41b, ↓X_c0b, ↓X_c1b, ↓X_c2b, ↓X_c3b, ↓X_c4b, ↓X_e0b, ↓X_e1b, ↓X_e2b, ↓X_e3b, ↓X_e4b, ↓X_cb, ↓X_eb, ↓X_w0b, ↓X_w1b, ↓X_hb, ↓X_yb, ↓X_rb, ↓wp_0b, ↓wp_2b, ↓wp_4b, ↓wp_8b, ↓ws_2b, ↓ws_3b, ↓ws_4b, ↓ws_5b, ↓ws_6b, ↓ws_12b, ↓ws_13b, ↓ws_14b, ↓ws_15b, ↓ws_16b, ↓ws_22b, ↓ws_23b, ↓ws_51b, ↓wS_yb, ↓wS_rb, ↓wS_cb, ↓wS_eb, F_X4_carriedBy_J44, F_X4_carriedBy_J43, F_X4_carriedBy_B4, F_X4_carriedBy_L4, F_X4_carriedBy, hN, ofN_le, Nat.le_refl]
  · have hd : ¬ N ≤ j := by omega
    simp (discharger := first | assumption | omega | decide) only [x_tg, w_tg, m_tg, ↓reduceIte, Option.bind_some, ↓x_0b, ↓x_1b, ↓x_2b, ↓x_3b, ↓x_4b, ↓x_5b, ↓x_6b, ↓x_7b, ↓x_8b, ↓x_9b, ↓x_10b, ↓x_11b, ↓x_12b, ↓x_13b, ↓x_14b, ↓x_15b, ↓x_16b, ↓x_17b, ↓x_18b, ↓x_19b, ↓xp_2b, ↓xp_6b, ↓xp_14b, ↓xp_17b, ↓xp_18b, ↓xp_19b, ↓X_f0b, ↓X_f2b, ↓X_f4b, ↓X_f8b, ↓wf_1b, ↓wf_3b, ↓wf_5b, ↓wf_6b, ↓wf_7b, ↓wf_9b, ↓wt_1_0b, ↓wt_1_1b, ↓wt_1_2b, ↓wt_1_3b, ↓wt_1_4b, ↓wt_11_0b, ↓wt_11_1b, ↓wt_11_2b, ↓wt_11_3b, ↓wt_11_4b, ↓wt_21_0b, ↓wt_21_1b, ↓wt_31_0b, ↓wt_31_1b, ↓wt_31_2b, ↓wt_31_3b, ↓wt_31_4b, ↓wt_31_5b, ↓wt_31_6b, ↓wt_41_0b, ↓wt_41_1b, ↓wt_41_2b, ↓wt_41_3b, ↓wt_41_4b, ↓wt_41_5b, ↓wt_41_6b, ↓wt_1b, ↓wt_11b, ↓wt_21b, ↓wt_31b, ↓wt_41b, ↓X_c0b, ↓X_c1b, ↓X_c2b, ↓X_c3b, ↓X_c4b, ↓X_e0b, ↓X_e1b, ↓X_e2b, ↓X_e3b, ↓X_e4b, ↓X_cb, ↓X_eb, ↓X_w0b, ↓X_w1b, ↓X_hb, ↓X_yb, ↓X_rb, ↓wp_0b, ↓wp_2b, ↓wp_4b, ↓wp_8b, ↓ws_2b, ↓ws_3b, ↓ws_4b, ↓ws_5b, ↓ws_6b, ↓ws_12b, ↓ws_13b, ↓ws_14b, ↓ws_15b, ↓ws_16b, ↓ws_22b, ↓ws_23b, ↓ws_51b, ↓wS_yb, ↓wS_rb, ↓wS_cb, ↓wS_eb, F_X4_carriedBy_J44, F_X4_carriedBy_J43, F_X4_carriedBy_B4, F_X4_carriedBy_L4, F_X4_carriedBy, hN, ofN_le, hd, ofNs, sh_n]
    by_cases h1 : ρ (86 + 5 * j + 3) = 1 <;> by_cases h2 : ρ (86 + 5 * j + 4) = c <;> simp [h1, h2, bS, Pcar, ← ofN_or]
theorem m_carries (h : Lok L) (hM : WM σ ρ) (hN : ρ 43 = Int32.ofNat N) (h8 : N ≤ 8) (c : Int32) : F_X13_carries (some (L.1 1000)) c (hp L σ) = some (Int32.ofNat (bset (Pcar ρ c) N)) := by
  unfold F_X13_carries
  simp (discharger := first | assumption | omega | decide) only [x_tg, w_tg, m_tg, ↓reduceIte, Option.bind_some, ↓m_0b, ↓m_1b, ↓m_2b, ↓m_3b, ↓m_4b, ↓m_5b, ↓m_6b, ↓m_7b, ↓m_8b, ↓m_9b, ↓m_10b, ↓m_11b, ↓m_12b, ↓m_13b, ↓m_14b, ↓m_15b, ↓m_16b, ↓m_17b, ↓m_18b, ↓m_19b, ↓m_20b, ↓m_21b, ↓m_22b, ↓m_23b, ↓m_24b, ↓m_25b, ↓m_26b, ↓m_27b, ↓m_28b, ↓m_29b, ↓mp_3b, ↓mp_6b, ↓mp_10b, ↓mp_11b, ↓mp_12b, ↓mp_14b, ↓mp_15b, ↓mp_16b, ↓mp_17b, ↓mp_18b, ↓mp_19b, ↓mp_22b, ↓mp_23b, ↓mp_24b, ↓mp_25b, ↓M_42b, ↓M_43b, ↓M_44b, ↓M_45b, ↓cIs_0b, ↓cIs_1b, ↓cIs_2b, ↓cIs_3b, ↓cIs_4b, ↓eIs_0b, ↓eIs_1b, ↓eIs_2b, ↓eIs_3b, ↓eIs_4b, ↓cIs_nb, ↓eIs_nb, ↓M_rb, ↓M_cAt_0b, ↓M_cAt_1b, ↓M_cAt_2b, ↓M_cAt_3b, ↓M_cAt_4b, ↓M_eAt_0b, ↓M_eAt_1b, ↓M_eAt_2b, ↓M_eAt_3b, ↓M_eAt_4b, ↓M_wAt_0b, ↓M_wAt_1b, cAt_0, cAt_1, cAt_2, cAt_3, cAt_4, eAt_0, eAt_1, eAt_2, eAt_3, eAt_4, wAt_0, wAt_1, cAt_n, eAt_n, wAt_n]
  refine lpF (Lp := fun f j a => F_X13_carries_L4 f (some (L.1 1000)) c (Int32.ofNat a) (Int32.ofNat j) (hp L σ)) (st := bS (Pcar ρ c)) (fin := fun a => some (Int32.ofNat a)) (N := N) (fun f a => ?_) (fun f j a hj => ?_) (by unfold fu; omega) 0
  · simp (discharger := first | assumption | omega | decide) only [x_tg, w_tg, m_tg, ↓reduceIte, Option.bind_some, ↓m_0b, ↓m_1b, ↓m_2b, ↓m_3b, ↓m_4b, ↓m_5b, ↓m_6b, ↓m_7b, ↓m_8b, ↓m_9b, ↓m_10b, ↓m_11b, ↓m_12b, ↓m_13b, ↓m_14b, ↓m_15b, ↓m_16b, ↓m_17b, ↓m_18b, ↓m_19b, ↓m_20b, ↓m_21b, ↓m_22b, ↓m_23b, ↓m_24b, ↓m_25b, ↓m_26b, ↓m_27b, ↓m_28b, ↓m_29b, ↓mp_3b, ↓mp_6b, ↓mp_10b, ↓mp_11b, ↓mp_12b, ↓mp_14b, ↓mp_15b, ↓mp_16b, ↓mp_17b, ↓mp_18b, ↓mp_19b, ↓mp_22b, ↓mp_23b, ↓mp_24b, ↓mp_25b, ↓M_42b, ↓M_43b, ↓M_44b, ↓M_45b, ↓cIs_0b, ↓cIs_1b, ↓cIs_2b, ↓cIs_3b, ↓cIs_4b, ↓eIs_0b, ↓eIs_1b, ↓eIs_2b, ↓eIs_3b, ↓eIs_4b, ↓cIs_nb, ↓eIs_nb, ↓M_rb, ↓M_cAt_0b, ↓M_cAt_1b, ↓M_cAt_2b, ↓M_cAt_3b, ↓M_cAt_4b, ↓M_eAt_0b, ↓M_eAt_1b, ↓M_eAt_2b, ↓M_eAt_3b, ↓M_eAt_4b, ↓M_wAt_0b, ↓M_wAt_1b, cAt_0, cAt_1, cAt_2, cAt_3, cAt_4, eAt_0, eAt_1, eAt_2, eAt_3, eAt_4, wAt_0, wAt_1, cAt_n, eAt_n, wAt_n, F_X13_carries_J43, F_X13_carries_J42, F_X13_carries_B4, F_X13_carries_L4, F_X13_carries, hN, ofN_le, Nat.le_refl]
  · have hd : ¬ N ≤ j := by omega
    simp (discharger := first | assumption | omega | decide) only [x_tg, w_tg, m_tg, ↓reduceIte, Option.bind_some, ↓m_0b, ↓m_1b, ↓m_2b, ↓m_3b, ↓m_4b, ↓m_5b, ↓m_6b, ↓m_7b, ↓m_8b, ↓m_9b, ↓m_10b, ↓m_11b, ↓m_12b, ↓m_13b, ↓m_14b, ↓m_15b, ↓m_16b, ↓m_17b, ↓m_18b, ↓m_19b, ↓m_20b, ↓m_21b, ↓m_22b, ↓m_23b, ↓m_24b, ↓m_25b, ↓m_26b, ↓m_27b, ↓m_28b, ↓m_29b, ↓mp_3b, ↓mp_6b, ↓mp_10b, ↓mp_11b, ↓mp_12b, ↓mp_14b, ↓mp_15b, ↓mp_16b, ↓mp_17b, ↓mp_18b, ↓mp_19b, ↓mp_22b, ↓mp_23b, ↓mp_24b, ↓mp_25b, ↓M_42b, ↓M_43b, ↓M_44b, ↓M_45b, ↓cIs_0b, ↓cIs_1b, ↓cIs_2b, ↓cIs_3b, ↓cIs_4b, ↓eIs_0b, ↓eIs_1b, ↓eIs_2b, ↓eIs_3b, ↓eIs_4b, ↓cIs_nb, ↓eIs_nb, ↓M_rb, ↓M_cAt_0b, ↓M_cAt_1b, ↓M_cAt_2b, ↓M_cAt_3b, ↓M_cAt_4b, ↓M_eAt_0b, ↓M_eAt_1b, ↓M_eAt_2b, ↓M_eAt_3b, ↓M_eAt_4b, ↓M_wAt_0b, ↓M_wAt_1b, cAt_0, cAt_1, cAt_2, cAt_3, cAt_4, eAt_0, eAt_1, eAt_2, eAt_3, eAt_4, wAt_0, wAt_1, cAt_n, eAt_n, wAt_n, F_X13_carries_J43, F_X13_carries_J42, F_X13_carries_B4, F_X13_carries_L4, F_X13_carries, hN, ofN_le, hd, ofNs, sh_n]
    by_cases h1 : ρ (86 + 5 * j + 3) = 1 <;> by_cases h2 : ρ (86 + 5 * j + 4) = c <;> simp [h1, h2, bS, Pcar, ← ofN_or]
theorem x_being (h : Lok L) (hb : isW b = true) (hW : WX σ b ρ) (hN : ρ 43 = Int32.ofNat N) (h8 : N ≤ 8) (c : Int32) : F_X4_being (some (L.1 b)) c (hp L σ) = some (Int32.ofNat (bset (Phow ρ c) N)) := by
  unfold F_X4_being
  simp (discharger := first | assumption | omega | decide) only [x_tg, w_tg, m_tg, ↓reduceIte, Option.bind_some, ↓x_0b, ↓x_1b, ↓x_2b, ↓x_3b, ↓x_4b, ↓x_5b, ↓x_6b, ↓x_7b, ↓x_8b, ↓x_9b, ↓x_10b, ↓x_11b, ↓x_12b, ↓x_13b, ↓x_14b, ↓x_15b, ↓x_16b, ↓x_17b, ↓x_18b, ↓x_19b, ↓xp_2b, ↓xp_6b, ↓xp_14b, ↓xp_17b, ↓xp_18b, ↓xp_19b, ↓X_f0b, ↓X_f2b, ↓X_f4b, ↓X_f8b, ↓wf_1b, ↓wf_3b, ↓wf_5b, ↓wf_6b, ↓wf_7b, ↓wf_9b, ↓wt_1_0b, ↓wt_1_1b, ↓wt_1_2b, ↓wt_1_3b, ↓wt_1_4b, ↓wt_11_0b, ↓wt_11_1b, ↓wt_11_2b, ↓wt_11_3b, ↓wt_11_4b, ↓wt_21_0b, ↓wt_21_1b, ↓wt_31_0b, ↓wt_31_1b, ↓wt_31_2b, ↓wt_31_3b, ↓wt_31_4b, ↓wt_31_5b, ↓wt_31_6b, ↓wt_41_0b, ↓wt_41_1b, ↓wt_41_2b, ↓wt_41_3b, ↓wt_41_4b, ↓wt_41_5b, ↓wt_41_6b, ↓wt_1b, ↓wt_11b, ↓wt_21b, ↓wt_31b, ↓wt_41b, ↓X_c0b, ↓X_c1b, ↓X_c2b, ↓X_c3b, ↓X_c4b, ↓X_e0b, ↓X_e1b, ↓X_e2b, ↓X_e3b, ↓X_e4b, ↓X_cb, ↓X_eb, ↓X_w0b, ↓X_w1b, ↓X_hb, ↓X_yb, ↓X_rb, ↓wp_0b, ↓wp_2b, ↓wp_4b, ↓wp_8b, ↓ws_2b, ↓ws_3b, ↓ws_4b, ↓ws_5b, ↓ws_6b, ↓ws_12b, ↓ws_13b, ↓ws_14b, ↓ws_15b, ↓ws_16b, ↓ws_22b, ↓ws_23b, ↓ws_51b, ↓wS_yb, ↓wS_rb, ↓wS_cb, ↓wS_eb]
  refine lpF (Lp := fun f j a => F_X4_being_L4 f (some (L.1 b)) c (Int32.ofNat a) (Int32.ofNat j) (hp L σ)) (st := bS (Phow ρ c)) (fin := fun a => some (Int32.ofNat a)) (N := N) (fun f a => ?_) (fun f j a hj => ?_) (by unfold fu; omega) 0
  · simp (discharger := first | assumption | omega | decide) only [x_tg, w_tg, m_tg, ↓reduceIte, Option.bind_some, ↓x_0b, ↓x_1b, ↓x_2b, ↓x_3b, ↓x_4b, ↓x_5b, ↓x_6b, ↓x_7b, ↓x_8b, ↓x_9b, ↓x_10b, ↓x_11b, ↓x_12b, ↓x_13b, ↓x_14b, ↓x_15b, ↓x_16b, ↓x_17b, ↓x_18b, ↓x_19b, ↓xp_2b, ↓xp_6b, ↓xp_14b, ↓xp_17b, ↓xp_18b, ↓xp_19b, ↓X_f0b, ↓X_f2b, ↓X_f4b, ↓X_f8b, ↓wf_1b, ↓wf_3b, ↓wf_5b, ↓wf_6b, ↓wf_7b, ↓wf_9b, ↓wt_1_0b, ↓wt_1_1b, ↓wt_1_2b, ↓wt_1_3b, ↓wt_1_4b, ↓wt_11_0b, ↓wt_11_1b, ↓wt_11_2b, ↓wt_11_3b, ↓wt_11_4b, ↓wt_21_0b, ↓wt_21_1b, ↓wt_31_0b, ↓wt_31_1b, ↓wt_31_2b, ↓wt_31_3b, ↓wt_31_4b, ↓wt_31_5b, ↓wt_31_6b, ↓wt_41_0b, ↓wt_41_1b, ↓wt_41_2b, ↓wt_41_3b, ↓wt_41_4b, ↓wt_41_5b, ↓wt_41_6b, ↓wt_1b, ↓wt_11b, ↓wt_21b, ↓wt_31b, ↓wt_41b, ↓X_c0b, ↓X_c1b, ↓X_c2b, ↓X_c3b, ↓X_c4b, ↓X_e0b, ↓X_e1b, ↓X_e2b, ↓X_e3b, ↓X_e4b, ↓X_cb, ↓X_eb, ↓X_w0b, ↓X_w1b, ↓X_hb, ↓X_yb, ↓X_rb, ↓wp_0b, ↓wp_2b, ↓wp_4b, ↓wp_8b, ↓ws_2b, ↓ws_3b, ↓ws_4b, ↓ws_5b, ↓ws_6b, ↓ws_12b, ↓ws_13b, ↓ws_14b, ↓ws_15b, ↓ws_16b, ↓ws_22b, ↓ws_23b, ↓ws_51b, ↓wS_yb, ↓wS_rb, ↓wS_cb, ↓wS_eb, F_X4_being_J32, F_X4_being_B4, F_X4_being_L4, F_X4_being, hN, ofN_le, Nat.le_refl]
  · have hd : ¬ N ≤ j := by omega
    simp (discharger := first | assumption | omega | decide) only [x_tg, w_tg, m_tg, ↓reduceIte, Option.bind_some, ↓x_0b, ↓x_1b, ↓x_2b, ↓x_3b, ↓x_4b, ↓x_5b, ↓x_6b, ↓x_7b, ↓x_8b, ↓x_9b, ↓x_10b, ↓x_11b, ↓x_12b, ↓x_13b, ↓x_14b, ↓x_15b, ↓x_16b, ↓x_17b, ↓x_18b, ↓x_19b, ↓xp_2b, ↓xp_6b, ↓xp_14b, ↓xp_17b, ↓xp_18b, ↓xp_19b, ↓X_f0b, ↓X_f2b, ↓X_f4b, ↓X_f8b, ↓wf_1b, ↓wf_3b, ↓wf_5b, ↓wf_6b, ↓wf_7b, ↓wf_9b, ↓wt_1_0b, ↓wt_1_1b, ↓wt_1_2b, ↓wt_1_3b, ↓wt_1_4b, ↓wt_11_0b, ↓wt_11_1b, ↓wt_11_2b, ↓wt_11_3b, ↓wt_11_4b, ↓wt_21_0b, ↓wt_21_1b, ↓wt_31_0b, ↓wt_31_1b, ↓wt_31_2b, ↓wt_31_3b, ↓wt_31_4b, ↓wt_31_5b, ↓wt_31_6b, ↓wt_41_0b, ↓wt_41_1b, ↓wt_41_2b, ↓wt_41_3b, ↓wt_41_4b, ↓wt_41_5b, ↓wt_41_6b, ↓wt_1b, ↓wt_11b, ↓wt_21b, ↓wt_31b, ↓wt_41b, ↓X_c0b, ↓X_c1b, ↓X_c2b, ↓X_c3b, ↓X_c4b, ↓X_e0b, ↓X_e1b, ↓X_e2b, ↓X_e3b, ↓X_e4b, ↓X_cb, ↓X_eb, ↓X_w0b, ↓X_w1b, ↓X_hb, ↓X_yb, ↓X_rb, ↓wp_0b, ↓wp_2b, ↓wp_4b, ↓wp_8b, ↓ws_2b, ↓ws_3b, ↓ws_4b, ↓ws_5b, ↓ws_6b, ↓ws_12b, ↓ws_13b, ↓ws_14b, ↓ws_15b, ↓ws_16b, ↓ws_22b, ↓ws_23b, ↓ws_51b, ↓wS_yb, ↓wS_rb, ↓wS_cb, ↓wS_eb, F_X4_being_J32, F_X4_being_B4, F_X4_being_L4, F_X4_being, hN, ofN_le, hd, ofNs, sh_n]
    by_cases h1 : ρ (86 + 5 * j + 3) = c <;> simp [h1, bS, Phow, ← ofN_or]
theorem m_errandsThat (h : Lok L) (hM : WM σ ρ) (hN : ρ 43 = Int32.ofNat N) (h8 : N ≤ 8) (c : Int32) : F_X13_errandsThat (some (L.1 1000)) c (hp L σ) = some (Int32.ofNat (bset (Phow ρ c) N)) := by
  unfold F_X13_errandsThat
  simp (discharger := first | assumption | omega | decide) only [x_tg, w_tg, m_tg, ↓reduceIte, Option.bind_some, ↓m_0b, ↓m_1b, ↓m_2b, ↓m_3b, ↓m_4b, ↓m_5b, ↓m_6b, ↓m_7b, ↓m_8b, ↓m_9b, ↓m_10b, ↓m_11b, ↓m_12b, ↓m_13b, ↓m_14b, ↓m_15b, ↓m_16b, ↓m_17b, ↓m_18b, ↓m_19b, ↓m_20b, ↓m_21b, ↓m_22b, ↓m_23b, ↓m_24b, ↓m_25b, ↓m_26b, ↓m_27b, ↓m_28b, ↓m_29b, ↓mp_3b, ↓mp_6b, ↓mp_10b, ↓mp_11b, ↓mp_12b, ↓mp_14b, ↓mp_15b, ↓mp_16b, ↓mp_17b, ↓mp_18b, ↓mp_19b, ↓mp_22b, ↓mp_23b, ↓mp_24b, ↓mp_25b, ↓M_42b, ↓M_43b, ↓M_44b, ↓M_45b, ↓cIs_0b, ↓cIs_1b, ↓cIs_2b, ↓cIs_3b, ↓cIs_4b, ↓eIs_0b, ↓eIs_1b, ↓eIs_2b, ↓eIs_3b, ↓eIs_4b, ↓cIs_nb, ↓eIs_nb, ↓M_rb, ↓M_cAt_0b, ↓M_cAt_1b, ↓M_cAt_2b, ↓M_cAt_3b, ↓M_cAt_4b, ↓M_eAt_0b, ↓M_eAt_1b, ↓M_eAt_2b, ↓M_eAt_3b, ↓M_eAt_4b, ↓M_wAt_0b, ↓M_wAt_1b, cAt_0, cAt_1, cAt_2, cAt_3, cAt_4, eAt_0, eAt_1, eAt_2, eAt_3, eAt_4, wAt_0, wAt_1, cAt_n, eAt_n, wAt_n]
  refine lpF (Lp := fun f j a => F_X13_errandsThat_L4 f (some (L.1 1000)) c (Int32.ofNat a) (Int32.ofNat j) (hp L σ)) (st := bS (Phow ρ c)) (fin := fun a => some (Int32.ofNat a)) (N := N) (fun f a => ?_) (fun f j a hj => ?_) (by unfold fu; omega) 0
  · simp (discharger := first | assumption | omega | decide) only [x_tg, w_tg, m_tg, ↓reduceIte, Option.bind_some, ↓m_0b, ↓m_1b, ↓m_2b, ↓m_3b, ↓m_4b, ↓m_5b, ↓m_6b, ↓m_7b, ↓m_8b, ↓m_9b, ↓m_10b, ↓m_11b, ↓m_12b, ↓m_13b, ↓m_14b, ↓m_15b, ↓m_16b, ↓m_17b, ↓m_18b, ↓m_19b, ↓m_20b, ↓m_21b, ↓m_22b, ↓m_23b, ↓m_24b, ↓m_25b, ↓m_26b, ↓m_27b, ↓m_28b, ↓m_29b, ↓mp_3b, ↓mp_6b, ↓mp_10b, ↓mp_11b, ↓mp_12b, ↓mp_14b, ↓mp_15b, ↓mp_16b, ↓mp_17b, ↓mp_18b, ↓mp_19b, ↓mp_22b, ↓mp_23b, ↓mp_24b, ↓mp_25b, ↓M_42b, ↓M_43b, ↓M_44b, ↓M_45b, ↓cIs_0b, ↓cIs_1b, ↓cIs_2b, ↓cIs_3b, ↓cIs_4b, ↓eIs_0b, ↓eIs_1b, ↓eIs_2b, ↓eIs_3b, ↓eIs_4b, ↓cIs_nb, ↓eIs_nb, ↓M_rb, ↓M_cAt_0b, ↓M_cAt_1b, ↓M_cAt_2b, ↓M_cAt_3b, ↓M_cAt_4b, ↓M_eAt_0b, ↓M_eAt_1b, ↓M_eAt_2b, ↓M_eAt_3b, ↓M_eAt_4b, ↓M_wAt_0b, ↓M_wAt_1b, cAt_0, cAt_1, cAt_2, cAt_3, cAt_4, eAt_0, eAt_1, eAt_2, eAt_3, eAt_4, wAt_0, wAt_1, cAt_n, eAt_n, wAt_n, F_X13_errandsThat_J33, F_X13_errandsThat_B4, F_X13_errandsThat_L4, F_X13_errandsThat, hN, ofN_le, Nat.le_refl]
  · have hd : ¬ N ≤ j := by omega
    simp (discharger := first | assumption | omega | decide) only [x_tg, w_tg, m_tg, ↓reduceIte, Option.bind_some, ↓m_0b, ↓m_1b, ↓m_2b, ↓m_3b, ↓m_4b, ↓m_5b, ↓m_6b, ↓m_7b, ↓m_8b, ↓m_9b, ↓m_10b, ↓m_11b, ↓m_12b, ↓m_13b, ↓m_14b, ↓m_15b, ↓m_16b, ↓m_17b, ↓m_18b, ↓m_19b, ↓m_20b, ↓m_21b, ↓m_22b, ↓m_23b, ↓m_24b, ↓m_25b, ↓m_26b, ↓m_27b, ↓m_28b, ↓m_29b, ↓mp_3b, ↓mp_6b, ↓mp_10b, ↓mp_11b, ↓mp_12b, ↓mp_14b, ↓mp_15b, ↓mp_16b, ↓mp_17b, ↓mp_18b, ↓mp_19b, ↓mp_22b, ↓mp_23b, ↓mp_24b, ↓mp_25b, ↓M_42b, ↓M_43b, ↓M_44b, ↓M_45b, ↓cIs_0b, ↓cIs_1b, ↓cIs_2b, ↓cIs_3b, ↓cIs_4b, ↓eIs_0b, ↓eIs_1b, ↓eIs_2b, ↓eIs_3b, ↓eIs_4b, ↓cIs_nb, ↓eIs_nb, ↓M_rb, ↓M_cAt_0b, ↓M_cAt_1b, ↓M_cAt_2b, ↓M_cAt_3b, ↓M_cAt_4b, ↓M_eAt_0b, ↓M_eAt_1b, ↓M_eAt_2b, ↓M_eAt_3b, ↓M_eAt_4b, ↓M_wAt_0b, ↓M_wAt_1b, cAt_0, cAt_1, cAt_2, cAt_3, cAt_4, eAt_0, eAt_1, eAt_2, eAt_3, eAt_4, wAt_0, wAt_1, cAt_n, eAt_n, wAt_n, F_X13_errandsThat_J33, F_X13_errandsThat_B4, F_X13_errandsThat_L4, F_X13_errandsThat, hN, ofN_le, hd, ofNs, sh_n]
    by_cases h1 : ρ (86 + 5 * j + 3) = c <;> simp [h1, bS, Phow, ← ofN_or]
def wtS (ρ : Rw) (s e n : Nat) : Nat := n + if s.testBit e then nv (ρ (86 + 5 * e + 0)) else 0
def wt (ρ : Rw) (s N : Nat) : Nat := itF (wtS ρ s) 0 N 0
theorem x_weight (h : Lok L) (hb : isW b = true) (hW : WX σ b ρ) (hN : ρ 43 = Int32.ofNat N) (h8 : N ≤ 8) (hp9 : ∀ e, e < N → ρ (86 + 5 * e + 0) = Int32.ofNat (nv (ρ (86 + 5 * e + 0)))) {s : Nat} (hs : s < 256) : F_X4_weight (some (L.1 b)) (Int32.ofNat s) (hp L σ) = some (Int32.ofNat (wt ρ s N)) := by
  unfold F_X4_weight
  simp (discharger := first | assumption | omega | decide) only [x_tg, w_tg, m_tg, ↓reduceIte, Option.bind_some, ↓x_0b, ↓x_1b, ↓x_2b, ↓x_3b, ↓x_4b, ↓x_5b, ↓x_6b, ↓x_7b, ↓x_8b, ↓x_9b, ↓x_10b, ↓x_11b, ↓x_12b, ↓x_13b, ↓x_14b, ↓x_15b, ↓x_16b, ↓x_17b, ↓x_18b, ↓x_19b, ↓xp_2b, ↓xp_6b, ↓xp_14b, ↓xp_17b, ↓xp_18b, ↓xp_19b, ↓X_f0b, ↓X_f2b, ↓X_f4b, ↓X_f8b, ↓wf_1b, ↓wf_3b, ↓wf_5b, ↓wf_6b, ↓wf_7b, ↓wf_9b, ↓wt_1_0b, ↓wt_1_1b, ↓wt_1_2b, ↓wt_1_3b, ↓wt_1_4b, ↓wt_11_0b, ↓wt_11_1b, ↓wt_11_2b, ↓wt_11_3b, ↓wt_11_4b, ↓wt_21_0b, ↓wt_21_1b, ↓wt_31_0b, ↓wt_31_1b, ↓wt_31_2b, ↓wt_31_3b, ↓wt_31_4b, ↓wt_31_5b, ↓wt_31_6b, ↓wt_41_0b, ↓wt_41_1b, ↓wt_41_2b, ↓wt_41_3b, ↓wt_41_4b, ↓wt_41_5b, ↓wt_41_6b, ↓wt_1b, ↓wt_11b, ↓wt_21b, ↓wt_31b, ↓wt_41b, ↓X_c0b, ↓X_c1b, ↓X_c2b, ↓X_c3b, ↓X_c4b, ↓X_e0b, ↓X_e1b, ↓X_e2b, ↓X_e3b, ↓X_e4b, ↓X_cb, ↓X_eb, ↓X_w0b, ↓X_w1b, ↓X_hb, ↓X_yb, ↓X_rb, ↓wp_0b, ↓wp_2b, ↓wp_4b, ↓wp_8b, ↓ws_2b, ↓ws_3b, ↓ws_4b, ↓ws_5b, ↓ws_6b, ↓ws_12b, ↓ws_13b, ↓ws_14b, ↓ws_15b, ↓ws_16b, ↓ws_22b, ↓ws_23b, ↓ws_51b, ↓wS_yb, ↓wS_rb, ↓wS_cb, ↓wS_eb]
  refine lpF (Lp := fun f j a => F_X4_weight_L4 f (some (L.1 b)) (Int32.ofNat s) (Int32.ofNat a) (Int32.ofNat j) (hp L σ)) (st := wtS ρ s) (fin := fun a => some (Int32.ofNat a)) (N := N) (fun f a => ?_) (fun f j a hj => ?_) (by unfold fu; omega) 0
  · simp (discharger := first | assumption | omega | decide) only [x_tg, w_tg, m_tg, ↓reduceIte, Option.bind_some, ↓x_0b, ↓x_1b, ↓x_2b, ↓x_3b, ↓x_4b, ↓x_5b, ↓x_6b, ↓x_7b, ↓x_8b, ↓x_9b, ↓x_10b, ↓x_11b, ↓x_12b, ↓x_13b, ↓x_14b, ↓x_15b, ↓x_16b, ↓x_17b, ↓x_18b, ↓x_19b, ↓xp_2b, ↓xp_6b, ↓xp_14b, ↓xp_17b, ↓xp_18b, ↓xp_19b, ↓X_f0b, ↓X_f2b, ↓X_f4b, ↓X_f8b, ↓wf_1b, ↓wf_3b, ↓wf_5b, ↓wf_6b, ↓wf_7b, ↓wf_9b, ↓wt_1_0b, ↓wt_1_1b, ↓wt_1_2b, ↓wt_1_3b, ↓wt_1_4b, ↓wt_11_0b, ↓wt_11_1b, ↓wt_11_2b, ↓wt_11_3b, ↓wt_11_4b, ↓wt_21_0b, ↓wt_21_1b, ↓wt_31_0b, ↓wt_31_1b, ↓wt_31_2b, ↓wt_31_3b, ↓wt_31_4b, ↓wt_31_5b, ↓wt_31_6b, ↓wt_41_0b, ↓wt_41_1b, ↓wt_41_2b, ↓wt_41_3b, ↓wt_41_4b, ↓wt_41_5b, ↓wt_41_6b, ↓wt_1b, ↓wt_11b, ↓wt_21b, ↓wt_31b, ↓wt_41b, ↓X_c0b, ↓X_c1b, ↓X_c2b, ↓X_c3b, ↓X_c4b, ↓X_e0b, ↓X_e1b, ↓X_e2b, ↓X_e3b, ↓X_e4b, ↓X_cb, ↓X_eb, ↓X_w0b, ↓X_w1b, ↓X_hb, ↓X_yb, ↓X_rb, ↓wp_0b, ↓wp_2b, ↓wp_4b, ↓wp_8b, ↓ws_2b, ↓ws_3b, ↓ws_4b, ↓ws_5b, ↓ws_6b, ↓ws_12b, ↓ws_13b, ↓ws_14b, ↓ws_15b, ↓ws_16b, ↓ws_22b, ↓ws_23b, ↓ws_51b, ↓wS_yb, ↓wS_rb, ↓wS_cb, ↓wS_eb, F_X4_weight_J33, F_X4_weight_B4, F_X4_weight_L4, F_X4_weight, hN, ofN_le, Nat.le_refl]
  · have hd : ¬ N ≤ j := by omega
    have hj8 : j < 8 := by omega
    simp (discharger := first | assumption | omega | decide) only [x_tg, w_tg, m_tg, ↓reduceIte, Option.bind_some, ↓x_0b, ↓x_1b, ↓x_2b, ↓x_3b, ↓x_4b, ↓x_5b, ↓x_6b, ↓x_7b, ↓x_8b, ↓x_9b, ↓x_10b, ↓x_11b, ↓x_12b, ↓x_13b, ↓x_14b, ↓x_15b, ↓x_16b, ↓x_17b, ↓x_18b, ↓x_19b, ↓xp_2b, ↓xp_6b, ↓xp_14b, ↓xp_17b, ↓xp_18b, ↓xp_19b, ↓X_f0b, ↓X_f2b, ↓X_f4b, ↓X_f8b, ↓wf_1b, ↓wf_3b, ↓wf_5b, ↓wf_6b, ↓wf_7b, ↓wf_9b, ↓wt_1_0b, ↓wt_1_1b, ↓wt_1_2b, ↓wt_1_3b, ↓wt_1_4b, ↓wt_11_0b, ↓wt_11_1b, ↓wt_11_2b, ↓wt_11_3b, ↓wt_11_4b, ↓wt_21_0b, ↓wt_21_1b, ↓wt_31_0b, ↓wt_31_1b, ↓wt_31_2b, ↓wt_31_3b, ↓wt_31_4b, ↓wt_31_5b, ↓wt_31_6b, ↓wt_41_0b, ↓wt_41_1b, ↓wt_41_2b, ↓wt_41_3b, ↓wt_41_4b, ↓wt_41_5b, ↓wt_41_6b, ↓wt_1b, ↓wt_11b, ↓wt_21b, ↓wt_31b, ↓wt_41b, ↓X_c0b, ↓X_c1b, ↓X_c2b, ↓X_c3b, ↓X_c4b, ↓X_e0b, ↓X_e1b, ↓X_e2b, ↓X_e3b, ↓X_e4b, ↓X_cb, ↓X_eb, ↓X_w0b, ↓X_w1b, ↓X_hb, ↓X_yb, ↓X_rb, ↓wp_0b, ↓wp_2b, ↓wp_4b, ↓wp_8b, ↓ws_2b, ↓ws_3b, ↓ws_4b, ↓ws_5b, ↓ws_6b, ↓ws_12b, ↓ws_13b, ↓ws_14b, ↓ws_15b, ↓ws_16b, ↓ws_22b, ↓ws_23b, ↓ws_51b, ↓wS_yb, ↓wS_rb, ↓wS_cb, ↓wS_eb, F_X4_weight_J33, F_X4_weight_B4, F_X4_weight_L4, F_X4_weight, hN, ofN_le, hd, ofNs, has_n]
    by_cases h1 : s.testBit j = true
    · have q := hp9 j hj
      simp only [Nat.add_zero] at q
      simp [h1, wtS]; rw [← q]
    · simp [h1, wtS]
theorem m_weighs (h : Lok L) (hM : WM σ ρ) (hN : ρ 43 = Int32.ofNat N) (h8 : N ≤ 8) (hp9 : ∀ e, e < N → ρ (86 + 5 * e + 0) = Int32.ofNat (nv (ρ (86 + 5 * e + 0)))) {s : Nat} (hs : s < 256) : F_X13_weighs (some (L.1 1000)) (Int32.ofNat s) (hp L σ) = some (Int32.ofNat (wt ρ s N)) := by
  unfold F_X13_weighs
  simp (discharger := first | assumption | omega | decide) only [x_tg, w_tg, m_tg, ↓reduceIte, Option.bind_some, ↓m_0b, ↓m_1b, ↓m_2b, ↓m_3b, ↓m_4b, ↓m_5b, ↓m_6b, ↓m_7b, ↓m_8b, ↓m_9b, ↓m_10b, ↓m_11b, ↓m_12b, ↓m_13b, ↓m_14b, ↓m_15b, ↓m_16b, ↓m_17b, ↓m_18b, ↓m_19b, ↓m_20b, ↓m_21b, ↓m_22b, ↓m_23b, ↓m_24b, ↓m_25b, ↓m_26b, ↓m_27b, ↓m_28b, ↓m_29b, ↓mp_3b, ↓mp_6b, ↓mp_10b, ↓mp_11b, ↓mp_12b, ↓mp_14b, ↓mp_15b, ↓mp_16b, ↓mp_17b, ↓mp_18b, ↓mp_19b, ↓mp_22b, ↓mp_23b, ↓mp_24b, ↓mp_25b, ↓M_42b, ↓M_43b, ↓M_44b, ↓M_45b, ↓cIs_0b, ↓cIs_1b, ↓cIs_2b, ↓cIs_3b, ↓cIs_4b, ↓eIs_0b, ↓eIs_1b, ↓eIs_2b, ↓eIs_3b, ↓eIs_4b, ↓cIs_nb, ↓eIs_nb, ↓M_rb, ↓M_cAt_0b, ↓M_cAt_1b, ↓M_cAt_2b, ↓M_cAt_3b, ↓M_cAt_4b, ↓M_eAt_0b, ↓M_eAt_1b, ↓M_eAt_2b, ↓M_eAt_3b, ↓M_eAt_4b, ↓M_wAt_0b, ↓M_wAt_1b, cAt_0, cAt_1, cAt_2, cAt_3, cAt_4, eAt_0, eAt_1, eAt_2, eAt_3, eAt_4, wAt_0, wAt_1, cAt_n, eAt_n, wAt_n]
  refine lpF (Lp := fun f j a => F_X13_weighs_L4 f (some (L.1 1000)) (Int32.ofNat s) (Int32.ofNat a) (Int32.ofNat j) (hp L σ)) (st := wtS ρ s) (fin := fun a => some (Int32.ofNat a)) (N := N) (fun f a => ?_) (fun f j a hj => ?_) (by unfold fu; omega) 0
  · simp (discharger := first | assumption | omega | decide) only [x_tg, w_tg, m_tg, ↓reduceIte, Option.bind_some, ↓m_0b, ↓m_1b, ↓m_2b, ↓m_3b, ↓m_4b, ↓m_5b, ↓m_6b, ↓m_7b, ↓m_8b, ↓m_9b, ↓m_10b, ↓m_11b, ↓m_12b, ↓m_13b, ↓m_14b, ↓m_15b, ↓m_16b, ↓m_17b, ↓m_18b, ↓m_19b, ↓m_20b, ↓m_21b, ↓m_22b, ↓m_23b, ↓m_24b, ↓m_25b, ↓m_26b, ↓m_27b, ↓m_28b, ↓m_29b, ↓mp_3b, ↓mp_6b, ↓mp_10b, ↓mp_11b, ↓mp_12b, ↓mp_14b, ↓mp_15b, ↓mp_16b, ↓mp_17b, ↓mp_18b, ↓mp_19b, ↓mp_22b, ↓mp_23b, ↓mp_24b, ↓mp_25b, ↓M_42b, ↓M_43b, ↓M_44b, ↓M_45b, ↓cIs_0b, ↓cIs_1b, ↓cIs_2b, ↓cIs_3b, ↓cIs_4b, ↓eIs_0b, ↓eIs_1b, ↓eIs_2b, ↓eIs_3b, ↓eIs_4b, ↓cIs_nb, ↓eIs_nb, ↓M_rb, ↓M_cAt_0b, ↓M_cAt_1b, ↓M_cAt_2b, ↓M_cAt_3b, ↓M_cAt_4b, ↓M_eAt_0b, ↓M_eAt_1b, ↓M_eAt_2b, ↓M_eAt_3b, ↓M_eAt_4b, ↓M_wAt_0b, ↓M_wAt_1b, cAt_0, cAt_1, cAt_2, cAt_3, cAt_4, eAt_0, eAt_1, eAt_2, eAt_3, eAt_4, wAt_0, wAt_1, cAt_n, eAt_n, wAt_n, F_X13_weighs_J34, F_X13_weighs_B4, F_X13_weighs_L4, F_X13_weighs, hN, ofN_le, Nat.le_refl]
  · have hd : ¬ N ≤ j := by omega
    have hj8 : j < 8 := by omega
    simp (discharger := first | assumption | omega | decide) only [x_tg, w_tg, m_tg, ↓reduceIte, Option.bind_some, ↓m_0b, ↓m_1b, ↓m_2b, ↓m_3b, ↓m_4b, ↓m_5b, ↓m_6b, ↓m_7b, ↓m_8b, ↓m_9b, ↓m_10b, ↓m_11b, ↓m_12b, ↓m_13b, ↓m_14b, ↓m_15b, ↓m_16b, ↓m_17b, ↓m_18b, ↓m_19b, ↓m_20b, ↓m_21b, ↓m_22b, ↓m_23b, ↓m_24b, ↓m_25b, ↓m_26b, ↓m_27b, ↓m_28b, ↓m_29b, ↓mp_3b, ↓mp_6b, ↓mp_10b, ↓mp_11b, ↓mp_12b, ↓mp_14b, ↓mp_15b, ↓mp_16b, ↓mp_17b, ↓mp_18b, ↓mp_19b, ↓mp_22b, ↓mp_23b, ↓mp_24b, ↓mp_25b, ↓M_42b, ↓M_43b, ↓M_44b, ↓M_45b, ↓cIs_0b, ↓cIs_1b, ↓cIs_2b, ↓cIs_3b, ↓cIs_4b, ↓eIs_0b, ↓eIs_1b, ↓eIs_2b, ↓eIs_3b, ↓eIs_4b, ↓cIs_nb, ↓eIs_nb, ↓M_rb, ↓M_cAt_0b, ↓M_cAt_1b, ↓M_cAt_2b, ↓M_cAt_3b, ↓M_cAt_4b, ↓M_eAt_0b, ↓M_eAt_1b, ↓M_eAt_2b, ↓M_eAt_3b, ↓M_eAt_4b, ↓M_wAt_0b, ↓M_wAt_1b, cAt_0, cAt_1, cAt_2, cAt_3, cAt_4, eAt_0, eAt_1, eAt_2, eAt_3, eAt_4, wAt_0, wAt_1, cAt_n, eAt_n, wAt_n, F_X13_weighs_J34, F_X13_weighs_B4, F_X13_weighs_L4, F_X13_weighs, hN, ofN_le, hd, ofNs, hasM, has_n]
    by_cases h1 : s.testBit j = true
    · have q := hp9 j hj
      simp only [Nat.add_zero] at q
      simp [h1, wtS]; rw [← q]
    · simp [h1, wtS]
def smS (ρ : Rw) (f c : Nat) (n : Int32) : Int32 := n + ρ (56 + 5 * c + f)
def sm (ρ : Rw) (f N : Nat) : Int32 := itF (smS ρ f) 0 N 0
theorem x_sumOf (h : Lok L) (hb : isW b = true) (hW : WX σ b ρ) (hN : ρ 42 = Int32.ofNat N) (h8 : N ≤ 6) {f9 : Nat} (hf : f9 < 5) : F_X4_sumOf (some (L.1 b)) (Int32.ofNat f9) (hp L σ) = some (sm ρ f9 N) := by
  unfold F_X4_sumOf
  simp (discharger := first | assumption | omega | decide) only [x_tg, w_tg, m_tg, ↓reduceIte, Option.bind_some, ↓x_0b, ↓x_1b, ↓x_2b, ↓x_3b, ↓x_4b, ↓x_5b, ↓x_6b, ↓x_7b, ↓x_8b, ↓x_9b, ↓x_10b, ↓x_11b, ↓x_12b, ↓x_13b, ↓x_14b, ↓x_15b, ↓x_16b, ↓x_17b, ↓x_18b, ↓x_19b, ↓xp_2b, ↓xp_6b, ↓xp_14b, ↓xp_17b, ↓xp_18b, ↓xp_19b, ↓X_f0b, ↓X_f2b, ↓X_f4b, ↓X_f8b, ↓wf_1b, ↓wf_3b, ↓wf_5b, ↓wf_6b, ↓wf_7b, ↓wf_9b, ↓wt_1_0b, ↓wt_1_1b, ↓wt_1_2b, ↓wt_1_3b, ↓wt_1_4b, ↓wt_11_0b, ↓wt_11_1b, ↓wt_11_2b, ↓wt_11_3b, ↓wt_11_4b, ↓wt_21_0b, ↓wt_21_1b, ↓wt_31_0b, ↓wt_31_1b, ↓wt_31_2b, ↓wt_31_3b, ↓wt_31_4b, ↓wt_31_5b, ↓wt_31_6b, ↓wt_41_0b, ↓wt_41_1b, ↓wt_41_2b, ↓wt_41_3b, ↓wt_41_4b, ↓wt_41_5b, ↓wt_41_6b, ↓wt_1b, ↓wt_11b, ↓wt_21b, ↓wt_31b, ↓wt_41b, ↓X_c0b, ↓X_c1b, ↓X_c2b, ↓X_c3b, ↓X_c4b, ↓X_e0b, ↓X_e1b, ↓X_e2b, ↓X_e3b, ↓X_e4b, ↓X_cb, ↓X_eb, ↓X_w0b, ↓X_w1b, ↓X_hb, ↓X_yb, ↓X_rb, ↓wp_0b, ↓wp_2b, ↓wp_4b, ↓wp_8b, ↓ws_2b, ↓ws_3b, ↓ws_4b, ↓ws_5b, ↓ws_6b, ↓ws_12b, ↓ws_13b, ↓ws_14b, ↓ws_15b, ↓ws_16b, ↓ws_22b, ↓ws_23b, ↓ws_51b, ↓wS_yb, ↓wS_rb, ↓wS_cb, ↓wS_eb]
  refine lpF (Lp := fun f j a => F_X4_sumOf_L4 f (some (L.1 b)) (Int32.ofNat f9) a (Int32.ofNat j) (hp L σ)) (st := smS ρ f9) (fin := fun a => some a) (N := N) (fun f a => ?_) (fun f j a hj => ?_) (by unfold fu; omega) 0
  · simp (discharger := first | assumption | omega | decide) only [x_tg, w_tg, m_tg, ↓reduceIte, Option.bind_some, ↓x_0b, ↓x_1b, ↓x_2b, ↓x_3b, ↓x_4b, ↓x_5b, ↓x_6b, ↓x_7b, ↓x_8b, ↓x_9b, ↓x_10b, ↓x_11b, ↓x_12b, ↓x_13b, ↓x_14b, ↓x_15b, ↓x_16b, ↓x_17b, ↓x_18b, ↓x_19b, ↓xp_2b, ↓xp_6b, ↓xp_14b, ↓xp_17b, ↓xp_18b, ↓xp_19b, ↓X_f0b, ↓X_f2b, ↓X_f4b, ↓X_f8b, ↓wf_1b, ↓wf_3b, ↓wf_5b, ↓wf_6b, ↓wf_7b, ↓wf_9b, ↓wt_1_0b, ↓wt_1_1b, ↓wt_1_2b, ↓wt_1_3b, ↓wt_1_4b, ↓wt_11_0b, ↓wt_11_1b, ↓wt_11_2b, ↓wt_11_3b, ↓wt_11_4b, ↓wt_21_0b, ↓wt_21_1b, ↓wt_31_0b, ↓wt_31_1b, ↓wt_31_2b, ↓wt_31_3b, ↓wt_31_4b, ↓wt_31_5b, ↓wt_31_6b, ↓wt_41_0b, ↓wt_41_1b, ↓wt_41_2b, ↓wt_41_3b, ↓wt_41_4b, ↓wt_41_5b, ↓wt_41_6b, ↓wt_1b, ↓wt_11b, ↓wt_21b, ↓wt_31b, ↓wt_41b, ↓X_c0b, ↓X_c1b, ↓X_c2b, ↓X_c3b, ↓X_c4b, ↓X_e0b, ↓X_e1b, ↓X_e2b, ↓X_e3b, ↓X_e4b, ↓X_cb, ↓X_eb, ↓X_w0b, ↓X_w1b, ↓X_hb, ↓X_yb, ↓X_rb, ↓wp_0b, ↓wp_2b, ↓wp_4b, ↓wp_8b, ↓ws_2b, ↓ws_3b, ↓ws_4b, ↓ws_5b, ↓ws_6b, ↓ws_12b, ↓ws_13b, ↓ws_14b, ↓ws_15b, ↓ws_16b, ↓ws_22b, ↓ws_23b, ↓ws_51b, ↓wS_yb, ↓wS_rb, ↓wS_cb, ↓wS_eb, F_X4_sumOf_B4, F_X4_sumOf_L4, F_X4_sumOf, hN, ofN_le, Nat.le_refl]
  · have hd : ¬ N ≤ j := by omega
    simp (discharger := first | assumption | omega | decide) only [x_tg, w_tg, m_tg, ↓reduceIte, Option.bind_some, ↓x_0b, ↓x_1b, ↓x_2b, ↓x_3b, ↓x_4b, ↓x_5b, ↓x_6b, ↓x_7b, ↓x_8b, ↓x_9b, ↓x_10b, ↓x_11b, ↓x_12b, ↓x_13b, ↓x_14b, ↓x_15b, ↓x_16b, ↓x_17b, ↓x_18b, ↓x_19b, ↓xp_2b, ↓xp_6b, ↓xp_14b, ↓xp_17b, ↓xp_18b, ↓xp_19b, ↓X_f0b, ↓X_f2b, ↓X_f4b, ↓X_f8b, ↓wf_1b, ↓wf_3b, ↓wf_5b, ↓wf_6b, ↓wf_7b, ↓wf_9b, ↓wt_1_0b, ↓wt_1_1b, ↓wt_1_2b, ↓wt_1_3b, ↓wt_1_4b, ↓wt_11_0b, ↓wt_11_1b, ↓wt_11_2b, ↓wt_11_3b, ↓wt_11_4b, ↓wt_21_0b, ↓wt_21_1b, ↓wt_31_0b, ↓wt_31_1b, ↓wt_31_2b, ↓wt_31_3b, ↓wt_31_4b, ↓wt_31_5b, ↓wt_31_6b, ↓wt_41_0b, ↓wt_41_1b, ↓wt_41_2b, ↓wt_41_3b, ↓wt_41_4b, ↓wt_41_5b, ↓wt_41_6b, ↓wt_1b, ↓wt_11b, ↓wt_21b, ↓wt_31b, ↓wt_41b, ↓X_c0b, ↓X_c1b, ↓X_c2b, ↓X_c3b, ↓X_c4b, ↓X_e0b, ↓X_e1b, ↓X_e2b, ↓X_e3b, ↓X_e4b, ↓X_cb, ↓X_eb, ↓X_w0b, ↓X_w1b, ↓X_hb, ↓X_yb, ↓X_rb, ↓wp_0b, ↓wp_2b, ↓wp_4b, ↓wp_8b, ↓ws_2b, ↓ws_3b, ↓ws_4b, ↓ws_5b, ↓ws_6b, ↓ws_12b, ↓ws_13b, ↓ws_14b, ↓ws_15b, ↓ws_16b, ↓ws_22b, ↓ws_23b, ↓ws_51b, ↓wS_yb, ↓wS_rb, ↓wS_cb, ↓wS_eb, F_X4_sumOf_B4, F_X4_sumOf_L4, F_X4_sumOf, hN, ofN_le, hd, ofNs]
    rfl
theorem m_ofAll (h : Lok L) (hM : WM σ ρ) (hN : ρ 42 = Int32.ofNat N) (h8 : N ≤ 6) {f9 : Nat} (hf : f9 < 5) : F_X13_ofAll (some (L.1 1000)) (Int32.ofNat f9) (hp L σ) = some (sm ρ f9 N) := by
  unfold F_X13_ofAll
  simp (discharger := first | assumption | omega | decide) only [x_tg, w_tg, m_tg, ↓reduceIte, Option.bind_some, ↓m_0b, ↓m_1b, ↓m_2b, ↓m_3b, ↓m_4b, ↓m_5b, ↓m_6b, ↓m_7b, ↓m_8b, ↓m_9b, ↓m_10b, ↓m_11b, ↓m_12b, ↓m_13b, ↓m_14b, ↓m_15b, ↓m_16b, ↓m_17b, ↓m_18b, ↓m_19b, ↓m_20b, ↓m_21b, ↓m_22b, ↓m_23b, ↓m_24b, ↓m_25b, ↓m_26b, ↓m_27b, ↓m_28b, ↓m_29b, ↓mp_3b, ↓mp_6b, ↓mp_10b, ↓mp_11b, ↓mp_12b, ↓mp_14b, ↓mp_15b, ↓mp_16b, ↓mp_17b, ↓mp_18b, ↓mp_19b, ↓mp_22b, ↓mp_23b, ↓mp_24b, ↓mp_25b, ↓M_42b, ↓M_43b, ↓M_44b, ↓M_45b, ↓cIs_0b, ↓cIs_1b, ↓cIs_2b, ↓cIs_3b, ↓cIs_4b, ↓eIs_0b, ↓eIs_1b, ↓eIs_2b, ↓eIs_3b, ↓eIs_4b, ↓cIs_nb, ↓eIs_nb, ↓M_rb, ↓M_cAt_0b, ↓M_cAt_1b, ↓M_cAt_2b, ↓M_cAt_3b, ↓M_cAt_4b, ↓M_eAt_0b, ↓M_eAt_1b, ↓M_eAt_2b, ↓M_eAt_3b, ↓M_eAt_4b, ↓M_wAt_0b, ↓M_wAt_1b, cAt_0, cAt_1, cAt_2, cAt_3, cAt_4, eAt_0, eAt_1, eAt_2, eAt_3, eAt_4, wAt_0, wAt_1, cAt_n, eAt_n, wAt_n]
  refine lpF (Lp := fun f j a => F_X13_ofAll_L4 f (some (L.1 1000)) (Int32.ofNat f9) a (Int32.ofNat j) (hp L σ)) (st := smS ρ f9) (fin := fun a => some a) (N := N) (fun f a => ?_) (fun f j a hj => ?_) (by unfold fu; omega) 0
  · simp (discharger := first | assumption | omega | decide) only [x_tg, w_tg, m_tg, ↓reduceIte, Option.bind_some, ↓m_0b, ↓m_1b, ↓m_2b, ↓m_3b, ↓m_4b, ↓m_5b, ↓m_6b, ↓m_7b, ↓m_8b, ↓m_9b, ↓m_10b, ↓m_11b, ↓m_12b, ↓m_13b, ↓m_14b, ↓m_15b, ↓m_16b, ↓m_17b, ↓m_18b, ↓m_19b, ↓m_20b, ↓m_21b, ↓m_22b, ↓m_23b, ↓m_24b, ↓m_25b, ↓m_26b, ↓m_27b, ↓m_28b, ↓m_29b, ↓mp_3b, ↓mp_6b, ↓mp_10b, ↓mp_11b, ↓mp_12b, ↓mp_14b, ↓mp_15b, ↓mp_16b, ↓mp_17b, ↓mp_18b, ↓mp_19b, ↓mp_22b, ↓mp_23b, ↓mp_24b, ↓mp_25b, ↓M_42b, ↓M_43b, ↓M_44b, ↓M_45b, ↓cIs_0b, ↓cIs_1b, ↓cIs_2b, ↓cIs_3b, ↓cIs_4b, ↓eIs_0b, ↓eIs_1b, ↓eIs_2b, ↓eIs_3b, ↓eIs_4b, ↓cIs_nb, ↓eIs_nb, ↓M_rb, ↓M_cAt_0b, ↓M_cAt_1b, ↓M_cAt_2b, ↓M_cAt_3b, ↓M_cAt_4b, ↓M_eAt_0b, ↓M_eAt_1b, ↓M_eAt_2b, ↓M_eAt_3b, ↓M_eAt_4b, ↓M_wAt_0b, ↓M_wAt_1b, cAt_0, cAt_1, cAt_2, cAt_3, cAt_4, eAt_0, eAt_1, eAt_2, eAt_3, eAt_4, wAt_0, wAt_1, cAt_n, eAt_n, wAt_n, F_X13_ofAll_B4, F_X13_ofAll_L4, F_X13_ofAll, hN, ofN_le, Nat.le_refl]
  · have hd : ¬ N ≤ j := by omega
    simp (discharger := first | assumption | omega | decide) only [x_tg, w_tg, m_tg, ↓reduceIte, Option.bind_some, ↓m_0b, ↓m_1b, ↓m_2b, ↓m_3b, ↓m_4b, ↓m_5b, ↓m_6b, ↓m_7b, ↓m_8b, ↓m_9b, ↓m_10b, ↓m_11b, ↓m_12b, ↓m_13b, ↓m_14b, ↓m_15b, ↓m_16b, ↓m_17b, ↓m_18b, ↓m_19b, ↓m_20b, ↓m_21b, ↓m_22b, ↓m_23b, ↓m_24b, ↓m_25b, ↓m_26b, ↓m_27b, ↓m_28b, ↓m_29b, ↓mp_3b, ↓mp_6b, ↓mp_10b, ↓mp_11b, ↓mp_12b, ↓mp_14b, ↓mp_15b, ↓mp_16b, ↓mp_17b, ↓mp_18b, ↓mp_19b, ↓mp_22b, ↓mp_23b, ↓mp_24b, ↓mp_25b, ↓M_42b, ↓M_43b, ↓M_44b, ↓M_45b, ↓cIs_0b, ↓cIs_1b, ↓cIs_2b, ↓cIs_3b, ↓cIs_4b, ↓eIs_0b, ↓eIs_1b, ↓eIs_2b, ↓eIs_3b, ↓eIs_4b, ↓cIs_nb, ↓eIs_nb, ↓M_rb, ↓M_cAt_0b, ↓M_cAt_1b, ↓M_cAt_2b, ↓M_cAt_3b, ↓M_cAt_4b, ↓M_eAt_0b, ↓M_eAt_1b, ↓M_eAt_2b, ↓M_eAt_3b, ↓M_eAt_4b, ↓M_wAt_0b, ↓M_wAt_1b, cAt_0, cAt_1, cAt_2, cAt_3, cAt_4, eAt_0, eAt_1, eAt_2, eAt_3, eAt_4, wAt_0, wAt_1, cAt_n, eAt_n, wAt_n, F_X13_ofAll_B4, F_X13_ofAll_L4, F_X13_ofAll, hN, ofN_le, hd, ofNs]
    rfl
def Psold (ρ : Rw) (w : Nat) : Bool := decide (¬ ρ (126 + 2 * w + 1) = -1)
theorem x_sold (h : Lok L) (hb : isW b = true) (hW : WX σ b ρ) (hN : ρ 44 = Int32.ofNat N) (h8 : N ≤ 6) : F_X4_sold (some (L.1 b)) (hp L σ) = some (Int32.ofNat (bset (Psold ρ) N)) := by
  unfold F_X4_sold
  simp (discharger := first | assumption | omega | decide) only [x_tg, w_tg, m_tg, ↓reduceIte, Option.bind_some, ↓x_0b, ↓x_1b, ↓x_2b, ↓x_3b, ↓x_4b, ↓x_5b, ↓x_6b, ↓x_7b, ↓x_8b, ↓x_9b, ↓x_10b, ↓x_11b, ↓x_12b, ↓x_13b, ↓x_14b, ↓x_15b, ↓x_16b, ↓x_17b, ↓x_18b, ↓x_19b, ↓xp_2b, ↓xp_6b, ↓xp_14b, ↓xp_17b, ↓xp_18b, ↓xp_19b, ↓X_f0b, ↓X_f2b, ↓X_f4b, ↓X_f8b, ↓wf_1b, ↓wf_3b, ↓wf_5b, ↓wf_6b, ↓wf_7b, ↓wf_9b, ↓wt_1_0b, ↓wt_1_1b, ↓wt_1_2b, ↓wt_1_3b, ↓wt_1_4b, ↓wt_11_0b, ↓wt_11_1b, ↓wt_11_2b, ↓wt_11_3b, ↓wt_11_4b, ↓wt_21_0b, ↓wt_21_1b, ↓wt_31_0b, ↓wt_31_1b, ↓wt_31_2b, ↓wt_31_3b, ↓wt_31_4b, ↓wt_31_5b, ↓wt_31_6b, ↓wt_41_0b, ↓wt_41_1b, ↓wt_41_2b, ↓wt_41_3b, ↓wt_41_4b, ↓wt_41_5b, ↓wt_41_6b, ↓wt_1b, ↓wt_11b, ↓wt_21b, ↓wt_31b, ↓wt_41b, ↓X_c0b, ↓X_c1b, ↓X_c2b, ↓X_c3b, ↓X_c4b, ↓X_e0b, ↓X_e1b, ↓X_e2b, ↓X_e3b, ↓X_e4b, ↓X_cb, ↓X_eb, ↓X_w0b, ↓X_w1b, ↓X_hb, ↓X_yb, ↓X_rb, ↓wp_0b, ↓wp_2b, ↓wp_4b, ↓wp_8b, ↓ws_2b, ↓ws_3b, ↓ws_4b, ↓ws_5b, ↓ws_6b, ↓ws_12b, ↓ws_13b, ↓ws_14b, ↓ws_15b, ↓ws_16b, ↓ws_22b, ↓ws_23b, ↓ws_51b, ↓wS_yb, ↓wS_rb, ↓wS_cb, ↓wS_eb]
  refine lpF (Lp := fun f j a => F_X4_sold_L4 f (some (L.1 b)) (Int32.ofNat a) (Int32.ofNat j) (hp L σ)) (st := bS (Psold ρ)) (fin := fun a => some (Int32.ofNat a)) (N := N) (fun f a => ?_) (fun f j a hj => ?_) (by unfold fu; omega) 0
  · simp (discharger := first | assumption | omega | decide) only [x_tg, w_tg, m_tg, ↓reduceIte, Option.bind_some, ↓x_0b, ↓x_1b, ↓x_2b, ↓x_3b, ↓x_4b, ↓x_5b, ↓x_6b, ↓x_7b, ↓x_8b, ↓x_9b, ↓x_10b, ↓x_11b, ↓x_12b, ↓x_13b, ↓x_14b, ↓x_15b, ↓x_16b, ↓x_17b, ↓x_18b, ↓x_19b, ↓xp_2b, ↓xp_6b, ↓xp_14b, ↓xp_17b, ↓xp_18b, ↓xp_19b, ↓X_f0b, ↓X_f2b, ↓X_f4b, ↓X_f8b, ↓wf_1b, ↓wf_3b, ↓wf_5b, ↓wf_6b, ↓wf_7b, ↓wf_9b, ↓wt_1_0b, ↓wt_1_1b, ↓wt_1_2b, ↓wt_1_3b, ↓wt_1_4b, ↓wt_11_0b, ↓wt_11_1b, ↓wt_11_2b, ↓wt_11_3b, ↓wt_11_4b, ↓wt_21_0b, ↓wt_21_1b, ↓wt_31_0b, ↓wt_31_1b, ↓wt_31_2b, ↓wt_31_3b, ↓wt_31_4b, ↓wt_31_5b, ↓wt_31_6b, ↓wt_41_0b, ↓wt_41_1b, ↓wt_41_2b, ↓wt_41_3b, ↓wt_41_4b, ↓wt_41_5b, ↓wt_41_6b, ↓wt_1b, ↓wt_11b, ↓wt_21b, ↓wt_31b, ↓wt_41b, ↓X_c0b, ↓X_c1b, ↓X_c2b, ↓X_c3b, ↓X_c4b, ↓X_e0b, ↓X_e1b, ↓X_e2b, ↓X_e3b, ↓X_e4b, ↓X_cb, ↓X_eb, ↓X_w0b, ↓X_w1b, ↓X_hb, ↓X_yb, ↓X_rb, ↓wp_0b, ↓wp_2b, ↓wp_4b, ↓wp_8b, ↓ws_2b, ↓ws_3b, ↓ws_4b, ↓ws_5b, ↓ws_6b, ↓ws_12b, ↓ws_13b, ↓ws_14b, ↓ws_15b, ↓ws_16b, ↓ws_22b, ↓ws_23b, ↓ws_51b, ↓wS_yb, ↓wS_rb, ↓wS_cb, ↓wS_eb, F_X4_sold_J32, F_X4_sold_B4, F_X4_sold_L4, F_X4_sold, hN, ofN_le, Nat.le_refl]
  · have hd : ¬ N ≤ j := by omega
    simp (discharger := first | assumption | omega | decide) only [x_tg, w_tg, m_tg, ↓reduceIte, Option.bind_some, ↓x_0b, ↓x_1b, ↓x_2b, ↓x_3b, ↓x_4b, ↓x_5b, ↓x_6b, ↓x_7b, ↓x_8b, ↓x_9b, ↓x_10b, ↓x_11b, ↓x_12b, ↓x_13b, ↓x_14b, ↓x_15b, ↓x_16b, ↓x_17b, ↓x_18b, ↓x_19b, ↓xp_2b, ↓xp_6b, ↓xp_14b, ↓xp_17b, ↓xp_18b, ↓xp_19b, ↓X_f0b, ↓X_f2b, ↓X_f4b, ↓X_f8b, ↓wf_1b, ↓wf_3b, ↓wf_5b, ↓wf_6b, ↓wf_7b, ↓wf_9b, ↓wt_1_0b, ↓wt_1_1b, ↓wt_1_2b, ↓wt_1_3b, ↓wt_1_4b, ↓wt_11_0b, ↓wt_11_1b, ↓wt_11_2b, ↓wt_11_3b, ↓wt_11_4b, ↓wt_21_0b, ↓wt_21_1b, ↓wt_31_0b, ↓wt_31_1b, ↓wt_31_2b, ↓wt_31_3b, ↓wt_31_4b, ↓wt_31_5b, ↓wt_31_6b, ↓wt_41_0b, ↓wt_41_1b, ↓wt_41_2b, ↓wt_41_3b, ↓wt_41_4b, ↓wt_41_5b, ↓wt_41_6b, ↓wt_1b, ↓wt_11b, ↓wt_21b, ↓wt_31b, ↓wt_41b, ↓X_c0b, ↓X_c1b, ↓X_c2b, ↓X_c3b, ↓X_c4b, ↓X_e0b, ↓X_e1b, ↓X_e2b, ↓X_e3b, ↓X_e4b, ↓X_cb, ↓X_eb, ↓X_w0b, ↓X_w1b, ↓X_hb, ↓X_yb, ↓X_rb, ↓wp_0b, ↓wp_2b, ↓wp_4b, ↓wp_8b, ↓ws_2b, ↓ws_3b, ↓ws_4b, ↓ws_5b, ↓ws_6b, ↓ws_12b, ↓ws_13b, ↓ws_14b, ↓ws_15b, ↓ws_16b, ↓ws_22b, ↓ws_23b, ↓ws_51b, ↓wS_yb, ↓wS_rb, ↓wS_cb, ↓wS_eb, F_X4_sold_J32, F_X4_sold_B4, F_X4_sold_L4, F_X4_sold, hN, ofN_le, hd, ofNs, sh_n]
    by_cases h1 : ρ (126 + 2 * j + 1) = -1 <;> simp [h1, bS, Psold, ← ofN_or]
def wwS (ρ : Rw) (p q a : Nat) : Nat := a ||| if p ≠ q ∧ 0 < ρ (wy p q) then 2 ^ p else 0
def wwP (ρ : Rw) (p a : Nat) : Nat := itF (wwS ρ p) 0 7 a
def ww (ρ : Rw) : Nat := itF (wwP ρ) 0 7 0
theorem x_withWays (h : Lok L) (hb : isW b = true) (hW : WX σ b ρ) : F_X4_withWays (some (L.1 b)) (hp L σ) = some (Int32.ofNat (ww ρ)) := by
  unfold F_X4_withWays
  simp (discharger := first | assumption | omega | decide) only [x_tg, w_tg, m_tg, ↓reduceIte, Option.bind_some, ↓x_0b, ↓x_1b, ↓x_2b, ↓x_3b, ↓x_4b, ↓x_5b, ↓x_6b, ↓x_7b, ↓x_8b, ↓x_9b, ↓x_10b, ↓x_11b, ↓x_12b, ↓x_13b, ↓x_14b, ↓x_15b, ↓x_16b, ↓x_17b, ↓x_18b, ↓x_19b, ↓xp_2b, ↓xp_6b, ↓xp_14b, ↓xp_17b, ↓xp_18b, ↓xp_19b, ↓X_f0b, ↓X_f2b, ↓X_f4b, ↓X_f8b, ↓wf_1b, ↓wf_3b, ↓wf_5b, ↓wf_6b, ↓wf_7b, ↓wf_9b, ↓wt_1_0b, ↓wt_1_1b, ↓wt_1_2b, ↓wt_1_3b, ↓wt_1_4b, ↓wt_11_0b, ↓wt_11_1b, ↓wt_11_2b, ↓wt_11_3b, ↓wt_11_4b, ↓wt_21_0b, ↓wt_21_1b, ↓wt_31_0b, ↓wt_31_1b, ↓wt_31_2b, ↓wt_31_3b, ↓wt_31_4b, ↓wt_31_5b, ↓wt_31_6b, ↓wt_41_0b, ↓wt_41_1b, ↓wt_41_2b, ↓wt_41_3b, ↓wt_41_4b, ↓wt_41_5b, ↓wt_41_6b, ↓wt_1b, ↓wt_11b, ↓wt_21b, ↓wt_31b, ↓wt_41b, ↓X_c0b, ↓X_c1b, ↓X_c2b, ↓X_c3b, ↓X_c4b, ↓X_e0b, ↓X_e1b, ↓X_e2b, ↓X_e3b, ↓X_e4b, ↓X_cb, ↓X_eb, ↓X_w0b, ↓X_w1b, ↓X_hb, ↓X_yb, ↓X_rb, ↓wp_0b, ↓wp_2b, ↓wp_4b, ↓wp_8b, ↓ws_2b, ↓ws_3b, ↓ws_4b, ↓ws_5b, ↓ws_6b, ↓ws_12b, ↓ws_13b, ↓ws_14b, ↓ws_15b, ↓ws_16b, ↓ws_22b, ↓ws_23b, ↓ws_51b, ↓wS_yb, ↓wS_rb, ↓wS_cb, ↓wS_eb]
  refine lpF (Lp := fun f j a => F_X4_withWays_L4 f (some (L.1 b)) (Int32.ofNat a) (Int32.ofNat j) (hp L σ)) (st := wwP ρ) (fin := fun a => some (Int32.ofNat a)) (N := 7) (fun f a => ?_) (fun f9 j a hj => ?_) (by unfold fu; omega) 0
  · simp (discharger := first | assumption | omega | decide) only [x_tg, w_tg, m_tg, ↓reduceIte, Option.bind_some, ↓x_0b, ↓x_1b, ↓x_2b, ↓x_3b, ↓x_4b, ↓x_5b, ↓x_6b, ↓x_7b, ↓x_8b, ↓x_9b, ↓x_10b, ↓x_11b, ↓x_12b, ↓x_13b, ↓x_14b, ↓x_15b, ↓x_16b, ↓x_17b, ↓x_18b, ↓x_19b, ↓xp_2b, ↓xp_6b, ↓xp_14b, ↓xp_17b, ↓xp_18b, ↓xp_19b, ↓X_f0b, ↓X_f2b, ↓X_f4b, ↓X_f8b, ↓wf_1b, ↓wf_3b, ↓wf_5b, ↓wf_6b, ↓wf_7b, ↓wf_9b, ↓wt_1_0b, ↓wt_1_1b, ↓wt_1_2b, ↓wt_1_3b, ↓wt_1_4b, ↓wt_11_0b, ↓wt_11_1b, ↓wt_11_2b, ↓wt_11_3b, ↓wt_11_4b, ↓wt_21_0b, ↓wt_21_1b, ↓wt_31_0b, ↓wt_31_1b, ↓wt_31_2b, ↓wt_31_3b, ↓wt_31_4b, ↓wt_31_5b, ↓wt_31_6b, ↓wt_41_0b, ↓wt_41_1b, ↓wt_41_2b, ↓wt_41_3b, ↓wt_41_4b, ↓wt_41_5b, ↓wt_41_6b, ↓wt_1b, ↓wt_11b, ↓wt_21b, ↓wt_31b, ↓wt_41b, ↓X_c0b, ↓X_c1b, ↓X_c2b, ↓X_c3b, ↓X_c4b, ↓X_e0b, ↓X_e1b, ↓X_e2b, ↓X_e3b, ↓X_e4b, ↓X_cb, ↓X_eb, ↓X_w0b, ↓X_w1b, ↓X_hb, ↓X_yb, ↓X_rb, ↓wp_0b, ↓wp_2b, ↓wp_4b, ↓wp_8b, ↓ws_2b, ↓ws_3b, ↓ws_4b, ↓ws_5b, ↓ws_6b, ↓ws_12b, ↓ws_13b, ↓ws_14b, ↓ws_15b, ↓ws_16b, ↓ws_22b, ↓ws_23b, ↓ws_51b, ↓wS_yb, ↓wS_rb, ↓wS_cb, ↓wS_eb, F_X4_withWays_J37, F_X4_withWays_B12, F_X4_withWays_L12, F_X4_withWays_B4, F_X4_withWays_L4, F_X4_withWays, li_7, ofN_le, Nat.le_refl]
  · have hd : ¬ 7 ≤ j := by omega
    simp (discharger := first | assumption | omega | decide) only [x_tg, w_tg, m_tg, ↓reduceIte, Option.bind_some, ↓x_0b, ↓x_1b, ↓x_2b, ↓x_3b, ↓x_4b, ↓x_5b, ↓x_6b, ↓x_7b, ↓x_8b, ↓x_9b, ↓x_10b, ↓x_11b, ↓x_12b, ↓x_13b, ↓x_14b, ↓x_15b, ↓x_16b, ↓x_17b, ↓x_18b, ↓x_19b, ↓xp_2b, ↓xp_6b, ↓xp_14b, ↓xp_17b, ↓xp_18b, ↓xp_19b, ↓X_f0b, ↓X_f2b, ↓X_f4b, ↓X_f8b, ↓wf_1b, ↓wf_3b, ↓wf_5b, ↓wf_6b, ↓wf_7b, ↓wf_9b, ↓wt_1_0b, ↓wt_1_1b, ↓wt_1_2b, ↓wt_1_3b, ↓wt_1_4b, ↓wt_11_0b, ↓wt_11_1b, ↓wt_11_2b, ↓wt_11_3b, ↓wt_11_4b, ↓wt_21_0b, ↓wt_21_1b, ↓wt_31_0b, ↓wt_31_1b, ↓wt_31_2b, ↓wt_31_3b, ↓wt_31_4b, ↓wt_31_5b, ↓wt_31_6b, ↓wt_41_0b, ↓wt_41_1b, ↓wt_41_2b, ↓wt_41_3b, ↓wt_41_4b, ↓wt_41_5b, ↓wt_41_6b, ↓wt_1b, ↓wt_11b, ↓wt_21b, ↓wt_31b, ↓wt_41b, ↓X_c0b, ↓X_c1b, ↓X_c2b, ↓X_c3b, ↓X_c4b, ↓X_e0b, ↓X_e1b, ↓X_e2b, ↓X_e3b, ↓X_e4b, ↓X_cb, ↓X_eb, ↓X_w0b, ↓X_w1b, ↓X_hb, ↓X_yb, ↓X_rb, ↓wp_0b, ↓wp_2b, ↓wp_4b, ↓wp_8b, ↓ws_2b, ↓ws_3b, ↓ws_4b, ↓ws_5b, ↓ws_6b, ↓ws_12b, ↓ws_13b, ↓ws_14b, ↓ws_15b, ↓ws_16b, ↓ws_22b, ↓ws_23b, ↓ws_51b, ↓wS_yb, ↓wS_rb, ↓wS_cb, ↓wS_eb, F_X4_withWays_L4, F_X4_withWays_B4, li_7, ofN_le, hd]
    refine lpF (Lp := fun f q a => F_X4_withWays_L12 (F_X4_withWays_L4 f9) f (some (L.1 b)) (Int32.ofNat a) (Int32.ofNat j) (Int32.ofNat q) (hp L σ)) (st := wwS ρ j) (fin := fun a => F_X4_withWays_L4 f9 (some (L.1 b)) (Int32.ofNat a) (Int32.ofNat (j + 1)) (hp L σ)) (N := 7) (fun f a => ?_) (fun f q a hq => ?_) (by unfold fu; omega) a
    · simp (discharger := first | assumption | omega | decide) only [x_tg, w_tg, m_tg, ↓reduceIte, Option.bind_some, ↓x_0b, ↓x_1b, ↓x_2b, ↓x_3b, ↓x_4b, ↓x_5b, ↓x_6b, ↓x_7b, ↓x_8b, ↓x_9b, ↓x_10b, ↓x_11b, ↓x_12b, ↓x_13b, ↓x_14b, ↓x_15b, ↓x_16b, ↓x_17b, ↓x_18b, ↓x_19b, ↓xp_2b, ↓xp_6b, ↓xp_14b, ↓xp_17b, ↓xp_18b, ↓xp_19b, ↓X_f0b, ↓X_f2b, ↓X_f4b, ↓X_f8b, ↓wf_1b, ↓wf_3b, ↓wf_5b, ↓wf_6b, ↓wf_7b, ↓wf_9b, ↓wt_1_0b, ↓wt_1_1b, ↓wt_1_2b, ↓wt_1_3b, ↓wt_1_4b, ↓wt_11_0b, ↓wt_11_1b, ↓wt_11_2b, ↓wt_11_3b, ↓wt_11_4b, ↓wt_21_0b, ↓wt_21_1b, ↓wt_31_0b, ↓wt_31_1b, ↓wt_31_2b, ↓wt_31_3b, ↓wt_31_4b, ↓wt_31_5b, ↓wt_31_6b, ↓wt_41_0b, ↓wt_41_1b, ↓wt_41_2b, ↓wt_41_3b, ↓wt_41_4b, ↓wt_41_5b, ↓wt_41_6b, ↓wt_1b, ↓wt_11b, ↓wt_21b, ↓wt_31b, ↓wt_41b, ↓X_c0b, ↓X_c1b, ↓X_c2b, ↓X_c3b, ↓X_c4b, ↓X_e0b, ↓X_e1b, ↓X_e2b, ↓X_e3b, ↓X_e4b, ↓X_cb, ↓X_eb, ↓X_w0b, ↓X_w1b, ↓X_hb, ↓X_yb, ↓X_rb, ↓wp_0b, ↓wp_2b, ↓wp_4b, ↓wp_8b, ↓ws_2b, ↓ws_3b, ↓ws_4b, ↓ws_5b, ↓ws_6b, ↓ws_12b, ↓ws_13b, ↓ws_14b, ↓ws_15b, ↓ws_16b, ↓ws_22b, ↓ws_23b, ↓ws_51b, ↓wS_yb, ↓wS_rb, ↓wS_cb, ↓wS_eb, F_X4_withWays_J37, F_X4_withWays_B12, F_X4_withWays_L12, F_X4_withWays_B4, F_X4_withWays_L4, F_X4_withWays, li_7, ofN_le, Nat.le_refl, ofNs]
    · have hd : ¬ 7 ≤ q := by omega
      simp (discharger := first | assumption | omega | decide) only [x_tg, w_tg, m_tg, ↓reduceIte, Option.bind_some, ↓x_0b, ↓x_1b, ↓x_2b, ↓x_3b, ↓x_4b, ↓x_5b, ↓x_6b, ↓x_7b, ↓x_8b, ↓x_9b, ↓x_10b, ↓x_11b, ↓x_12b, ↓x_13b, ↓x_14b, ↓x_15b, ↓x_16b, ↓x_17b, ↓x_18b, ↓x_19b, ↓xp_2b, ↓xp_6b, ↓xp_14b, ↓xp_17b, ↓xp_18b, ↓xp_19b, ↓X_f0b, ↓X_f2b, ↓X_f4b, ↓X_f8b, ↓wf_1b, ↓wf_3b, ↓wf_5b, ↓wf_6b, ↓wf_7b, ↓wf_9b, ↓wt_1_0b, ↓wt_1_1b, ↓wt_1_2b, ↓wt_1_3b, ↓wt_1_4b, ↓wt_11_0b, ↓wt_11_1b, ↓wt_11_2b, ↓wt_11_3b, ↓wt_11_4b, ↓wt_21_0b, ↓wt_21_1b, ↓wt_31_0b, ↓wt_31_1b, ↓wt_31_2b, ↓wt_31_3b, ↓wt_31_4b, ↓wt_31_5b, ↓wt_31_6b, ↓wt_41_0b, ↓wt_41_1b, ↓wt_41_2b, ↓wt_41_3b, ↓wt_41_4b, ↓wt_41_5b, ↓wt_41_6b, ↓wt_1b, ↓wt_11b, ↓wt_21b, ↓wt_31b, ↓wt_41b, ↓X_c0b, ↓X_c1b, ↓X_c2b, ↓X_c3b, ↓X_c4b, ↓X_e0b, ↓X_e1b, ↓X_e2b, ↓X_e3b, ↓X_e4b, ↓X_cb, ↓X_eb, ↓X_w0b, ↓X_w1b, ↓X_hb, ↓X_yb, ↓X_rb, ↓wp_0b, ↓wp_2b, ↓wp_4b, ↓wp_8b, ↓ws_2b, ↓ws_3b, ↓ws_4b, ↓ws_5b, ↓ws_6b, ↓ws_12b, ↓ws_13b, ↓ws_14b, ↓ws_15b, ↓ws_16b, ↓ws_22b, ↓ws_23b, ↓ws_51b, ↓wS_yb, ↓wS_rb, ↓wS_cb, ↓wS_eb, F_X4_withWays_J37, F_X4_withWays_B12, F_X4_withWays_L12, F_X4_withWays_B4, F_X4_withWays_L4, F_X4_withWays, li_7, ofN_le, hd, ofNs, sh_n]
      by_cases h1 : j = q
      · simp [h1, wwS]
      · by_cases h2 : ρ (wy j q) ≤ 0
        · have h3 : ¬ 0 < ρ (wy j q) := Int32.not_lt.mpr h2
          simp [h1, h2, h3, wwS]
        · have h3 : 0 < ρ (wy j q) := Int32.not_le.mp h2
          simp [h1, h2, h3, wwS, ← ofN_or]
end L2s
/-! ### carriers -/
section L2t
variable {L : Lt} {σ : St} {i k t n kd c : Nat} {v : Int32} {r : Option Nat} {ts : List Nat}
set_option maxRecDepth 8000 in
theorem hp_fVc (h : dm L i) (ht : ts.contains (L.2.2.1 i).1 = true) : fVc (hp L σ) (some (L.1 i)) ts k = some (vv L.1 (L.2.2.2.1 i k) (σ i k)) := by
  unfold fVc; rw [hp_cV h]; dsimp only; rw [if_pos ht]
set_option maxRecDepth 8000 in
theorem hp_fIc (h : dm L i) (ht : ts.contains (L.2.2.1 i).1 = true) (hp9 : L.2.2.2.1 i k = none) : fIc (hp L σ) (some (L.1 i)) ts k = some (σ i k) := by
  unfold fIc; rw [hp_fVc h ht, hp9]; rfl
set_option maxRecDepth 8000 in
theorem hp_fAc (h : dm L i) (ht : ts.contains (L.2.2.1 i).1 = true) (hp9 : L.2.2.2.1 i k = some r) : fAc (hp L σ) (some (L.1 i)) ts k = some (r.map L.1) := by
  unfold fAc; rw [hp_fVc h ht, hp9]; cases r <;> rfl
set_option maxRecDepth 8000 in
theorem hp_tgi (h : dm L i) : tgi (hp L σ) (some (L.1 i)) ts = ts.contains (L.2.2.1 i).1 := by
  unfold tgi; rw [hp_tg h]
set_option maxRecDepth 8000 in
theorem hp_ckc (h : dm L i) : ckc (hp L σ) (some (L.1 i)) ts = ts.contains (L.2.2.1 i).1 := by
  unfold ckc; dsimp only; rw [hp_at h]
set_option maxRecDepth 8000 in
theorem hp_iof {yes no : List Nat} (h : dm L i) : iof (hp L σ) (some (L.1 i)) yes no = if yes.contains (L.2.2.1 i).1 then some 1 else if no.contains (L.2.2.1 i).1 then some 0 else none := by
  unfold iof; dsimp only; rw [hp_at h]
set_option maxRecDepth 8000 in
theorem c_id : ∀ k, k < 42 → sidP (60 + k) = true ∧ sidP (110 + k) = true ∧ sTN (60 + k) = (5, 1) ∧ (sTN (110 + k)).1 = 6 + k / 6 ∧ sP (60 + k) 0 = some (some (110 + k)) ∧ sP (110 + k) 0 = none ∧ sP (110 + k) 1 = some (some 0) := by decide +kernel
set_option maxRecDepth 8000 in
theorem c_sl (h : Lok L) (hn : n < 42) : aA (hp L σ) (some (L.1 5)) 104 (Int32.ofNat n) = some (some (L.1 (60 + n))) := h.aA (i := 5) (r := some (60 + n)) (by decide) (by decide) hn (by omega) (by show (if n < 42 then some (some (60 + n)) else some none) = _; rw [if_pos hn])
set_option maxRecDepth 8000 in
theorem c_th (h : Lok L) (hn : n < 42) : fA (hp L σ) (some (L.1 (60 + n))) 5 0 = some (some (L.1 (110 + n))) := by
  obtain ⟨h1, _, h3, _, h5, _⟩ := c_id n hn
  exact h.fA (r := some (110 + n)) h1 (by rw [h3]) h5
set_option maxRecDepth 8000 in
theorem c_tag (h : Lok L) (hk : kd < 7) (hc : c < 6) : dm L (110 + (6 * kd + c)) ∧ (L.2.2.1 (110 + (6 * kd + c))).1 = 6 + kd := by
  obtain ⟨_, h2, _, h4, _⟩ := c_id (6 * kd + c) (by omega)
  obtain ⟨q1, q2⟩ := h.2.1 _ (sid_of h2)
  refine ⟨q1, ?_⟩
  rw [q2, h4]; omega
set_option maxRecDepth 8000 in
theorem c_tgi (h : Lok L) (hk : kd < 7) (hc : c < 6) : tgi (hp L σ) (some (L.1 (110 + (6 * kd + c)))) ts = ts.contains (6 + kd) := by
  obtain ⟨h1, h2⟩ := c_tag h hk hc; rw [hp_tgi h1, h2]
set_option maxRecDepth 8000 in
theorem c_ckc (h : Lok L) (hk : kd < 7) (hc : c < 6) : ckc (hp L σ) (some (L.1 (110 + (6 * kd + c)))) ts = ts.contains (6 + kd) := by
  obtain ⟨h1, h2⟩ := c_tag h hk hc; rw [hp_ckc h1, h2]
set_option maxRecDepth 8000 in
theorem c_fI (h : Lok L) (hk : kd < 7) (hc : c < 6) (ht : ts.contains (6 + kd) = true) : fIc (hp L σ) (some (L.1 (110 + (6 * kd + c)))) ts 0 = some (σ (110 + (6 * kd + c)) 0) := by
  obtain ⟨h1, h2⟩ := c_tag h hk hc
  obtain ⟨_, q2, _, _, _, q6, _⟩ := c_id (6 * kd + c) (by omega)
  exact hp_fIc h1 (by rw [h2]; exact ht) (by rw [h.2.2.1 _ q2]; exact q6)
set_option maxRecDepth 8000 in
theorem c_fA (h : Lok L) (hk : kd < 7) (hc : c < 6) (ht : ts.contains (6 + kd) = true) : fAc (hp L σ) (some (L.1 (110 + (6 * kd + c)))) ts 1 = some (some (L.1 0)) := by
  obtain ⟨h1, h2⟩ := c_tag h hk hc
  obtain ⟨_, q2, _, _, _, _, q7⟩ := c_id (6 * kd + c) (by omega)
  exact hp_fAc (r := some 0) h1 (by rw [h2]; exact ht) (by rw [h.2.2.1 _ q2]; exact q7)
set_option maxRecDepth 8000 in
theorem kd_all : ∀ kd, kd < 7 → [6, 7, 8, 9, 10, 11, 12].contains (6 + kd) = true := by decide
set_option maxRecDepth 8000 in
theorem kd_cases {kd : Nat} (h : kd < 7) : kd = 0 ∨ kd = 1 ∨ kd = 2 ∨ kd = 3 ∨ kd = 4 ∨ kd = 5 ∨ kd = 6 := by omega
/-- the carriers' numbers -/
def CN (σ : St) : Prop := ∀ k, k < 42 → σ (110 + k) 0 = Int32.ofNat (k % 6)
def brs (kd s : Nat) : Nat := if kd = 1 ∨ kd = 3 then s / 2 else if kd = 2 ∨ kd = 4 then 2 * s else s
def cnt (kd y : Nat) (r : Bool) : Nat := if r = false ∨ kd = 5 then y else if kd = 6 then max 1 (y / 2) else 2 * y
def gts (kd p : Nat) : Nat := if kd = 2 then p / 2 else if kd = 3 then p + p / 10 else if kd = 4 then p / 2 + 1 else p
def udr (kd k : Nat) : Bool := k == 0 || k == kd || (kd == 3 && k == 1) || (kd == 4 && k == 2) || (kd == 6 && k == 5)
variable {ρ : Rw}
set_option maxRecDepth 8000 in
theorem x_carrierAt (h : Lok L) (hW : WX σ 200 ρ) (hc : c < 6) (hkd : kd < 7) (hk : ρ (56 + 5 * c + 0) = Int32.ofNat kd) : F_X0_carrierAt (some (L.1 0)) (Int32.ofNat c) (hp L σ) = some (some (L.1 (110 + (6 * kd + c)))) := by
  unfold F_X0_carrierAt
  simp (discharger := first | assumption | omega | decide) only [x_tg, w_tg, m_tg, ↓reduceIte, Option.bind_some, ↓x_0b, ↓x_1b, ↓x_2b, ↓x_3b, ↓x_4b, ↓x_5b, ↓x_6b, ↓x_7b, ↓x_8b, ↓x_9b, ↓x_10b, ↓x_11b, ↓x_12b, ↓x_13b, ↓x_14b, ↓x_15b, ↓x_16b, ↓x_17b, ↓x_18b, ↓x_19b, ↓xp_2b, ↓xp_6b, ↓xp_14b, ↓xp_17b, ↓xp_18b, ↓xp_19b, ↓X_f0b, ↓X_f2b, ↓X_f4b, ↓X_f8b, ↓wf_1b, ↓wf_3b, ↓wf_5b, ↓wf_6b, ↓wf_7b, ↓wf_9b, ↓wt_1_0b, ↓wt_1_1b, ↓wt_1_2b, ↓wt_1_3b, ↓wt_1_4b, ↓wt_11_0b, ↓wt_11_1b, ↓wt_11_2b, ↓wt_11_3b, ↓wt_11_4b, ↓wt_21_0b, ↓wt_21_1b, ↓wt_31_0b, ↓wt_31_1b, ↓wt_31_2b, ↓wt_31_3b, ↓wt_31_4b, ↓wt_31_5b, ↓wt_31_6b, ↓wt_41_0b, ↓wt_41_1b, ↓wt_41_2b, ↓wt_41_3b, ↓wt_41_4b, ↓wt_41_5b, ↓wt_41_6b, ↓wt_1b, ↓wt_11b, ↓wt_21b, ↓wt_31b, ↓wt_41b, ↓X_c0b, ↓X_c1b, ↓X_c2b, ↓X_c3b, ↓X_c4b, ↓X_e0b, ↓X_e1b, ↓X_e2b, ↓X_e3b, ↓X_e4b, ↓X_cb, ↓X_eb, ↓X_w0b, ↓X_w1b, ↓X_hb, ↓X_yb, ↓X_rb, ↓wp_0b, ↓wp_2b, ↓wp_4b, ↓wp_8b, ↓ws_2b, ↓ws_3b, ↓ws_4b, ↓ws_5b, ↓ws_6b, ↓ws_12b, ↓ws_13b, ↓ws_14b, ↓ws_15b, ↓ws_16b, ↓ws_22b, ↓ws_23b, ↓ws_51b, ↓wS_yb, ↓wS_rb, ↓wS_cb, ↓wS_eb, hk, li_6, ofN_mul, ofN_add, c_sl, c_th, c_ckc, kd_all]
set_option maxRecDepth 8000 in
theorem F6_bears (h : Lok L) (hW : WX σ 200 ρ) (hC : CN σ) (hc : c < 6) (hkd : kd < 7) : F_X6_bears (some (L.1 (110 + (6 * kd + c)))) (hp L σ) = some (ρ (56 + 5 * c + 2)) := by
  have q := kd_all kd hkd
  have e : σ (110 + (6 * kd + c)) 0 = Int32.ofNat c := by rw [hC _ (by omega)]; congr 1; omega
  unfold F_X6_bears
  simp (discharger := first | assumption | omega | decide) only [x_tg, w_tg, m_tg, ↓reduceIte, Option.bind_some, ↓x_0b, ↓x_1b, ↓x_2b, ↓x_3b, ↓x_4b, ↓x_5b, ↓x_6b, ↓x_7b, ↓x_8b, ↓x_9b, ↓x_10b, ↓x_11b, ↓x_12b, ↓x_13b, ↓x_14b, ↓x_15b, ↓x_16b, ↓x_17b, ↓x_18b, ↓x_19b, ↓xp_2b, ↓xp_6b, ↓xp_14b, ↓xp_17b, ↓xp_18b, ↓xp_19b, ↓X_f0b, ↓X_f2b, ↓X_f4b, ↓X_f8b, ↓wf_1b, ↓wf_3b, ↓wf_5b, ↓wf_6b, ↓wf_7b, ↓wf_9b, ↓wt_1_0b, ↓wt_1_1b, ↓wt_1_2b, ↓wt_1_3b, ↓wt_1_4b, ↓wt_11_0b, ↓wt_11_1b, ↓wt_11_2b, ↓wt_11_3b, ↓wt_11_4b, ↓wt_21_0b, ↓wt_21_1b, ↓wt_31_0b, ↓wt_31_1b, ↓wt_31_2b, ↓wt_31_3b, ↓wt_31_4b, ↓wt_31_5b, ↓wt_31_6b, ↓wt_41_0b, ↓wt_41_1b, ↓wt_41_2b, ↓wt_41_3b, ↓wt_41_4b, ↓wt_41_5b, ↓wt_41_6b, ↓wt_1b, ↓wt_11b, ↓wt_21b, ↓wt_31b, ↓wt_41b, ↓X_c0b, ↓X_c1b, ↓X_c2b, ↓X_c3b, ↓X_c4b, ↓X_e0b, ↓X_e1b, ↓X_e2b, ↓X_e3b, ↓X_e4b, ↓X_cb, ↓X_eb, ↓X_w0b, ↓X_w1b, ↓X_hb, ↓X_yb, ↓X_rb, ↓wp_0b, ↓wp_2b, ↓wp_4b, ↓wp_8b, ↓ws_2b, ↓ws_3b, ↓ws_4b, ↓ws_5b, ↓ws_6b, ↓ws_12b, ↓ws_13b, ↓ws_14b, ↓ws_15b, ↓ws_16b, ↓ws_22b, ↓ws_23b, ↓ws_51b, ↓wS_yb, ↓wS_rb, ↓wS_cb, ↓wS_eb, c_tgi, c_fA, c_fI, q, e]
set_option maxRecDepth 8000 in
theorem V_bears_n (h : Lok L) (hW : WX σ 200 ρ) (hC : CN σ) (hc : c < 6) (hkd : kd < 7) {s : Nat} (hs : ρ (56 + 5 * c + 2) = Int32.ofNat s) (hs9 : s < 1000) : V_bears (some (L.1 (110 + (6 * kd + c)))) (hp L σ) = some (Int32.ofNat (brs kd s)) := by
  have e := F6_bears h hW hC hc hkd
  rw [hs] at e
  have ed : Int32.ofNat s / 2 = Int32.ofNat (s / 2) := ofN_div (b := 2) (by omega) (by omega)
  have em : 2 * Int32.ofNat s = Int32.ofNat (2 * s) := ofN_mul 2 s
  unfold V_bears F_X7_bears F_X8_bears
  simp only [c_tgi h hkd hc]
  rcases kd_cases hkd with rfl | rfl | rfl | rfl | rfl | rfl | rfl <;> simp at e <;> simp [e, ed, em, brs, -Int32.ofNat_mul]
set_option maxRecDepth 8000 in
theorem V_counts_n (h : Lok L) (hc : c < 6) (hkd : kd < 7) {y : Nat} (hy : y < 1000) (rv : Bool) : V_counts (some (L.1 (110 + (6 * kd + c)))) (Int32.ofNat y) (if rv then 1 else 0) (hp L σ) = some (Int32.ofNat (cnt kd y rv)) := by
  have ed : F_J3_max 1 (Int32.ofNat y / 2) = Int32.ofNat (max 1 (y / 2)) := by
    rw [show Int32.ofNat y / 2 = Int32.ofNat (y / 2) from ofN_div (b := 2) (by omega) (by omega)]
    exact ofN_max (a := 1) (by omega) (by omega)
  have em : 2 * Int32.ofNat y = Int32.ofNat (2 * y) := ofN_mul 2 y
  unfold V_counts F_X6_counts F_X12_counts F_X11_counts
  simp only [c_tgi h hkd hc]
  rcases kd_cases hkd with rfl | rfl | rfl | rfl | rfl | rfl | rfl <;> cases rv <;> simp [ed, em, cnt, -Int32.ofNat_mul]
set_option maxRecDepth 8000 in
theorem V_gets_n (h : Lok L) (hc : c < 6) (hkd : kd < 7) {p : Nat} (hp9 : p < 100000000) : V_gets (some (L.1 (110 + (6 * kd + c)))) (Int32.ofNat p) (hp L σ) = some (Int32.ofNat (gts kd p)) := by
  have ed : Int32.ofNat p / 2 = Int32.ofNat (p / 2) := ofN_div (b := 2) (by omega) (by omega)
  have et : Int32.ofNat p / 10 = Int32.ofNat (p / 10) := ofN_div (b := 10) (by omega) (by omega)
  have e1 : 1 + Int32.ofNat (p / 2) = Int32.ofNat (p / 2) + 1 := Int32.add_comm _ _
  unfold V_gets F_X6_gets F_X8_gets F_X9_gets F_X10_gets F_X8_gets F_X6_gets
  simp only [c_tgi h hkd hc]
  rcases kd_cases hkd with rfl | rfl | rfl | rfl | rfl | rfl | rfl <;> simp [ed, et, e1, gts]
set_option maxRecDepth 8000 in
theorem V_kind_n (h : Lok L) (hc : c < 6) (hkd : kd < 7) : V_kind (some (L.1 (110 + (6 * kd + c)))) (hp L σ) = some (Int32.ofNat kd) := by
  unfold V_kind F_X6_kind F_X7_kind F_X8_kind F_X9_kind F_X10_kind F_X11_kind F_X12_kind F_X7_kind F_X8_kind F_X11_kind F_X6_kind
  simp only [c_tgi h hkd hc]
  rcases kd_cases hkd with rfl | rfl | rfl | rfl | rfl | rfl | rfl <;> simp <;> rfl
set_option maxRecDepth 8000 in
theorem V_isUnder_n (h : Lok L) (hc : c < 6) (hkd : kd < 7) (hk : k < 7) : V_isUnder (some (L.1 (110 + (6 * kd + c)))) (Int32.ofNat k) (hp L σ) = some (if udr kd k then 1 else 0) := by
  have e : ∀ (n : Nat), n < 7 → (Int32.ofNat k = Int32.ofNat n ↔ k = n) := fun n hn => ofN_inj (by omega) (by omega)
  have e0 := e 0 (by omega); have e1 := e 1 (by omega); have e2 := e 2 (by omega); have e3 := e 3 (by omega); have e4 := e 4 (by omega); have e5 := e 5 (by omega); have e6 := e 6 (by omega)
  unfold V_isUnder F_X6_isUnder F_X7_isUnder F_X8_isUnder F_X11_isUnder F_X6_isUnder F_X6_isUnder_J12 F_X7_isUnder_J13 F_X8_isUnder_J13 F_X11_isUnder_J13
  simp only [c_tgi h hkd hc, V_kind_n h hc hkd, Option.bind_some]
  simp only [li_0, li_1, li_2, li_5, e0, e1, e2, e5]
  rcases kd_cases hkd with rfl | rfl | rfl | rfl | rfl | rfl | rfl <;> simp only [e0, e1, e2, e3, e4, e5, e6] <;> rcases kd_cases hk with rfl | rfl | rfl | rfl | rfl | rfl | rfl <;> simp [udr]
set_option maxRecDepth 8000 in
theorem x_bearsOf (h : Lok L) (hW : WX σ 200 ρ) (hC : CN σ) (hc : c < 6) (hkd : kd < 7) (hk : ρ (56 + 5 * c + 0) = Int32.ofNat kd) {s : Nat} (hs : ρ (56 + 5 * c + 2) = Int32.ofNat s) (hs9 : s < 1000) : F_X0_bearsOf (some (L.1 0)) (Int32.ofNat c) (hp L σ) = some (Int32.ofNat (brs kd s)) := by
  unfold F_X0_bearsOf
  rw [if_pos (x_tg h), x_carrierAt h hW hc hkd hk, Option.bind_some, V_bears_n h hW hC hc hkd hs hs9]; rfl
set_option maxRecDepth 8000 in
theorem x_getsOf (h : Lok L) (hW : WX σ 200 ρ) (hc : c < 6) (hkd : kd < 7) (hk : ρ (56 + 5 * c + 0) = Int32.ofNat kd) {p : Nat} (hp9 : p < 100000000) : F_X0_getsOf (some (L.1 0)) (Int32.ofNat c) (Int32.ofNat p) (hp L σ) = some (Int32.ofNat (gts kd p)) := by
  unfold F_X0_getsOf
  rw [if_pos (x_tg h), x_carrierAt h hW hc hkd hk, Option.bind_some, V_gets_n h hc hkd hp9]; rfl
set_option maxRecDepth 8000 in
theorem m_isUnder (w : cH) {k : Nat} (hkd : kd < 7) (hk : k < 7) : F_X13_isUnder (Int32.ofNat kd) (Int32.ofNat k) w = some (if udr kd k then 1 else 0) := by
  rcases kd_cases hkd with rfl | rfl | rfl | rfl | rfl | rfl | rfl <;> rcases kd_cases hk with rfl | rfl | rfl | rfl | rfl | rfl | rfl <;> rfl
set_option maxRecDepth 8000 in
theorem m_bears (h : Lok L) (hM : WM σ ρ) (hc : c < 6) (hkd : kd < 7) (hk : ρ (56 + 5 * c + 0) = Int32.ofNat kd) {s : Nat} (hs : ρ (56 + 5 * c + 2) = Int32.ofNat s) (hs9 : s < 1000) : F_X13_bears (some (L.1 1000)) (Int32.ofNat c) (hp L σ) = some (Int32.ofNat (brs kd s)) := by
  have ed : Int32.ofNat s / 2 = Int32.ofNat (s / 2) := ofN_div (b := 2) (by omega) (by omega)
  have em : 2 * Int32.ofNat s = Int32.ofNat (2 * s) := ofN_mul 2 s
  unfold F_X13_bears
  simp (discharger := first | assumption | omega | decide) only [x_tg, w_tg, m_tg, ↓reduceIte, Option.bind_some, ↓m_0b, ↓m_1b, ↓m_2b, ↓m_3b, ↓m_4b, ↓m_5b, ↓m_6b, ↓m_7b, ↓m_8b, ↓m_9b, ↓m_10b, ↓m_11b, ↓m_12b, ↓m_13b, ↓m_14b, ↓m_15b, ↓m_16b, ↓m_17b, ↓m_18b, ↓m_19b, ↓m_20b, ↓m_21b, ↓m_22b, ↓m_23b, ↓m_24b, ↓m_25b, ↓m_26b, ↓m_27b, ↓m_28b, ↓m_29b, ↓mp_3b, ↓mp_6b, ↓mp_10b, ↓mp_11b, ↓mp_12b, ↓mp_14b, ↓mp_15b, ↓mp_16b, ↓mp_17b, ↓mp_18b, ↓mp_19b, ↓mp_22b, ↓mp_23b, ↓mp_24b, ↓mp_25b, ↓M_42b, ↓M_43b, ↓M_44b, ↓M_45b, ↓cIs_0b, ↓cIs_1b, ↓cIs_2b, ↓cIs_3b, ↓cIs_4b, ↓eIs_0b, ↓eIs_1b, ↓eIs_2b, ↓eIs_3b, ↓eIs_4b, ↓cIs_nb, ↓eIs_nb, ↓M_rb, ↓M_cAt_0b, ↓M_cAt_1b, ↓M_cAt_2b, ↓M_cAt_3b, ↓M_cAt_4b, ↓M_eAt_0b, ↓M_eAt_1b, ↓M_eAt_2b, ↓M_eAt_3b, ↓M_eAt_4b, ↓M_wAt_0b, ↓M_wAt_1b, cAt_0, cAt_1, cAt_2, cAt_3, cAt_4, eAt_0, eAt_1, eAt_2, eAt_3, eAt_4, wAt_0, wAt_1, cAt_n, eAt_n, wAt_n, hk, hs, li_1, li_2, m_isUnder]
  rw [← li_1, ← li_2, ed, em]
  rcases kd_cases hkd with rfl | rfl | rfl | rfl | rfl | rfl | rfl <;> simp [udr, brs]
set_option maxRecDepth 8000 in
theorem m_getsFor (h : Lok L) (hM : WM σ ρ) (hc : c < 6) (hkd : kd < 7) (hk : ρ (56 + 5 * c + 0) = Int32.ofNat kd) {p : Nat} (hp9 : p < 100000000) : F_X13_getsFor (some (L.1 1000)) (Int32.ofNat c) (Int32.ofNat p) (hp L σ) = some (Int32.ofNat (gts kd p)) := by
  have ed : Int32.ofNat p / 2 = Int32.ofNat (p / 2) := ofN_div (b := 2) (by omega) (by omega)
  have et : Int32.ofNat p / 10 = Int32.ofNat (p / 10) := ofN_div (b := 10) (by omega) (by omega)
  unfold F_X13_getsFor
  simp (discharger := first | assumption | omega | decide) only [x_tg, w_tg, m_tg, ↓reduceIte, Option.bind_some, ↓m_0b, ↓m_1b, ↓m_2b, ↓m_3b, ↓m_4b, ↓m_5b, ↓m_6b, ↓m_7b, ↓m_8b, ↓m_9b, ↓m_10b, ↓m_11b, ↓m_12b, ↓m_13b, ↓m_14b, ↓m_15b, ↓m_16b, ↓m_17b, ↓m_18b, ↓m_19b, ↓m_20b, ↓m_21b, ↓m_22b, ↓m_23b, ↓m_24b, ↓m_25b, ↓m_26b, ↓m_27b, ↓m_28b, ↓m_29b, ↓mp_3b, ↓mp_6b, ↓mp_10b, ↓mp_11b, ↓mp_12b, ↓mp_14b, ↓mp_15b, ↓mp_16b, ↓mp_17b, ↓mp_18b, ↓mp_19b, ↓mp_22b, ↓mp_23b, ↓mp_24b, ↓mp_25b, ↓M_42b, ↓M_43b, ↓M_44b, ↓M_45b, ↓cIs_0b, ↓cIs_1b, ↓cIs_2b, ↓cIs_3b, ↓cIs_4b, ↓eIs_0b, ↓eIs_1b, ↓eIs_2b, ↓eIs_3b, ↓eIs_4b, ↓cIs_nb, ↓eIs_nb, ↓M_rb, ↓M_cAt_0b, ↓M_cAt_1b, ↓M_cAt_2b, ↓M_cAt_3b, ↓M_cAt_4b, ↓M_eAt_0b, ↓M_eAt_1b, ↓M_eAt_2b, ↓M_eAt_3b, ↓M_eAt_4b, ↓M_wAt_0b, ↓M_wAt_1b, cAt_0, cAt_1, cAt_2, cAt_3, cAt_4, eAt_0, eAt_1, eAt_2, eAt_3, eAt_4, wAt_0, wAt_1, cAt_n, eAt_n, wAt_n, hk]
  rw [ed, et]
  rcases kd_cases hkd with rfl | rfl | rfl | rfl | rfl | rfl | rfl <;> simp [gts] <;> rfl
end L2t
/-! ### tables of ways -/
abbrev TI : Type := Nat → Nat → Int32
def tsI (V : TI) (p q : Nat) (v : Int32) : TI := fun p' q' => if p' = p ∧ q' = q then v else V p' q'
def tX (σ : St) (z : Nat) (V : TI) : St := fun i k => if z ≤ i ∧ i < z + 7 ∧ k < 7 then V (i - z) k else σ i k
def tM (σ : St) (V : TI) : St := fun i k => if i = 1005 ∧ k < 49 then V (k / 7) (k % 7) else σ i k
def nT (T : Tb) : TI := fun p q => Int32.ofNat (T p q)
set_option maxRecDepth 8000 in
theorem nT_set (T : Tb) (p q v : Nat) : tsI (nT T) p q (Int32.ofNat v) = nT (tset T p q v) := by
  funext p' q'; unfold tsI nT tset; split <;> rfl
set_option maxRecDepth 8000 in
theorem tX_congr {σ : St} {z : Nat} {V V' : TI} (h : ∀ p q, p < 7 → q < 7 → V p q = V' p q) : tX σ z V = tX σ z V' := by
  funext i k; unfold tX; split
  · exact h _ _ (by omega) (by omega)
  · rfl
set_option maxRecDepth 8000 in
theorem tM_congr {σ : St} {V V' : TI} (h : ∀ p q, p < 7 → q < 7 → V p q = V' p q) : tM σ V = tM σ V' := by
  funext i k; unfold tM; split
  · exact h _ _ (by omega) (by omega)
  · rfl
set_option maxRecDepth 8000 in
theorem tX_self (σ : St) (z : Nat) : tX σ z (fun p q => σ (z + p) q) = σ := by
  funext i k; unfold tX; split
  · dsimp only; congr 1; omega
  · rfl
set_option maxRecDepth 8000 in
theorem tM_self (σ : St) : tM σ (fun p q => σ 1005 (7 * p + q)) = σ := by
  funext i k; unfold tM; split
  · rename_i h; dsimp only; rw [h.1]; congr 1; omega
  · rfl
set_option maxRecDepth 8000 in
theorem tX_up {σ : St} {z : Nat} {V : TI} {p q : Nat} {v : Int32} (hp9 : p < 7) (hq : q < 7) : up2 (tX σ z V) (z + p) q v = tX σ z (tsI V p q v) := by
  funext i k
  unfold up2 tX tsI
  by_cases h : i = z + p ∧ k = q
  · rw [if_pos h, if_pos (by omega), if_pos (by omega)]
  · rw [if_neg h]
    by_cases h2 : z ≤ i ∧ i < z + 7 ∧ k < 7
    · rw [if_pos h2, if_pos h2, if_neg (by omega)]
    · rw [if_neg h2, if_neg h2]
set_option maxRecDepth 8000 in
theorem tM_up {σ : St} {V : TI} {p q : Nat} {v : Int32} (hp9 : p < 7) (hq : q < 7) : up2 (tM σ V) 1005 (7 * p + q) v = tM σ (tsI V p q v) := by
  funext i k
  unfold up2 tM tsI
  by_cases h : i = 1005 ∧ k = 7 * p + q
  · rw [if_pos h, if_pos (by omega), if_pos (by omega)]
  · rw [if_neg h]
    by_cases h2 : i = 1005 ∧ k < 49
    · rw [if_pos h2, if_pos h2, if_neg (by omega)]
    · rw [if_neg h2, if_neg h2]
set_option maxRecDepth 8000 in
theorem WX_congr {σ σ' : St} {b : Nat} {ρ : Rw} (h : ∀ i, b ≤ i → i < b + 52 → σ' i = σ i) (hW : WX σ b ρ) : WX σ' b ρ := by
  obtain ⟨⟨h1, h2, h3, h4⟩, h5, h6, h7, h8, h9⟩ := hW
  refine ⟨⟨?_, ?_, ?_, ?_⟩, fun s hs => ?_, fun f c hf hc => ?_, fun f c hf hc => ?_, fun f c hf hc => ?_, fun p q hp9 hq => ?_⟩
  · rw [h b (by omega) (by omega)]; exact h1
  · rw [h b (by omega) (by omega)]; exact h2
  · rw [h b (by omega) (by omega)]; exact h3
  · rw [h b (by omega) (by omega)]; exact h4
  · rw [h (b + 51) (by omega) (by omega)]; exact h5 s hs
  · rw [h (b + 2 + f) (by omega) (by omega)]; exact h6 f c hf hc
  · rw [h (b + 12 + f) (by omega) (by omega)]; exact h7 f c hf hc
  · rw [h (b + 22 + f) (by omega) (by omega)]; exact h8 f c hf hc
  · rw [h (b + 32 + p) (by omega) (by omega), h (b + 42 + p) (by omega) (by omega)]; exact h9 p q hp9 hq
set_option maxRecDepth 8000 in
theorem tX_ge {σ : St} {z : Nat} {V : TI} {i : Nat} (h : i < z ∨ z + 7 ≤ i) : tX σ z V i = σ i := by
  funext k; unfold tX; rw [if_neg (by omega)]
set_option maxRecDepth 8000 in
theorem tM_ne {σ : St} {V : TI} {i : Nat} (h : i ≠ 1005) : tM σ V i = σ i := by
  funext k; unfold tM; rw [if_neg (fun q => h q.1)]
def isT (tz z : Nat) : Prop := (tz = 9 ∧ z = 20) ∨ (tz = 10 ∧ z = 30)
section L2u
variable {L : Lt} {σ : St} {tz z n p q kd c : Nat} {v : Int32} {V : TI} {ρ : Rw}
set_option maxRecDepth 8000 in
theorem WX_tX (hz : isT tz z) {b : Nat} (hb : 200 ≤ b) (hW : WX σ b ρ) : WX (tX σ z V) b ρ := WX_congr (fun i hi _ => tX_ge (by unfold isT at hz; omega)) hW
set_option maxRecDepth 8000 in
theorem WM_tM (hM : WM σ ρ) : WM (tM σ V) ρ := fun i hi => by rw [tM_ne (by omega)]; exact hM i hi
set_option maxRecDepth 8000 in
theorem CN_tX (hz : isT tz z) (hC : CN σ) : CN (tX σ z V) := fun k hk => by rw [tX_ge (by unfold isT at hz; omega)]; exact hC k hk
set_option maxRecDepth 8000 in
theorem T_row (h : Lok L) (hz : isT tz z) (hn : n < 7) : aA (hp L σ) (some (L.1 tz)) 103 (Int32.ofNat n) = some (some (L.1 (z + n))) := by
  rcases hz with ⟨rfl, rfl⟩ | ⟨rfl, rfl⟩
  · exact h.aA (r := some (20 + n)) (by decide) (by decide) hn (by omega) (by show (if n < 7 then some (some (20 + n)) else some none) = _; rw [if_pos hn])
  · exact h.aA (r := some (30 + n)) (by decide) (by decide) hn (by omega) (by show (if n < 7 then some (some (30 + n)) else some none) = _; rw [if_pos hn])
set_option maxRecDepth 8000 in
theorem T_id : ∀ p, p < 7 → (sidP (20 + p) = true ∧ sTN (20 + p) = (100, 7)) ∧ sidP (30 + p) = true ∧ sTN (30 + p) = (100, 7) := by decide
set_option maxRecDepth 8000 in
theorem T_sP (p k : Nat) (hp9 : p < 7) : sP (20 + p) k = none ∧ sP (30 + p) k = none := by
  have hp' : p = 0 ∨ p = 1 ∨ p = 2 ∨ p = 3 ∨ p = 4 ∨ p = 5 ∨ p = 6 := by omega
  rcases hp' with rfl | rfl | rfl | rfl | rfl | rfl | rfl <;> exact ⟨rfl, rfl⟩
set_option maxRecDepth 8000 in
theorem T_get0 (h : Lok L) (hz : isT tz z) (hp9 : p < 7) (hq : q < 7) : aI (hp L σ) (some (L.1 (z + p))) 100 (Int32.ofNat q) = some (σ (z + p) q) := by
  have e := T_id p hp9
  have e2 := T_sP p q hp9
  rcases hz with ⟨rfl, rfl⟩ | ⟨rfl, rfl⟩
  · exact h.aI e.1.1 (by rw [e.1.2]) (by rw [e.1.2]; exact hq) (by omega) e2.1
  · exact h.aI e.2.1 (by rw [e.2.2]) (by rw [e.2.2]; exact hq) (by omega) e2.2
set_option maxRecDepth 8000 in
theorem T_get (h : Lok L) (hz : isT tz z) (hp9 : p < 7) (hq : q < 7) : aI (hp L (tX σ z V)) (some (L.1 (z + p))) 100 (Int32.ofNat q) = some (V p q) := by
  rw [T_get0 h hz hp9 hq]; unfold tX; rw [if_pos (by omega)]; congr 2; omega
set_option maxRecDepth 8000 in
theorem T_set (h : Lok L) (hz : isT tz z) (hp9 : p < 7) (hq : q < 7) : aS (hp L (tX σ z V)) (some (L.1 (z + p))) 100 (Int32.ofNat q) (.int v) = some (hp L (tX σ z (tsI V p q v))) := by
  have e := T_id p hp9
  have e2 := T_sP p q hp9
  rw [← tX_up hp9 hq]
  rcases hz with ⟨rfl, rfl⟩ | ⟨rfl, rfl⟩
  · exact h.aS e.1.1 (by rw [e.1.2]) (by rw [e.1.2]; exact hq) (by omega) e2.1
  · exact h.aS e.2.1 (by rw [e.2.2]) (by rw [e.2.2]; exact hq) (by omega) e2.2
set_option maxRecDepth 8000 in
theorem ix7 (p q : Nat) : 7 * Int32.ofNat p + Int32.ofNat q = Int32.ofNat (7 * p + q) := by rw [li_7, ofN_mul, ofN_add]
set_option maxRecDepth 8000 in
theorem MT_get (h : Lok L) (hp9 : p < 7) (hq : q < 7) : aI (hp L (tM σ V)) (some (L.1 1005)) 100 (Int32.ofNat (7 * p + q)) = some (V p q) := by
  rw [mi_1005 h (by omega)]; unfold tM; rw [if_pos (by omega)]; congr 2 <;> omega
set_option maxRecDepth 8000 in
theorem MT_set (h : Lok L) (hp9 : p < 7) (hq : q < 7) : aS (hp L (tM σ V)) (some (L.1 1005)) 100 (Int32.ofNat (7 * p + q)) (.int v) = some (hp L (tM σ (tsI V p q v))) := by
  rw [ms_1005 h (by omega), tM_up hp9 hq]
/-- what is known of the ways of a row -/
def WAY (ρ : Rw) : Prop := ∀ p q, p < 7 → q < 7 → p ≠ q → (∃ y, y ≤ 99 ∧ ρ (wy p q) = Int32.ofNat y) ∧ (ρ (wy p q + 1) = 0 ∨ ρ (wy p q + 1) = 1)
def T0 (ρ : Rw) (kd : Nat) : Tb := fun p q => if p = q then 0 else if ρ (wy p q) = 0 then 1000000 else cnt kd (nv (ρ (wy p q))) (decide (ρ (wy p q + 1) = 1))
def FT (ρ : Rw) (kd : Nat) : Tb := fw (T0 ρ kd)
set_option maxRecDepth 8000 in
theorem nv_of {y : Nat} (h : y < 2147483648) : nv (Int32.ofNat y) = y := by
  unfold nv Int32.toNatClampNeg; rw [toI h]; rfl
set_option maxRecDepth 8000 in
theorem cnt_le {kd y : Nat} {r : Bool} (h : y ≤ 99) : cnt kd y r ≤ 198 := by
  unfold cnt; split
  · omega
  · split <;> omega
set_option maxRecDepth 8000 in
theorem cnt_pos {kd y : Nat} {r : Bool} (h : 0 < y) : 0 < cnt kd y r := by
  unfold cnt; split
  · omega
  · split <;> omega
set_option maxRecDepth 8000 in
theorem T0_b (hw : WAY ρ) {kd p q : Nat} (hp9 : p < 7) (hq : q < 7) : T0 ρ kd p q = 1000000 ∨ T0 ρ kd p q ≤ 198 := by
  unfold T0
  by_cases h : p = q
  · rw [if_pos h]; omega
  · rw [if_neg h]
    obtain ⟨⟨y, hy, e⟩, _⟩ := hw p q hp9 hq h
    by_cases h2 : ρ (wy p q) = 0
    · rw [if_pos h2]; omega
    · rw [if_neg h2, e, nv_of (by omega)]; exact .inr (cnt_le hy)
set_option maxRecDepth 8000 in
theorem T0_sym (ρ : Rw) (kd p q : Nat) : T0 ρ kd p q = T0 ρ kd q p := by
  unfold T0
  rw [wy_sym p q]
  by_cases h : p = q
  · rw [if_pos h, if_pos h.symm]
  · have h' : ¬ q = p := fun e => h e.symm
    rw [if_neg h, if_neg h']
set_option maxRecDepth 8000 in
theorem FT_clo (hw : WAY ρ) (kd : Nat) : Clo (T0 ρ kd) (FT ρ kd) := fw_clo (fun p _ => by unfold T0; rw [if_pos rfl]) (fun p q _ _ => T0_sym ρ kd p q) (fun p q hp9 hq => T0_b hw hp9 hq)
set_option maxRecDepth 8000 in
theorem FT_le (hw : WAY ρ) {kd : Nat} (hp9 : p < 7) (hq : q < 7) : FT ρ kd p q ≤ 1000000 := by
  have := (FT_clo hw kd).2.2.2.2.1 p q hp9 hq; omega
/-- all entries are at most the mark -/
def tB (T : Tb) : Prop := ∀ p q, p < 7 → q < 7 → T p q ≤ 1000000
set_option maxRecDepth 8000 in
theorem tB_fwq {m p : Nat} {T : Tb} (h : tB T) (q : Nat) : tB (fwq m p q T) := by
  intro a b ha hb
  unfold fwq tset
  split
  · rename_i e; rw [← e.1, ← e.2]; have := h a b ha hb; omega
  · exact h a b ha hb
set_option maxRecDepth 8000 in
theorem tB_fwp {m : Nat} {T : Tb} (h : tB T) (p : Nat) : tB (fwp m p T) := itF_inv0 (fun _ t => tB t) 7 T h fun e b _ h => tB_fwq h e
set_option maxRecDepth 8000 in
theorem tB_fwm {T : Tb} (h : tB T) (m : Nat) : tB (fwm m T) := itF_inv0 (fun _ t => tB t) 7 T h fun e b _ h => tB_fwp h e
set_option maxRecDepth 8000 in
theorem x_tells_q (h : Lok L) (hz : isT tz z) {rc8 : Option Nat → Int32 → cH → Option cH} {rc17 : Option Nat → Int32 → Int32 → cH → Option cH} {m p : Nat} (hm : m < 7) (hp9 : p < 7) {T : Tb} (hT : tB T) :
    F_X0_tells_L27 rc8 rc17 fu (some (L.1 tz)) (Int32.ofNat m) (Int32.ofNat p) 0 (hp L (tX σ z (nT T))) = rc17 (some (L.1 tz)) (Int32.ofNat m) (Int32.ofNat (p + 1)) (hp L (tX σ z (nT (fwp m p T)))) := by
  refine (lpP (Lp := fun f q T => F_X0_tells_L27 rc8 rc17 f (some (L.1 tz)) (Int32.ofNat m) (Int32.ofNat p) (Int32.ofNat q) (hp L (tX σ z (nT T)))) (st := fwq m p) (fin := fun T => rc17 (some (L.1 tz)) (Int32.ofNat m) (Int32.ofNat (p + 1)) (hp L (tX σ z (nT T)))) (N := 7) (fun _ T => tB T) (fun f T hT => ?_) (fun f q T hq hT => ?_) (fun q T _ hT => tB_fwq hT q) 7 0 fu T (by omega) (by unfold fu; omega) hT).1
  · simp (discharger := first | assumption | omega | decide) only [F_X0_tells_L27, F_X0_tells_B27, li_7, ofN_le, Nat.le_refl, ↓reduceIte, ofNs]
  · have hd : ¬ 7 ≤ q := by omega
    have b1 := hT p q hp9 hq; have b2 := hT p m hp9 hm; have b3 := hT m q hm hq
    simp (discharger := first | assumption | omega | decide) only [F_X0_tells_L27, F_X0_tells_B27, li_7, ofN_le, hd, ↓reduceIte, T_row h hz, T_get h hz, Option.bind_some, T_set h hz, ofNs, nT, ofN_add, ofN_min]
    rw [nT_set]
    rfl
set_option maxRecDepth 8000 in
theorem x_tells_p (h : Lok L) (hz : isT tz z) {rc8 : Option Nat → Int32 → cH → Option cH} {m : Nat} (hm : m < 7) {T : Tb} (hT : tB T) :
    F_X0_tells_L17 rc8 fu (some (L.1 tz)) (Int32.ofNat m) 0 (hp L (tX σ z (nT T))) = rc8 (some (L.1 tz)) (Int32.ofNat (m + 1)) (hp L (tX σ z (nT (fwm m T)))) := by
  refine (lpP (Lp := fun f p T => F_X0_tells_L17 rc8 f (some (L.1 tz)) (Int32.ofNat m) (Int32.ofNat p) (hp L (tX σ z (nT T)))) (st := fwp m) (fin := fun T => rc8 (some (L.1 tz)) (Int32.ofNat (m + 1)) (hp L (tX σ z (nT T)))) (N := 7) (fun _ T => tB T) (fun f T hT => ?_) (fun f p T hp9 hT => ?_) (fun p T _ hT => tB_fwp hT p) 7 0 fu T (by omega) (by unfold fu; omega) hT).1
  · simp (discharger := first | assumption | omega | decide) only [F_X0_tells_L17, F_X0_tells_B17, li_7, ofN_le, Nat.le_refl, ↓reduceIte, ofNs]
  · have hd : ¬ 7 ≤ p := by omega
    simp (discharger := first | assumption | omega | decide) only [F_X0_tells_L17, F_X0_tells_B17, li_7, ofN_le, hd, ↓reduceIte]
    exact x_tells_q h hz hm hp9 hT
set_option maxRecDepth 8000 in
theorem x_tells_m (h : Lok L) (hz : isT tz z) {T : Tb} (hT : tB T) :
    F_X0_tells_L8 fu (some (L.1 tz)) 0 (hp L (tX σ z (nT T))) = some (hp L (tX σ z (nT (fw T)))) := by
  refine (lpP (Lp := fun f m T => F_X0_tells_L8 f (some (L.1 tz)) (Int32.ofNat m) (hp L (tX σ z (nT T)))) (st := fwm) (fin := fun T => some (hp L (tX σ z (nT T)))) (N := 7) (fun _ T => tB T) (fun f T hT => ?_) (fun f m T hm hT => ?_) (fun m T _ hT => tB_fwm hT m) 7 0 fu T (by omega) (by unfold fu; omega) hT).1
  · simp (discharger := first | assumption | omega | decide) only [F_X0_tells_L8, F_X0_tells_B8, li_7, ofN_le, Nat.le_refl, ↓reduceIte]
  · have hd : ¬ 7 ≤ m := by omega
    simp (discharger := first | assumption | omega | decide) only [F_X0_tells_L8, F_X0_tells_B8, li_7, ofN_le, hd, ↓reduceIte]
    exact x_tells_p h hz hm hT
end L2u
/-! ### tables of ways: the beginnings, the model -/
section L2v
variable {L : Lt} {σ : St} {tz z n p q kd c : Nat} {v : Int32} {V : TI} {ρ : Rw}
def bgQ (ρ : Rw) (kd p q : Nat) (V : TI) : TI := tsI V p q (Int32.ofNat (T0 ρ kd p q))
def bgP (ρ : Rw) (kd p : Nat) (V : TI) : TI := itF (bgQ ρ kd p) 0 7 V
def bgA (ρ : Rw) (kd : Nat) (V : TI) : TI := itF (bgP ρ kd) 0 7 V
set_option maxRecDepth 8000 in
theorem bgP_eq (ρ : Rw) (kd p : Nat) (V : TI) : ∀ a b, b < 7 → bgP ρ kd p V a b = if a = p then Int32.ofNat (T0 ρ kd a b) else V a b := by
  have key := itF_inv0 (f := bgQ ρ kd p) (fun q0 (V' : TI) => ∀ a b, V' a b = if a = p ∧ b < q0 then Int32.ofNat (T0 ρ kd a b) else V a b) 7 V (fun a b => by rw [if_neg (by omega)]) ?_
  · intro a b hb
    have := key a b
    unfold bgP
    rw [this]
    by_cases ha : a = p
    · rw [if_pos ⟨ha, hb⟩, if_pos ha]
    · rw [if_neg (fun q => ha q.1), if_neg ha]
  · intro e V' he hV a b
    unfold bgQ tsI
    by_cases hx : a = p ∧ b = e
    · rw [if_pos hx, if_pos (by omega), hx.1, hx.2]
    · rw [if_neg hx, hV a b]
      by_cases hy : a = p ∧ b < e
      · rw [if_pos hy, if_pos (by omega)]
      · rw [if_neg hy, if_neg (by omega)]
set_option maxRecDepth 8000 in
theorem bg_eq (ρ : Rw) (kd : Nat) (V : TI) : ∀ a b, a < 7 → b < 7 → bgA ρ kd V a b = nT (T0 ρ kd) a b := by
  have key := itF_inv0 (f := bgP ρ kd) (fun p0 (V' : TI) => ∀ a b, a < p0 → b < 7 → V' a b = Int32.ofNat (T0 ρ kd a b)) 7 V (fun a b h => absurd h (by omega)) ?_
  · exact key
  · intro e V' he hV a b ha hb
    rw [bgP_eq ρ kd e V' a b hb]
    by_cases hx : a = e
    · rw [if_pos hx]
    · rw [if_neg hx]; exact hV a b (by omega) hb
set_option maxRecDepth 8000 in
theorem x_begins_q (h : Lok L) (hz : isT tz z) (hW : WX σ 200 ρ) (hw : WAY ρ) (hc : c < 6) (hkd : kd < 7) {rc2 : Option Nat → Option Nat → Option Nat → Int32 → cH → Option cH} (hp9 : p < 7) (V : TI) :
    F_X0_begins_L11 rc2 fu (some (L.1 0)) (some (L.1 (110 + (6 * kd + c)))) (some (L.1 tz)) (Int32.ofNat p) 0 (hp L (tX σ z V)) = rc2 (some (L.1 0)) (some (L.1 (110 + (6 * kd + c)))) (some (L.1 tz)) (Int32.ofNat (p + 1)) (hp L (tX σ z (bgP ρ kd p V))) := by
  refine lpF (Lp := fun f q V => F_X0_begins_L11 rc2 f (some (L.1 0)) (some (L.1 (110 + (6 * kd + c)))) (some (L.1 tz)) (Int32.ofNat p) (Int32.ofNat q) (hp L (tX σ z V))) (st := bgQ ρ kd p) (fin := fun V => rc2 (some (L.1 0)) (some (L.1 (110 + (6 * kd + c)))) (some (L.1 tz)) (Int32.ofNat (p + 1)) (hp L (tX σ z V))) (N := 7) (fun f V => ?_) (fun f q V hq => ?_) (by unfold fu; omega) V
  · simp (discharger := first | assumption | omega | decide) only [F_X0_begins_L11, F_X0_begins_B11, li_7, ofN_le, Nat.le_refl, ↓reduceIte, ofNs]
  · have hd : ¬ 7 ≤ q := by omega
    have hW' := WX_tX (V := V) hz (Nat.le_refl 200) hW
    have hb : isW 200 = true := rfl
    simp (discharger := first | assumption | omega | decide) only [x_tg, w_tg, m_tg, ↓reduceIte, Option.bind_some, ↓x_0b, ↓x_1b, ↓x_2b, ↓x_3b, ↓x_4b, ↓x_5b, ↓x_6b, ↓x_7b, ↓x_8b, ↓x_9b, ↓x_10b, ↓x_11b, ↓x_12b, ↓x_13b, ↓x_14b, ↓x_15b, ↓x_16b, ↓x_17b, ↓x_18b, ↓x_19b, ↓xp_2b, ↓xp_6b, ↓xp_14b, ↓xp_17b, ↓xp_18b, ↓xp_19b, ↓X_f0b, ↓X_f2b, ↓X_f4b, ↓X_f8b, ↓wf_1b, ↓wf_3b, ↓wf_5b, ↓wf_6b, ↓wf_7b, ↓wf_9b, ↓wt_1_0b, ↓wt_1_1b, ↓wt_1_2b, ↓wt_1_3b, ↓wt_1_4b, ↓wt_11_0b, ↓wt_11_1b, ↓wt_11_2b, ↓wt_11_3b, ↓wt_11_4b, ↓wt_21_0b, ↓wt_21_1b, ↓wt_31_0b, ↓wt_31_1b, ↓wt_31_2b, ↓wt_31_3b, ↓wt_31_4b, ↓wt_31_5b, ↓wt_31_6b, ↓wt_41_0b, ↓wt_41_1b, ↓wt_41_2b, ↓wt_41_3b, ↓wt_41_4b, ↓wt_41_5b, ↓wt_41_6b, ↓wt_1b, ↓wt_11b, ↓wt_21b, ↓wt_31b, ↓wt_41b, ↓X_c0b, ↓X_c1b, ↓X_c2b, ↓X_c3b, ↓X_c4b, ↓X_e0b, ↓X_e1b, ↓X_e2b, ↓X_e3b, ↓X_e4b, ↓X_cb, ↓X_eb, ↓X_w0b, ↓X_w1b, ↓X_hb, ↓X_yb, ↓X_rb, ↓wp_0b, ↓wp_2b, ↓wp_4b, ↓wp_8b, ↓ws_2b, ↓ws_3b, ↓ws_4b, ↓ws_5b, ↓ws_6b, ↓ws_12b, ↓ws_13b, ↓ws_14b, ↓ws_15b, ↓ws_16b, ↓ws_22b, ↓ws_23b, ↓ws_51b, ↓wS_yb, ↓wS_rb, ↓wS_cb, ↓wS_eb, F_X0_begins_J96, F_X0_begins_J77, F_X0_begins_J72, F_X0_begins_B11, F_X0_begins_L11, F_X0_begins_B2, F_X0_begins_L2, F_X0_begins, li_7, ofN_le, hd, ofNs, ofN_inj, T_row h hz, T_set h hz]
    unfold bgQ T0
    by_cases hpq : p = q
    · subst hpq
      simp
    · obtain ⟨⟨y, hy, e⟩, hr⟩ := hw p q hp9 hq hpq
      simp only [hpq, ↓reduceIte, not_false_eq_true]
      by_cases h0 : ρ (wy p q) = 0
      · simp [h0]
      · have c1 := V_counts_n (σ := tX σ z V) h hc hkd (y := y) (by omega) true
        have c0 := V_counts_n (σ := tX σ z V) h hc hkd (y := y) (by omega) false
        simp only [↓reduceIte, Bool.false_eq_true] at c1 c0
        rw [e] at h0
        rcases hr with hr | hr
        · simp only [h0, hr, e, not_false_eq_true, ↓reduceIte, c0, Option.bind_some, nv_of (show y < 2147483648 by omega)]
          simp only [show ¬ (0 : Int32) = 1 by decide, not_false_eq_true, ↓reduceIte, decide_false, c0, Option.bind_some, T_row h hz hp9, T_set h hz hp9 hq]
        · simp only [h0, hr, e, not_false_eq_true, not_true_eq_false, ↓reduceIte, c1, Option.bind_some, nv_of (show y < 2147483648 by omega), decide_true, T_row h hz hp9, T_set h hz hp9 hq]
set_option maxRecDepth 8000 in
theorem x_begins (h : Lok L) (hz : isT tz z) (hW : WX σ 200 ρ) (hw : WAY ρ) (hc : c < 6) (hkd : kd < 7) :
    F_X0_begins (some (L.1 0)) (some (L.1 (110 + (6 * kd + c)))) (some (L.1 tz)) (hp L σ) = some (hp L (tX σ z (nT (T0 ρ kd)))) := by
  have e : tX σ z (nT (T0 ρ kd)) = tX σ z (bgA ρ kd (fun p q => σ (z + p) q)) := (tX_congr (bg_eq ρ kd _)).symm
  rw [e]
  have e2 : hp L σ = hp L (tX σ z (fun p q => σ (z + p) q)) := by rw [tX_self]
  rw [e2]
  unfold F_X0_begins
  rw [if_pos (x_tg h)]
  refine lpF (Lp := fun f p V => F_X0_begins_L2 f (some (L.1 0)) (some (L.1 (110 + (6 * kd + c)))) (some (L.1 tz)) (Int32.ofNat p) (hp L (tX σ z V))) (st := bgP ρ kd) (fin := fun V => some (hp L (tX σ z V))) (N := 7) (fun f V => ?_) (fun f p V hp9 => ?_) (by unfold fu; omega) _
  · simp (discharger := first | assumption | omega | decide) only [F_X0_begins_L2, F_X0_begins_B2, li_7, ofN_le, Nat.le_refl, ↓reduceIte]
  · have hd : ¬ 7 ≤ p := by omega
    simp (discharger := first | assumption | omega | decide) only [F_X0_begins_L2, F_X0_begins_B2, li_7, ofN_le, hd, ↓reduceIte]
    exact x_begins_q h hz hW hw hc hkd hp9 V
set_option maxRecDepth 8000 in
theorem tB_T0 (hw : WAY ρ) (kd : Nat) : tB (T0 ρ kd) := fun p q hp9 hq => by have := T0_b (kd := kd) hw hp9 hq; omega
set_option maxRecDepth 8000 in
theorem x_tells (h : Lok L) (hz : isT tz z) (hW : WX σ 200 ρ) (hw : WAY ρ) (hc : c < 6) (hkd : kd < 7) :
    F_X0_tells (some (L.1 0)) (some (L.1 (110 + (6 * kd + c)))) (some (L.1 tz)) (hp L σ) = some (hp L (tX σ z (nT (FT ρ kd)))) := by
  unfold F_X0_tells
  rw [if_pos (x_tg h), x_begins h hz hW hw hc hkd, Option.bind_some, x_tells_m h hz (tB_T0 hw kd)]
  rfl
set_option maxRecDepth 8000 in
theorem x_tellsFor (h : Lok L) (hW : WX σ 200 ρ) (hw : WAY ρ) (hc : c < 6) (hkd : kd < 7) (hk : ρ (56 + 5 * c + 0) = Int32.ofNat kd) :
    F_X0_tellsFor (some (L.1 0)) (Int32.ofNat c) (hp L σ) = some (hp L (tX σ 30 (nT (FT ρ kd)))) := by
  unfold F_X0_tellsFor
  rw [if_pos (x_tg h), x_carrierAt h hW hc hkd hk, Option.bind_some, x_12 h, Option.bind_some, x_tells h (Or.inr ⟨rfl, rfl⟩) hW hw hc hkd]
  rfl
set_option maxRecDepth 8000 in
theorem x_farOf (h : Lok L) (hW : WX σ 200 ρ) (hw : WAY ρ) (hc : c < 6) (hkd : kd < 7) (hk : ρ (56 + 5 * c + 0) = Int32.ofNat kd) (hp9 : p < 7) (hq : q < 7) :
    F_X0_farOf (some (L.1 0)) (Int32.ofNat c) (Int32.ofNat p) (Int32.ofNat q) (hp L σ) = some (if FT ρ kd p q < 1000000 then Int32.ofNat (FT ρ kd p q) else -1, hp L (tX σ 30 (nT (FT ρ kd)))) := by
  have hz : isT 10 30 := Or.inr ⟨rfl, rfl⟩
  have hb := FT_le (kd := kd) hw hp9 hq
  unfold F_X0_farOf
  rw [if_pos (x_tg h), x_tellsFor h hW hw hc hkd hk]
  simp (discharger := first | assumption | omega | decide) only [Option.bind_some, x_12, T_row h hz, T_get h hz, nT, li_1000000, ofN_le]
  by_cases hx : FT ρ kd p q < 1000000
  · rw [if_neg (by omega), if_pos hx]
  · rw [if_pos (by omega), if_neg hx]
/-- the worth of an errand: pounds and yards -/
def wth (ρ : Rw) (e : Nat) : Option Nat := if FT ρ 0 (nv (ρ (86 + 5 * e + 1))) (nv (ρ (86 + 5 * e + 2))) < 1000000 then some (nv (ρ (86 + 5 * e + 0)) * FT ρ 0 (nv (ρ (86 + 5 * e + 1))) (nv (ρ (86 + 5 * e + 2)))) else none
def oN (o : Option Nat) : Int32 := match o with
  | some n => Int32.ofNat n
  | none => -1
/-- an errand's numbers -/
def ERR (ρ : Rw) (e : Nat) : Prop := ∃ lb fr to : Nat, ρ (86 + 5 * e + 0) = Int32.ofNat lb ∧ ρ (86 + 5 * e + 1) = Int32.ofNat fr ∧ ρ (86 + 5 * e + 2) = Int32.ofNat to ∧ lb ≤ 60 ∧ fr < 7 ∧ to < 7 ∧ fr ≠ to ∧ 1 ≤ lb
set_option maxRecDepth 8000 in
theorem x_worthOf (h : Lok L) (hW : WX σ 200 ρ) (hw : WAY ρ) {e : Nat} (he : e < 8) (hE : ERR ρ e) :
    F_X0_worthOf (some (L.1 0)) (Int32.ofNat e) (hp L σ) = some (oN (wth ρ e), hp L (tX σ 20 (nT (FT ρ 0)))) := by
  obtain ⟨lb, fr, to, e0, e1, e2, hlb, hfr, hto, _⟩ := hE
  have hz : isT 9 20 := Or.inl ⟨rfl, rfl⟩
  have hb := FT_le (kd := 0) hw hfr hto
  have hW' := WX_tX (V := nT (FT ρ 0)) hz (Nat.le_refl 200) hW
  have ht := x_tells (c := 0) (kd := 0) h hz hW hw (by omega) (by omega)
  have q0 := c_sl (n := 0) (σ := σ) h (by omega)
  have q1 := c_th (n := 0) (σ := σ) h (by omega)
  have q2 := c_ckc (kd := 0) (c := 0) (σ := σ) (ts := [6, 7, 8, 9, 10, 11, 12]) h (by omega) (by omega)
  unfold F_X0_worthOf
  rw [if_pos (x_tg h), x_7 h, Option.bind_some, show (0 : Int32) = Int32.ofNat 0 from rfl, q0, Option.bind_some, q1, Option.bind_some]
  rw [if_pos (show ckc (hp L σ) (some (L.1 (110 + 0))) [6, 7, 8, 9, 10, 11, 12] = true from q2), x_11 h, Option.bind_some]
  rw [show F_X0_tells (some (L.1 0)) (some (L.1 (110 + 0))) (some (L.1 9)) (hp L σ) = some (hp L (tX σ 20 (nT (FT ρ 0)))) from ht, Option.bind_some]
  rw [← li_0]
  simp (discharger := first | assumption | omega | decide) only [x_tg, w_tg, m_tg, ↓reduceIte, Option.bind_some, ↓x_0b, ↓x_1b, ↓x_2b, ↓x_3b, ↓x_4b, ↓x_5b, ↓x_6b, ↓x_7b, ↓x_8b, ↓x_9b, ↓x_10b, ↓x_11b, ↓x_12b, ↓x_13b, ↓x_14b, ↓x_15b, ↓x_16b, ↓x_17b, ↓x_18b, ↓x_19b, ↓xp_2b, ↓xp_6b, ↓xp_14b, ↓xp_17b, ↓xp_18b, ↓xp_19b, ↓X_f0b, ↓X_f2b, ↓X_f4b, ↓X_f8b, ↓wf_1b, ↓wf_3b, ↓wf_5b, ↓wf_6b, ↓wf_7b, ↓wf_9b, ↓wt_1_0b, ↓wt_1_1b, ↓wt_1_2b, ↓wt_1_3b, ↓wt_1_4b, ↓wt_11_0b, ↓wt_11_1b, ↓wt_11_2b, ↓wt_11_3b, ↓wt_11_4b, ↓wt_21_0b, ↓wt_21_1b, ↓wt_31_0b, ↓wt_31_1b, ↓wt_31_2b, ↓wt_31_3b, ↓wt_31_4b, ↓wt_31_5b, ↓wt_31_6b, ↓wt_41_0b, ↓wt_41_1b, ↓wt_41_2b, ↓wt_41_3b, ↓wt_41_4b, ↓wt_41_5b, ↓wt_41_6b, ↓wt_1b, ↓wt_11b, ↓wt_21b, ↓wt_31b, ↓wt_41b, ↓X_c0b, ↓X_c1b, ↓X_c2b, ↓X_c3b, ↓X_c4b, ↓X_e0b, ↓X_e1b, ↓X_e2b, ↓X_e3b, ↓X_e4b, ↓X_cb, ↓X_eb, ↓X_w0b, ↓X_w1b, ↓X_hb, ↓X_yb, ↓X_rb, ↓wp_0b, ↓wp_2b, ↓wp_4b, ↓wp_8b, ↓ws_2b, ↓ws_3b, ↓ws_4b, ↓ws_5b, ↓ws_6b, ↓ws_12b, ↓ws_13b, ↓ws_14b, ↓ws_15b, ↓ws_16b, ↓ws_22b, ↓ws_23b, ↓ws_51b, ↓wS_yb, ↓wS_rb, ↓wS_cb, ↓wS_eb, e0, e1, e2, T_row h hz, T_get h hz]
  simp (discharger := first | assumption | omega | decide) only [nT, li_1000000, ofN_le]
  unfold wth
  rw [e0, e1, e2, nv_of (show lb < 2147483648 by omega), nv_of (show fr < 2147483648 by omega), nv_of (show to < 2147483648 by omega)]
  by_cases hx : FT ρ 0 fr to < 1000000
  · rw [if_neg (by omega), if_pos hx, ofN_mul]; rfl
  · rw [if_pos (by omega), if_neg hx]; rfl
/-! the model -/
set_option maxRecDepth 8000 in
theorem m_tells_q (h : Lok L) {rc8 : Option Nat → Int32 → cH → Option cH} {rc17 : Option Nat → Int32 → Int32 → cH → Option cH} {m p : Nat} (hm : m < 7) (hp9 : p < 7) {T : Tb} (hT : tB T) :
    F_X13_findFar_L92 rc8 rc17 fu (some (L.1 1000)) (Int32.ofNat m) (Int32.ofNat p) 0 (hp L (tM σ (nT T))) = rc17 (some (L.1 1000)) (Int32.ofNat m) (Int32.ofNat (p + 1)) (hp L (tM σ (nT (fwp m p T)))) := by
  refine (lpP (Lp := fun f q T => F_X13_findFar_L92 rc8 rc17 f (some (L.1 1000)) (Int32.ofNat m) (Int32.ofNat p) (Int32.ofNat q) (hp L (tM σ (nT T)))) (st := fwq m p) (fin := fun T => rc17 (some (L.1 1000)) (Int32.ofNat m) (Int32.ofNat (p + 1)) (hp L (tM σ (nT T)))) (N := 7) (fun _ T => tB T) (fun f T hT => ?_) (fun f q T hq hT => ?_) (fun q T _ hT => tB_fwq hT q) 7 0 fu T (by omega) (by unfold fu; omega) hT).1
  · simp (discharger := first | assumption | omega | decide) only [F_X13_findFar_L92, F_X13_findFar_B92, show (7 : Int32) ≤ Int32.ofNat 7 from by decide, ↓reduceIte, ofNs]
  · have hd : ¬ (7 : Int32) ≤ Int32.ofNat q := by rw [li_7, ofN_le (by omega) (by omega)]; omega
    have b1 := hT p q hp9 hq; have b2 := hT p m hp9 hm; have b3 := hT m q hm hq
    simp (discharger := first | assumption | omega | decide) only [F_X13_findFar_L92, F_X13_findFar_B92, hd, ↓reduceIte, m_5 h, ix7, MT_get h, Option.bind_some, MT_set h, ofNs, nT, ofN_add, ofN_min]
    rw [nT_set]
    rfl
set_option maxRecDepth 8000 in
theorem m_tells_p (h : Lok L) {rc8 : Option Nat → Int32 → cH → Option cH} {m : Nat} (hm : m < 7) {T : Tb} (hT : tB T) :
    F_X13_findFar_L83 rc8 fu (some (L.1 1000)) (Int32.ofNat m) 0 (hp L (tM σ (nT T))) = rc8 (some (L.1 1000)) (Int32.ofNat (m + 1)) (hp L (tM σ (nT (fwm m T)))) := by
  refine (lpP (Lp := fun f p T => F_X13_findFar_L83 rc8 f (some (L.1 1000)) (Int32.ofNat m) (Int32.ofNat p) (hp L (tM σ (nT T)))) (st := fwp m) (fin := fun T => rc8 (some (L.1 1000)) (Int32.ofNat (m + 1)) (hp L (tM σ (nT T)))) (N := 7) (fun _ T => tB T) (fun f T hT => ?_) (fun f p T hp9 hT => ?_) (fun p T _ hT => tB_fwp hT p) 7 0 fu T (by omega) (by unfold fu; omega) hT).1
  · simp (discharger := first | assumption | omega | decide) only [F_X13_findFar_L83, F_X13_findFar_B83, li_7, ofN_le, Nat.le_refl, ↓reduceIte, ofNs]
  · have hd : ¬ 7 ≤ p := by omega
    simp (discharger := first | assumption | omega | decide) only [F_X13_findFar_L83, F_X13_findFar_B83, li_7, ofN_le, hd, ↓reduceIte]
    exact m_tells_q h hm hp9 hT
set_option maxRecDepth 8000 in
theorem m_tells_m (h : Lok L) {T : Tb} (hT : tB T) :
    F_X13_findFar_L75 fu (some (L.1 1000)) 0 (hp L (tM σ (nT T))) = some (hp L (tM σ (nT (fw T)))) := by
  refine (lpP (Lp := fun f m T => F_X13_findFar_L75 f (some (L.1 1000)) (Int32.ofNat m) (hp L (tM σ (nT T)))) (st := fwm) (fin := fun T => some (hp L (tM σ (nT T)))) (N := 7) (fun _ T => tB T) (fun f T hT => ?_) (fun f m T hm hT => ?_) (fun m T _ hT => tB_fwm hT m) 7 0 fu T (by omega) (by unfold fu; omega) hT).1
  · simp (discharger := first | assumption | omega | decide) only [F_X13_findFar_L75, F_X13_findFar_B75, li_7, ofN_le, Nat.le_refl, ↓reduceIte]
  · have hd : ¬ 7 ≤ m := by omega
    simp (discharger := first | assumption | omega | decide) only [F_X13_findFar_L75, F_X13_findFar_B75, li_7, ofN_le, hd, ↓reduceIte]
    exact m_tells_p h hm hT
set_option maxRecDepth 8000 in
theorem m_counts (h : Lok L) (hM : WM σ ρ) (hw : WAY ρ) (hkd : kd < 7) (hp9 : p < 7) (hq : q < 7) (hpq : p ≠ q) : F_X13_counts (some (L.1 1000)) (Int32.ofNat kd) (Int32.ofNat p) (Int32.ofNat q) (hp L σ) = some (Int32.ofNat (cnt kd (nv (ρ (wy p q))) (decide (ρ (wy p q + 1) = 1)))) := by
  obtain ⟨⟨y, hy, e⟩, hr⟩ := hw p q hp9 hq hpq
  have hlt := wy_lt p q hp9 hq hpq
  have ed : F_J3_max 1 (Int32.ofNat y / 2) = Int32.ofNat (max 1 (y / 2)) := by
    rw [show Int32.ofNat y / 2 = Int32.ofNat (y / 2) from ofN_div (b := 2) (by omega) (by omega)]
    exact ofN_max (a := 1) (by omega) (by omega)
  have em : 2 * Int32.ofNat y = Int32.ofNat (2 * y) := ofN_mul 2 y
  unfold F_X13_counts F_X13_counts_J33
  simp (discharger := first | assumption | omega | decide) only [x_tg, w_tg, m_tg, ↓reduceIte, Option.bind_some, ↓m_0b, ↓m_1b, ↓m_2b, ↓m_3b, ↓m_4b, ↓m_5b, ↓m_6b, ↓m_7b, ↓m_8b, ↓m_9b, ↓m_10b, ↓m_11b, ↓m_12b, ↓m_13b, ↓m_14b, ↓m_15b, ↓m_16b, ↓m_17b, ↓m_18b, ↓m_19b, ↓m_20b, ↓m_21b, ↓m_22b, ↓m_23b, ↓m_24b, ↓m_25b, ↓m_26b, ↓m_27b, ↓m_28b, ↓m_29b, ↓mp_3b, ↓mp_6b, ↓mp_10b, ↓mp_11b, ↓mp_12b, ↓mp_14b, ↓mp_15b, ↓mp_16b, ↓mp_17b, ↓mp_18b, ↓mp_19b, ↓mp_22b, ↓mp_23b, ↓mp_24b, ↓mp_25b, ↓M_42b, ↓M_43b, ↓M_44b, ↓M_45b, ↓cIs_0b, ↓cIs_1b, ↓cIs_2b, ↓cIs_3b, ↓cIs_4b, ↓eIs_0b, ↓eIs_1b, ↓eIs_2b, ↓eIs_3b, ↓eIs_4b, ↓cIs_nb, ↓eIs_nb, ↓M_rb, ↓M_cAt_0b, ↓M_cAt_1b, ↓M_cAt_2b, ↓M_cAt_3b, ↓M_cAt_4b, ↓M_eAt_0b, ↓M_eAt_1b, ↓M_eAt_2b, ↓M_eAt_3b, ↓M_eAt_4b, ↓M_wAt_0b, ↓M_wAt_1b, cAt_0, cAt_1, cAt_2, cAt_3, cAt_4, eAt_0, eAt_1, eAt_2, eAt_3, eAt_4, wAt_0, wAt_1, cAt_n, eAt_n, wAt_n, wayAt_n p q hp9 hq hpq, ofNs]
  rw [e, nv_of (show y < 2147483648 by omega), ed, em]
  rcases hr with hr | hr <;> rw [hr] <;> rcases kd_cases hkd with rfl | rfl | rfl | rfl | rfl | rfl | rfl <;> simp [cnt]
set_option maxRecDepth 8000 in
theorem m_begins_q (h : Lok L) (hM : WM σ ρ) (hw : WAY ρ) (hkd : kd < 7) {rc2 : Option Nat → Int32 → Int32 → cH → Option cH} (hp9 : p < 7) (V : TI) :
    F_X13_findFar_L10 rc2 fu (some (L.1 1000)) (Int32.ofNat kd) (Int32.ofNat p) 0 (hp L (tM σ V)) = rc2 (some (L.1 1000)) (Int32.ofNat kd) (Int32.ofNat (p + 1)) (hp L (tM σ (bgP ρ kd p V))) := by
  refine lpF (Lp := fun f q V => F_X13_findFar_L10 rc2 f (some (L.1 1000)) (Int32.ofNat kd) (Int32.ofNat p) (Int32.ofNat q) (hp L (tM σ V))) (st := bgQ ρ kd p) (fin := fun V => rc2 (some (L.1 1000)) (Int32.ofNat kd) (Int32.ofNat (p + 1)) (hp L (tM σ V))) (N := 7) (fun f V => ?_) (fun f q V hq => ?_) (by unfold fu; omega) V
  · simp (discharger := first | assumption | omega | decide) only [F_X13_findFar_L10, F_X13_findFar_B10, show (7 : Int32) ≤ Int32.ofNat 7 from by decide, ↓reduceIte, ofNs]
  · have hd : ¬ (7 : Int32) ≤ Int32.ofNat q := by rw [li_7, ofN_le (by omega) (by omega)]; omega
    have hM' := WM_tM (V := V) hM
    simp (discharger := first | assumption | omega | decide) only [F_X13_findFar_L10, F_X13_findFar_B10, F_X13_findFar_J60, hd, ↓reduceIte, m_5 h, m_0 h, Option.bind_some, ix7, ofN_inj, ofNs, MT_set h]
    unfold bgQ T0
    by_cases hpq : p = q
    · subst hpq
      simp
    · have hlt := wy_lt p q hp9 hq hpq
      simp only [hpq, ↓reduceIte, not_false_eq_true, wayAt_n p q hp9 hq hpq, M_r h hM' (show wy p q < 138 by omega), Option.bind_some, m_counts h hM' hw hkd hp9 hq hpq]
      by_cases h0 : ρ (wy p q) = 0
      · simp [h0, MT_set h hp9 hq]
      · simp [h0, MT_set h hp9 hq]
set_option maxRecDepth 8000 in
theorem m_findFar (h : Lok L) (hM : WM σ ρ) (hw : WAY ρ) (hkd : kd < 7) : F_X13_findFar (some (L.1 1000)) (Int32.ofNat kd) (hp L σ) = some (hp L (tM σ (nT (FT ρ kd)))) := by
  have e2 : hp L σ = hp L (tM σ (fun p q => σ 1005 (7 * p + q))) := by rw [tM_self]
  rw [e2]
  unfold F_X13_findFar
  rw [if_pos (m_tg h)]
  refine (lpF (Lp := fun f p V => F_X13_findFar_L2 f (some (L.1 1000)) (Int32.ofNat kd) (Int32.ofNat p) (hp L (tM σ V))) (st := bgP ρ kd) (fin := fun V => F_X13_findFar_L75 fu (some (L.1 1000)) 0 (hp L (tM σ V))) (N := 7) (fun f V => ?_) (fun f p V hp9 => ?_) (by unfold fu; omega) _).trans ?_
  · simp (discharger := first | assumption | omega | decide) only [F_X13_findFar_L2, F_X13_findFar_B2, li_7, ofN_le, Nat.le_refl, ↓reduceIte]
  · have hd : ¬ 7 ≤ p := by omega
    simp (discharger := first | assumption | omega | decide) only [F_X13_findFar_L2, F_X13_findFar_B2, li_7, ofN_le, hd, ↓reduceIte]
    exact m_begins_q h hM hw hkd hp9 V
  · show F_X13_findFar_L75 fu (some (L.1 1000)) 0 (hp L (tM σ (bgA ρ kd _))) = _
    rw [tM_congr (bg_eq ρ kd _)]
    exact m_tells_m h (tB_T0 hw kd)
set_option maxRecDepth 8000 in
theorem m_farFor (h : Lok L) (hM : WM σ ρ) (hw : WAY ρ) (hkd : kd < 7) (hp9 : p < 7) (hq : q < 7) : F_X13_farFor (some (L.1 1000)) (Int32.ofNat kd) (Int32.ofNat p) (Int32.ofNat q) (hp L σ) = some (Int32.ofNat (FT ρ kd p q), hp L (tM σ (nT (FT ρ kd)))) := by
  unfold F_X13_farFor
  rw [if_pos (m_tg h), m_findFar h hM hw hkd, Option.bind_some, m_5 h, Option.bind_some, ix7, MT_get h hp9 hq]
  rfl
set_option maxRecDepth 8000 in
theorem m_worthOf (h : Lok L) (hM : WM σ ρ) (hw : WAY ρ) {e : Nat} (he : e < 8) (hE : ERR ρ e) :
    F_X13_worthOf (some (L.1 1000)) (Int32.ofNat e) (hp L σ) = some (oN (wth ρ e), hp L (tM σ (nT (FT ρ 0)))) := by
  obtain ⟨lb, fr, to, e0, e1, e2, hlb, hfr, hto, _⟩ := hE
  have hb := FT_le (kd := 0) hw hfr hto
  have hM' := WM_tM (V := nT (FT ρ 0)) hM
  have hf := m_farFor (kd := 0) h hM hw (by omega) hfr hto
  unfold F_X13_worthOf
  rw [if_pos (m_tg h), eIs_1 h hM he, Option.bind_some, eIs_2 h hM he, Option.bind_some, e1, e2]
  rw [show F_X13_farFor (some (L.1 1000)) 0 (Int32.ofNat fr) (Int32.ofNat to) (hp L σ) = _ from hf]
  show (if Int32.ofNat (FT ρ 0 fr to) < 1000000 then _ else _) = _
  unfold wth
  rw [e0, e1, e2, nv_of (show lb < 2147483648 by omega), nv_of (show fr < 2147483648 by omega), nv_of (show to < 2147483648 by omega), li_1000000, eIs_0 h hM' he, e0, Option.bind_some]
  simp (discharger := first | assumption | omega | decide) only [ofN_lt]
  by_cases hx : FT ρ 0 fr to < 1000000
  · rw [if_pos hx, if_pos hx, ofN_mul]; rfl
  · rw [if_neg hx, if_neg hx]; rfl
end L2v
