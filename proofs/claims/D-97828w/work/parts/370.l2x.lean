/-! ### rounds: the class's walk -/
set_option maxRecDepth 8000 in
theorem itF_snoc {α : Type} (f : Nat → α → α) : ∀ (k j : Nat) (a : α), itF f j (k + 1) a = f (j + k) (itF f j k a)
  | 0, _, _ => rfl
  | k + 1, j, a => by
    show itF f (j + 1) (k + 1) (f j a) = f (j + (k + 1)) (itF f (j + 1) k (f j a))
    rw [itF_snoc f k (j + 1) (f j a), show j + 1 + k = j + (k + 1) by omega]
set_option maxRecDepth 8000 in
theorem itF_snoc0 {α : Type} (f : Nat → α → α) (k : Nat) (a : α) : itF f 0 (k + 1) a = f k (itF f 0 k a) := by
  rw [itF_snoc, Nat.zero_add]
/-- how many of the first n are in a set -/
def cbS (s e a : Nat) : Nat := a + if s.testBit e then 1 else 0
def cbn (s n : Nat) : Nat := itF (cbS s) 0 n 0
set_option maxRecDepth 8000 in
theorem cbn_succ (s n : Nat) : cbn s (n + 1) = cbn s n + if s.testBit n then 1 else 0 := itF_snoc0 _ _ _
set_option maxRecDepth 8000 in
theorem cbn_mono (s : Nat) {m n : Nat} (h : m ≤ n) : cbn s m ≤ cbn s n := by
  induction n with
  | zero => rw [show m = 0 by omega]; exact Nat.le_refl _
  | succ n ih =>
    by_cases he : m = n + 1
    · rw [he]; exact Nat.le_refl _
    · rw [cbn_succ]; have := ih (by omega); omega
/-- the members of a set, in order -/
abbrev Cl : Type := Nat × (Nat → Nat)
def colS (s e : Nat) (u : Cl) : Cl := if s.testBit e then (u.1 + 1, fun i => if i = u.1 then e else u.2 i) else u
def col (s N : Nat) : Cl := itF (colS s) 0 N (0, fun _ => 0)
set_option maxRecDepth 8000 in
theorem col_spec (s N : Nat) : (col s N).1 = cbn s N ∧ (∀ i, i < (col s N).1 → (col s N).2 i < N ∧ s.testBit ((col s N).2 i) = true) ∧ ∀ e, e < N → s.testBit e = true → ∃ i, i < (col s N).1 ∧ (col s N).2 i = e := by
  refine itF_inv0 (f := colS s) (fun n (u : Cl) => u.1 = cbn s n ∧ (∀ i, i < u.1 → u.2 i < n ∧ s.testBit (u.2 i) = true) ∧ ∀ e, e < n → s.testBit e = true → ∃ i, i < u.1 ∧ u.2 i = e) N (0, fun _ => 0) ⟨rfl, fun i hi => absurd hi (Nat.not_lt_zero _), fun e he => absurd he (Nat.not_lt_zero _)⟩ ?_
  intro e u he ⟨h1, h2, h3⟩
  unfold colS
  by_cases hb : s.testBit e = true
  · rw [if_pos hb]
    refine ⟨by rw [cbn_succ, if_pos hb, ← h1], fun i hi => ?_, fun e' he' hb' => ?_⟩
    · dsimp only at hi ⊢
      by_cases hi2 : i = u.1
      · rw [if_pos hi2]; exact ⟨by omega, hb⟩
      · rw [if_neg hi2]; have := h2 i (by omega); exact ⟨by omega, this.2⟩
    · by_cases hee : e' = e
      · exact ⟨u.1, by dsimp only; omega, by dsimp only; rw [if_pos rfl, hee]⟩
      · obtain ⟨i, hi, hi2⟩ := h3 e' (by omega) hb'
        exact ⟨i, by dsimp only; omega, by dsimp only; rw [if_neg (by omega)]; exact hi2⟩
  · rw [if_neg hb]
    refine ⟨by rw [cbn_succ, if_neg hb]; exact h1, fun i hi => ?_, fun e' he' hb' => ?_⟩
    · have := h2 i hi; exact ⟨by omega, this.2⟩
    · by_cases hee : e' = e
      · subst hee; exact absurd hb' hb
      · exact h3 e' (by omega) hb'
def cX (σ : St) (u : Cl) : St := fun i j => if i = 11 ∧ j < u.1 then Int32.ofNat (u.2 j) else if i = 0 ∧ j = 14 then Int32.ofNat u.1 else σ i j
def cM (σ : St) (u : Cl) : St := fun i j => if i = 1007 ∧ j < u.1 then Int32.ofNat (u.2 j) else σ i j
set_option maxRecDepth 8000 in
theorem cX_ge {σ : St} {u : Cl} {i : Nat} (h : i ≠ 0) (h2 : i ≠ 11) : cX σ u i = σ i := by
  funext j; unfold cX; rw [if_neg (by omega), if_neg (by omega)]
set_option maxRecDepth 8000 in
theorem cM_ge {σ : St} {u : Cl} {i : Nat} (h : i ≠ 1007) : cM σ u i = σ i := by
  funext j; unfold cM; rw [if_neg (by omega)]
/-- the table of states; K codes -/
def xL (σ : St) (t : Tb) (K : Nat) : St := fun i k => if 600 ≤ i ∧ i < 600 + K ∧ k < 7 then Int32.ofNat (t (i - 600) k) else σ i k
def mL (σ : St) (t : Tb) (K : Nat) : St := fun i k => if i = 1006 ∧ k < 7 * K then Int32.ofNat (t (k / 7) (k % 7)) else σ i k
set_option maxRecDepth 8000 in
theorem xL_ge {σ : St} {t : Tb} {K i : Nat} (h : i < 600 ∨ 600 + K ≤ i) : xL σ t K i = σ i := by
  funext j; unfold xL; rw [if_neg (by omega)]
set_option maxRecDepth 8000 in
theorem mL_ge {σ : St} {t : Tb} {K i : Nat} (h : i ≠ 1006) : mL σ t K i = σ i := by
  funext j; unfold mL; rw [if_neg (by omega)]
set_option maxRecDepth 8000 in
theorem xL_up {σ : St} {t : Tb} {K c p v : Nat} (hc : c < K) (hp9 : p < 7) : up2 (xL σ t K) (600 + c) p (Int32.ofNat v) = xL σ (tset t c p v) K := by
  funext i k
  unfold up2 xL tset
  by_cases h : i = 600 + c ∧ k = p
  · rw [if_pos h, if_pos (by omega), if_pos (by omega)]
  · rw [if_neg h]
    by_cases h2 : 600 ≤ i ∧ i < 600 + K ∧ k < 7
    · rw [if_pos h2, if_pos h2, if_neg (by omega)]
    · rw [if_neg h2, if_neg h2]
set_option maxRecDepth 8000 in
theorem mL_up {σ : St} {t : Tb} {K c p v : Nat} (hc : c < K) (hp9 : p < 7) : up2 (mL σ t K) 1006 (7 * c + p) (Int32.ofNat v) = mL σ (tset t c p v) K := by
  funext i k
  unfold up2 mL tset
  by_cases h : i = 1006 ∧ k = 7 * c + p
  · rw [if_pos h, if_pos (by omega), if_pos (by omega)]
  · rw [if_neg h]
    by_cases h2 : i = 1006 ∧ k < 7 * K
    · rw [if_pos h2, if_pos h2, if_neg (by omega)]
    · rw [if_neg h2, if_neg h2]
set_option maxRecDepth 8000 in
theorem p3_le {k : Nat} (h : k ≤ 5) : 3 ^ k ≤ 243 := Nat.pow_le_pow_right (n := 3) (by decide) h
def efr (ρ : Rw) (u : Cl) (i : Nat) : Nat := nv (ρ (86 + 5 * u.2 i + 1))
def eto (ρ : Rw) (u : Cl) (i : Nat) : Nat := nv (ρ (86 + 5 * u.2 i + 2))
def elb (ρ : Rw) (u : Cl) (i : Nat) : Nat := nv (ρ (86 + 5 * u.2 i + 0))
/-- the members' numbers -/
def MEM (ρ : Rw) (u : Cl) : Prop := u.1 ≤ 5 ∧ ∀ i, i < u.1 → u.2 i < 8 ∧ ρ (86 + 5 * u.2 i + 0) = Int32.ofNat (elb ρ u i) ∧ ρ (86 + 5 * u.2 i + 1) = Int32.ofNat (efr ρ u i) ∧ ρ (86 + 5 * u.2 i + 2) = Int32.ofNat (eto ρ u i) ∧ elb ρ u i ≤ 60 ∧ efr ρ u i < 7 ∧ eto ρ u i < 7 ∧ efr ρ u i ≠ eto ρ u i
set_option maxRecDepth 8000 in
theorem MEM_of {ρ : Rw} {u : Cl} {N : Nat} (hk : u.1 ≤ 5) (h8 : N ≤ 8) (hu : ∀ i, i < u.1 → u.2 i < N) (hE : ∀ e, e < N → ERR ρ e) : MEM ρ u := by
  refine ⟨hk, fun i hi => ?_⟩
  obtain ⟨lb, fr, to, e0, e1, e2, hlb, hfr, hto, hne, _⟩ := hE _ (hu i hi)
  have hh := hu i hi
  unfold elb efr eto
  rw [e0, e1, e2, nv_of (show lb < 2147483648 by omega), nv_of (show fr < 2147483648 by omega), nv_of (show to < 2147483648 by omega)]
  exact ⟨by omega, rfl, rfl, rfl, hlb, hfr, hto, hne⟩
def PX (σ : St) : Prop := ∀ i, i < 6 → σ 12 i = Int32.ofNat (3 ^ i)
def PM (σ : St) : Prop := ∀ i, i < 6 → σ 1008 i = Int32.ofNat (3 ^ i)
/-- the store at a round's run: class -/
def DX (σ : St) (ρ : Rw) (T : Tb) (u : Cl) : Prop := WX σ 200 ρ ∧ PX σ ∧ (∀ i, i < u.1 → σ 11 i = Int32.ofNat (u.2 i)) ∧ σ 0 14 = Int32.ofNat u.1 ∧ ∀ p q, p < 7 → q < 7 → σ (30 + p) q = Int32.ofNat (T p q)
def DM (σ : St) (ρ : Rw) (T : Tb) (u : Cl) : Prop := WM σ ρ ∧ PM σ ∧ (∀ i, i < u.1 → σ 1007 i = Int32.ofNat (u.2 i)) ∧ ∀ p q, p < 7 → q < 7 → σ 1005 (7 * p + q) = Int32.ofNat (T p q)
set_option maxRecDepth 8000 in
theorem DX_xL {σ : St} {ρ : Rw} {T : Tb} {u : Cl} {t : Tb} {K : Nat} (h : DX σ ρ T u) : DX (xL σ t K) ρ T u := by
  obtain ⟨h1, h2, h3, h4, h5⟩ := h
  refine ⟨WX_congr (fun i hi hi2 => xL_ge (by omega)) h1, fun i hi => ?_, fun i hi => ?_, ?_, fun p q hp9 hq => ?_⟩
  · rw [xL_ge (by omega)]; exact h2 i hi
  · rw [xL_ge (by omega)]; exact h3 i hi
  · rw [xL_ge (by omega)]; exact h4
  · rw [xL_ge (by omega)]; exact h5 p q hp9 hq
set_option maxRecDepth 8000 in
theorem DM_mL {σ : St} {ρ : Rw} {T : Tb} {u : Cl} {t : Tb} {K : Nat} (h : DM σ ρ T u) : DM (mL σ t K) ρ T u := by
  obtain ⟨h1, h2, h3, h5⟩ := h
  refine ⟨fun i hi => ?_, fun i hi => ?_, fun i hi => ?_, fun p q hp9 hq => ?_⟩
  · rw [mL_ge (by omega)]; exact h1 i hi
  · rw [mL_ge (by omega)]; exact h2 i hi
  · rw [mL_ge (by omega)]; exact h3 i hi
  · rw [mL_ge (by omega)]; exact h5 p q hp9 hq
/-- all of a table at most the mark -/
def tA (t : Tb) : Prop := ∀ a b, t a b ≤ 1000000
set_option maxRecDepth 8000 in
theorem tA_rlx {t : Tb} (h : tA t) (c p v : Nat) : tA (rlx t c p v) := fun a b => Nat.le_trans ((lw_rlx (c := 0) (Nat.zero_le _)).1 a b) (h a b)
section L2x
variable {L : Lt} {σ : St} {ρ : Rw} {T : Tb} {u : Cl} {c i p q : Nat}
set_option maxRecDepth 8000 in
theorem R_id : ∀ c, c < 243 → sidP (600 + c) = true ∧ sTN (600 + c) = (100, 7) := by decide +kernel
set_option maxRecDepth 8000 in
theorem R_sP {c : Nat} (k : Nat) (hc : c < 243) : sP (600 + c) k = none := by
  unfold sP; rw [if_neg (by omega), if_neg (by omega), if_pos (by omega)]
set_option maxRecDepth 8000 in
theorem R_row (h : Lok L) (hc : c < 243) : aA (hp L σ) (some (L.1 13)) 103 (Int32.ofNat c) = some (some (L.1 (600 + c))) :=
  h.aA (r := some (600 + c)) (by decide) (by decide) hc (by omega) (by show (if c < 243 then some (some (600 + c)) else some none) = _; rw [if_pos hc])
set_option maxRecDepth 8000 in
theorem R_get0 (h : Lok L) (hc : c < 243) (hp9 : p < 7) : aI (hp L σ) (some (L.1 (600 + c))) 100 (Int32.ofNat p) = some (σ (600 + c) p) := by
  have e := R_id c hc
  exact h.aI e.1 (by rw [e.2]) (by rw [e.2]; exact hp9) (by omega) (R_sP p hc)
set_option maxRecDepth 8000 in
theorem R_get (h : Lok L) {t : Tb} {K : Nat} (hK : K ≤ 243) (hc : c < K) (hp9 : p < 7) : aI (hp L (xL σ t K)) (some (L.1 (600 + c))) 100 (Int32.ofNat p) = some (Int32.ofNat (t c p)) := by
  rw [R_get0 h (by omega) hp9]; unfold xL; rw [if_pos (by omega)]; congr 3; omega
set_option maxRecDepth 8000 in
theorem R_set0 (h : Lok L) {v : Int32} (hc : c < 243) (hp9 : p < 7) : aS (hp L σ) (some (L.1 (600 + c))) 100 (Int32.ofNat p) (.int v) = some (hp L (up2 σ (600 + c) p v)) := by
  have e := R_id c hc
  exact h.aS e.1 (by rw [e.2]) (by rw [e.2]; exact hp9) (by omega) (R_sP p hc)
set_option maxRecDepth 8000 in
theorem R_set (h : Lok L) {t : Tb} {K v : Nat} (hK : K ≤ 243) (hc : c < K) (hp9 : p < 7) : aS (hp L (xL σ t K)) (some (L.1 (600 + c))) 100 (Int32.ofNat p) (.int (Int32.ofNat v)) = some (hp L (xL σ (tset t c p v) K)) := by
  rw [R_set0 h (by omega) hp9, xL_up hc hp9]
set_option maxRecDepth 8000 in
theorem x_pw (h : Lok L) (hP : PX σ) (hi : i < 6) : aI (hp L σ) (some (L.1 12)) 100 (Int32.ofNat i) = some (Int32.ofNat (3 ^ i)) := by rw [mi_12 h hi, hP i hi]
set_option maxRecDepth 8000 in
theorem m_pw (h : Lok L) (hP : PM σ) (hi : i < 6) : aI (hp L σ) (some (L.1 1008)) 100 (Int32.ofNat i) = some (Int32.ofNat (3 ^ i)) := by rw [mi_1008 h hi, hP i hi]
set_option maxRecDepth 8000 in
theorem p3_bd (hi : i < 6) : 3 ^ i < 2147483648 ∧ 0 < 3 ^ i := ⟨Nat.lt_of_le_of_lt (Nat.pow_le_pow_right (n := 3) (by decide) (show i ≤ 5 by omega)) (by decide), Nat.pow_pos (by decide)⟩
set_option maxRecDepth 8000 in
theorem dgI {c i : Nat} (hc : c < 2147483648) (hi : i < 6) : Int32.ofNat c / Int32.ofNat (3 ^ i) - Int32.ofNat c / Int32.ofNat (3 ^ i) / 3 * 3 = Int32.ofNat (dg c i) := by
  have hb := p3_bd hi
  have hd : c / 3 ^ i ≤ c := Nat.div_le_self _ _
  rw [ofN_div hc hb.1, ofN_digit (by omega)]; rfl
set_option maxRecDepth 8000 in
theorem x_digit (h : Lok L) (hP : PX σ) (hc : c < 2147483648) (hi : i < 6) : F_X0_digit (some (L.1 0)) (Int32.ofNat c) (Int32.ofNat i) (hp L σ) = some (Int32.ofNat (dg c i)) := by
  have hb := p3_bd hi
  have hnz : ¬ Int32.ofNat (3 ^ i) = 0 := by rw [li_0, ofN_inj hb.1 (by omega)]; omega
  unfold F_X0_digit
  rw [if_pos (x_tg h), x_15 h, Option.bind_some, x_pw h hP hi, Option.bind_some, if_pos hnz, dgI hc hi]
set_option maxRecDepth 8000 in
theorem m_digit (h : Lok L) (hP : PM σ) (hc : c < 2147483648) (hi : i < 6) : F_X13_digit (some (L.1 1000)) (Int32.ofNat c) (Int32.ofNat i) (hp L σ) = some (Int32.ofNat (dg c i)) := by
  have hb := p3_bd hi
  have hnz : ¬ Int32.ofNat (3 ^ i) = 0 := by rw [li_0, ofN_inj hb.1 (by omega)]; omega
  unfold F_X13_digit
  rw [if_pos (m_tg h), m_9 h, Option.bind_some, m_pw h hP hi, Option.bind_some, if_pos hnz, dgI hc hi]
set_option maxRecDepth 8000 in
theorem x_doneAt (h : Lok L) (hM : MEM ρ u) (hD : DX σ ρ T u) {pl : Nat} (hc : c < 2147483648) (hpl : pl < 7) : F_X0_doneAt (some (L.1 0)) (Int32.ofNat c) (Int32.ofNat pl) (hp L σ) = some (Int32.ofNat (dn u.1 (eto ρ u) c pl)) := by
  obtain ⟨hk, hm⟩ := hM
  obtain ⟨hW, hP, hmem, hmany, _⟩ := hD
  have hb : isW 200 = true := rfl
  unfold F_X0_doneAt
  rw [if_pos (x_tg h)]
  refine lpF (Lp := fun f j a => F_X0_doneAt_L5 f (some (L.1 0)) (Int32.ofNat c) (Int32.ofNat pl) (Int32.ofNat a) (Int32.ofNat j) (hp L σ)) (st := dnS (eto ρ u) c pl) (fin := fun a => some (Int32.ofNat a)) (N := u.1) (fun f a => ?_) (fun f j a hj => ?_) (by unfold fu; omega) c
  · simp (discharger := first | assumption | omega | decide) only [x_tg, w_tg, m_tg, ↓reduceIte, Option.bind_some, ↓x_0b, ↓x_1b, ↓x_2b, ↓x_3b, ↓x_4b, ↓x_5b, ↓x_6b, ↓x_7b, ↓x_8b, ↓x_9b, ↓x_10b, ↓x_11b, ↓x_12b, ↓x_13b, ↓x_14b, ↓x_15b, ↓x_16b, ↓x_17b, ↓x_18b, ↓x_19b, ↓xp_2b, ↓xp_6b, ↓xp_14b, ↓xp_17b, ↓xp_18b, ↓xp_19b, ↓X_f0b, ↓X_f2b, ↓X_f4b, ↓X_f8b, ↓wf_1b, ↓wf_3b, ↓wf_5b, ↓wf_6b, ↓wf_7b, ↓wf_9b, ↓wt_1_0b, ↓wt_1_1b, ↓wt_1_2b, ↓wt_1_3b, ↓wt_1_4b, ↓wt_11_0b, ↓wt_11_1b, ↓wt_11_2b, ↓wt_11_3b, ↓wt_11_4b, ↓wt_21_0b, ↓wt_21_1b, ↓wt_31_0b, ↓wt_31_1b, ↓wt_31_2b, ↓wt_31_3b, ↓wt_31_4b, ↓wt_31_5b, ↓wt_31_6b, ↓wt_41_0b, ↓wt_41_1b, ↓wt_41_2b, ↓wt_41_3b, ↓wt_41_4b, ↓wt_41_5b, ↓wt_41_6b, ↓wt_1b, ↓wt_11b, ↓wt_21b, ↓wt_31b, ↓wt_41b, ↓X_c0b, ↓X_c1b, ↓X_c2b, ↓X_c3b, ↓X_c4b, ↓X_e0b, ↓X_e1b, ↓X_e2b, ↓X_e3b, ↓X_e4b, ↓X_cb, ↓X_eb, ↓X_w0b, ↓X_w1b, ↓X_hb, ↓X_yb, ↓X_rb, ↓wp_0b, ↓wp_2b, ↓wp_4b, ↓wp_8b, ↓ws_2b, ↓ws_3b, ↓ws_4b, ↓ws_5b, ↓ws_6b, ↓ws_12b, ↓ws_13b, ↓ws_14b, ↓ws_15b, ↓ws_16b, ↓ws_22b, ↓ws_23b, ↓ws_51b, ↓wS_yb, ↓wS_rb, ↓wS_cb, ↓wS_eb, F_X0_doneAt_J58, F_X0_doneAt_J57, F_X0_doneAt_B5, F_X0_doneAt_L5, F_X0_doneAt, hmany, ofN_le, Nat.le_refl]
  · have hd : ¬ u.1 ≤ j := by omega
    have hdl : dg c j < 3 := dg_lt c j
    obtain ⟨m1, m2, m3, m4, m5, m6, m7, m8⟩ := hm j hj
    simp (discharger := first | assumption | omega | decide) only [x_tg, w_tg, m_tg, ↓reduceIte, Option.bind_some, ↓x_0b, ↓x_1b, ↓x_2b, ↓x_3b, ↓x_4b, ↓x_5b, ↓x_6b, ↓x_7b, ↓x_8b, ↓x_9b, ↓x_10b, ↓x_11b, ↓x_12b, ↓x_13b, ↓x_14b, ↓x_15b, ↓x_16b, ↓x_17b, ↓x_18b, ↓x_19b, ↓xp_2b, ↓xp_6b, ↓xp_14b, ↓xp_17b, ↓xp_18b, ↓xp_19b, ↓X_f0b, ↓X_f2b, ↓X_f4b, ↓X_f8b, ↓wf_1b, ↓wf_3b, ↓wf_5b, ↓wf_6b, ↓wf_7b, ↓wf_9b, ↓wt_1_0b, ↓wt_1_1b, ↓wt_1_2b, ↓wt_1_3b, ↓wt_1_4b, ↓wt_11_0b, ↓wt_11_1b, ↓wt_11_2b, ↓wt_11_3b, ↓wt_11_4b, ↓wt_21_0b, ↓wt_21_1b, ↓wt_31_0b, ↓wt_31_1b, ↓wt_31_2b, ↓wt_31_3b, ↓wt_31_4b, ↓wt_31_5b, ↓wt_31_6b, ↓wt_41_0b, ↓wt_41_1b, ↓wt_41_2b, ↓wt_41_3b, ↓wt_41_4b, ↓wt_41_5b, ↓wt_41_6b, ↓wt_1b, ↓wt_11b, ↓wt_21b, ↓wt_31b, ↓wt_41b, ↓X_c0b, ↓X_c1b, ↓X_c2b, ↓X_c3b, ↓X_c4b, ↓X_e0b, ↓X_e1b, ↓X_e2b, ↓X_e3b, ↓X_e4b, ↓X_cb, ↓X_eb, ↓X_w0b, ↓X_w1b, ↓X_hb, ↓X_yb, ↓X_rb, ↓wp_0b, ↓wp_2b, ↓wp_4b, ↓wp_8b, ↓ws_2b, ↓ws_3b, ↓ws_4b, ↓ws_5b, ↓ws_6b, ↓ws_12b, ↓ws_13b, ↓ws_14b, ↓ws_15b, ↓ws_16b, ↓ws_22b, ↓ws_23b, ↓ws_51b, ↓wS_yb, ↓wS_rb, ↓wS_cb, ↓wS_eb, F_X0_doneAt_J58, F_X0_doneAt_J57, F_X0_doneAt_B5, F_X0_doneAt_L5, F_X0_doneAt, hmany, ofN_le, hd, ofNs, x_digit h hP, mi_11 h, hmem j hj, m4, x_pw h hP, ofN_add]
    rw [li_1]
    simp (discharger := first | assumption | omega | decide) only [ofN_inj]
    unfold dnS
    by_cases h1 : dg c j = 1
    · by_cases h2 : eto ρ u j = pl
      · simp [h1, h2]
      · simp [h1, h2]
    · simp [h1]
set_option maxRecDepth 8000 in
theorem x_load (h : Lok L) (hM : MEM ρ u) (hD : DX σ ρ T u) {more : Nat} (hc : c < 2147483648) : F_X0_load (some (L.1 0)) (Int32.ofNat c) (Int32.ofNat more) (hp L σ) = some (Int32.ofNat (ld u.1 (elb ρ u) c more)) := by
  obtain ⟨hk, hm⟩ := hM
  obtain ⟨hW, hP, hmem, hmany, _⟩ := hD
  have hb : isW 200 = true := rfl
  unfold F_X0_load
  rw [if_pos (x_tg h)]
  refine lpF (Lp := fun f j a => F_X0_load_L5 f (some (L.1 0)) (Int32.ofNat c) (Int32.ofNat a) (Int32.ofNat j) (hp L σ)) (st := ldS (elb ρ u) c) (fin := fun a => some (Int32.ofNat a)) (N := u.1) (fun f a => ?_) (fun f j a hj => ?_) (by unfold fu; omega) more
  · simp (discharger := first | assumption | omega | decide) only [x_tg, w_tg, m_tg, ↓reduceIte, Option.bind_some, ↓x_0b, ↓x_1b, ↓x_2b, ↓x_3b, ↓x_4b, ↓x_5b, ↓x_6b, ↓x_7b, ↓x_8b, ↓x_9b, ↓x_10b, ↓x_11b, ↓x_12b, ↓x_13b, ↓x_14b, ↓x_15b, ↓x_16b, ↓x_17b, ↓x_18b, ↓x_19b, ↓xp_2b, ↓xp_6b, ↓xp_14b, ↓xp_17b, ↓xp_18b, ↓xp_19b, ↓X_f0b, ↓X_f2b, ↓X_f4b, ↓X_f8b, ↓wf_1b, ↓wf_3b, ↓wf_5b, ↓wf_6b, ↓wf_7b, ↓wf_9b, ↓wt_1_0b, ↓wt_1_1b, ↓wt_1_2b, ↓wt_1_3b, ↓wt_1_4b, ↓wt_11_0b, ↓wt_11_1b, ↓wt_11_2b, ↓wt_11_3b, ↓wt_11_4b, ↓wt_21_0b, ↓wt_21_1b, ↓wt_31_0b, ↓wt_31_1b, ↓wt_31_2b, ↓wt_31_3b, ↓wt_31_4b, ↓wt_31_5b, ↓wt_31_6b, ↓wt_41_0b, ↓wt_41_1b, ↓wt_41_2b, ↓wt_41_3b, ↓wt_41_4b, ↓wt_41_5b, ↓wt_41_6b, ↓wt_1b, ↓wt_11b, ↓wt_21b, ↓wt_31b, ↓wt_41b, ↓X_c0b, ↓X_c1b, ↓X_c2b, ↓X_c3b, ↓X_c4b, ↓X_e0b, ↓X_e1b, ↓X_e2b, ↓X_e3b, ↓X_e4b, ↓X_cb, ↓X_eb, ↓X_w0b, ↓X_w1b, ↓X_hb, ↓X_yb, ↓X_rb, ↓wp_0b, ↓wp_2b, ↓wp_4b, ↓wp_8b, ↓ws_2b, ↓ws_3b, ↓ws_4b, ↓ws_5b, ↓ws_6b, ↓ws_12b, ↓ws_13b, ↓ws_14b, ↓ws_15b, ↓ws_16b, ↓ws_22b, ↓ws_23b, ↓ws_51b, ↓wS_yb, ↓wS_rb, ↓wS_cb, ↓wS_eb, F_X0_load_J47, F_X0_load_B5, F_X0_load_L5, F_X0_load, hmany, ofN_le, Nat.le_refl]
  · have hd : ¬ u.1 ≤ j := by omega
    have hdl : dg c j < 3 := dg_lt c j
    obtain ⟨m1, m2, m3, m4, m5, m6, m7, m8⟩ := hm j hj
    simp (discharger := first | assumption | omega | decide) only [x_tg, w_tg, m_tg, ↓reduceIte, Option.bind_some, ↓x_0b, ↓x_1b, ↓x_2b, ↓x_3b, ↓x_4b, ↓x_5b, ↓x_6b, ↓x_7b, ↓x_8b, ↓x_9b, ↓x_10b, ↓x_11b, ↓x_12b, ↓x_13b, ↓x_14b, ↓x_15b, ↓x_16b, ↓x_17b, ↓x_18b, ↓x_19b, ↓xp_2b, ↓xp_6b, ↓xp_14b, ↓xp_17b, ↓xp_18b, ↓xp_19b, ↓X_f0b, ↓X_f2b, ↓X_f4b, ↓X_f8b, ↓wf_1b, ↓wf_3b, ↓wf_5b, ↓wf_6b, ↓wf_7b, ↓wf_9b, ↓wt_1_0b, ↓wt_1_1b, ↓wt_1_2b, ↓wt_1_3b, ↓wt_1_4b, ↓wt_11_0b, ↓wt_11_1b, ↓wt_11_2b, ↓wt_11_3b, ↓wt_11_4b, ↓wt_21_0b, ↓wt_21_1b, ↓wt_31_0b, ↓wt_31_1b, ↓wt_31_2b, ↓wt_31_3b, ↓wt_31_4b, ↓wt_31_5b, ↓wt_31_6b, ↓wt_41_0b, ↓wt_41_1b, ↓wt_41_2b, ↓wt_41_3b, ↓wt_41_4b, ↓wt_41_5b, ↓wt_41_6b, ↓wt_1b, ↓wt_11b, ↓wt_21b, ↓wt_31b, ↓wt_41b, ↓X_c0b, ↓X_c1b, ↓X_c2b, ↓X_c3b, ↓X_c4b, ↓X_e0b, ↓X_e1b, ↓X_e2b, ↓X_e3b, ↓X_e4b, ↓X_cb, ↓X_eb, ↓X_w0b, ↓X_w1b, ↓X_hb, ↓X_yb, ↓X_rb, ↓wp_0b, ↓wp_2b, ↓wp_4b, ↓wp_8b, ↓ws_2b, ↓ws_3b, ↓ws_4b, ↓ws_5b, ↓ws_6b, ↓ws_12b, ↓ws_13b, ↓ws_14b, ↓ws_15b, ↓ws_16b, ↓ws_22b, ↓ws_23b, ↓ws_51b, ↓wS_yb, ↓wS_rb, ↓wS_cb, ↓wS_eb, F_X0_load_J47, F_X0_load_B5, F_X0_load_L5, F_X0_load, hmany, ofN_le, hd, ofNs, x_digit h hP, mi_11 h, hmem j hj, m2, ofN_add]
    rw [li_1]
    simp (discharger := first | assumption | omega | decide) only [ofN_inj]
    unfold ldS
    by_cases h1 : dg c j = 1
    · simp [h1]
    · simp [h1]
end L2x
/-! ### rounds: the class's walk, second part -/
section L2y
variable {L : Lt} {σ : St} {ρ : Rw} {T : Tb} {u : Cl} {c i p q B : Nat}
set_option maxRecDepth 8000 in
theorem x_fr (h : Lok L) (hD : DX σ ρ T u) (hp9 : p < 7) (hq : q < 7) : aI (hp L σ) (some (L.1 (30 + p))) 100 (Int32.ofNat q) = some (Int32.ofNat (T p q)) := by
  rw [T_get0 (tz := 10) h (Or.inr ⟨rfl, rfl⟩) hp9 hq, hD.2.2.2.2 p q hp9 hq]
set_option maxRecDepth 8000 in
theorem x_shortens (h : Lok L) {t : Tb} {K v : Nat} (hK : K ≤ 243) (hc : c < K) (hp9 : p < 7) (ht : tA t) (hv : v < 2147483648) : F_X0_shortens (some (L.1 0)) (Int32.ofNat c) (Int32.ofNat p) (Int32.ofNat v) (hp L (xL σ t K)) = some (hp L (xL σ (rlx t c p v) K)) := by
  have hb := ht c p
  unfold F_X0_shortens rlx
  rw [if_pos (x_tg h)]
  simp (discharger := first | assumption | omega | decide) only [x_16 h, Option.bind_some, R_row h, R_get h hK, ofN_min, R_set h hK]
set_option maxRecDepth 8000 in
theorem tA_goS {k : Nat} {fr to lb : Nat → Nat} {t : Tb} (ht : tA t) (c p far i : Nat) : tA (goS k T fr to lb B c p far i t) := fun a b => Nat.le_trans ((lw_goS c p far i t).1 a b) (ht a b)
set_option maxRecDepth 8000 in
theorem tA_goO {k : Nat} {fr to lb : Nat → Nat} {t : Tb} (ht : tA t) (c p : Nat) : tA (goO k T fr to lb B c p t) := fun a b => Nat.le_trans ((lw_goO c p t).1 a b) (ht a b)
set_option maxRecDepth 8000 in
theorem x_goesOn (h : Lok L) (hM : MEM ρ u) (hD : DX σ ρ T u) (hT : tB T) {t : Tb} (ht : tA t) (hc : c < 3 ^ u.1) (hp9 : p < 7) (hB : B < 1000) : F_X0_goesOn (some (L.1 0)) (Int32.ofNat c) (Int32.ofNat p) (Int32.ofNat B) (hp L (xL σ t (3 ^ u.1))) = some (hp L (xL σ (goO u.1 T (efr ρ u) (eto ρ u) (elb ρ u) B c p t) (3 ^ u.1))) := by
  have hk := hM.1
  have hK := p3_le hk
  have hb : isW 200 = true := rfl
  unfold F_X0_goesOn
  rw [if_pos (x_tg h)]
  simp (discharger := first | assumption | omega | decide) only [x_16 h, Option.bind_some, R_row h, R_get h hK]
  refine (lpP (Lp := fun f i t' => F_X0_goesOn_L13 f (some (L.1 0)) (Int32.ofNat c) (Int32.ofNat p) (Int32.ofNat B) (Int32.ofNat (t c p)) (Int32.ofNat i) (hp L (xL σ t' (3 ^ u.1)))) (st := goS u.1 T (efr ρ u) (eto ρ u) (elb ρ u) B c p (t c p)) (fin := fun t' => some (hp L (xL σ t' (3 ^ u.1)))) (N := u.1) (fun _ t' => tA t') (fun f t' ht' => ?_) (fun f i t' hi ht' => ?_) (fun i t' _ ht' => tA_goS ht' c p _ i) u.1 0 fu t (by omega) (by unfold fu; omega) ht).1
  · have hD' := DX_xL (t := t') (K := 3 ^ u.1) hD
    simp (discharger := first | assumption | omega | decide) only [F_X0_goesOn_L13, F_X0_goesOn_B13, x_14 h, hD'.2.2.2.1, Option.bind_some, ofN_le, Nat.le_refl, ↓reduceIte]
  · have hD' := DX_xL (t := t') (K := 3 ^ u.1) hD
    have hW' := hD'.1
    have hP' := hD'.2.1
    have hd : ¬ u.1 ≤ i := by omega
    have hdl : dg c i < 3 := dg_lt c i
    have hfar := ht c p
    have hc9 : c < 2147483648 := by omega
    have hmi := hD'.2.2.1 i hi
    have hmany := hD'.2.2.2.1
    have hz : isT 10 30 := Or.inr ⟨rfl, rfl⟩
    obtain ⟨m1, m2, m3, m4, m5, m6, m7, m8⟩ := hM.2 i hi
    have ds1 := dn_spec (to := eto ρ u) (pl := efr ρ u i) hk hc
    have ds2 := dn_spec (to := eto ρ u) (pl := eto ρ u i) hk hc
    have pwb := p3_bd (show i < 6 by omega)
    have ldb : ∀ c', ld u.1 (elb ρ u) c' (elb ρ u i) < 2147483648 := by
      intro c'
      have : ∀ n, n ≤ u.1 → itF (ldS (elb ρ u) c') 0 n (elb ρ u i) ≤ 60 + 60 * n := by
        intro n hn
        refine itF_inv0 (f := ldS (elb ρ u) c') (fun n v => v ≤ 60 + 60 * n) n _ (by omega) (fun e v he hv => ?_)
        unfold ldS
        have := (hM.2 e (by omega)).2.2.2.2.1
        split <;> omega
      have := this u.1 (Nat.le_refl _)
      unfold ld; omega
    have ed := x_digit (c := c) (i := i) h hP' hc9 (by omega)
    have em := (mi_11 (n := i) (σ := xL σ t' (3 ^ u.1)) h (by omega)).trans (congrArg some hmi)
    have epw := x_pw (i := i) h hP' (by omega)
    have er := T_row (n := p) (σ := xL σ t' (3 ^ u.1)) h hz hp9
    have ef1 := x_fr h hD' hp9 m6
    have ef2 := x_fr h hD' hp9 m7
    have hT1 := hT p (efr ρ u i) hp9 m6
    have hT2 := hT p (eto ρ u i) hp9 m7
    by_cases h0 : dg c i = 0
    · have h0z : Int32.ofNat (dg c i) = 0 := by rw [h0]; rfl
      have hg : gPl (efr ρ u) (eto ρ u) c i = efr ρ u i := by unfold gPl; rw [if_pos h0]
      unfold goS gTh
      rw [hg]
      have e1 := x_doneAt (c := c) (pl := efr ρ u i) h hM hD' hc9 m6
      have e2 := x_load (c := dn u.1 (eto ρ u) c (efr ρ u i)) (more := elb ρ u i) h hM hD' (by omega)
      have ldi := ldb (dn u.1 (eto ρ u) c (efr ρ u i))
      have e3 : dg (dn u.1 (eto ρ u) c (efr ρ u i)) i ≤ 1 := by rw [ds1.2.2.1 i hi, if_neg (by omega)]; omega
      have e4 := dg_max hk hi ds1.1 e3
      by_cases hL : ld u.1 (elb ρ u) (dn u.1 (eto ρ u) c (efr ρ u i)) (elb ρ u i) ≤ B
      · have hL' : ¬ B < ld u.1 (elb ρ u) (dn u.1 (eto ρ u) c (efr ρ u i)) (elb ρ u i) := by omega
        have hlt : ¬ dn u.1 (eto ρ u) c (efr ρ u i) + 3 ^ i ≤ c := by omega
        rw [if_pos (show dg c i = 0 ∧ ld u.1 (elb ρ u) (dn u.1 (eto ρ u) c (efr ρ u i)) (elb ρ u i) ≤ B from ⟨h0, hL⟩), if_pos (show c < dn u.1 (eto ρ u) c (efr ρ u i) + 3 ^ i by omega)]
        simp (discharger := first | assumption | omega | decide) only [x_tg, w_tg, m_tg, ↓reduceIte, Option.bind_some, ↓x_0b, ↓x_1b, ↓x_2b, ↓x_3b, ↓x_4b, ↓x_5b, ↓x_6b, ↓x_7b, ↓x_8b, ↓x_9b, ↓x_10b, ↓x_11b, ↓x_12b, ↓x_13b, ↓x_14b, ↓x_15b, ↓x_16b, ↓x_17b, ↓x_18b, ↓x_19b, ↓xp_2b, ↓xp_6b, ↓xp_14b, ↓xp_17b, ↓xp_18b, ↓xp_19b, ↓X_f0b, ↓X_f2b, ↓X_f4b, ↓X_f8b, ↓wf_1b, ↓wf_3b, ↓wf_5b, ↓wf_6b, ↓wf_7b, ↓wf_9b, ↓wt_1_0b, ↓wt_1_1b, ↓wt_1_2b, ↓wt_1_3b, ↓wt_1_4b, ↓wt_11_0b, ↓wt_11_1b, ↓wt_11_2b, ↓wt_11_3b, ↓wt_11_4b, ↓wt_21_0b, ↓wt_21_1b, ↓wt_31_0b, ↓wt_31_1b, ↓wt_31_2b, ↓wt_31_3b, ↓wt_31_4b, ↓wt_31_5b, ↓wt_31_6b, ↓wt_41_0b, ↓wt_41_1b, ↓wt_41_2b, ↓wt_41_3b, ↓wt_41_4b, ↓wt_41_5b, ↓wt_41_6b, ↓wt_1b, ↓wt_11b, ↓wt_21b, ↓wt_31b, ↓wt_41b, ↓X_c0b, ↓X_c1b, ↓X_c2b, ↓X_c3b, ↓X_c4b, ↓X_e0b, ↓X_e1b, ↓X_e2b, ↓X_e3b, ↓X_e4b, ↓X_cb, ↓X_eb, ↓X_w0b, ↓X_w1b, ↓X_hb, ↓X_yb, ↓X_rb, ↓wp_0b, ↓wp_2b, ↓wp_4b, ↓wp_8b, ↓ws_2b, ↓ws_3b, ↓ws_4b, ↓ws_5b, ↓ws_6b, ↓ws_12b, ↓ws_13b, ↓ws_14b, ↓ws_15b, ↓ws_16b, ↓ws_22b, ↓ws_23b, ↓ws_51b, ↓wS_yb, ↓wS_rb, ↓wS_cb, ↓wS_eb, F_X0_goesOn_J165, F_X0_goesOn_J136, F_X0_goesOn_J116, F_X0_goesOn_J115, F_X0_goesOn_J68, F_X0_goesOn_B13, F_X0_goesOn_L13, F_X0_goesOn, hmany, ofN_le, hd, ↓bn9 em, ↓bn9 ed, h0z, not_true_eq_false, m3, m2, ↓bn9 e1, ↓bn9 e2, ofN_lt, hL', ↓bn9 epw, ofN_add, hlt, ↓bn9 er, ↓bn9 ef1, ↓bn9 ef2, show ¬ (1 : Int32) = 0 by decide]
        rw [x_shortens h hK (by omega) m6 ht' (by omega), Option.bind_some, ofNs]
      · have hL' : B < ld u.1 (elb ρ u) (dn u.1 (eto ρ u) c (efr ρ u i)) (elb ρ u i) := by omega
        rw [if_neg (show ¬ (dg c i = 0 ∧ ld u.1 (elb ρ u) (dn u.1 (eto ρ u) c (efr ρ u i)) (elb ρ u i) ≤ B) from fun q => hL q.2), Nat.add_zero (dn u.1 (eto ρ u) c (efr ρ u i))]
        by_cases hlt : c < dn u.1 (eto ρ u) c (efr ρ u i)
        · have hlt' : ¬ dn u.1 (eto ρ u) c (efr ρ u i) ≤ c := by omega
          rw [if_pos hlt]
          simp (discharger := first | assumption | omega | decide) only [x_tg, w_tg, m_tg, ↓reduceIte, Option.bind_some, ↓x_0b, ↓x_1b, ↓x_2b, ↓x_3b, ↓x_4b, ↓x_5b, ↓x_6b, ↓x_7b, ↓x_8b, ↓x_9b, ↓x_10b, ↓x_11b, ↓x_12b, ↓x_13b, ↓x_14b, ↓x_15b, ↓x_16b, ↓x_17b, ↓x_18b, ↓x_19b, ↓xp_2b, ↓xp_6b, ↓xp_14b, ↓xp_17b, ↓xp_18b, ↓xp_19b, ↓X_f0b, ↓X_f2b, ↓X_f4b, ↓X_f8b, ↓wf_1b, ↓wf_3b, ↓wf_5b, ↓wf_6b, ↓wf_7b, ↓wf_9b, ↓wt_1_0b, ↓wt_1_1b, ↓wt_1_2b, ↓wt_1_3b, ↓wt_1_4b, ↓wt_11_0b, ↓wt_11_1b, ↓wt_11_2b, ↓wt_11_3b, ↓wt_11_4b, ↓wt_21_0b, ↓wt_21_1b, ↓wt_31_0b, ↓wt_31_1b, ↓wt_31_2b, ↓wt_31_3b, ↓wt_31_4b, ↓wt_31_5b, ↓wt_31_6b, ↓wt_41_0b, ↓wt_41_1b, ↓wt_41_2b, ↓wt_41_3b, ↓wt_41_4b, ↓wt_41_5b, ↓wt_41_6b, ↓wt_1b, ↓wt_11b, ↓wt_21b, ↓wt_31b, ↓wt_41b, ↓X_c0b, ↓X_c1b, ↓X_c2b, ↓X_c3b, ↓X_c4b, ↓X_e0b, ↓X_e1b, ↓X_e2b, ↓X_e3b, ↓X_e4b, ↓X_cb, ↓X_eb, ↓X_w0b, ↓X_w1b, ↓X_hb, ↓X_yb, ↓X_rb, ↓wp_0b, ↓wp_2b, ↓wp_4b, ↓wp_8b, ↓ws_2b, ↓ws_3b, ↓ws_4b, ↓ws_5b, ↓ws_6b, ↓ws_12b, ↓ws_13b, ↓ws_14b, ↓ws_15b, ↓ws_16b, ↓ws_22b, ↓ws_23b, ↓ws_51b, ↓wS_yb, ↓wS_rb, ↓wS_cb, ↓wS_eb, F_X0_goesOn_J165, F_X0_goesOn_J136, F_X0_goesOn_J116, F_X0_goesOn_J115, F_X0_goesOn_J68, F_X0_goesOn_B13, F_X0_goesOn_L13, F_X0_goesOn, hmany, ofN_le, hd, ↓bn9 em, ↓bn9 ed, h0z, not_true_eq_false, m3, m2, ↓bn9 e1, ↓bn9 e2, ofN_lt, hL', Int32.add_zero, hlt', ↓bn9 er, ↓bn9 ef1, ↓bn9 ef2, ofN_add]
          rw [x_shortens h hK (by omega) m6 ht' (by omega), Option.bind_some, ofNs]
        · have hlt' : dn u.1 (eto ρ u) c (efr ρ u i) ≤ c := by omega
          rw [if_neg hlt]
          simp (discharger := first | assumption | omega | decide) only [x_tg, w_tg, m_tg, ↓reduceIte, Option.bind_some, ↓x_0b, ↓x_1b, ↓x_2b, ↓x_3b, ↓x_4b, ↓x_5b, ↓x_6b, ↓x_7b, ↓x_8b, ↓x_9b, ↓x_10b, ↓x_11b, ↓x_12b, ↓x_13b, ↓x_14b, ↓x_15b, ↓x_16b, ↓x_17b, ↓x_18b, ↓x_19b, ↓xp_2b, ↓xp_6b, ↓xp_14b, ↓xp_17b, ↓xp_18b, ↓xp_19b, ↓X_f0b, ↓X_f2b, ↓X_f4b, ↓X_f8b, ↓wf_1b, ↓wf_3b, ↓wf_5b, ↓wf_6b, ↓wf_7b, ↓wf_9b, ↓wt_1_0b, ↓wt_1_1b, ↓wt_1_2b, ↓wt_1_3b, ↓wt_1_4b, ↓wt_11_0b, ↓wt_11_1b, ↓wt_11_2b, ↓wt_11_3b, ↓wt_11_4b, ↓wt_21_0b, ↓wt_21_1b, ↓wt_31_0b, ↓wt_31_1b, ↓wt_31_2b, ↓wt_31_3b, ↓wt_31_4b, ↓wt_31_5b, ↓wt_31_6b, ↓wt_41_0b, ↓wt_41_1b, ↓wt_41_2b, ↓wt_41_3b, ↓wt_41_4b, ↓wt_41_5b, ↓wt_41_6b, ↓wt_1b, ↓wt_11b, ↓wt_21b, ↓wt_31b, ↓wt_41b, ↓X_c0b, ↓X_c1b, ↓X_c2b, ↓X_c3b, ↓X_c4b, ↓X_e0b, ↓X_e1b, ↓X_e2b, ↓X_e3b, ↓X_e4b, ↓X_cb, ↓X_eb, ↓X_w0b, ↓X_w1b, ↓X_hb, ↓X_yb, ↓X_rb, ↓wp_0b, ↓wp_2b, ↓wp_4b, ↓wp_8b, ↓ws_2b, ↓ws_3b, ↓ws_4b, ↓ws_5b, ↓ws_6b, ↓ws_12b, ↓ws_13b, ↓ws_14b, ↓ws_15b, ↓ws_16b, ↓ws_22b, ↓ws_23b, ↓ws_51b, ↓wS_yb, ↓wS_rb, ↓wS_cb, ↓wS_eb, F_X0_goesOn_J165, F_X0_goesOn_J136, F_X0_goesOn_J116, F_X0_goesOn_J115, F_X0_goesOn_J68, F_X0_goesOn_B13, F_X0_goesOn_L13, F_X0_goesOn, hmany, ofN_le, hd, ↓bn9 em, ↓bn9 ed, h0z, not_true_eq_false, m3, m2, ↓bn9 e1, ↓bn9 e2, ofN_lt, hL', Int32.add_zero, hlt', ofNs]
    · have hg : gPl (efr ρ u) (eto ρ u) c i = eto ρ u i := by unfold gPl; rw [if_neg h0]
      have h0' : ¬ Int32.ofNat (dg c i) = 0 := by rw [li_0, ofN_inj (by omega) (by omega)]; exact h0
      unfold goS gTh
      rw [hg, if_neg (show ¬ (dg c i = 0 ∧ ld u.1 (elb ρ u) (dn u.1 (eto ρ u) c (eto ρ u i)) (elb ρ u i) ≤ B) from fun q => h0 q.1), Nat.add_zero (dn u.1 (eto ρ u) c (eto ρ u i))]
      have e1 := x_doneAt (c := c) (pl := eto ρ u i) h hM hD' hc9 m7
      by_cases hlt : c < dn u.1 (eto ρ u) c (eto ρ u i)
      · have hlt' : ¬ dn u.1 (eto ρ u) c (eto ρ u i) ≤ c := by omega
        rw [if_pos hlt]
        simp (discharger := first | assumption | omega | decide) only [x_tg, w_tg, m_tg, ↓reduceIte, Option.bind_some, ↓x_0b, ↓x_1b, ↓x_2b, ↓x_3b, ↓x_4b, ↓x_5b, ↓x_6b, ↓x_7b, ↓x_8b, ↓x_9b, ↓x_10b, ↓x_11b, ↓x_12b, ↓x_13b, ↓x_14b, ↓x_15b, ↓x_16b, ↓x_17b, ↓x_18b, ↓x_19b, ↓xp_2b, ↓xp_6b, ↓xp_14b, ↓xp_17b, ↓xp_18b, ↓xp_19b, ↓X_f0b, ↓X_f2b, ↓X_f4b, ↓X_f8b, ↓wf_1b, ↓wf_3b, ↓wf_5b, ↓wf_6b, ↓wf_7b, ↓wf_9b, ↓wt_1_0b, ↓wt_1_1b, ↓wt_1_2b, ↓wt_1_3b, ↓wt_1_4b, ↓wt_11_0b, ↓wt_11_1b, ↓wt_11_2b, ↓wt_11_3b, ↓wt_11_4b, ↓wt_21_0b, ↓wt_21_1b, ↓wt_31_0b, ↓wt_31_1b, ↓wt_31_2b, ↓wt_31_3b, ↓wt_31_4b, ↓wt_31_5b, ↓wt_31_6b, ↓wt_41_0b, ↓wt_41_1b, ↓wt_41_2b, ↓wt_41_3b, ↓wt_41_4b, ↓wt_41_5b, ↓wt_41_6b, ↓wt_1b, ↓wt_11b, ↓wt_21b, ↓wt_31b, ↓wt_41b, ↓X_c0b, ↓X_c1b, ↓X_c2b, ↓X_c3b, ↓X_c4b, ↓X_e0b, ↓X_e1b, ↓X_e2b, ↓X_e3b, ↓X_e4b, ↓X_cb, ↓X_eb, ↓X_w0b, ↓X_w1b, ↓X_hb, ↓X_yb, ↓X_rb, ↓wp_0b, ↓wp_2b, ↓wp_4b, ↓wp_8b, ↓ws_2b, ↓ws_3b, ↓ws_4b, ↓ws_5b, ↓ws_6b, ↓ws_12b, ↓ws_13b, ↓ws_14b, ↓ws_15b, ↓ws_16b, ↓ws_22b, ↓ws_23b, ↓ws_51b, ↓wS_yb, ↓wS_rb, ↓wS_cb, ↓wS_eb, F_X0_goesOn_J165, F_X0_goesOn_J136, F_X0_goesOn_J116, F_X0_goesOn_J115, F_X0_goesOn_J68, F_X0_goesOn_B13, F_X0_goesOn_L13, F_X0_goesOn, hmany, ofN_le, hd, ↓bn9 em, ↓bn9 ed, h0', not_false_eq_true, m4, ↓bn9 e1, Int32.add_zero, hlt', ↓bn9 er, ↓bn9 ef1, ↓bn9 ef2, ofN_add]
        rw [x_shortens h hK (by omega) m7 ht' (by omega), Option.bind_some, ofNs]
      · have hlt' : dn u.1 (eto ρ u) c (eto ρ u i) ≤ c := by omega
        rw [if_neg hlt]
        simp (discharger := first | assumption | omega | decide) only [x_tg, w_tg, m_tg, ↓reduceIte, Option.bind_some, ↓x_0b, ↓x_1b, ↓x_2b, ↓x_3b, ↓x_4b, ↓x_5b, ↓x_6b, ↓x_7b, ↓x_8b, ↓x_9b, ↓x_10b, ↓x_11b, ↓x_12b, ↓x_13b, ↓x_14b, ↓x_15b, ↓x_16b, ↓x_17b, ↓x_18b, ↓x_19b, ↓xp_2b, ↓xp_6b, ↓xp_14b, ↓xp_17b, ↓xp_18b, ↓xp_19b, ↓X_f0b, ↓X_f2b, ↓X_f4b, ↓X_f8b, ↓wf_1b, ↓wf_3b, ↓wf_5b, ↓wf_6b, ↓wf_7b, ↓wf_9b, ↓wt_1_0b, ↓wt_1_1b, ↓wt_1_2b, ↓wt_1_3b, ↓wt_1_4b, ↓wt_11_0b, ↓wt_11_1b, ↓wt_11_2b, ↓wt_11_3b, ↓wt_11_4b, ↓wt_21_0b, ↓wt_21_1b, ↓wt_31_0b, ↓wt_31_1b, ↓wt_31_2b, ↓wt_31_3b, ↓wt_31_4b, ↓wt_31_5b, ↓wt_31_6b, ↓wt_41_0b, ↓wt_41_1b, ↓wt_41_2b, ↓wt_41_3b, ↓wt_41_4b, ↓wt_41_5b, ↓wt_41_6b, ↓wt_1b, ↓wt_11b, ↓wt_21b, ↓wt_31b, ↓wt_41b, ↓X_c0b, ↓X_c1b, ↓X_c2b, ↓X_c3b, ↓X_c4b, ↓X_e0b, ↓X_e1b, ↓X_e2b, ↓X_e3b, ↓X_e4b, ↓X_cb, ↓X_eb, ↓X_w0b, ↓X_w1b, ↓X_hb, ↓X_yb, ↓X_rb, ↓wp_0b, ↓wp_2b, ↓wp_4b, ↓wp_8b, ↓ws_2b, ↓ws_3b, ↓ws_4b, ↓ws_5b, ↓ws_6b, ↓ws_12b, ↓ws_13b, ↓ws_14b, ↓ws_15b, ↓ws_16b, ↓ws_22b, ↓ws_23b, ↓ws_51b, ↓wS_yb, ↓wS_rb, ↓wS_cb, ↓wS_eb, F_X0_goesOn_J165, F_X0_goesOn_J136, F_X0_goesOn_J116, F_X0_goesOn_J115, F_X0_goesOn_J68, F_X0_goesOn_B13, F_X0_goesOn_L13, F_X0_goesOn, hmany, ofN_le, hd, ↓bn9 em, ↓bn9 ed, h0', not_false_eq_true, m4, ↓bn9 e1, Int32.add_zero, hlt', ofNs]
end L2y
/-! ### rounds: the class's walk, the whole -/
section L2z
variable {L : Lt} {σ : St} {ρ : Rw} {T : Tb} {u : Cl} {c i p q B s N kd : Nat}
set_option maxRecDepth 8000 in
theorem cX_step (σ : St) (u : Cl) (e : Nat) : up2 (up2 (cX σ u) 11 u.1 (Int32.ofNat e)) 0 14 (Int32.ofNat (u.1 + 1)) = cX σ (u.1 + 1, fun i => if i = u.1 then e else u.2 i) := by
  funext i j
  unfold up2 cX
  dsimp only
  by_cases h1 : i = 0 ∧ j = 14
  · rw [if_pos h1, if_neg (by omega), if_pos h1]
  · rw [if_neg h1, if_neg h1]
    by_cases h2 : i = 11 ∧ j = u.1
    · rw [if_pos h2, if_pos (by omega), if_pos h2.2]
    · rw [if_neg h2]
      by_cases h3 : i = 11 ∧ j < u.1
      · rw [if_pos h3, if_pos (by omega), if_neg (by omega)]
      · rw [if_neg h3, if_neg (by omega), if_neg h1]
set_option maxRecDepth 8000 in
theorem x_collects (h : Lok L) (hW : WX σ 200 ρ) (hN : ρ 43 = Int32.ofNat N) (h8 : N ≤ 8) (hs : s < 256) (hf : cbn s N ≤ 5) : F_X0_collects (some (L.1 0)) (Int32.ofNat s) (hp L σ) = some (hp L (cX σ (col s N))) := by
  have hb : isW 200 = true := rfl
  have e0 : up2 σ 0 14 0 = cX σ (0, fun _ => 0) := by
    funext i j; unfold up2 cX
    dsimp only
    by_cases h1 : i = 0 ∧ j = 14
    · rw [if_pos h1, if_neg (by omega), if_pos h1]; rfl
    · rw [if_neg h1, if_neg (by omega), if_neg h1]
  unfold F_X0_collects
  rw [if_pos (x_tg h), bn9 (xp_14 h), e0]
  refine (lpP (Lp := fun f e u => F_X0_collects_L7 f (some (L.1 0)) (Int32.ofNat s) (Int32.ofNat e) (hp L (cX σ u))) (st := colS s) (fin := fun u => some (hp L (cX σ u))) (N := N) (fun e u => u.1 = cbn s e) (fun f u hu => ?_) (fun f e u he hu => ?_) (fun e u he hu => ?_) N 0 fu (0, fun _ => 0) (by omega) (by unfold fu; omega) rfl).1
  · have hW' : WX (cX σ u) 200 ρ := WX_congr (fun i hi _ => cX_ge (by omega) (by omega)) hW
    simp (discharger := first | assumption | omega | decide) only [x_tg, w_tg, m_tg, ↓reduceIte, Option.bind_some, ↓x_0b, ↓x_1b, ↓x_2b, ↓x_3b, ↓x_4b, ↓x_5b, ↓x_6b, ↓x_7b, ↓x_8b, ↓x_9b, ↓x_10b, ↓x_11b, ↓x_12b, ↓x_13b, ↓x_14b, ↓x_15b, ↓x_16b, ↓x_17b, ↓x_18b, ↓x_19b, ↓xp_2b, ↓xp_6b, ↓xp_14b, ↓xp_17b, ↓xp_18b, ↓xp_19b, ↓X_f0b, ↓X_f2b, ↓X_f4b, ↓X_f8b, ↓wf_1b, ↓wf_3b, ↓wf_5b, ↓wf_6b, ↓wf_7b, ↓wf_9b, ↓wt_1_0b, ↓wt_1_1b, ↓wt_1_2b, ↓wt_1_3b, ↓wt_1_4b, ↓wt_11_0b, ↓wt_11_1b, ↓wt_11_2b, ↓wt_11_3b, ↓wt_11_4b, ↓wt_21_0b, ↓wt_21_1b, ↓wt_31_0b, ↓wt_31_1b, ↓wt_31_2b, ↓wt_31_3b, ↓wt_31_4b, ↓wt_31_5b, ↓wt_31_6b, ↓wt_41_0b, ↓wt_41_1b, ↓wt_41_2b, ↓wt_41_3b, ↓wt_41_4b, ↓wt_41_5b, ↓wt_41_6b, ↓wt_1b, ↓wt_11b, ↓wt_21b, ↓wt_31b, ↓wt_41b, ↓X_c0b, ↓X_c1b, ↓X_c2b, ↓X_c3b, ↓X_c4b, ↓X_e0b, ↓X_e1b, ↓X_e2b, ↓X_e3b, ↓X_e4b, ↓X_cb, ↓X_eb, ↓X_w0b, ↓X_w1b, ↓X_hb, ↓X_yb, ↓X_rb, ↓wp_0b, ↓wp_2b, ↓wp_4b, ↓wp_8b, ↓ws_2b, ↓ws_3b, ↓ws_4b, ↓ws_5b, ↓ws_6b, ↓ws_12b, ↓ws_13b, ↓ws_14b, ↓ws_15b, ↓ws_16b, ↓ws_22b, ↓ws_23b, ↓ws_51b, ↓wS_yb, ↓wS_rb, ↓wS_cb, ↓wS_eb, F_X0_collects_J46, F_X0_collects_B7, F_X0_collects_L7, F_X0_collects, hN, ofN_le, Nat.le_refl]
  · have hW' : WX (cX σ u) 200 ρ := WX_congr (fun i hi _ => cX_ge (by omega) (by omega)) hW
    have hd : ¬ N ≤ e := by omega
    have hh := has_n s hs e (by omega)
    unfold colS
    by_cases hb9 : s.testBit e = true
    · have hm := cbn_mono s (show e + 1 ≤ N by omega)
      rw [cbn_succ, if_pos hb9] at hm
      have hc0 : cX σ u 0 14 = Int32.ofNat u.1 := by unfold cX; rw [if_neg (by omega), if_pos ⟨rfl, rfl⟩]
      have hc1 : up2 (cX σ u) 11 u.1 (Int32.ofNat e) 0 14 = Int32.ofNat u.1 := by rw [up2_ne (by omega)]; exact hc0
      have ew := ms_11 (σ := cX σ u) (n := u.1) (v := Int32.ofNat e) h (by omega)
      rw [if_pos hb9, ← cX_step]
      rw [hb9] at hh
      simp (discharger := first | assumption | omega | decide) only [x_tg, w_tg, m_tg, ↓reduceIte, Option.bind_some, ↓x_0b, ↓x_1b, ↓x_2b, ↓x_3b, ↓x_4b, ↓x_5b, ↓x_6b, ↓x_7b, ↓x_8b, ↓x_9b, ↓x_10b, ↓x_11b, ↓x_12b, ↓x_13b, ↓x_14b, ↓x_15b, ↓x_16b, ↓x_17b, ↓x_18b, ↓x_19b, ↓xp_2b, ↓xp_6b, ↓xp_14b, ↓xp_17b, ↓xp_18b, ↓xp_19b, ↓X_f0b, ↓X_f2b, ↓X_f4b, ↓X_f8b, ↓wf_1b, ↓wf_3b, ↓wf_5b, ↓wf_6b, ↓wf_7b, ↓wf_9b, ↓wt_1_0b, ↓wt_1_1b, ↓wt_1_2b, ↓wt_1_3b, ↓wt_1_4b, ↓wt_11_0b, ↓wt_11_1b, ↓wt_11_2b, ↓wt_11_3b, ↓wt_11_4b, ↓wt_21_0b, ↓wt_21_1b, ↓wt_31_0b, ↓wt_31_1b, ↓wt_31_2b, ↓wt_31_3b, ↓wt_31_4b, ↓wt_31_5b, ↓wt_31_6b, ↓wt_41_0b, ↓wt_41_1b, ↓wt_41_2b, ↓wt_41_3b, ↓wt_41_4b, ↓wt_41_5b, ↓wt_41_6b, ↓wt_1b, ↓wt_11b, ↓wt_21b, ↓wt_31b, ↓wt_41b, ↓X_c0b, ↓X_c1b, ↓X_c2b, ↓X_c3b, ↓X_c4b, ↓X_e0b, ↓X_e1b, ↓X_e2b, ↓X_e3b, ↓X_e4b, ↓X_cb, ↓X_eb, ↓X_w0b, ↓X_w1b, ↓X_hb, ↓X_yb, ↓X_rb, ↓wp_0b, ↓wp_2b, ↓wp_4b, ↓wp_8b, ↓ws_2b, ↓ws_3b, ↓ws_4b, ↓ws_5b, ↓ws_6b, ↓ws_12b, ↓ws_13b, ↓ws_14b, ↓ws_15b, ↓ws_16b, ↓ws_22b, ↓ws_23b, ↓ws_51b, ↓wS_yb, ↓wS_rb, ↓wS_cb, ↓wS_eb, F_X0_collects_J46, F_X0_collects_B7, F_X0_collects_L7, F_X0_collects, hN, ofN_le, hd, hh, hc0, hc1, ↓bn9 ew, ofNs, show ¬ (1 : Int32) = 0 by decide]
    · rw [if_neg hb9]
      rw [if_neg hb9] at hh
      simp (discharger := first | assumption | omega | decide) only [x_tg, w_tg, m_tg, ↓reduceIte, Option.bind_some, ↓x_0b, ↓x_1b, ↓x_2b, ↓x_3b, ↓x_4b, ↓x_5b, ↓x_6b, ↓x_7b, ↓x_8b, ↓x_9b, ↓x_10b, ↓x_11b, ↓x_12b, ↓x_13b, ↓x_14b, ↓x_15b, ↓x_16b, ↓x_17b, ↓x_18b, ↓x_19b, ↓xp_2b, ↓xp_6b, ↓xp_14b, ↓xp_17b, ↓xp_18b, ↓xp_19b, ↓X_f0b, ↓X_f2b, ↓X_f4b, ↓X_f8b, ↓wf_1b, ↓wf_3b, ↓wf_5b, ↓wf_6b, ↓wf_7b, ↓wf_9b, ↓wt_1_0b, ↓wt_1_1b, ↓wt_1_2b, ↓wt_1_3b, ↓wt_1_4b, ↓wt_11_0b, ↓wt_11_1b, ↓wt_11_2b, ↓wt_11_3b, ↓wt_11_4b, ↓wt_21_0b, ↓wt_21_1b, ↓wt_31_0b, ↓wt_31_1b, ↓wt_31_2b, ↓wt_31_3b, ↓wt_31_4b, ↓wt_31_5b, ↓wt_31_6b, ↓wt_41_0b, ↓wt_41_1b, ↓wt_41_2b, ↓wt_41_3b, ↓wt_41_4b, ↓wt_41_5b, ↓wt_41_6b, ↓wt_1b, ↓wt_11b, ↓wt_21b, ↓wt_31b, ↓wt_41b, ↓X_c0b, ↓X_c1b, ↓X_c2b, ↓X_c3b, ↓X_c4b, ↓X_e0b, ↓X_e1b, ↓X_e2b, ↓X_e3b, ↓X_e4b, ↓X_cb, ↓X_eb, ↓X_w0b, ↓X_w1b, ↓X_hb, ↓X_yb, ↓X_rb, ↓wp_0b, ↓wp_2b, ↓wp_4b, ↓wp_8b, ↓ws_2b, ↓ws_3b, ↓ws_4b, ↓ws_5b, ↓ws_6b, ↓ws_12b, ↓ws_13b, ↓ws_14b, ↓ws_15b, ↓ws_16b, ↓ws_22b, ↓ws_23b, ↓ws_51b, ↓wS_yb, ↓wS_rb, ↓wS_cb, ↓wS_eb, F_X0_collects_J46, F_X0_collects_B7, F_X0_collects_L7, F_X0_collects, hN, ofN_le, hd, hh, ofNs]
  · unfold colS
    rw [cbn_succ]
    split <;> simp [hu]
/-- the table, marked as far as n -/
def xI (σ : St) (n : Nat) : St := fun i k => if 600 ≤ i ∧ k < 7 ∧ 7 * (i - 600) + k < n then 1000000 else σ i k
set_option maxRecDepth 8000 in
theorem xI_ge {σ : St} {n K i : Nat} (hn : n ≤ 7 * K) (h : i < 600 ∨ 600 + K ≤ i) : xI σ n i = σ i := by
  funext k; unfold xI
  by_cases h2 : 600 ≤ i ∧ k < 7 ∧ 7 * (i - 600) + k < n
  · omega
  · rw [if_neg h2]
set_option maxRecDepth 8000 in
theorem xI_up {σ : St} {c p : Nat} (hp9 : p < 7) : up2 (xI σ (7 * c + p)) (600 + c) p 1000000 = xI σ (7 * c + p + 1) := by
  funext i k
  unfold up2 xI
  by_cases h : i = 600 + c ∧ k = p
  · rw [if_pos h, if_pos (by omega)]
  · rw [if_neg h]
    by_cases h2 : 600 ≤ i ∧ k < 7 ∧ 7 * (i - 600) + k < 7 * c + p
    · rw [if_pos h2, if_pos (by omega)]
    · rw [if_neg h2, if_neg (by omega)]
set_option maxRecDepth 8000 in
theorem xI_end {σ : St} {K : Nat} : xI σ (7 * K) = xL σ (fun _ _ => 1000000) K := by
  funext i k
  unfold xI xL
  by_cases h2 : 600 ≤ i ∧ k < 7 ∧ 7 * (i - 600) + k < 7 * K
  · rw [if_pos h2, if_pos (by omega)]; rfl
  · rw [if_neg h2, if_neg (by omega)]
set_option maxRecDepth 8000 in
theorem DX_xI {n K : Nat} (hn : n ≤ 7 * K) (hK : K ≤ 243) (h : DX σ ρ T u) : DX (xI σ n) ρ T u := by
  obtain ⟨h1, h2, h3, h4, h5⟩ := h
  have g : ∀ i, i < 600 → xI σ n i = σ i := fun i hi => xI_ge hn (by omega)
  refine ⟨WX_congr (fun i hi hi2 => g i (by omega)) h1, fun i hi => ?_, fun i hi => ?_, ?_, fun p q hp9 hq => ?_⟩
  · rw [g _ (by omega)]; exact h2 i hi
  · rw [g _ (by omega)]; exact h3 i hi
  · rw [g _ (by omega)]; exact h4
  · rw [g _ (by omega)]; exact h5 p q hp9 hq
set_option maxRecDepth 8000 in
/-- the table's run over places -/
theorem x_run_p (h : Lok L) (hM : MEM ρ u) (hD : DX σ ρ T u) (hT : tB T) (hc : c < 3 ^ u.1) (hB : B < 1000) {rc : Option Nat → Int32 → Int32 → Int32 → cH → Option (Int32 × cH)} {s9 : Tb × Nat} (ht : tA s9.1) (hb9 : s9.2 ≤ 1000000) :
    F_X0_roundOf_L118 rc fu (some (L.1 0)) (Int32.ofNat B) (Int32.ofNat s9.2) (Int32.ofNat c) 0 (hp L (xL σ s9.1 (3 ^ u.1))) = rc (some (L.1 0)) (Int32.ofNat B) (Int32.ofNat (xR u.1 T (efr ρ u) (eto ρ u) (elb ρ u) B c s9).2) (Int32.ofNat (c + 1)) (hp L (xL σ (xR u.1 T (efr ρ u) (eto ρ u) (elb ρ u) B c s9).1 (3 ^ u.1))) ∧ tA (xR u.1 T (efr ρ u) (eto ρ u) (elb ρ u) B c s9).1 ∧ (xR u.1 T (efr ρ u) (eto ρ u) (elb ρ u) B c s9).2 ≤ 1000000 := by
  have hk := hM.1
  have hK := p3_le hk
  have hpos : 0 < 3 ^ u.1 := Nat.pow_pos (by decide)
  have key := lpP (Lp := fun f p (s : Tb × Nat) => F_X0_roundOf_L118 rc f (some (L.1 0)) (Int32.ofNat B) (Int32.ofNat s.2) (Int32.ofNat c) (Int32.ofNat p) (hp L (xL σ s.1 (3 ^ u.1)))) (st := xS u.1 T (efr ρ u) (eto ρ u) (elb ρ u) B c) (fin := fun s => rc (some (L.1 0)) (Int32.ofNat B) (Int32.ofNat s.2) (Int32.ofNat (c + 1)) (hp L (xL σ s.1 (3 ^ u.1)))) (N := 7) (fun _ s => tA s.1 ∧ s.2 ≤ 1000000) (fun f s hs => ?_) (fun f p s hp9 hs => ?_) (fun p s hp9 hs => ?_) 7 0 fu s9 (by omega) (by unfold fu; omega) ⟨ht, hb9⟩
  · exact ⟨key.1, key.2.1, key.2.2⟩
  · simp (discharger := first | assumption | omega | decide) only [F_X0_roundOf_L118, F_X0_roundOf_B118, show (7 : Int32) ≤ Int32.ofNat 7 from by decide, ↓reduceIte, ofNs]
  · have hd : ¬ (7 : Int32) ≤ Int32.ofNat p := by rw [li_7, ofN_le (by omega) (by omega)]; omega
    obtain ⟨ht', hb'⟩ := hs
    have hv := ht' c p
    have e1 := R_row (σ := xL σ s.1 (3 ^ u.1)) (c := c) h (by omega)
    have e2 := R_get (σ := σ) (t := s.1) h hK hc hp9
    have e3 := x_goesOn h hM hD hT ht' hc hp9 hB
    have hD2 := DX_xL (t := goO u.1 T (efr ρ u) (eto ρ u) (elb ρ u) B c p s.1) (K := 3 ^ u.1) hD
    have e4 := x_pw (i := u.1) h hD2.2.1 (by omega)
    have e5 := R_row (σ := xL σ (goO u.1 T (efr ρ u) (eto ρ u) (elb ρ u) B c p s.1) (3 ^ u.1)) (c := c) h (by omega)
    have e6 := R_get (σ := σ) (t := goO u.1 T (efr ρ u) (eto ρ u) (elb ρ u) B c p s.1) h hK hc hp9
    have hv2 := tA_goO (k := u.1) (T := T) (fr := efr ρ u) (to := eto ρ u) (lb := elb ρ u) (B := B) ht' c p c p
    have e7 : Int32.ofNat (3 ^ u.1) - 1 = Int32.ofNat (3 ^ u.1 - 1) := ofN_sub (b := 1) hpos
    unfold xS
    by_cases hf : s.1 c p < 1000000
    · have hf' : ¬ 1000000 ≤ s.1 c p := by omega
      rw [if_pos hf]
      by_cases hl : c = 3 ^ u.1 - 1
      · rw [if_pos hl]
        simp (discharger := first | assumption | omega | decide) only [x_tg, w_tg, m_tg, ↓reduceIte, Option.bind_some, ↓x_0b, ↓x_1b, ↓x_2b, ↓x_3b, ↓x_4b, ↓x_5b, ↓x_6b, ↓x_7b, ↓x_8b, ↓x_9b, ↓x_10b, ↓x_11b, ↓x_12b, ↓x_13b, ↓x_14b, ↓x_15b, ↓x_16b, ↓x_17b, ↓x_18b, ↓x_19b, ↓xp_2b, ↓xp_6b, ↓xp_14b, ↓xp_17b, ↓xp_18b, ↓xp_19b, ↓X_f0b, ↓X_f2b, ↓X_f4b, ↓X_f8b, ↓wf_1b, ↓wf_3b, ↓wf_5b, ↓wf_6b, ↓wf_7b, ↓wf_9b, ↓wt_1_0b, ↓wt_1_1b, ↓wt_1_2b, ↓wt_1_3b, ↓wt_1_4b, ↓wt_11_0b, ↓wt_11_1b, ↓wt_11_2b, ↓wt_11_3b, ↓wt_11_4b, ↓wt_21_0b, ↓wt_21_1b, ↓wt_31_0b, ↓wt_31_1b, ↓wt_31_2b, ↓wt_31_3b, ↓wt_31_4b, ↓wt_31_5b, ↓wt_31_6b, ↓wt_41_0b, ↓wt_41_1b, ↓wt_41_2b, ↓wt_41_3b, ↓wt_41_4b, ↓wt_41_5b, ↓wt_41_6b, ↓wt_1b, ↓wt_11b, ↓wt_21b, ↓wt_31b, ↓wt_41b, ↓X_c0b, ↓X_c1b, ↓X_c2b, ↓X_c3b, ↓X_c4b, ↓X_e0b, ↓X_e1b, ↓X_e2b, ↓X_e3b, ↓X_e4b, ↓X_cb, ↓X_eb, ↓X_w0b, ↓X_w1b, ↓X_hb, ↓X_yb, ↓X_rb, ↓wp_0b, ↓wp_2b, ↓wp_4b, ↓wp_8b, ↓ws_2b, ↓ws_3b, ↓ws_4b, ↓ws_5b, ↓ws_6b, ↓ws_12b, ↓ws_13b, ↓ws_14b, ↓ws_15b, ↓ws_16b, ↓ws_22b, ↓ws_23b, ↓ws_51b, ↓wS_yb, ↓wS_rb, ↓wS_cb, ↓wS_eb, F_X0_roundOf_J187, F_X0_roundOf_J185, F_X0_roundOf_B118, F_X0_roundOf_L118, F_X0_roundOf_B101, F_X0_roundOf_L101, F_X0_roundOf_J96, F_X0_roundOf_B28, F_X0_roundOf_L28, F_X0_roundOf_B12, F_X0_roundOf_L12, F_X0_roundOf, hd, ↓bn9 e1, ↓bn9 e2, li_1000000, ofN_le, hf', ↓bn9 e3, hD2.2.2.2.1, ↓bn9 e4, e7, ofN_inj, ← hl, not_true_eq_false, ↓bn9 e5, ↓bn9 e6, ofN_min, ofNs]
      · rw [if_neg hl]
        simp (discharger := first | assumption | omega | decide) only [x_tg, w_tg, m_tg, ↓reduceIte, Option.bind_some, ↓x_0b, ↓x_1b, ↓x_2b, ↓x_3b, ↓x_4b, ↓x_5b, ↓x_6b, ↓x_7b, ↓x_8b, ↓x_9b, ↓x_10b, ↓x_11b, ↓x_12b, ↓x_13b, ↓x_14b, ↓x_15b, ↓x_16b, ↓x_17b, ↓x_18b, ↓x_19b, ↓xp_2b, ↓xp_6b, ↓xp_14b, ↓xp_17b, ↓xp_18b, ↓xp_19b, ↓X_f0b, ↓X_f2b, ↓X_f4b, ↓X_f8b, ↓wf_1b, ↓wf_3b, ↓wf_5b, ↓wf_6b, ↓wf_7b, ↓wf_9b, ↓wt_1_0b, ↓wt_1_1b, ↓wt_1_2b, ↓wt_1_3b, ↓wt_1_4b, ↓wt_11_0b, ↓wt_11_1b, ↓wt_11_2b, ↓wt_11_3b, ↓wt_11_4b, ↓wt_21_0b, ↓wt_21_1b, ↓wt_31_0b, ↓wt_31_1b, ↓wt_31_2b, ↓wt_31_3b, ↓wt_31_4b, ↓wt_31_5b, ↓wt_31_6b, ↓wt_41_0b, ↓wt_41_1b, ↓wt_41_2b, ↓wt_41_3b, ↓wt_41_4b, ↓wt_41_5b, ↓wt_41_6b, ↓wt_1b, ↓wt_11b, ↓wt_21b, ↓wt_31b, ↓wt_41b, ↓X_c0b, ↓X_c1b, ↓X_c2b, ↓X_c3b, ↓X_c4b, ↓X_e0b, ↓X_e1b, ↓X_e2b, ↓X_e3b, ↓X_e4b, ↓X_cb, ↓X_eb, ↓X_w0b, ↓X_w1b, ↓X_hb, ↓X_yb, ↓X_rb, ↓wp_0b, ↓wp_2b, ↓wp_4b, ↓wp_8b, ↓ws_2b, ↓ws_3b, ↓ws_4b, ↓ws_5b, ↓ws_6b, ↓ws_12b, ↓ws_13b, ↓ws_14b, ↓ws_15b, ↓ws_16b, ↓ws_22b, ↓ws_23b, ↓ws_51b, ↓wS_yb, ↓wS_rb, ↓wS_cb, ↓wS_eb, F_X0_roundOf_J187, F_X0_roundOf_J185, F_X0_roundOf_B118, F_X0_roundOf_L118, F_X0_roundOf_B101, F_X0_roundOf_L101, F_X0_roundOf_J96, F_X0_roundOf_B28, F_X0_roundOf_L28, F_X0_roundOf_B12, F_X0_roundOf_L12, F_X0_roundOf, hd, ↓bn9 e1, ↓bn9 e2, li_1000000, ofN_le, hf', ↓bn9 e3, hD2.2.2.2.1, ↓bn9 e4, e7, ofN_inj, hl, not_false_eq_true, ofNs]
    · have hf' : 1000000 ≤ s.1 c p := by omega
      rw [if_neg hf]
      simp (discharger := first | assumption | omega | decide) only [x_tg, w_tg, m_tg, ↓reduceIte, Option.bind_some, ↓x_0b, ↓x_1b, ↓x_2b, ↓x_3b, ↓x_4b, ↓x_5b, ↓x_6b, ↓x_7b, ↓x_8b, ↓x_9b, ↓x_10b, ↓x_11b, ↓x_12b, ↓x_13b, ↓x_14b, ↓x_15b, ↓x_16b, ↓x_17b, ↓x_18b, ↓x_19b, ↓xp_2b, ↓xp_6b, ↓xp_14b, ↓xp_17b, ↓xp_18b, ↓xp_19b, ↓X_f0b, ↓X_f2b, ↓X_f4b, ↓X_f8b, ↓wf_1b, ↓wf_3b, ↓wf_5b, ↓wf_6b, ↓wf_7b, ↓wf_9b, ↓wt_1_0b, ↓wt_1_1b, ↓wt_1_2b, ↓wt_1_3b, ↓wt_1_4b, ↓wt_11_0b, ↓wt_11_1b, ↓wt_11_2b, ↓wt_11_3b, ↓wt_11_4b, ↓wt_21_0b, ↓wt_21_1b, ↓wt_31_0b, ↓wt_31_1b, ↓wt_31_2b, ↓wt_31_3b, ↓wt_31_4b, ↓wt_31_5b, ↓wt_31_6b, ↓wt_41_0b, ↓wt_41_1b, ↓wt_41_2b, ↓wt_41_3b, ↓wt_41_4b, ↓wt_41_5b, ↓wt_41_6b, ↓wt_1b, ↓wt_11b, ↓wt_21b, ↓wt_31b, ↓wt_41b, ↓X_c0b, ↓X_c1b, ↓X_c2b, ↓X_c3b, ↓X_c4b, ↓X_e0b, ↓X_e1b, ↓X_e2b, ↓X_e3b, ↓X_e4b, ↓X_cb, ↓X_eb, ↓X_w0b, ↓X_w1b, ↓X_hb, ↓X_yb, ↓X_rb, ↓wp_0b, ↓wp_2b, ↓wp_4b, ↓wp_8b, ↓ws_2b, ↓ws_3b, ↓ws_4b, ↓ws_5b, ↓ws_6b, ↓ws_12b, ↓ws_13b, ↓ws_14b, ↓ws_15b, ↓ws_16b, ↓ws_22b, ↓ws_23b, ↓ws_51b, ↓wS_yb, ↓wS_rb, ↓wS_cb, ↓wS_eb, F_X0_roundOf_J187, F_X0_roundOf_J185, F_X0_roundOf_B118, F_X0_roundOf_L118, F_X0_roundOf_B101, F_X0_roundOf_L101, F_X0_roundOf_J96, F_X0_roundOf_B28, F_X0_roundOf_L28, F_X0_roundOf_B12, F_X0_roundOf_L12, F_X0_roundOf, hd, ↓bn9 e1, ↓bn9 e2, li_1000000, ofN_le, hf', ofNs]
  · obtain ⟨ht', hb'⟩ := hs
    have hv2 := tA_goO (k := u.1) (T := T) (fr := efr ρ u) (to := eto ρ u) (lb := elb ρ u) (B := B) ht' c p
    unfold xS
    split
    · refine ⟨hv2, ?_⟩
      dsimp only
      split
      · have := hv2 c p; omega
      · exact hb'
    · exact ⟨ht', hb'⟩
set_option maxRecDepth 8000 in
theorem tA_t00 (s : Nat) : tA (t00 s) := by
  intro a b; unfold t00 tset; split
  · exact Nat.zero_le _
  · exact Nat.le_refl _
set_option maxRecDepth 8000 in
theorem x_run (h : Lok L) (hM : MEM ρ u) (hD : DX σ ρ T u) (hT : tB T) (hB : B < 1000) (pl : Nat) :
    F_X0_roundOf_L101 fu (some (L.1 0)) (Int32.ofNat B) (Int32.ofNat (if u.1 = 0 then 0 else 1000000)) 0 (hp L (xL σ (t00 pl) (3 ^ u.1))) = some (if (xdp u.1 T (efr ρ u) (eto ρ u) (elb ρ u) B pl).2 < 1000000 then Int32.ofNat (xdp u.1 T (efr ρ u) (eto ρ u) (elb ρ u) B pl).2 else -1, hp L (xL σ (xdp u.1 T (efr ρ u) (eto ρ u) (elb ρ u) B pl).1 (3 ^ u.1))) := by
  have hk := hM.1
  have hK := p3_le hk
  refine (lpP (Lp := fun f c (s : Tb × Nat) => F_X0_roundOf_L101 f (some (L.1 0)) (Int32.ofNat B) (Int32.ofNat s.2) (Int32.ofNat c) (hp L (xL σ s.1 (3 ^ u.1)))) (st := xR u.1 T (efr ρ u) (eto ρ u) (elb ρ u) B) (fin := fun s => some (if s.2 < 1000000 then Int32.ofNat s.2 else -1, hp L (xL σ s.1 (3 ^ u.1)))) (N := 3 ^ u.1) (fun _ s => tA s.1 ∧ s.2 ≤ 1000000) (fun f s hs => ?_) (fun f c s hc hs => ?_) (fun c s hc hs => (x_run_p (rc := fun _ _ _ _ _ => none) h hM hD hT hc hB hs.1 hs.2).2) (3 ^ u.1) 0 fu (t00 pl, if u.1 = 0 then 0 else 1000000) (by omega) (by unfold fu; omega) ⟨tA_t00 pl, by dsimp only; split <;> omega⟩).1
  · have hD2 := DX_xL (t := s.1) (K := 3 ^ u.1) hD
    have e4 := x_pw (i := u.1) h hD2.2.1 (by omega)
    have hs2 := hs.2
    simp (discharger := first | assumption | omega | decide) only [F_X0_roundOf_L101, F_X0_roundOf_B101, ↓x_15b, ↓x_14b, hD2.2.2.2.1, ↓bn9 e4, ofN_le, Nat.le_refl, ↓reduceIte, li_1000000]
    by_cases hf : s.2 < 1000000
    · rw [if_neg (by omega), if_pos hf]
    · rw [if_pos (by omega), if_neg hf]
  · have hD2 := DX_xL (t := s.1) (K := 3 ^ u.1) hD
    have e4 := x_pw (i := u.1) h hD2.2.1 (by omega)
    have hd : ¬ 3 ^ u.1 ≤ c := by omega
    simp (discharger := first | assumption | omega | decide) only [F_X0_roundOf_L101, F_X0_roundOf_B101, ↓x_15b, ↓x_14b, hD2.2.2.2.1, ↓bn9 e4, ofN_le, hd, ↓reduceIte]
    exact (x_run_p h hM hD hT hc hB hs.1 hs.2).1
set_option maxRecDepth 8000 in
theorem x_init (h : Lok L) (hM : MEM ρ u) (hD : DX σ ρ T u) (hT : tB T) (hC : CN σ) (hc : c < 6) (hkd : kd < 7) (hk9 : ρ (56 + 5 * c + 0) = Int32.ofNat kd) {st pl : Nat} (hs9 : ρ (56 + 5 * c + 2) = Int32.ofNat st) (hst : st < 400) (hpl : ρ (56 + 5 * c + 1) = Int32.ofNat pl) (hpl7 : pl < 7) :
    F_X0_roundOf_L12 fu (some (L.1 0)) (Int32.ofNat c) 0 (hp L σ) = some (if (xdp u.1 T (efr ρ u) (eto ρ u) (elb ρ u) (brs kd st) pl).2 < 1000000 then Int32.ofNat (xdp u.1 T (efr ρ u) (eto ρ u) (elb ρ u) (brs kd st) pl).2 else -1, hp L (xL σ (xdp u.1 T (efr ρ u) (eto ρ u) (elb ρ u) (brs kd st) pl).1 (3 ^ u.1))) := by
  have hk := hM.1
  have hK := p3_le hk
  have hpos : 0 < 3 ^ u.1 := Nat.pow_pos (by decide)
  have hb : isW 200 = true := rfl
  have hbr : brs kd st < 1000 := by unfold brs; split; omega; split <;> omega
  have e0 : hp L σ = hp L (xI σ (7 * 0)) := by congr 1; funext i k; unfold xI; rw [if_neg (by omega)]
  rw [e0]
  refine (lpF (Lp := fun f c' (_ : Unit) => F_X0_roundOf_L12 f (some (L.1 0)) (Int32.ofNat c) (Int32.ofNat c') (hp L (xI σ (7 * c')))) (st := fun _ a => a) (fin := fun _ => some (if (xdp u.1 T (efr ρ u) (eto ρ u) (elb ρ u) (brs kd st) pl).2 < 1000000 then Int32.ofNat (xdp u.1 T (efr ρ u) (eto ρ u) (elb ρ u) (brs kd st) pl).2 else -1, hp L (xL σ (xdp u.1 T (efr ρ u) (eto ρ u) (elb ρ u) (brs kd st) pl).1 (3 ^ u.1)))) (N := 3 ^ u.1) (fun f _ => ?_) (fun f c' _ hc' => ?_) (by unfold fu; omega) ())
  · rw [xI_end]
    have hD2 := DX_xL (t := fun _ _ => 1000000) (K := 3 ^ u.1) hD
    have hW2 := hD2.1
    have e4 := x_pw (i := u.1) h hD2.2.1 (by omega)
    have e1 := R_row (σ := xL σ (fun _ _ => 1000000) (3 ^ u.1)) (c := 0) h (by omega)
    have e2 := R_set (σ := σ) (t := fun _ _ => 1000000) (K := 3 ^ u.1) (c := 0) (p := pl) (v := 0) h hK hpos hpl7
    have hD3 := DX_xL (t := t00 pl) (K := 3 ^ u.1) hD
    have hC3 : CN (xL σ (t00 pl) (3 ^ u.1)) := fun k hk => by rw [xL_ge (by omega)]; exact hC k hk
    have e5 := x_bearsOf h hD3.1 hC3 hc hkd hk9 hs9 (by omega)
    have e6 := x_run h hM hD hT hbr pl
    rw [show Int32.ofNat 0 = 0 from rfl] at e1 e2
    rw [show tset (fun _ _ => 1000000) 0 pl 0 = t00 pl from rfl] at e2
    by_cases hz : u.1 = 0
    · have hz' : Int32.ofNat u.1 = 0 := by rw [hz]; rfl
      rw [if_pos hz] at e6
      simp (discharger := first | assumption | omega | decide) only [x_tg, w_tg, m_tg, ↓reduceIte, Option.bind_some, ↓x_0b, ↓x_1b, ↓x_2b, ↓x_3b, ↓x_4b, ↓x_5b, ↓x_6b, ↓x_7b, ↓x_8b, ↓x_9b, ↓x_10b, ↓x_11b, ↓x_12b, ↓x_13b, ↓x_14b, ↓x_15b, ↓x_16b, ↓x_17b, ↓x_18b, ↓x_19b, ↓xp_2b, ↓xp_6b, ↓xp_14b, ↓xp_17b, ↓xp_18b, ↓xp_19b, ↓X_f0b, ↓X_f2b, ↓X_f4b, ↓X_f8b, ↓wf_1b, ↓wf_3b, ↓wf_5b, ↓wf_6b, ↓wf_7b, ↓wf_9b, ↓wt_1_0b, ↓wt_1_1b, ↓wt_1_2b, ↓wt_1_3b, ↓wt_1_4b, ↓wt_11_0b, ↓wt_11_1b, ↓wt_11_2b, ↓wt_11_3b, ↓wt_11_4b, ↓wt_21_0b, ↓wt_21_1b, ↓wt_31_0b, ↓wt_31_1b, ↓wt_31_2b, ↓wt_31_3b, ↓wt_31_4b, ↓wt_31_5b, ↓wt_31_6b, ↓wt_41_0b, ↓wt_41_1b, ↓wt_41_2b, ↓wt_41_3b, ↓wt_41_4b, ↓wt_41_5b, ↓wt_41_6b, ↓wt_1b, ↓wt_11b, ↓wt_21b, ↓wt_31b, ↓wt_41b, ↓X_c0b, ↓X_c1b, ↓X_c2b, ↓X_c3b, ↓X_c4b, ↓X_e0b, ↓X_e1b, ↓X_e2b, ↓X_e3b, ↓X_e4b, ↓X_cb, ↓X_eb, ↓X_w0b, ↓X_w1b, ↓X_hb, ↓X_yb, ↓X_rb, ↓wp_0b, ↓wp_2b, ↓wp_4b, ↓wp_8b, ↓ws_2b, ↓ws_3b, ↓ws_4b, ↓ws_5b, ↓ws_6b, ↓ws_12b, ↓ws_13b, ↓ws_14b, ↓ws_15b, ↓ws_16b, ↓ws_22b, ↓ws_23b, ↓ws_51b, ↓wS_yb, ↓wS_rb, ↓wS_cb, ↓wS_eb, F_X0_roundOf_L12, F_X0_roundOf_B12, F_X0_roundOf_J96, hD2.2.2.2.1, ↓bn9 e4, ofN_le, Nat.le_refl, ↓bn9 e1, hpl, ↓bn9 e2, ↓bn9 e5, hD3.2.2.2.1, eq_true hz', not_true_eq_false]
      exact e6
    · have hz' : ¬ Int32.ofNat u.1 = 0 := by rw [li_0, ofN_inj (by omega) (by omega)]; exact hz
      rw [if_neg hz] at e6
      simp (discharger := first | assumption | omega | decide) only [x_tg, w_tg, m_tg, ↓reduceIte, Option.bind_some, ↓x_0b, ↓x_1b, ↓x_2b, ↓x_3b, ↓x_4b, ↓x_5b, ↓x_6b, ↓x_7b, ↓x_8b, ↓x_9b, ↓x_10b, ↓x_11b, ↓x_12b, ↓x_13b, ↓x_14b, ↓x_15b, ↓x_16b, ↓x_17b, ↓x_18b, ↓x_19b, ↓xp_2b, ↓xp_6b, ↓xp_14b, ↓xp_17b, ↓xp_18b, ↓xp_19b, ↓X_f0b, ↓X_f2b, ↓X_f4b, ↓X_f8b, ↓wf_1b, ↓wf_3b, ↓wf_5b, ↓wf_6b, ↓wf_7b, ↓wf_9b, ↓wt_1_0b, ↓wt_1_1b, ↓wt_1_2b, ↓wt_1_3b, ↓wt_1_4b, ↓wt_11_0b, ↓wt_11_1b, ↓wt_11_2b, ↓wt_11_3b, ↓wt_11_4b, ↓wt_21_0b, ↓wt_21_1b, ↓wt_31_0b, ↓wt_31_1b, ↓wt_31_2b, ↓wt_31_3b, ↓wt_31_4b, ↓wt_31_5b, ↓wt_31_6b, ↓wt_41_0b, ↓wt_41_1b, ↓wt_41_2b, ↓wt_41_3b, ↓wt_41_4b, ↓wt_41_5b, ↓wt_41_6b, ↓wt_1b, ↓wt_11b, ↓wt_21b, ↓wt_31b, ↓wt_41b, ↓X_c0b, ↓X_c1b, ↓X_c2b, ↓X_c3b, ↓X_c4b, ↓X_e0b, ↓X_e1b, ↓X_e2b, ↓X_e3b, ↓X_e4b, ↓X_cb, ↓X_eb, ↓X_w0b, ↓X_w1b, ↓X_hb, ↓X_yb, ↓X_rb, ↓wp_0b, ↓wp_2b, ↓wp_4b, ↓wp_8b, ↓ws_2b, ↓ws_3b, ↓ws_4b, ↓ws_5b, ↓ws_6b, ↓ws_12b, ↓ws_13b, ↓ws_14b, ↓ws_15b, ↓ws_16b, ↓ws_22b, ↓ws_23b, ↓ws_51b, ↓wS_yb, ↓wS_rb, ↓wS_cb, ↓wS_eb, F_X0_roundOf_L12, F_X0_roundOf_B12, F_X0_roundOf_J96, hD2.2.2.2.1, ↓bn9 e4, ofN_le, Nat.le_refl, ↓bn9 e1, hpl, ↓bn9 e2, ↓bn9 e5, hD3.2.2.2.1, hz', not_false_eq_true]
      exact e6
  · have hD2 := DX_xI (n := 7 * c') (K := 3 ^ u.1) (by omega) hK hD
    have e4 := x_pw (i := u.1) h hD2.2.1 (by omega)
    have hd : ¬ 3 ^ u.1 ≤ c' := by omega
    simp (discharger := first | assumption | omega | decide) only [F_X0_roundOf_L12, F_X0_roundOf_B12, ↓x_15b, ↓x_14b, hD2.2.2.2.1, ↓bn9 e4, ofN_le, hd, ↓reduceIte]
    refine (lpF (Lp := fun f2 p (_ : Unit) => F_X0_roundOf_L28 (F_X0_roundOf_L12 f) f2 (some (L.1 0)) (Int32.ofNat c) (Int32.ofNat c') (Int32.ofNat p) (hp L (xI σ (7 * c' + p)))) (st := fun _ a => a) (fin := fun _ => F_X0_roundOf_L12 f (some (L.1 0)) (Int32.ofNat c) (Int32.ofNat (c' + 1)) (hp L (xI σ (7 * (c' + 1))))) (N := 7) (fun f2 _ => ?_) (fun f2 p _ hp9 => ?_) (by unfold fu; omega) ())
    · simp (discharger := first | assumption | omega | decide) only [F_X0_roundOf_L28, F_X0_roundOf_B28, show (7 : Int32) ≤ Int32.ofNat 7 from by decide, ↓reduceIte, ofNs, Nat.mul_add, Nat.mul_one]
    · have hd : ¬ (7 : Int32) ≤ Int32.ofNat p := by rw [li_7, ofN_le (by omega) (by omega)]; omega
      have e1 := R_row (σ := xI σ (7 * c' + p)) (c := c') h (by omega)
      have e2 := R_set0 (σ := xI σ (7 * c' + p)) (c := c') (p := p) (v := 1000000) h (by omega) hp9
      rw [xI_up hp9] at e2
      simp (discharger := first | assumption | omega | decide) only [F_X0_roundOf_L28, F_X0_roundOf_B28, hd, ↓reduceIte, ↓x_16b, ↓bn9 e1, ↓bn9 e2, ofNs, Nat.add_assoc]
end L2z
