/-! ### numbers -/
theorem ofN_add (a b : Nat) : Int32.ofNat a + Int32.ofNat b = Int32.ofNat (a + b) := (Int32.ofNat_add a b).symm
theorem ofN_mul (a b : Nat) : Int32.ofNat a * Int32.ofNat b = Int32.ofNat (a * b) := (Int32.ofNat_mul a b).symm
theorem toI {a : Nat} (h : a < 2147483648) : (Int32.ofNat a).toInt = a := Int32.toInt_ofNat_of_lt h
theorem ofN_sub {a b : Nat} (h : b ≤ a) : Int32.ofNat a - Int32.ofNat b = Int32.ofNat (a - b) := by
  have : Int32.ofNat a = Int32.ofNat (a - b) + Int32.ofNat b := by rw [ofN_add]; congr 1; omega
  rw [this, Int32.add_sub_cancel]
theorem ofN_div {a b : Nat} (ha : a < 2147483648) (hb : b < 2147483648) : Int32.ofNat a / Int32.ofNat b = Int32.ofNat (a / b) := by
  apply Int32.toInt_inj.mp
  have hd : a / b ≤ a := Nat.div_le_self a b
  rw [Int32.toInt_div, toI ha, toI hb, toI (by omega)]
  have : ((a : Int).tdiv (b : Int)) = ((a / b : Nat) : Int) := by rw [Int.tdiv_eq_ediv_of_nonneg (by omega)]; rfl
  rw [this]
  generalize a / b = c at hd ⊢
  apply Int.bmod_eq_of_le <;> omega
theorem ofN_digit {a : Nat} (ha : a < 2147483648) : Int32.ofNat a - Int32.ofNat a / 3 * 3 = Int32.ofNat (a % 3) := by
  rw [show (3 : Int32) = Int32.ofNat 3 from rfl, ofN_div ha (by omega), ofN_mul, ofN_sub (by omega)]
  congr 1; omega
theorem ofN_min {a b : Nat} (ha : a < 2147483648) (hb : b < 2147483648) : F_J3_min (Int32.ofNat a) (Int32.ofNat b) = Int32.ofNat (min a b) := by
  unfold F_J3_min
  by_cases h : b < a
  · rw [if_pos ((ofN_lt hb ha).mpr h)]; congr 1; omega
  · rw [if_neg (fun q => h ((ofN_lt hb ha).mp q))]; congr 1; omega
theorem ofN_max {a b : Nat} (ha : a < 2147483648) (hb : b < 2147483648) : F_J3_max (Int32.ofNat a) (Int32.ofNat b) = Int32.ofNat (max a b) := by
  unfold F_J3_max
  by_cases h : a < b
  · rw [if_pos ((ofN_lt ha hb).mpr h)]; congr 1; omega
  · rw [if_neg (fun q => h ((ofN_lt ha hb).mp q))]; congr 1; omega
theorem ofN_ge0 {a : Nat} (ha : a < 2147483648) : ¬ Int32.ofNat a < 0 := by
  rw [show (0 : Int32) = Int32.ofNat 0 from rfl, ofN_lt ha (by omega)]; omega
theorem ofN_nm1 {a : Nat} (ha : a < 2147483648) : ¬ Int32.ofNat a = -1 := by
  intro h
  have := congrArg Int32.toInt h
  rw [toI ha] at this
  have e : (-1 : Int32).toInt = -1 := by decide
  rw [e] at this; omega
/-- what lies within two bounds is a natural -/
theorem ofN_of {v : Int32} (h : 0 ≤ v.toInt) : ∃ n, v = Int32.ofNat n ∧ (n : Int) = v.toInt ∧ n < 2147483648 := by
  refine ⟨v.toInt.toNat, ?_, by omega, ?_⟩
  · apply Int32.toInt_inj.mp
    have h2 := Int32.toInt_lt v
    rw [toI (by omega)]; omega
  · have h2 := Int32.toInt_lt v
    omega
theorem in_eq (v a b : Int32) : F_X0_in v a b = if a.toInt ≤ v.toInt ∧ v.toInt ≤ b.toInt then 1 else 0 := by
  unfold F_X0_in
  simp only [Int32.lt_iff_toInt_lt]
  by_cases h1 : v.toInt < a.toInt
  · rw [if_pos h1, if_neg (by omega)]
  · rw [if_neg h1]
    by_cases h2 : b.toInt < v.toInt
    · rw [if_pos h2, if_neg (by omega)]
    · rw [if_neg h2, if_pos (by omega)]
theorem within_eq (v a b : Int32) : F_X13_within v a b = F_X0_in v a b := rfl
/-! ### a counted loop -/
theorem lpP {α β : Type} {Lp : Nat → Nat → α → Option β} {st : Nat → α → α} {fin : α → Option β} {N : Nat} (P : Nat → α → Prop) (h0 : ∀ f a, P N a → Lp (f + 1) N a = fin a) (hs : ∀ f j a, j < N → P j a → Lp (f + 1) j a = Lp f (j + 1) (st j a)) (hP : ∀ j a, j < N → P j a → P (j + 1) (st j a)) : ∀ (k j f : Nat) (a : α), j + k = N → k < f → P j a → Lp f j a = fin (itF st j k a) ∧ P N (itF st j k a)
  | k, j, 0, a, _, hf, _ => absurd hf (Nat.not_lt_zero _)
  | 0, j, f + 1, a, hj, _, hp => by
    have e : j = N := by omega
    subst e
    exact ⟨h0 f a hp, hp⟩
  | k + 1, j, f + 1, a, hj, hf, hp => by
    rw [hs f j a (by omega) hp]
    exact lpP P h0 hs hP k (j + 1) f (st j a) (by omega) (by omega) (hP j a (by omega) hp)
theorem lpF {α β : Type} {Lp : Nat → Nat → α → Option β} {st : Nat → α → α} {fin : α → Option β} {N : Nat} (h0 : ∀ f a, Lp (f + 1) N a = fin a) (hs : ∀ f j a, j < N → Lp (f + 1) j a = Lp f (j + 1) (st j a)) (hN : N < fu) (a : α) : Lp fu 0 a = fin (itF st 0 N a) :=
  (lpP (fun _ _ => True) (fun f a _ => h0 f a) (fun f j a h _ => hs f j a h) (fun _ _ _ _ => trivial) N 0 fu a (by omega) hN trivial).1
/-! ### the world as a row -/
def wy (p q : Nat) : Nat := 2 * (min p q * (13 - min p q) / 2 + max p q - min p q - 1)
abbrev Rw : Type := Nat → Int32
def WX (σ : St) (b : Nat) (ρ : Rw) : Prop := (σ b 0 = ρ 42 ∧ σ b 2 = ρ 43 ∧ σ b 4 = ρ 44 ∧ σ b 8 = ρ 45) ∧ (∀ s, s < 10 → σ (b + 51) s = ρ (46 + s)) ∧ (∀ f c, f < 5 → c < 6 → σ (b + 2 + f) c = ρ (56 + 5 * c + f)) ∧ (∀ f e, f < 5 → e < 8 → σ (b + 12 + f) e = ρ (86 + 5 * e + f)) ∧ (∀ f w, f < 2 → w < 6 → σ (b + 22 + f) w = ρ (126 + 2 * w + f)) ∧ ∀ p q, p < 7 → q < 7 → σ (b + 32 + p) q = (if p = q then 0 else ρ (wy p q)) ∧ σ (b + 42 + p) q = (if p = q then 0 else ρ (wy p q + 1))
def WM (σ : St) (ρ : Rw) : Prop := ∀ i, i < 138 → σ 1001 i = ρ i
/-! ### reads of the world as a row; literals -/
theorem li_0 : (0 : Int32) = Int32.ofNat 0 := rfl
theorem li_1 : (1 : Int32) = Int32.ofNat 1 := rfl
theorem li_2 : (2 : Int32) = Int32.ofNat 2 := rfl
theorem li_3 : (3 : Int32) = Int32.ofNat 3 := rfl
theorem li_4 : (4 : Int32) = Int32.ofNat 4 := rfl
theorem li_5 : (5 : Int32) = Int32.ofNat 5 := rfl
theorem li_6 : (6 : Int32) = Int32.ofNat 6 := rfl
theorem li_7 : (7 : Int32) = Int32.ofNat 7 := rfl
theorem li_8 : (8 : Int32) = Int32.ofNat 8 := rfl
theorem li_9 : (9 : Int32) = Int32.ofNat 9 := rfl
theorem li_10 : (10 : Int32) = Int32.ofNat 10 := rfl
theorem li_11 : (11 : Int32) = Int32.ofNat 11 := rfl
theorem li_12 : (12 : Int32) = Int32.ofNat 12 := rfl
theorem li_13 : (13 : Int32) = Int32.ofNat 13 := rfl
theorem li_14 : (14 : Int32) = Int32.ofNat 14 := rfl
theorem li_15 : (15 : Int32) = Int32.ofNat 15 := rfl
theorem li_16 : (16 : Int32) = Int32.ofNat 16 := rfl
theorem li_17 : (17 : Int32) = Int32.ofNat 17 := rfl
theorem li_18 : (18 : Int32) = Int32.ofNat 18 := rfl
theorem li_19 : (19 : Int32) = Int32.ofNat 19 := rfl
theorem li_20 : (20 : Int32) = Int32.ofNat 20 := rfl
theorem li_21 : (21 : Int32) = Int32.ofNat 21 := rfl
theorem li_27 : (27 : Int32) = Int32.ofNat 27 := rfl
theorem li_31 : (31 : Int32) = Int32.ofNat 31 := rfl
theorem li_32 : (32 : Int32) = Int32.ofNat 32 := rfl
theorem li_39 : (39 : Int32) = Int32.ofNat 39 := rfl
theorem li_40 : (40 : Int32) = Int32.ofNat 40 := rfl
theorem li_42 : (42 : Int32) = Int32.ofNat 42 := rfl
theorem li_43 : (43 : Int32) = Int32.ofNat 43 := rfl
theorem li_44 : (44 : Int32) = Int32.ofNat 44 := rfl
theorem li_45 : (45 : Int32) = Int32.ofNat 45 := rfl
theorem li_46 : (46 : Int32) = Int32.ofNat 46 := rfl
theorem li_48 : (48 : Int32) = Int32.ofNat 48 := rfl
theorem li_49 : (49 : Int32) = Int32.ofNat 49 := rfl
theorem li_56 : (56 : Int32) = Int32.ofNat 56 := rfl
theorem li_57 : (57 : Int32) = Int32.ofNat 57 := rfl
theorem li_60 : (60 : Int32) = Int32.ofNat 60 := rfl
theorem li_81 : (81 : Int32) = Int32.ofNat 81 := rfl
theorem li_86 : (86 : Int32) = Int32.ofNat 86 := rfl
theorem li_97 : (97 : Int32) = Int32.ofNat 97 := rfl
theorem li_98 : (98 : Int32) = Int32.ofNat 98 := rfl
theorem li_99 : (99 : Int32) = Int32.ofNat 99 := rfl
theorem li_120 : (120 : Int32) = Int32.ofNat 120 := rfl
theorem li_122 : (122 : Int32) = Int32.ofNat 122 := rfl
theorem li_126 : (126 : Int32) = Int32.ofNat 126 := rfl
theorem li_127 : (127 : Int32) = Int32.ofNat 127 := rfl
theorem li_128 : (128 : Int32) = Int32.ofNat 128 := rfl
theorem li_138 : (138 : Int32) = Int32.ofNat 138 := rfl
theorem li_243 : (243 : Int32) = Int32.ofNat 243 := rfl
theorem li_255 : (255 : Int32) = Int32.ofNat 255 := rfl
theorem li_256 : (256 : Int32) = Int32.ofNat 256 := rfl
theorem li_600 : (600 : Int32) = Int32.ofNat 600 := rfl
theorem li_9999 : (9999 : Int32) = Int32.ofNat 9999 := rfl
theorem li_10000 : (10000 : Int32) = Int32.ofNat 10000 := rfl
theorem li_999999 : (999999 : Int32) = Int32.ofNat 999999 := rfl
theorem li_1000000 : (1000000 : Int32) = Int32.ofNat 1000000 := rfl
theorem wayAt_n : ∀ p q, p < 7 → q < 7 → p ≠ q → F_X13_wayAt (Int32.ofNat p) (Int32.ofNat q) = Int32.ofNat (wy p q) := by
  have : ∀ p, p < 7 → ∀ q, q < 7 → p ≠ q → F_X13_wayAt (Int32.ofNat p) (Int32.ofNat q) = Int32.ofNat (wy p q) := by decide +kernel
  exact fun p q hp hq h => this p hp q hq h
theorem wy_lt : ∀ p q, p < 7 → q < 7 → p ≠ q → wy p q < 41 := by
  have : ∀ p, p < 7 → ∀ q, q < 7 → p ≠ q → wy p q < 41 := by decide
  exact fun p q hp hq h => this p hp q hq h
theorem wy_sym (p q : Nat) : wy p q = wy q p := by unfold wy; rw [Nat.min_comm, Nat.max_comm]
def wyB : Bool := (List.range 7).all fun p => (List.range 7).all fun q => (List.range 7).all fun a => (List.range 7).all fun b => p == q || a == b || wy p q != wy a b || (p == a && q == b) || (p == b && q == a)
theorem wy_inj : ∀ p q a b, p < 7 → q < 7 → a < 7 → b < 7 → p ≠ q → a ≠ b → wy p q = wy a b → (p = a ∧ q = b) ∨ (p = b ∧ q = a) := by
  have h : wyB = true := by decide +kernel
  unfold wyB at h
  simp only [List.all_eq_true, List.mem_range, Bool.or_eq_true, beq_iff_eq, bne_iff_ne, Bool.and_eq_true] at h
  intro p q a b h1 h2 h3 h4 h5 h6 h7
  rcases h p h1 q h2 a h3 b h4 with (((h | h) | h) | h) | h
  · exact absurd h h5
  · exact absurd h h6
  · exact absurd h7 h
  · exact .inl h
  · exact .inr h
theorem wy_par (p q a b : Nat) : wy p q ≠ wy a b + 1 := by unfold wy; omega
section L2r
variable {L : Lt} {σ : St} {b n : Nat} {v : Int32} {ρ : Rw}
theorem X_f0 (h : Lok L) (hb : isW b = true) (hW : WX σ b ρ) : fI (hp L σ) (some (L.1 b)) 4 0 = some (ρ 42) := by rw [wf_0 h hb]; exact congrArg some hW.1.1
theorem X_f2 (h : Lok L) (hb : isW b = true) (hW : WX σ b ρ) : fI (hp L σ) (some (L.1 b)) 4 2 = some (ρ 43) := by rw [wf_2 h hb]; exact congrArg some hW.1.2.1
theorem X_f4 (h : Lok L) (hb : isW b = true) (hW : WX σ b ρ) : fI (hp L σ) (some (L.1 b)) 4 4 = some (ρ 44) := by rw [wf_4 h hb]; exact congrArg some hW.1.2.2.1
theorem X_f8 (h : Lok L) (hb : isW b = true) (hW : WX σ b ρ) : fI (hp L σ) (some (L.1 b)) 4 8 = some (ρ 45) := by rw [wf_8 h hb]; exact congrArg some hW.1.2.2.2
theorem X_c0 (h : Lok L) (hb : isW b = true) (hW : WX σ b ρ) (hn : n < 6) : aI (hp L σ) (some (L.1 (b + 2))) 100 (Int32.ofNat n) = some (ρ (56 + 5 * n + 0)) := by rw [wi_2 h hb hn]; exact congrArg some (hW.2.2.1 0 n (by omega) hn)
theorem X_e0 (h : Lok L) (hb : isW b = true) (hW : WX σ b ρ) (hn : n < 8) : aI (hp L σ) (some (L.1 (b + 12))) 100 (Int32.ofNat n) = some (ρ (86 + 5 * n + 0)) := by rw [wi_12 h hb hn]; exact congrArg some (hW.2.2.2.1 0 n (by omega) hn)
theorem X_c1 (h : Lok L) (hb : isW b = true) (hW : WX σ b ρ) (hn : n < 6) : aI (hp L σ) (some (L.1 (b + 3))) 100 (Int32.ofNat n) = some (ρ (56 + 5 * n + 1)) := by rw [wi_3 h hb hn]; exact congrArg some (hW.2.2.1 1 n (by omega) hn)
theorem X_e1 (h : Lok L) (hb : isW b = true) (hW : WX σ b ρ) (hn : n < 8) : aI (hp L σ) (some (L.1 (b + 13))) 100 (Int32.ofNat n) = some (ρ (86 + 5 * n + 1)) := by rw [wi_13 h hb hn]; exact congrArg some (hW.2.2.2.1 1 n (by omega) hn)
theorem X_c2 (h : Lok L) (hb : isW b = true) (hW : WX σ b ρ) (hn : n < 6) : aI (hp L σ) (some (L.1 (b + 4))) 100 (Int32.ofNat n) = some (ρ (56 + 5 * n + 2)) := by rw [wi_4 h hb hn]; exact congrArg some (hW.2.2.1 2 n (by omega) hn)
theorem X_e2 (h : Lok L) (hb : isW b = true) (hW : WX σ b ρ) (hn : n < 8) : aI (hp L σ) (some (L.1 (b + 14))) 100 (Int32.ofNat n) = some (ρ (86 + 5 * n + 2)) := by rw [wi_14 h hb hn]; exact congrArg some (hW.2.2.2.1 2 n (by omega) hn)
theorem X_c3 (h : Lok L) (hb : isW b = true) (hW : WX σ b ρ) (hn : n < 6) : aI (hp L σ) (some (L.1 (b + 5))) 100 (Int32.ofNat n) = some (ρ (56 + 5 * n + 3)) := by rw [wi_5 h hb hn]; exact congrArg some (hW.2.2.1 3 n (by omega) hn)
theorem X_e3 (h : Lok L) (hb : isW b = true) (hW : WX σ b ρ) (hn : n < 8) : aI (hp L σ) (some (L.1 (b + 15))) 100 (Int32.ofNat n) = some (ρ (86 + 5 * n + 3)) := by rw [wi_15 h hb hn]; exact congrArg some (hW.2.2.2.1 3 n (by omega) hn)
theorem X_c4 (h : Lok L) (hb : isW b = true) (hW : WX σ b ρ) (hn : n < 6) : aI (hp L σ) (some (L.1 (b + 6))) 100 (Int32.ofNat n) = some (ρ (56 + 5 * n + 4)) := by rw [wi_6 h hb hn]; exact congrArg some (hW.2.2.1 4 n (by omega) hn)
theorem X_e4 (h : Lok L) (hb : isW b = true) (hW : WX σ b ρ) (hn : n < 8) : aI (hp L σ) (some (L.1 (b + 16))) 100 (Int32.ofNat n) = some (ρ (86 + 5 * n + 4)) := by rw [wi_16 h hb hn]; exact congrArg some (hW.2.2.2.1 4 n (by omega) hn)
theorem X_c (h : Lok L) (hb : isW b = true) (hW : WX σ b ρ) {f : Nat} (hf : f < 5) (hn : n < 6) : aI (hp L σ) (some (L.1 (b + 2 + f))) 100 (Int32.ofNat n) = some (ρ (56 + 5 * n + f)) := by rw [wI_c h hb hf hn]; exact congrArg some (hW.2.2.1 f n hf hn)
theorem X_e (h : Lok L) (hb : isW b = true) (hW : WX σ b ρ) {f : Nat} (hf : f < 5) (hn : n < 8) : aI (hp L σ) (some (L.1 (b + 12 + f))) 100 (Int32.ofNat n) = some (ρ (86 + 5 * n + f)) := by rw [wI_e h hb hf hn]; exact congrArg some (hW.2.2.2.1 f n hf hn)
theorem X_w0 (h : Lok L) (hb : isW b = true) (hW : WX σ b ρ) (hn : n < 6) : aI (hp L σ) (some (L.1 (b + 22))) 100 (Int32.ofNat n) = some (ρ (126 + 2 * n + 0)) := by rw [wi_22 h hb hn]; exact congrArg some (hW.2.2.2.2.1 0 n (by omega) hn)
theorem X_w1 (h : Lok L) (hb : isW b = true) (hW : WX σ b ρ) (hn : n < 6) : aI (hp L σ) (some (L.1 (b + 23))) 100 (Int32.ofNat n) = some (ρ (126 + 2 * n + 1)) := by rw [wi_23 h hb hn]; exact congrArg some (hW.2.2.2.2.1 1 n (by omega) hn)
theorem X_h (h : Lok L) (hb : isW b = true) (hW : WX σ b ρ) (hn : n < 10) : aI (hp L σ) (some (L.1 (b + 51))) 100 (Int32.ofNat n) = some (ρ (46 + n)) := by rw [wi_51 h hb hn]; exact congrArg some (hW.2.1 n hn)
theorem X_y (h : Lok L) (hb : isW b = true) (hW : WX σ b ρ) {f : Nat} (hf : f < 7) (hn : n < 7) : aI (hp L σ) (some (L.1 (b + 32 + f))) 100 (Int32.ofNat n) = some (if f = n then 0 else ρ (wy f n)) := by rw [wI_y h hb hf hn]; exact congrArg some (hW.2.2.2.2.2 f n hf hn).1
theorem X_r (h : Lok L) (hb : isW b = true) (hW : WX σ b ρ) {f : Nat} (hf : f < 7) (hn : n < 7) : aI (hp L σ) (some (L.1 (b + 42 + f))) 100 (Int32.ofNat n) = some (if f = n then 0 else ρ (wy f n + 1)) := by rw [wI_r h hb hf hn]; exact congrArg some (hW.2.2.2.2.2 f n hf hn).2
theorem M_r (h : Lok L) (hM : WM σ ρ) (hn : n < 138) : aI (hp L σ) (some (L.1 1001)) 100 (Int32.ofNat n) = some (ρ n) := by rw [mi_1001 h hn]; exact congrArg some (hM n hn)
theorem M_42 (h : Lok L) (hM : WM σ ρ) : aI (hp L σ) (some (L.1 1001)) 100 42 = some (ρ 42) := M_r (n := 42) h hM (by omega)
theorem M_43 (h : Lok L) (hM : WM σ ρ) : aI (hp L σ) (some (L.1 1001)) 100 43 = some (ρ 43) := M_r (n := 43) h hM (by omega)
theorem M_44 (h : Lok L) (hM : WM σ ρ) : aI (hp L σ) (some (L.1 1001)) 100 44 = some (ρ 44) := M_r (n := 44) h hM (by omega)
theorem M_45 (h : Lok L) (hM : WM σ ρ) : aI (hp L σ) (some (L.1 1001)) 100 45 = some (ρ 45) := M_r (n := 45) h hM (by omega)
theorem cAt_0 (n : Nat) : F_X13_cAt (Int32.ofNat n) 0 = Int32.ofNat (56 + 5 * n + 0) := by
  show (Int32.ofNat 56 + Int32.ofNat 5 * Int32.ofNat n) + Int32.ofNat 0 = _
  rw [ofN_mul, ofN_add, ofN_add]
theorem cAt_1 (n : Nat) : F_X13_cAt (Int32.ofNat n) 1 = Int32.ofNat (56 + 5 * n + 1) := by
  show (Int32.ofNat 56 + Int32.ofNat 5 * Int32.ofNat n) + Int32.ofNat 1 = _
  rw [ofN_mul, ofN_add, ofN_add]
theorem cAt_2 (n : Nat) : F_X13_cAt (Int32.ofNat n) 2 = Int32.ofNat (56 + 5 * n + 2) := by
  show (Int32.ofNat 56 + Int32.ofNat 5 * Int32.ofNat n) + Int32.ofNat 2 = _
  rw [ofN_mul, ofN_add, ofN_add]
theorem cAt_3 (n : Nat) : F_X13_cAt (Int32.ofNat n) 3 = Int32.ofNat (56 + 5 * n + 3) := by
  show (Int32.ofNat 56 + Int32.ofNat 5 * Int32.ofNat n) + Int32.ofNat 3 = _
  rw [ofN_mul, ofN_add, ofN_add]
theorem cAt_4 (n : Nat) : F_X13_cAt (Int32.ofNat n) 4 = Int32.ofNat (56 + 5 * n + 4) := by
  show (Int32.ofNat 56 + Int32.ofNat 5 * Int32.ofNat n) + Int32.ofNat 4 = _
  rw [ofN_mul, ofN_add, ofN_add]
theorem cAt_n (n f : Nat) : F_X13_cAt (Int32.ofNat n) (Int32.ofNat f) = Int32.ofNat (56 + 5 * n + f) := by
  show (Int32.ofNat 56 + Int32.ofNat 5 * Int32.ofNat n) + Int32.ofNat f = _
  rw [ofN_mul, ofN_add, ofN_add]
theorem eAt_0 (n : Nat) : F_X13_eAt (Int32.ofNat n) 0 = Int32.ofNat (86 + 5 * n + 0) := by
  show (Int32.ofNat 86 + Int32.ofNat 5 * Int32.ofNat n) + Int32.ofNat 0 = _
  rw [ofN_mul, ofN_add, ofN_add]
theorem eAt_1 (n : Nat) : F_X13_eAt (Int32.ofNat n) 1 = Int32.ofNat (86 + 5 * n + 1) := by
  show (Int32.ofNat 86 + Int32.ofNat 5 * Int32.ofNat n) + Int32.ofNat 1 = _
  rw [ofN_mul, ofN_add, ofN_add]
theorem eAt_2 (n : Nat) : F_X13_eAt (Int32.ofNat n) 2 = Int32.ofNat (86 + 5 * n + 2) := by
  show (Int32.ofNat 86 + Int32.ofNat 5 * Int32.ofNat n) + Int32.ofNat 2 = _
  rw [ofN_mul, ofN_add, ofN_add]
theorem eAt_3 (n : Nat) : F_X13_eAt (Int32.ofNat n) 3 = Int32.ofNat (86 + 5 * n + 3) := by
  show (Int32.ofNat 86 + Int32.ofNat 5 * Int32.ofNat n) + Int32.ofNat 3 = _
  rw [ofN_mul, ofN_add, ofN_add]
theorem eAt_4 (n : Nat) : F_X13_eAt (Int32.ofNat n) 4 = Int32.ofNat (86 + 5 * n + 4) := by
  show (Int32.ofNat 86 + Int32.ofNat 5 * Int32.ofNat n) + Int32.ofNat 4 = _
  rw [ofN_mul, ofN_add, ofN_add]
theorem eAt_n (n f : Nat) : F_X13_eAt (Int32.ofNat n) (Int32.ofNat f) = Int32.ofNat (86 + 5 * n + f) := by
  show (Int32.ofNat 86 + Int32.ofNat 5 * Int32.ofNat n) + Int32.ofNat f = _
  rw [ofN_mul, ofN_add, ofN_add]
theorem wAt_0 (n : Nat) : F_X13_wAt (Int32.ofNat n) 0 = Int32.ofNat (126 + 2 * n + 0) := by
  show (Int32.ofNat 126 + Int32.ofNat 2 * Int32.ofNat n) + Int32.ofNat 0 = _
  rw [ofN_mul, ofN_add, ofN_add]
theorem wAt_1 (n : Nat) : F_X13_wAt (Int32.ofNat n) 1 = Int32.ofNat (126 + 2 * n + 1) := by
  show (Int32.ofNat 126 + Int32.ofNat 2 * Int32.ofNat n) + Int32.ofNat 1 = _
  rw [ofN_mul, ofN_add, ofN_add]
theorem wAt_n (n f : Nat) : F_X13_wAt (Int32.ofNat n) (Int32.ofNat f) = Int32.ofNat (126 + 2 * n + f) := by
  show (Int32.ofNat 126 + Int32.ofNat 2 * Int32.ofNat n) + Int32.ofNat f = _
  rw [ofN_mul, ofN_add, ofN_add]
theorem cIs_0 (h : Lok L) (hM : WM σ ρ) (hn : n < 6) : F_X13_cIs (some (L.1 1000)) (Int32.ofNat n) 0 (hp L σ) = some (ρ (56 + 5 * n + 0)) := by
  unfold F_X13_cIs; rw [if_pos (m_tg h), m_0 h, Option.bind_some, cAt_0, M_r h hM (by omega)]; rfl
theorem cIs_1 (h : Lok L) (hM : WM σ ρ) (hn : n < 6) : F_X13_cIs (some (L.1 1000)) (Int32.ofNat n) 1 (hp L σ) = some (ρ (56 + 5 * n + 1)) := by
  unfold F_X13_cIs; rw [if_pos (m_tg h), m_0 h, Option.bind_some, cAt_1, M_r h hM (by omega)]; rfl
theorem cIs_2 (h : Lok L) (hM : WM σ ρ) (hn : n < 6) : F_X13_cIs (some (L.1 1000)) (Int32.ofNat n) 2 (hp L σ) = some (ρ (56 + 5 * n + 2)) := by
  unfold F_X13_cIs; rw [if_pos (m_tg h), m_0 h, Option.bind_some, cAt_2, M_r h hM (by omega)]; rfl
theorem cIs_3 (h : Lok L) (hM : WM σ ρ) (hn : n < 6) : F_X13_cIs (some (L.1 1000)) (Int32.ofNat n) 3 (hp L σ) = some (ρ (56 + 5 * n + 3)) := by
  unfold F_X13_cIs; rw [if_pos (m_tg h), m_0 h, Option.bind_some, cAt_3, M_r h hM (by omega)]; rfl
theorem cIs_4 (h : Lok L) (hM : WM σ ρ) (hn : n < 6) : F_X13_cIs (some (L.1 1000)) (Int32.ofNat n) 4 (hp L σ) = some (ρ (56 + 5 * n + 4)) := by
  unfold F_X13_cIs; rw [if_pos (m_tg h), m_0 h, Option.bind_some, cAt_4, M_r h hM (by omega)]; rfl
theorem cIs_n (h : Lok L) (hM : WM σ ρ) (hn : n < 6) {f : Nat} (hf : f < 5) : F_X13_cIs (some (L.1 1000)) (Int32.ofNat n) (Int32.ofNat f) (hp L σ) = some (ρ (56 + 5 * n + f)) := by
  unfold F_X13_cIs; rw [if_pos (m_tg h), m_0 h, Option.bind_some, cAt_n, M_r h hM (by omega)]; rfl
theorem eIs_0 (h : Lok L) (hM : WM σ ρ) (hn : n < 8) : F_X13_eIs (some (L.1 1000)) (Int32.ofNat n) 0 (hp L σ) = some (ρ (86 + 5 * n + 0)) := by
  unfold F_X13_eIs; rw [if_pos (m_tg h), m_0 h, Option.bind_some, eAt_0, M_r h hM (by omega)]; rfl
theorem eIs_1 (h : Lok L) (hM : WM σ ρ) (hn : n < 8) : F_X13_eIs (some (L.1 1000)) (Int32.ofNat n) 1 (hp L σ) = some (ρ (86 + 5 * n + 1)) := by
  unfold F_X13_eIs; rw [if_pos (m_tg h), m_0 h, Option.bind_some, eAt_1, M_r h hM (by omega)]; rfl
theorem eIs_2 (h : Lok L) (hM : WM σ ρ) (hn : n < 8) : F_X13_eIs (some (L.1 1000)) (Int32.ofNat n) 2 (hp L σ) = some (ρ (86 + 5 * n + 2)) := by
  unfold F_X13_eIs; rw [if_pos (m_tg h), m_0 h, Option.bind_some, eAt_2, M_r h hM (by omega)]; rfl
theorem eIs_3 (h : Lok L) (hM : WM σ ρ) (hn : n < 8) : F_X13_eIs (some (L.1 1000)) (Int32.ofNat n) 3 (hp L σ) = some (ρ (86 + 5 * n + 3)) := by
  unfold F_X13_eIs; rw [if_pos (m_tg h), m_0 h, Option.bind_some, eAt_3, M_r h hM (by omega)]; rfl
theorem eIs_4 (h : Lok L) (hM : WM σ ρ) (hn : n < 8) : F_X13_eIs (some (L.1 1000)) (Int32.ofNat n) 4 (hp L σ) = some (ρ (86 + 5 * n + 4)) := by
  unfold F_X13_eIs; rw [if_pos (m_tg h), m_0 h, Option.bind_some, eAt_4, M_r h hM (by omega)]; rfl
theorem eIs_n (h : Lok L) (hM : WM σ ρ) (hn : n < 8) {f : Nat} (hf : f < 5) : F_X13_eIs (some (L.1 1000)) (Int32.ofNat n) (Int32.ofNat f) (hp L σ) = some (ρ (86 + 5 * n + f)) := by
  unfold F_X13_eIs; rw [if_pos (m_tg h), m_0 h, Option.bind_some, eAt_n, M_r h hM (by omega)]; rfl
end L2r
/-! ### the reads, in bind form -/
theorem bn9 {α β : Type} {o : Option α} {a : α} (h : o = some a) (f : α → Option β) : o.bind f = f a := by rw [h]; rfl
theorem cb9 {α β γ : Type} {o : Option (α × β)} {a : α} {b : β} (h : o = some (a, b)) (K : α → β → Option γ) : cb o K = K a b := by rw [h]; rfl
section L2b9
variable {L : Lt} {σ : St} {b n : Nat} {v : Int32} {ρ : Rw}
theorem x_0b (h : Lok L) {β9 : Type} (f9 : Option Nat → Option β9) : (fA (hp L σ) (some (L.1 0)) 0 0).bind f9 = f9 (some (L.1 1)) := bn9 (x_0 h) f9
theorem x_1b (h : Lok L) {β9 : Type} (f9 : Option Nat → Option β9) : (fA (hp L σ) (some (L.1 0)) 0 1).bind f9 = f9 (some (L.1 2)) := bn9 (x_1 h) f9
theorem x_3b (h : Lok L) {β9 : Type} (f9 : Option Nat → Option β9) : (fA (hp L σ) (some (L.1 0)) 0 3).bind f9 = f9 (some (L.1 200)) := bn9 (x_3 h) f9
theorem x_4b (h : Lok L) {β9 : Type} (f9 : Option Nat → Option β9) : (fA (hp L σ) (some (L.1 0)) 0 4).bind f9 = f9 (some (L.1 300)) := bn9 (x_4 h) f9
theorem x_5b (h : Lok L) {β9 : Type} (f9 : Option Nat → Option β9) : (fA (hp L σ) (some (L.1 0)) 0 5).bind f9 = f9 (some (L.1 400)) := bn9 (x_5 h) f9
theorem x_7b (h : Lok L) {β9 : Type} (f9 : Option Nat → Option β9) : (fA (hp L σ) (some (L.1 0)) 0 7).bind f9 = f9 (some (L.1 5)) := bn9 (x_7 h) f9
theorem x_8b (h : Lok L) {β9 : Type} (f9 : Option Nat → Option β9) : (fA (hp L σ) (some (L.1 0)) 0 8).bind f9 = f9 (some (L.1 6)) := bn9 (x_8 h) f9
theorem x_9b (h : Lok L) {β9 : Type} (f9 : Option Nat → Option β9) : (fA (hp L σ) (some (L.1 0)) 0 9).bind f9 = f9 (some (L.1 7)) := bn9 (x_9 h) f9
theorem x_10b (h : Lok L) {β9 : Type} (f9 : Option Nat → Option β9) : (fA (hp L σ) (some (L.1 0)) 0 10).bind f9 = f9 (some (L.1 8)) := bn9 (x_10 h) f9
theorem x_11b (h : Lok L) {β9 : Type} (f9 : Option Nat → Option β9) : (fA (hp L σ) (some (L.1 0)) 0 11).bind f9 = f9 (some (L.1 9)) := bn9 (x_11 h) f9
theorem x_12b (h : Lok L) {β9 : Type} (f9 : Option Nat → Option β9) : (fA (hp L σ) (some (L.1 0)) 0 12).bind f9 = f9 (some (L.1 10)) := bn9 (x_12 h) f9
theorem x_13b (h : Lok L) {β9 : Type} (f9 : Option Nat → Option β9) : (fA (hp L σ) (some (L.1 0)) 0 13).bind f9 = f9 (some (L.1 11)) := bn9 (x_13 h) f9
theorem x_15b (h : Lok L) {β9 : Type} (f9 : Option Nat → Option β9) : (fA (hp L σ) (some (L.1 0)) 0 15).bind f9 = f9 (some (L.1 12)) := bn9 (x_15 h) f9
theorem x_16b (h : Lok L) {β9 : Type} (f9 : Option Nat → Option β9) : (fA (hp L σ) (some (L.1 0)) 0 16).bind f9 = f9 (some (L.1 13)) := bn9 (x_16 h) f9
theorem x_2b (h : Lok L) {β9 : Type} (f9 : Int32 → Option β9) : (fI (hp L σ) (some (L.1 0)) 0 2).bind f9 = f9 (σ 0 2) := bn9 (x_2 h) f9
theorem xp_2b (h : Lok L) {β9 : Type} (f9 : cH → Option β9) : (pV (hp L σ) (some (L.1 0)) 0 2 (.int v)).bind f9 = f9 (hp L (up2 σ 0 2 v)) := bn9 (xp_2 h) f9
theorem x_6b (h : Lok L) {β9 : Type} (f9 : Int32 → Option β9) : (fI (hp L σ) (some (L.1 0)) 0 6).bind f9 = f9 (σ 0 6) := bn9 (x_6 h) f9
theorem xp_6b (h : Lok L) {β9 : Type} (f9 : cH → Option β9) : (pV (hp L σ) (some (L.1 0)) 0 6 (.int v)).bind f9 = f9 (hp L (up2 σ 0 6 v)) := bn9 (xp_6 h) f9
theorem x_14b (h : Lok L) {β9 : Type} (f9 : Int32 → Option β9) : (fI (hp L σ) (some (L.1 0)) 0 14).bind f9 = f9 (σ 0 14) := bn9 (x_14 h) f9
theorem xp_14b (h : Lok L) {β9 : Type} (f9 : cH → Option β9) : (pV (hp L σ) (some (L.1 0)) 0 14 (.int v)).bind f9 = f9 (hp L (up2 σ 0 14 v)) := bn9 (xp_14 h) f9
theorem x_17b (h : Lok L) {β9 : Type} (f9 : Int32 → Option β9) : (fI (hp L σ) (some (L.1 0)) 0 17).bind f9 = f9 (σ 0 17) := bn9 (x_17 h) f9
theorem xp_17b (h : Lok L) {β9 : Type} (f9 : cH → Option β9) : (pV (hp L σ) (some (L.1 0)) 0 17 (.int v)).bind f9 = f9 (hp L (up2 σ 0 17 v)) := bn9 (xp_17 h) f9
theorem x_18b (h : Lok L) {β9 : Type} (f9 : Int32 → Option β9) : (fI (hp L σ) (some (L.1 0)) 0 18).bind f9 = f9 (σ 0 18) := bn9 (x_18 h) f9
theorem xp_18b (h : Lok L) {β9 : Type} (f9 : cH → Option β9) : (pV (hp L σ) (some (L.1 0)) 0 18 (.int v)).bind f9 = f9 (hp L (up2 σ 0 18 v)) := bn9 (xp_18 h) f9
theorem x_19b (h : Lok L) {β9 : Type} (f9 : Int32 → Option β9) : (fI (hp L σ) (some (L.1 0)) 0 19).bind f9 = f9 (σ 0 19) := bn9 (x_19 h) f9
theorem xp_19b (h : Lok L) {β9 : Type} (f9 : cH → Option β9) : (pV (hp L σ) (some (L.1 0)) 0 19 (.int v)).bind f9 = f9 (hp L (up2 σ 0 19 v)) := bn9 (xp_19 h) f9
theorem m_0b (h : Lok L) {β9 : Type} (f9 : Option Nat → Option β9) : (fA (hp L σ) (some (L.1 1000)) 13 0).bind f9 = f9 (some (L.1 1001)) := bn9 (m_0 h) f9
theorem m_1b (h : Lok L) {β9 : Type} (f9 : Option Nat → Option β9) : (fA (hp L σ) (some (L.1 1000)) 13 1).bind f9 = f9 (some (L.1 1002)) := bn9 (m_1 h) f9
theorem m_2b (h : Lok L) {β9 : Type} (f9 : Option Nat → Option β9) : (fA (hp L σ) (some (L.1 1000)) 13 2).bind f9 = f9 (some (L.1 1003)) := bn9 (m_2 h) f9
theorem m_4b (h : Lok L) {β9 : Type} (f9 : Option Nat → Option β9) : (fA (hp L σ) (some (L.1 1000)) 13 4).bind f9 = f9 (some (L.1 1004)) := bn9 (m_4 h) f9
theorem m_5b (h : Lok L) {β9 : Type} (f9 : Option Nat → Option β9) : (fA (hp L σ) (some (L.1 1000)) 13 5).bind f9 = f9 (some (L.1 1005)) := bn9 (m_5 h) f9
theorem m_7b (h : Lok L) {β9 : Type} (f9 : Option Nat → Option β9) : (fA (hp L σ) (some (L.1 1000)) 13 7).bind f9 = f9 (some (L.1 1006)) := bn9 (m_7 h) f9
theorem m_8b (h : Lok L) {β9 : Type} (f9 : Option Nat → Option β9) : (fA (hp L σ) (some (L.1 1000)) 13 8).bind f9 = f9 (some (L.1 1007)) := bn9 (m_8 h) f9
theorem m_9b (h : Lok L) {β9 : Type} (f9 : Option Nat → Option β9) : (fA (hp L σ) (some (L.1 1000)) 13 9).bind f9 = f9 (some (L.1 1008)) := bn9 (m_9 h) f9
theorem m_13b (h : Lok L) {β9 : Type} (f9 : Option Nat → Option β9) : (fA (hp L σ) (some (L.1 1000)) 13 13).bind f9 = f9 (some (L.1 1009)) := bn9 (m_13 h) f9
theorem m_20b (h : Lok L) {β9 : Type} (f9 : Option Nat → Option β9) : (fA (hp L σ) (some (L.1 1000)) 13 20).bind f9 = f9 (some (L.1 1010)) := bn9 (m_20 h) f9
theorem m_21b (h : Lok L) {β9 : Type} (f9 : Option Nat → Option β9) : (fA (hp L σ) (some (L.1 1000)) 13 21).bind f9 = f9 (some (L.1 1011)) := bn9 (m_21 h) f9
theorem m_26b (h : Lok L) {β9 : Type} (f9 : Option Nat → Option β9) : (fA (hp L σ) (some (L.1 1000)) 13 26).bind f9 = f9 (some (L.1 1012)) := bn9 (m_26 h) f9
theorem m_27b (h : Lok L) {β9 : Type} (f9 : Option Nat → Option β9) : (fA (hp L σ) (some (L.1 1000)) 13 27).bind f9 = f9 (some (L.1 1013)) := bn9 (m_27 h) f9
theorem m_28b (h : Lok L) {β9 : Type} (f9 : Option Nat → Option β9) : (fA (hp L σ) (some (L.1 1000)) 13 28).bind f9 = f9 (some (L.1 1014)) := bn9 (m_28 h) f9
theorem m_29b (h : Lok L) {β9 : Type} (f9 : Option Nat → Option β9) : (fA (hp L σ) (some (L.1 1000)) 13 29).bind f9 = f9 (some (L.1 1015)) := bn9 (m_29 h) f9
theorem m_3b (h : Lok L) {β9 : Type} (f9 : Int32 → Option β9) : (fI (hp L σ) (some (L.1 1000)) 13 3).bind f9 = f9 (σ 1000 3) := bn9 (m_3 h) f9
theorem mp_3b (h : Lok L) {β9 : Type} (f9 : cH → Option β9) : (pV (hp L σ) (some (L.1 1000)) 13 3 (.int v)).bind f9 = f9 (hp L (up2 σ 1000 3 v)) := bn9 (mp_3 h) f9
theorem m_6b (h : Lok L) {β9 : Type} (f9 : Int32 → Option β9) : (fI (hp L σ) (some (L.1 1000)) 13 6).bind f9 = f9 (σ 1000 6) := bn9 (m_6 h) f9
theorem mp_6b (h : Lok L) {β9 : Type} (f9 : cH → Option β9) : (pV (hp L σ) (some (L.1 1000)) 13 6 (.int v)).bind f9 = f9 (hp L (up2 σ 1000 6 v)) := bn9 (mp_6 h) f9
theorem m_10b (h : Lok L) {β9 : Type} (f9 : Int32 → Option β9) : (fI (hp L σ) (some (L.1 1000)) 13 10).bind f9 = f9 (σ 1000 10) := bn9 (m_10 h) f9
theorem mp_10b (h : Lok L) {β9 : Type} (f9 : cH → Option β9) : (pV (hp L σ) (some (L.1 1000)) 13 10 (.int v)).bind f9 = f9 (hp L (up2 σ 1000 10 v)) := bn9 (mp_10 h) f9
theorem m_11b (h : Lok L) {β9 : Type} (f9 : Int32 → Option β9) : (fI (hp L σ) (some (L.1 1000)) 13 11).bind f9 = f9 (σ 1000 11) := bn9 (m_11 h) f9
theorem mp_11b (h : Lok L) {β9 : Type} (f9 : cH → Option β9) : (pV (hp L σ) (some (L.1 1000)) 13 11 (.int v)).bind f9 = f9 (hp L (up2 σ 1000 11 v)) := bn9 (mp_11 h) f9
theorem m_12b (h : Lok L) {β9 : Type} (f9 : Int32 → Option β9) : (fI (hp L σ) (some (L.1 1000)) 13 12).bind f9 = f9 (σ 1000 12) := bn9 (m_12 h) f9
theorem mp_12b (h : Lok L) {β9 : Type} (f9 : cH → Option β9) : (pV (hp L σ) (some (L.1 1000)) 13 12 (.int v)).bind f9 = f9 (hp L (up2 σ 1000 12 v)) := bn9 (mp_12 h) f9
theorem m_14b (h : Lok L) {β9 : Type} (f9 : Int32 → Option β9) : (fI (hp L σ) (some (L.1 1000)) 13 14).bind f9 = f9 (σ 1000 14) := bn9 (m_14 h) f9
theorem mp_14b (h : Lok L) {β9 : Type} (f9 : cH → Option β9) : (pV (hp L σ) (some (L.1 1000)) 13 14 (.int v)).bind f9 = f9 (hp L (up2 σ 1000 14 v)) := bn9 (mp_14 h) f9
theorem m_15b (h : Lok L) {β9 : Type} (f9 : Int32 → Option β9) : (fI (hp L σ) (some (L.1 1000)) 13 15).bind f9 = f9 (σ 1000 15) := bn9 (m_15 h) f9
theorem mp_15b (h : Lok L) {β9 : Type} (f9 : cH → Option β9) : (pV (hp L σ) (some (L.1 1000)) 13 15 (.int v)).bind f9 = f9 (hp L (up2 σ 1000 15 v)) := bn9 (mp_15 h) f9
theorem m_16b (h : Lok L) {β9 : Type} (f9 : Int32 → Option β9) : (fI (hp L σ) (some (L.1 1000)) 13 16).bind f9 = f9 (σ 1000 16) := bn9 (m_16 h) f9
theorem mp_16b (h : Lok L) {β9 : Type} (f9 : cH → Option β9) : (pV (hp L σ) (some (L.1 1000)) 13 16 (.int v)).bind f9 = f9 (hp L (up2 σ 1000 16 v)) := bn9 (mp_16 h) f9
theorem m_17b (h : Lok L) {β9 : Type} (f9 : Int32 → Option β9) : (fI (hp L σ) (some (L.1 1000)) 13 17).bind f9 = f9 (σ 1000 17) := bn9 (m_17 h) f9
theorem mp_17b (h : Lok L) {β9 : Type} (f9 : cH → Option β9) : (pV (hp L σ) (some (L.1 1000)) 13 17 (.int v)).bind f9 = f9 (hp L (up2 σ 1000 17 v)) := bn9 (mp_17 h) f9
theorem m_18b (h : Lok L) {β9 : Type} (f9 : Int32 → Option β9) : (fI (hp L σ) (some (L.1 1000)) 13 18).bind f9 = f9 (σ 1000 18) := bn9 (m_18 h) f9
theorem mp_18b (h : Lok L) {β9 : Type} (f9 : cH → Option β9) : (pV (hp L σ) (some (L.1 1000)) 13 18 (.int v)).bind f9 = f9 (hp L (up2 σ 1000 18 v)) := bn9 (mp_18 h) f9
theorem m_19b (h : Lok L) {β9 : Type} (f9 : Int32 → Option β9) : (fI (hp L σ) (some (L.1 1000)) 13 19).bind f9 = f9 (σ 1000 19) := bn9 (m_19 h) f9
theorem mp_19b (h : Lok L) {β9 : Type} (f9 : cH → Option β9) : (pV (hp L σ) (some (L.1 1000)) 13 19 (.int v)).bind f9 = f9 (hp L (up2 σ 1000 19 v)) := bn9 (mp_19 h) f9
theorem m_22b (h : Lok L) {β9 : Type} (f9 : Int32 → Option β9) : (fI (hp L σ) (some (L.1 1000)) 13 22).bind f9 = f9 (σ 1000 22) := bn9 (m_22 h) f9
theorem mp_22b (h : Lok L) {β9 : Type} (f9 : cH → Option β9) : (pV (hp L σ) (some (L.1 1000)) 13 22 (.int v)).bind f9 = f9 (hp L (up2 σ 1000 22 v)) := bn9 (mp_22 h) f9
theorem m_23b (h : Lok L) {β9 : Type} (f9 : Int32 → Option β9) : (fI (hp L σ) (some (L.1 1000)) 13 23).bind f9 = f9 (σ 1000 23) := bn9 (m_23 h) f9
theorem mp_23b (h : Lok L) {β9 : Type} (f9 : cH → Option β9) : (pV (hp L σ) (some (L.1 1000)) 13 23 (.int v)).bind f9 = f9 (hp L (up2 σ 1000 23 v)) := bn9 (mp_23 h) f9
theorem m_24b (h : Lok L) {β9 : Type} (f9 : Int32 → Option β9) : (fI (hp L σ) (some (L.1 1000)) 13 24).bind f9 = f9 (σ 1000 24) := bn9 (m_24 h) f9
theorem mp_24b (h : Lok L) {β9 : Type} (f9 : cH → Option β9) : (pV (hp L σ) (some (L.1 1000)) 13 24 (.int v)).bind f9 = f9 (hp L (up2 σ 1000 24 v)) := bn9 (mp_24 h) f9
theorem m_25b (h : Lok L) {β9 : Type} (f9 : Int32 → Option β9) : (fI (hp L σ) (some (L.1 1000)) 13 25).bind f9 = f9 (σ 1000 25) := bn9 (m_25 h) f9
theorem mp_25b (h : Lok L) {β9 : Type} (f9 : cH → Option β9) : (pV (hp L σ) (some (L.1 1000)) 13 25 (.int v)).bind f9 = f9 (hp L (up2 σ 1000 25 v)) := bn9 (mp_25 h) f9
theorem wf_0b (h : Lok L) (hb : isW b = true) {β9 : Type} (f9 : Int32 → Option β9) : (fI (hp L σ) (some (L.1 b)) 4 0).bind f9 = f9 (σ b 0) := bn9 (wf_0 h hb) f9
theorem wp_0b (h : Lok L) (hb : isW b = true) {β9 : Type} (f9 : cH → Option β9) : (pV (hp L σ) (some (L.1 b)) 4 0 (.int v)).bind f9 = f9 (hp L (up2 σ b 0 v)) := bn9 (wp_0 h hb) f9
theorem wf_1b (h : Lok L) (hb : isW b = true) {β9 : Type} (f9 : Option Nat → Option β9) : (fA (hp L σ) (some (L.1 b)) 4 1).bind f9 = f9 (some (L.1 (b + 1))) := bn9 (wf_1 h hb) f9
theorem wf_2b (h : Lok L) (hb : isW b = true) {β9 : Type} (f9 : Int32 → Option β9) : (fI (hp L σ) (some (L.1 b)) 4 2).bind f9 = f9 (σ b 2) := bn9 (wf_2 h hb) f9
theorem wp_2b (h : Lok L) (hb : isW b = true) {β9 : Type} (f9 : cH → Option β9) : (pV (hp L σ) (some (L.1 b)) 4 2 (.int v)).bind f9 = f9 (hp L (up2 σ b 2 v)) := bn9 (wp_2 h hb) f9
theorem wf_3b (h : Lok L) (hb : isW b = true) {β9 : Type} (f9 : Option Nat → Option β9) : (fA (hp L σ) (some (L.1 b)) 4 3).bind f9 = f9 (some (L.1 (b + 11))) := bn9 (wf_3 h hb) f9
theorem wf_4b (h : Lok L) (hb : isW b = true) {β9 : Type} (f9 : Int32 → Option β9) : (fI (hp L σ) (some (L.1 b)) 4 4).bind f9 = f9 (σ b 4) := bn9 (wf_4 h hb) f9
theorem wp_4b (h : Lok L) (hb : isW b = true) {β9 : Type} (f9 : cH → Option β9) : (pV (hp L σ) (some (L.1 b)) 4 4 (.int v)).bind f9 = f9 (hp L (up2 σ b 4 v)) := bn9 (wp_4 h hb) f9
theorem wf_5b (h : Lok L) (hb : isW b = true) {β9 : Type} (f9 : Option Nat → Option β9) : (fA (hp L σ) (some (L.1 b)) 4 5).bind f9 = f9 (some (L.1 (b + 21))) := bn9 (wf_5 h hb) f9
theorem wf_6b (h : Lok L) (hb : isW b = true) {β9 : Type} (f9 : Option Nat → Option β9) : (fA (hp L σ) (some (L.1 b)) 4 6).bind f9 = f9 (some (L.1 (b + 31))) := bn9 (wf_6 h hb) f9
theorem wf_7b (h : Lok L) (hb : isW b = true) {β9 : Type} (f9 : Option Nat → Option β9) : (fA (hp L σ) (some (L.1 b)) 4 7).bind f9 = f9 (some (L.1 (b + 41))) := bn9 (wf_7 h hb) f9
theorem wf_8b (h : Lok L) (hb : isW b = true) {β9 : Type} (f9 : Int32 → Option β9) : (fI (hp L σ) (some (L.1 b)) 4 8).bind f9 = f9 (σ b 8) := bn9 (wf_8 h hb) f9
theorem wp_8b (h : Lok L) (hb : isW b = true) {β9 : Type} (f9 : cH → Option β9) : (pV (hp L σ) (some (L.1 b)) 4 8 (.int v)).bind f9 = f9 (hp L (up2 σ b 8 v)) := bn9 (wp_8 h hb) f9
theorem wf_9b (h : Lok L) (hb : isW b = true) {β9 : Type} (f9 : Option Nat → Option β9) : (fA (hp L σ) (some (L.1 b)) 4 9).bind f9 = f9 (some (L.1 (b + 51))) := bn9 (wf_9 h hb) f9
theorem wt_1_0b (h : Lok L) (hb : isW b = true) {β9 : Type} (f9 : Option Nat → Option β9) : (aA (hp L σ) (some (L.1 (b + 1))) 103 0).bind f9 = f9 (some (L.1 (b + 2))) := bn9 (wt_1_0 h hb) f9
theorem wt_1_1b (h : Lok L) (hb : isW b = true) {β9 : Type} (f9 : Option Nat → Option β9) : (aA (hp L σ) (some (L.1 (b + 1))) 103 1).bind f9 = f9 (some (L.1 (b + 3))) := bn9 (wt_1_1 h hb) f9
theorem wt_1_2b (h : Lok L) (hb : isW b = true) {β9 : Type} (f9 : Option Nat → Option β9) : (aA (hp L σ) (some (L.1 (b + 1))) 103 2).bind f9 = f9 (some (L.1 (b + 4))) := bn9 (wt_1_2 h hb) f9
theorem wt_1_3b (h : Lok L) (hb : isW b = true) {β9 : Type} (f9 : Option Nat → Option β9) : (aA (hp L σ) (some (L.1 (b + 1))) 103 3).bind f9 = f9 (some (L.1 (b + 5))) := bn9 (wt_1_3 h hb) f9
theorem wt_1_4b (h : Lok L) (hb : isW b = true) {β9 : Type} (f9 : Option Nat → Option β9) : (aA (hp L σ) (some (L.1 (b + 1))) 103 4).bind f9 = f9 (some (L.1 (b + 6))) := bn9 (wt_1_4 h hb) f9
theorem wt_1b (h : Lok L) (hb : isW b = true) (hn : n < 5) {β9 : Type} (f9 : Option Nat → Option β9) : (aA (hp L σ) (some (L.1 (b + 1))) 103 (Int32.ofNat n)).bind f9 = f9 (some (L.1 (b + 2 + n))) := bn9 (wt_1 h hb hn) f9
theorem wl_1b (h : Lok L) (hb : isW b = true) {β9 : Type} (f9 : Int32 → Option β9) : (aL (hp L σ) (some (L.1 (b + 1)))).bind f9 = f9 5 := bn9 (wl_1 h hb) f9
theorem wt_11_0b (h : Lok L) (hb : isW b = true) {β9 : Type} (f9 : Option Nat → Option β9) : (aA (hp L σ) (some (L.1 (b + 11))) 103 0).bind f9 = f9 (some (L.1 (b + 12))) := bn9 (wt_11_0 h hb) f9
theorem wt_11_1b (h : Lok L) (hb : isW b = true) {β9 : Type} (f9 : Option Nat → Option β9) : (aA (hp L σ) (some (L.1 (b + 11))) 103 1).bind f9 = f9 (some (L.1 (b + 13))) := bn9 (wt_11_1 h hb) f9
theorem wt_11_2b (h : Lok L) (hb : isW b = true) {β9 : Type} (f9 : Option Nat → Option β9) : (aA (hp L σ) (some (L.1 (b + 11))) 103 2).bind f9 = f9 (some (L.1 (b + 14))) := bn9 (wt_11_2 h hb) f9
theorem wt_11_3b (h : Lok L) (hb : isW b = true) {β9 : Type} (f9 : Option Nat → Option β9) : (aA (hp L σ) (some (L.1 (b + 11))) 103 3).bind f9 = f9 (some (L.1 (b + 15))) := bn9 (wt_11_3 h hb) f9
theorem wt_11_4b (h : Lok L) (hb : isW b = true) {β9 : Type} (f9 : Option Nat → Option β9) : (aA (hp L σ) (some (L.1 (b + 11))) 103 4).bind f9 = f9 (some (L.1 (b + 16))) := bn9 (wt_11_4 h hb) f9
theorem wt_11b (h : Lok L) (hb : isW b = true) (hn : n < 5) {β9 : Type} (f9 : Option Nat → Option β9) : (aA (hp L σ) (some (L.1 (b + 11))) 103 (Int32.ofNat n)).bind f9 = f9 (some (L.1 (b + 12 + n))) := bn9 (wt_11 h hb hn) f9
theorem wl_11b (h : Lok L) (hb : isW b = true) {β9 : Type} (f9 : Int32 → Option β9) : (aL (hp L σ) (some (L.1 (b + 11)))).bind f9 = f9 5 := bn9 (wl_11 h hb) f9
theorem wt_21_0b (h : Lok L) (hb : isW b = true) {β9 : Type} (f9 : Option Nat → Option β9) : (aA (hp L σ) (some (L.1 (b + 21))) 103 0).bind f9 = f9 (some (L.1 (b + 22))) := bn9 (wt_21_0 h hb) f9
theorem wt_21_1b (h : Lok L) (hb : isW b = true) {β9 : Type} (f9 : Option Nat → Option β9) : (aA (hp L σ) (some (L.1 (b + 21))) 103 1).bind f9 = f9 (some (L.1 (b + 23))) := bn9 (wt_21_1 h hb) f9
theorem wt_21b (h : Lok L) (hb : isW b = true) (hn : n < 2) {β9 : Type} (f9 : Option Nat → Option β9) : (aA (hp L σ) (some (L.1 (b + 21))) 103 (Int32.ofNat n)).bind f9 = f9 (some (L.1 (b + 22 + n))) := bn9 (wt_21 h hb hn) f9
theorem wl_21b (h : Lok L) (hb : isW b = true) {β9 : Type} (f9 : Int32 → Option β9) : (aL (hp L σ) (some (L.1 (b + 21)))).bind f9 = f9 2 := bn9 (wl_21 h hb) f9
theorem wt_31_0b (h : Lok L) (hb : isW b = true) {β9 : Type} (f9 : Option Nat → Option β9) : (aA (hp L σ) (some (L.1 (b + 31))) 103 0).bind f9 = f9 (some (L.1 (b + 32))) := bn9 (wt_31_0 h hb) f9
theorem wt_31_1b (h : Lok L) (hb : isW b = true) {β9 : Type} (f9 : Option Nat → Option β9) : (aA (hp L σ) (some (L.1 (b + 31))) 103 1).bind f9 = f9 (some (L.1 (b + 33))) := bn9 (wt_31_1 h hb) f9
theorem wt_31_2b (h : Lok L) (hb : isW b = true) {β9 : Type} (f9 : Option Nat → Option β9) : (aA (hp L σ) (some (L.1 (b + 31))) 103 2).bind f9 = f9 (some (L.1 (b + 34))) := bn9 (wt_31_2 h hb) f9
theorem wt_31_3b (h : Lok L) (hb : isW b = true) {β9 : Type} (f9 : Option Nat → Option β9) : (aA (hp L σ) (some (L.1 (b + 31))) 103 3).bind f9 = f9 (some (L.1 (b + 35))) := bn9 (wt_31_3 h hb) f9
theorem wt_31_4b (h : Lok L) (hb : isW b = true) {β9 : Type} (f9 : Option Nat → Option β9) : (aA (hp L σ) (some (L.1 (b + 31))) 103 4).bind f9 = f9 (some (L.1 (b + 36))) := bn9 (wt_31_4 h hb) f9
theorem wt_31_5b (h : Lok L) (hb : isW b = true) {β9 : Type} (f9 : Option Nat → Option β9) : (aA (hp L σ) (some (L.1 (b + 31))) 103 5).bind f9 = f9 (some (L.1 (b + 37))) := bn9 (wt_31_5 h hb) f9
theorem wt_31_6b (h : Lok L) (hb : isW b = true) {β9 : Type} (f9 : Option Nat → Option β9) : (aA (hp L σ) (some (L.1 (b + 31))) 103 6).bind f9 = f9 (some (L.1 (b + 38))) := bn9 (wt_31_6 h hb) f9
theorem wt_31b (h : Lok L) (hb : isW b = true) (hn : n < 7) {β9 : Type} (f9 : Option Nat → Option β9) : (aA (hp L σ) (some (L.1 (b + 31))) 103 (Int32.ofNat n)).bind f9 = f9 (some (L.1 (b + 32 + n))) := bn9 (wt_31 h hb hn) f9
theorem wl_31b (h : Lok L) (hb : isW b = true) {β9 : Type} (f9 : Int32 → Option β9) : (aL (hp L σ) (some (L.1 (b + 31)))).bind f9 = f9 7 := bn9 (wl_31 h hb) f9
theorem wt_41_0b (h : Lok L) (hb : isW b = true) {β9 : Type} (f9 : Option Nat → Option β9) : (aA (hp L σ) (some (L.1 (b + 41))) 103 0).bind f9 = f9 (some (L.1 (b + 42))) := bn9 (wt_41_0 h hb) f9
theorem wt_41_1b (h : Lok L) (hb : isW b = true) {β9 : Type} (f9 : Option Nat → Option β9) : (aA (hp L σ) (some (L.1 (b + 41))) 103 1).bind f9 = f9 (some (L.1 (b + 43))) := bn9 (wt_41_1 h hb) f9
theorem wt_41_2b (h : Lok L) (hb : isW b = true) {β9 : Type} (f9 : Option Nat → Option β9) : (aA (hp L σ) (some (L.1 (b + 41))) 103 2).bind f9 = f9 (some (L.1 (b + 44))) := bn9 (wt_41_2 h hb) f9
theorem wt_41_3b (h : Lok L) (hb : isW b = true) {β9 : Type} (f9 : Option Nat → Option β9) : (aA (hp L σ) (some (L.1 (b + 41))) 103 3).bind f9 = f9 (some (L.1 (b + 45))) := bn9 (wt_41_3 h hb) f9
theorem wt_41_4b (h : Lok L) (hb : isW b = true) {β9 : Type} (f9 : Option Nat → Option β9) : (aA (hp L σ) (some (L.1 (b + 41))) 103 4).bind f9 = f9 (some (L.1 (b + 46))) := bn9 (wt_41_4 h hb) f9
theorem wt_41_5b (h : Lok L) (hb : isW b = true) {β9 : Type} (f9 : Option Nat → Option β9) : (aA (hp L σ) (some (L.1 (b + 41))) 103 5).bind f9 = f9 (some (L.1 (b + 47))) := bn9 (wt_41_5 h hb) f9
theorem wt_41_6b (h : Lok L) (hb : isW b = true) {β9 : Type} (f9 : Option Nat → Option β9) : (aA (hp L σ) (some (L.1 (b + 41))) 103 6).bind f9 = f9 (some (L.1 (b + 48))) := bn9 (wt_41_6 h hb) f9
theorem wt_41b (h : Lok L) (hb : isW b = true) (hn : n < 7) {β9 : Type} (f9 : Option Nat → Option β9) : (aA (hp L σ) (some (L.1 (b + 41))) 103 (Int32.ofNat n)).bind f9 = f9 (some (L.1 (b + 42 + n))) := bn9 (wt_41 h hb hn) f9
theorem wl_41b (h : Lok L) (hb : isW b = true) {β9 : Type} (f9 : Int32 → Option β9) : (aL (hp L σ) (some (L.1 (b + 41)))).bind f9 = f9 7 := bn9 (wl_41 h hb) f9
theorem wi_2b (h : Lok L) (hb : isW b = true) (hn : n < 6) {β9 : Type} (f9 : Int32 → Option β9) : (aI (hp L σ) (some (L.1 (b + 2))) 100 (Int32.ofNat n)).bind f9 = f9 (σ (b + 2) n) := bn9 (wi_2 h hb hn) f9
theorem ws_2b (h : Lok L) (hb : isW b = true) (hn : n < 6) {β9 : Type} (f9 : cH → Option β9) : (aS (hp L σ) (some (L.1 (b + 2))) 100 (Int32.ofNat n) (.int v)).bind f9 = f9 (hp L (up2 σ (b + 2) n v)) := bn9 (ws_2 h hb hn) f9
theorem wn_2b (h : Lok L) (hb : isW b = true) {β9 : Type} (f9 : Int32 → Option β9) : (aL (hp L σ) (some (L.1 (b + 2)))).bind f9 = f9 6 := bn9 (wn_2 h hb) f9
theorem wi_3b (h : Lok L) (hb : isW b = true) (hn : n < 6) {β9 : Type} (f9 : Int32 → Option β9) : (aI (hp L σ) (some (L.1 (b + 3))) 100 (Int32.ofNat n)).bind f9 = f9 (σ (b + 3) n) := bn9 (wi_3 h hb hn) f9
theorem ws_3b (h : Lok L) (hb : isW b = true) (hn : n < 6) {β9 : Type} (f9 : cH → Option β9) : (aS (hp L σ) (some (L.1 (b + 3))) 100 (Int32.ofNat n) (.int v)).bind f9 = f9 (hp L (up2 σ (b + 3) n v)) := bn9 (ws_3 h hb hn) f9
theorem wn_3b (h : Lok L) (hb : isW b = true) {β9 : Type} (f9 : Int32 → Option β9) : (aL (hp L σ) (some (L.1 (b + 3)))).bind f9 = f9 6 := bn9 (wn_3 h hb) f9
theorem wi_4b (h : Lok L) (hb : isW b = true) (hn : n < 6) {β9 : Type} (f9 : Int32 → Option β9) : (aI (hp L σ) (some (L.1 (b + 4))) 100 (Int32.ofNat n)).bind f9 = f9 (σ (b + 4) n) := bn9 (wi_4 h hb hn) f9
theorem ws_4b (h : Lok L) (hb : isW b = true) (hn : n < 6) {β9 : Type} (f9 : cH → Option β9) : (aS (hp L σ) (some (L.1 (b + 4))) 100 (Int32.ofNat n) (.int v)).bind f9 = f9 (hp L (up2 σ (b + 4) n v)) := bn9 (ws_4 h hb hn) f9
theorem wn_4b (h : Lok L) (hb : isW b = true) {β9 : Type} (f9 : Int32 → Option β9) : (aL (hp L σ) (some (L.1 (b + 4)))).bind f9 = f9 6 := bn9 (wn_4 h hb) f9
theorem wi_5b (h : Lok L) (hb : isW b = true) (hn : n < 6) {β9 : Type} (f9 : Int32 → Option β9) : (aI (hp L σ) (some (L.1 (b + 5))) 100 (Int32.ofNat n)).bind f9 = f9 (σ (b + 5) n) := bn9 (wi_5 h hb hn) f9
theorem ws_5b (h : Lok L) (hb : isW b = true) (hn : n < 6) {β9 : Type} (f9 : cH → Option β9) : (aS (hp L σ) (some (L.1 (b + 5))) 100 (Int32.ofNat n) (.int v)).bind f9 = f9 (hp L (up2 σ (b + 5) n v)) := bn9 (ws_5 h hb hn) f9
theorem wn_5b (h : Lok L) (hb : isW b = true) {β9 : Type} (f9 : Int32 → Option β9) : (aL (hp L σ) (some (L.1 (b + 5)))).bind f9 = f9 6 := bn9 (wn_5 h hb) f9
theorem wi_6b (h : Lok L) (hb : isW b = true) (hn : n < 6) {β9 : Type} (f9 : Int32 → Option β9) : (aI (hp L σ) (some (L.1 (b + 6))) 100 (Int32.ofNat n)).bind f9 = f9 (σ (b + 6) n) := bn9 (wi_6 h hb hn) f9
theorem ws_6b (h : Lok L) (hb : isW b = true) (hn : n < 6) {β9 : Type} (f9 : cH → Option β9) : (aS (hp L σ) (some (L.1 (b + 6))) 100 (Int32.ofNat n) (.int v)).bind f9 = f9 (hp L (up2 σ (b + 6) n v)) := bn9 (ws_6 h hb hn) f9
theorem wn_6b (h : Lok L) (hb : isW b = true) {β9 : Type} (f9 : Int32 → Option β9) : (aL (hp L σ) (some (L.1 (b + 6)))).bind f9 = f9 6 := bn9 (wn_6 h hb) f9
theorem wi_12b (h : Lok L) (hb : isW b = true) (hn : n < 8) {β9 : Type} (f9 : Int32 → Option β9) : (aI (hp L σ) (some (L.1 (b + 12))) 100 (Int32.ofNat n)).bind f9 = f9 (σ (b + 12) n) := bn9 (wi_12 h hb hn) f9
theorem ws_12b (h : Lok L) (hb : isW b = true) (hn : n < 8) {β9 : Type} (f9 : cH → Option β9) : (aS (hp L σ) (some (L.1 (b + 12))) 100 (Int32.ofNat n) (.int v)).bind f9 = f9 (hp L (up2 σ (b + 12) n v)) := bn9 (ws_12 h hb hn) f9
theorem wn_12b (h : Lok L) (hb : isW b = true) {β9 : Type} (f9 : Int32 → Option β9) : (aL (hp L σ) (some (L.1 (b + 12)))).bind f9 = f9 8 := bn9 (wn_12 h hb) f9
theorem wi_13b (h : Lok L) (hb : isW b = true) (hn : n < 8) {β9 : Type} (f9 : Int32 → Option β9) : (aI (hp L σ) (some (L.1 (b + 13))) 100 (Int32.ofNat n)).bind f9 = f9 (σ (b + 13) n) := bn9 (wi_13 h hb hn) f9
theorem ws_13b (h : Lok L) (hb : isW b = true) (hn : n < 8) {β9 : Type} (f9 : cH → Option β9) : (aS (hp L σ) (some (L.1 (b + 13))) 100 (Int32.ofNat n) (.int v)).bind f9 = f9 (hp L (up2 σ (b + 13) n v)) := bn9 (ws_13 h hb hn) f9
theorem wn_13b (h : Lok L) (hb : isW b = true) {β9 : Type} (f9 : Int32 → Option β9) : (aL (hp L σ) (some (L.1 (b + 13)))).bind f9 = f9 8 := bn9 (wn_13 h hb) f9
theorem wi_14b (h : Lok L) (hb : isW b = true) (hn : n < 8) {β9 : Type} (f9 : Int32 → Option β9) : (aI (hp L σ) (some (L.1 (b + 14))) 100 (Int32.ofNat n)).bind f9 = f9 (σ (b + 14) n) := bn9 (wi_14 h hb hn) f9
theorem ws_14b (h : Lok L) (hb : isW b = true) (hn : n < 8) {β9 : Type} (f9 : cH → Option β9) : (aS (hp L σ) (some (L.1 (b + 14))) 100 (Int32.ofNat n) (.int v)).bind f9 = f9 (hp L (up2 σ (b + 14) n v)) := bn9 (ws_14 h hb hn) f9
theorem wn_14b (h : Lok L) (hb : isW b = true) {β9 : Type} (f9 : Int32 → Option β9) : (aL (hp L σ) (some (L.1 (b + 14)))).bind f9 = f9 8 := bn9 (wn_14 h hb) f9
theorem wi_15b (h : Lok L) (hb : isW b = true) (hn : n < 8) {β9 : Type} (f9 : Int32 → Option β9) : (aI (hp L σ) (some (L.1 (b + 15))) 100 (Int32.ofNat n)).bind f9 = f9 (σ (b + 15) n) := bn9 (wi_15 h hb hn) f9
theorem ws_15b (h : Lok L) (hb : isW b = true) (hn : n < 8) {β9 : Type} (f9 : cH → Option β9) : (aS (hp L σ) (some (L.1 (b + 15))) 100 (Int32.ofNat n) (.int v)).bind f9 = f9 (hp L (up2 σ (b + 15) n v)) := bn9 (ws_15 h hb hn) f9
theorem wn_15b (h : Lok L) (hb : isW b = true) {β9 : Type} (f9 : Int32 → Option β9) : (aL (hp L σ) (some (L.1 (b + 15)))).bind f9 = f9 8 := bn9 (wn_15 h hb) f9
theorem wi_16b (h : Lok L) (hb : isW b = true) (hn : n < 8) {β9 : Type} (f9 : Int32 → Option β9) : (aI (hp L σ) (some (L.1 (b + 16))) 100 (Int32.ofNat n)).bind f9 = f9 (σ (b + 16) n) := bn9 (wi_16 h hb hn) f9
theorem ws_16b (h : Lok L) (hb : isW b = true) (hn : n < 8) {β9 : Type} (f9 : cH → Option β9) : (aS (hp L σ) (some (L.1 (b + 16))) 100 (Int32.ofNat n) (.int v)).bind f9 = f9 (hp L (up2 σ (b + 16) n v)) := bn9 (ws_16 h hb hn) f9
theorem wn_16b (h : Lok L) (hb : isW b = true) {β9 : Type} (f9 : Int32 → Option β9) : (aL (hp L σ) (some (L.1 (b + 16)))).bind f9 = f9 8 := bn9 (wn_16 h hb) f9
theorem wi_22b (h : Lok L) (hb : isW b = true) (hn : n < 6) {β9 : Type} (f9 : Int32 → Option β9) : (aI (hp L σ) (some (L.1 (b + 22))) 100 (Int32.ofNat n)).bind f9 = f9 (σ (b + 22) n) := bn9 (wi_22 h hb hn) f9
theorem ws_22b (h : Lok L) (hb : isW b = true) (hn : n < 6) {β9 : Type} (f9 : cH → Option β9) : (aS (hp L σ) (some (L.1 (b + 22))) 100 (Int32.ofNat n) (.int v)).bind f9 = f9 (hp L (up2 σ (b + 22) n v)) := bn9 (ws_22 h hb hn) f9
theorem wn_22b (h : Lok L) (hb : isW b = true) {β9 : Type} (f9 : Int32 → Option β9) : (aL (hp L σ) (some (L.1 (b + 22)))).bind f9 = f9 6 := bn9 (wn_22 h hb) f9
theorem wi_23b (h : Lok L) (hb : isW b = true) (hn : n < 6) {β9 : Type} (f9 : Int32 → Option β9) : (aI (hp L σ) (some (L.1 (b + 23))) 100 (Int32.ofNat n)).bind f9 = f9 (σ (b + 23) n) := bn9 (wi_23 h hb hn) f9
theorem ws_23b (h : Lok L) (hb : isW b = true) (hn : n < 6) {β9 : Type} (f9 : cH → Option β9) : (aS (hp L σ) (some (L.1 (b + 23))) 100 (Int32.ofNat n) (.int v)).bind f9 = f9 (hp L (up2 σ (b + 23) n v)) := bn9 (ws_23 h hb hn) f9
theorem wn_23b (h : Lok L) (hb : isW b = true) {β9 : Type} (f9 : Int32 → Option β9) : (aL (hp L σ) (some (L.1 (b + 23)))).bind f9 = f9 6 := bn9 (wn_23 h hb) f9
theorem wi_32b (h : Lok L) (hb : isW b = true) (hn : n < 7) {β9 : Type} (f9 : Int32 → Option β9) : (aI (hp L σ) (some (L.1 (b + 32))) 100 (Int32.ofNat n)).bind f9 = f9 (σ (b + 32) n) := bn9 (wi_32 h hb hn) f9
theorem ws_32b (h : Lok L) (hb : isW b = true) (hn : n < 7) {β9 : Type} (f9 : cH → Option β9) : (aS (hp L σ) (some (L.1 (b + 32))) 100 (Int32.ofNat n) (.int v)).bind f9 = f9 (hp L (up2 σ (b + 32) n v)) := bn9 (ws_32 h hb hn) f9
theorem wn_32b (h : Lok L) (hb : isW b = true) {β9 : Type} (f9 : Int32 → Option β9) : (aL (hp L σ) (some (L.1 (b + 32)))).bind f9 = f9 7 := bn9 (wn_32 h hb) f9
theorem wi_33b (h : Lok L) (hb : isW b = true) (hn : n < 7) {β9 : Type} (f9 : Int32 → Option β9) : (aI (hp L σ) (some (L.1 (b + 33))) 100 (Int32.ofNat n)).bind f9 = f9 (σ (b + 33) n) := bn9 (wi_33 h hb hn) f9
theorem ws_33b (h : Lok L) (hb : isW b = true) (hn : n < 7) {β9 : Type} (f9 : cH → Option β9) : (aS (hp L σ) (some (L.1 (b + 33))) 100 (Int32.ofNat n) (.int v)).bind f9 = f9 (hp L (up2 σ (b + 33) n v)) := bn9 (ws_33 h hb hn) f9
theorem wn_33b (h : Lok L) (hb : isW b = true) {β9 : Type} (f9 : Int32 → Option β9) : (aL (hp L σ) (some (L.1 (b + 33)))).bind f9 = f9 7 := bn9 (wn_33 h hb) f9
theorem wi_34b (h : Lok L) (hb : isW b = true) (hn : n < 7) {β9 : Type} (f9 : Int32 → Option β9) : (aI (hp L σ) (some (L.1 (b + 34))) 100 (Int32.ofNat n)).bind f9 = f9 (σ (b + 34) n) := bn9 (wi_34 h hb hn) f9
theorem ws_34b (h : Lok L) (hb : isW b = true) (hn : n < 7) {β9 : Type} (f9 : cH → Option β9) : (aS (hp L σ) (some (L.1 (b + 34))) 100 (Int32.ofNat n) (.int v)).bind f9 = f9 (hp L (up2 σ (b + 34) n v)) := bn9 (ws_34 h hb hn) f9
theorem wn_34b (h : Lok L) (hb : isW b = true) {β9 : Type} (f9 : Int32 → Option β9) : (aL (hp L σ) (some (L.1 (b + 34)))).bind f9 = f9 7 := bn9 (wn_34 h hb) f9
theorem wi_35b (h : Lok L) (hb : isW b = true) (hn : n < 7) {β9 : Type} (f9 : Int32 → Option β9) : (aI (hp L σ) (some (L.1 (b + 35))) 100 (Int32.ofNat n)).bind f9 = f9 (σ (b + 35) n) := bn9 (wi_35 h hb hn) f9
theorem ws_35b (h : Lok L) (hb : isW b = true) (hn : n < 7) {β9 : Type} (f9 : cH → Option β9) : (aS (hp L σ) (some (L.1 (b + 35))) 100 (Int32.ofNat n) (.int v)).bind f9 = f9 (hp L (up2 σ (b + 35) n v)) := bn9 (ws_35 h hb hn) f9
theorem wn_35b (h : Lok L) (hb : isW b = true) {β9 : Type} (f9 : Int32 → Option β9) : (aL (hp L σ) (some (L.1 (b + 35)))).bind f9 = f9 7 := bn9 (wn_35 h hb) f9
theorem wi_36b (h : Lok L) (hb : isW b = true) (hn : n < 7) {β9 : Type} (f9 : Int32 → Option β9) : (aI (hp L σ) (some (L.1 (b + 36))) 100 (Int32.ofNat n)).bind f9 = f9 (σ (b + 36) n) := bn9 (wi_36 h hb hn) f9
theorem ws_36b (h : Lok L) (hb : isW b = true) (hn : n < 7) {β9 : Type} (f9 : cH → Option β9) : (aS (hp L σ) (some (L.1 (b + 36))) 100 (Int32.ofNat n) (.int v)).bind f9 = f9 (hp L (up2 σ (b + 36) n v)) := bn9 (ws_36 h hb hn) f9
theorem wn_36b (h : Lok L) (hb : isW b = true) {β9 : Type} (f9 : Int32 → Option β9) : (aL (hp L σ) (some (L.1 (b + 36)))).bind f9 = f9 7 := bn9 (wn_36 h hb) f9
theorem wi_37b (h : Lok L) (hb : isW b = true) (hn : n < 7) {β9 : Type} (f9 : Int32 → Option β9) : (aI (hp L σ) (some (L.1 (b + 37))) 100 (Int32.ofNat n)).bind f9 = f9 (σ (b + 37) n) := bn9 (wi_37 h hb hn) f9
theorem ws_37b (h : Lok L) (hb : isW b = true) (hn : n < 7) {β9 : Type} (f9 : cH → Option β9) : (aS (hp L σ) (some (L.1 (b + 37))) 100 (Int32.ofNat n) (.int v)).bind f9 = f9 (hp L (up2 σ (b + 37) n v)) := bn9 (ws_37 h hb hn) f9
theorem wn_37b (h : Lok L) (hb : isW b = true) {β9 : Type} (f9 : Int32 → Option β9) : (aL (hp L σ) (some (L.1 (b + 37)))).bind f9 = f9 7 := bn9 (wn_37 h hb) f9
theorem wi_38b (h : Lok L) (hb : isW b = true) (hn : n < 7) {β9 : Type} (f9 : Int32 → Option β9) : (aI (hp L σ) (some (L.1 (b + 38))) 100 (Int32.ofNat n)).bind f9 = f9 (σ (b + 38) n) := bn9 (wi_38 h hb hn) f9
theorem ws_38b (h : Lok L) (hb : isW b = true) (hn : n < 7) {β9 : Type} (f9 : cH → Option β9) : (aS (hp L σ) (some (L.1 (b + 38))) 100 (Int32.ofNat n) (.int v)).bind f9 = f9 (hp L (up2 σ (b + 38) n v)) := bn9 (ws_38 h hb hn) f9
theorem wn_38b (h : Lok L) (hb : isW b = true) {β9 : Type} (f9 : Int32 → Option β9) : (aL (hp L σ) (some (L.1 (b + 38)))).bind f9 = f9 7 := bn9 (wn_38 h hb) f9
theorem wi_42b (h : Lok L) (hb : isW b = true) (hn : n < 7) {β9 : Type} (f9 : Int32 → Option β9) : (aI (hp L σ) (some (L.1 (b + 42))) 100 (Int32.ofNat n)).bind f9 = f9 (σ (b + 42) n) := bn9 (wi_42 h hb hn) f9
theorem ws_42b (h : Lok L) (hb : isW b = true) (hn : n < 7) {β9 : Type} (f9 : cH → Option β9) : (aS (hp L σ) (some (L.1 (b + 42))) 100 (Int32.ofNat n) (.int v)).bind f9 = f9 (hp L (up2 σ (b + 42) n v)) := bn9 (ws_42 h hb hn) f9
theorem wn_42b (h : Lok L) (hb : isW b = true) {β9 : Type} (f9 : Int32 → Option β9) : (aL (hp L σ) (some (L.1 (b + 42)))).bind f9 = f9 7 := bn9 (wn_42 h hb) f9
theorem wi_43b (h : Lok L) (hb : isW b = true) (hn : n < 7) {β9 : Type} (f9 : Int32 → Option β9) : (aI (hp L σ) (some (L.1 (b + 43))) 100 (Int32.ofNat n)).bind f9 = f9 (σ (b + 43) n) := bn9 (wi_43 h hb hn) f9
theorem ws_43b (h : Lok L) (hb : isW b = true) (hn : n < 7) {β9 : Type} (f9 : cH → Option β9) : (aS (hp L σ) (some (L.1 (b + 43))) 100 (Int32.ofNat n) (.int v)).bind f9 = f9 (hp L (up2 σ (b + 43) n v)) := bn9 (ws_43 h hb hn) f9
theorem wn_43b (h : Lok L) (hb : isW b = true) {β9 : Type} (f9 : Int32 → Option β9) : (aL (hp L σ) (some (L.1 (b + 43)))).bind f9 = f9 7 := bn9 (wn_43 h hb) f9
theorem wi_44b (h : Lok L) (hb : isW b = true) (hn : n < 7) {β9 : Type} (f9 : Int32 → Option β9) : (aI (hp L σ) (some (L.1 (b + 44))) 100 (Int32.ofNat n)).bind f9 = f9 (σ (b + 44) n) := bn9 (wi_44 h hb hn) f9
theorem ws_44b (h : Lok L) (hb : isW b = true) (hn : n < 7) {β9 : Type} (f9 : cH → Option β9) : (aS (hp L σ) (some (L.1 (b + 44))) 100 (Int32.ofNat n) (.int v)).bind f9 = f9 (hp L (up2 σ (b + 44) n v)) := bn9 (ws_44 h hb hn) f9
theorem wn_44b (h : Lok L) (hb : isW b = true) {β9 : Type} (f9 : Int32 → Option β9) : (aL (hp L σ) (some (L.1 (b + 44)))).bind f9 = f9 7 := bn9 (wn_44 h hb) f9
theorem wi_45b (h : Lok L) (hb : isW b = true) (hn : n < 7) {β9 : Type} (f9 : Int32 → Option β9) : (aI (hp L σ) (some (L.1 (b + 45))) 100 (Int32.ofNat n)).bind f9 = f9 (σ (b + 45) n) := bn9 (wi_45 h hb hn) f9
theorem ws_45b (h : Lok L) (hb : isW b = true) (hn : n < 7) {β9 : Type} (f9 : cH → Option β9) : (aS (hp L σ) (some (L.1 (b + 45))) 100 (Int32.ofNat n) (.int v)).bind f9 = f9 (hp L (up2 σ (b + 45) n v)) := bn9 (ws_45 h hb hn) f9
theorem wn_45b (h : Lok L) (hb : isW b = true) {β9 : Type} (f9 : Int32 → Option β9) : (aL (hp L σ) (some (L.1 (b + 45)))).bind f9 = f9 7 := bn9 (wn_45 h hb) f9
theorem wi_46b (h : Lok L) (hb : isW b = true) (hn : n < 7) {β9 : Type} (f9 : Int32 → Option β9) : (aI (hp L σ) (some (L.1 (b + 46))) 100 (Int32.ofNat n)).bind f9 = f9 (σ (b + 46) n) := bn9 (wi_46 h hb hn) f9
theorem ws_46b (h : Lok L) (hb : isW b = true) (hn : n < 7) {β9 : Type} (f9 : cH → Option β9) : (aS (hp L σ) (some (L.1 (b + 46))) 100 (Int32.ofNat n) (.int v)).bind f9 = f9 (hp L (up2 σ (b + 46) n v)) := bn9 (ws_46 h hb hn) f9
theorem wn_46b (h : Lok L) (hb : isW b = true) {β9 : Type} (f9 : Int32 → Option β9) : (aL (hp L σ) (some (L.1 (b + 46)))).bind f9 = f9 7 := bn9 (wn_46 h hb) f9
theorem wi_47b (h : Lok L) (hb : isW b = true) (hn : n < 7) {β9 : Type} (f9 : Int32 → Option β9) : (aI (hp L σ) (some (L.1 (b + 47))) 100 (Int32.ofNat n)).bind f9 = f9 (σ (b + 47) n) := bn9 (wi_47 h hb hn) f9
theorem ws_47b (h : Lok L) (hb : isW b = true) (hn : n < 7) {β9 : Type} (f9 : cH → Option β9) : (aS (hp L σ) (some (L.1 (b + 47))) 100 (Int32.ofNat n) (.int v)).bind f9 = f9 (hp L (up2 σ (b + 47) n v)) := bn9 (ws_47 h hb hn) f9
theorem wn_47b (h : Lok L) (hb : isW b = true) {β9 : Type} (f9 : Int32 → Option β9) : (aL (hp L σ) (some (L.1 (b + 47)))).bind f9 = f9 7 := bn9 (wn_47 h hb) f9
theorem wi_48b (h : Lok L) (hb : isW b = true) (hn : n < 7) {β9 : Type} (f9 : Int32 → Option β9) : (aI (hp L σ) (some (L.1 (b + 48))) 100 (Int32.ofNat n)).bind f9 = f9 (σ (b + 48) n) := bn9 (wi_48 h hb hn) f9
theorem ws_48b (h : Lok L) (hb : isW b = true) (hn : n < 7) {β9 : Type} (f9 : cH → Option β9) : (aS (hp L σ) (some (L.1 (b + 48))) 100 (Int32.ofNat n) (.int v)).bind f9 = f9 (hp L (up2 σ (b + 48) n v)) := bn9 (ws_48 h hb hn) f9
theorem wn_48b (h : Lok L) (hb : isW b = true) {β9 : Type} (f9 : Int32 → Option β9) : (aL (hp L σ) (some (L.1 (b + 48)))).bind f9 = f9 7 := bn9 (wn_48 h hb) f9
theorem wi_51b (h : Lok L) (hb : isW b = true) (hn : n < 10) {β9 : Type} (f9 : Int32 → Option β9) : (aI (hp L σ) (some (L.1 (b + 51))) 100 (Int32.ofNat n)).bind f9 = f9 (σ (b + 51) n) := bn9 (wi_51 h hb hn) f9
theorem ws_51b (h : Lok L) (hb : isW b = true) (hn : n < 10) {β9 : Type} (f9 : cH → Option β9) : (aS (hp L σ) (some (L.1 (b + 51))) 100 (Int32.ofNat n) (.int v)).bind f9 = f9 (hp L (up2 σ (b + 51) n v)) := bn9 (ws_51 h hb hn) f9
theorem wn_51b (h : Lok L) (hb : isW b = true) {β9 : Type} (f9 : Int32 → Option β9) : (aL (hp L σ) (some (L.1 (b + 51)))).bind f9 = f9 10 := bn9 (wn_51 h hb) f9
theorem wI_cb (h : Lok L) (hb : isW b = true) {f : Nat} (hf : f < 5) (hn : n < 6) {β9 : Type} (f9 : Int32 → Option β9) : (aI (hp L σ) (some (L.1 (b + 2 + f))) 100 (Int32.ofNat n)).bind f9 = f9 (σ (b + 2 + f) n) := bn9 (wI_c h hb hf hn) f9
theorem wS_cb (h : Lok L) (hb : isW b = true) {f : Nat} (hf : f < 5) (hn : n < 6) {β9 : Type} (f9 : cH → Option β9) : (aS (hp L σ) (some (L.1 (b + 2 + f))) 100 (Int32.ofNat n) (.int v)).bind f9 = f9 (hp L (up2 σ (b + 2 + f) n v)) := bn9 (wS_c h hb hf hn) f9
theorem wI_eb (h : Lok L) (hb : isW b = true) {f : Nat} (hf : f < 5) (hn : n < 8) {β9 : Type} (f9 : Int32 → Option β9) : (aI (hp L σ) (some (L.1 (b + 12 + f))) 100 (Int32.ofNat n)).bind f9 = f9 (σ (b + 12 + f) n) := bn9 (wI_e h hb hf hn) f9
theorem wS_eb (h : Lok L) (hb : isW b = true) {f : Nat} (hf : f < 5) (hn : n < 8) {β9 : Type} (f9 : cH → Option β9) : (aS (hp L σ) (some (L.1 (b + 12 + f))) 100 (Int32.ofNat n) (.int v)).bind f9 = f9 (hp L (up2 σ (b + 12 + f) n v)) := bn9 (wS_e h hb hf hn) f9
theorem wI_yb (h : Lok L) (hb : isW b = true) {f : Nat} (hf : f < 7) (hn : n < 7) {β9 : Type} (f9 : Int32 → Option β9) : (aI (hp L σ) (some (L.1 (b + 32 + f))) 100 (Int32.ofNat n)).bind f9 = f9 (σ (b + 32 + f) n) := bn9 (wI_y h hb hf hn) f9
theorem wS_yb (h : Lok L) (hb : isW b = true) {f : Nat} (hf : f < 7) (hn : n < 7) {β9 : Type} (f9 : cH → Option β9) : (aS (hp L σ) (some (L.1 (b + 32 + f))) 100 (Int32.ofNat n) (.int v)).bind f9 = f9 (hp L (up2 σ (b + 32 + f) n v)) := bn9 (wS_y h hb hf hn) f9
theorem wI_rb (h : Lok L) (hb : isW b = true) {f : Nat} (hf : f < 7) (hn : n < 7) {β9 : Type} (f9 : Int32 → Option β9) : (aI (hp L σ) (some (L.1 (b + 42 + f))) 100 (Int32.ofNat n)).bind f9 = f9 (σ (b + 42 + f) n) := bn9 (wI_r h hb hf hn) f9
theorem wS_rb (h : Lok L) (hb : isW b = true) {f : Nat} (hf : f < 7) (hn : n < 7) {β9 : Type} (f9 : cH → Option β9) : (aS (hp L σ) (some (L.1 (b + 42 + f))) 100 (Int32.ofNat n) (.int v)).bind f9 = f9 (hp L (up2 σ (b + 42 + f) n v)) := bn9 (wS_r h hb hf hn) f9
theorem mi_1001b (h : Lok L) (hn : n < 138) {β9 : Type} (f9 : Int32 → Option β9) : (aI (hp L σ) (some (L.1 1001)) 100 (Int32.ofNat n)).bind f9 = f9 (σ 1001 n) := bn9 (mi_1001 h hn) f9
theorem ms_1001b (h : Lok L) (hn : n < 138) {β9 : Type} (f9 : cH → Option β9) : (aS (hp L σ) (some (L.1 1001)) 100 (Int32.ofNat n) (.int v)).bind f9 = f9 (hp L (up2 σ 1001 n v)) := bn9 (ms_1001 h hn) f9
theorem mi_1002b (h : Lok L) (hn : n < 138) {β9 : Type} (f9 : Int32 → Option β9) : (aI (hp L σ) (some (L.1 1002)) 100 (Int32.ofNat n)).bind f9 = f9 (σ 1002 n) := bn9 (mi_1002 h hn) f9
theorem ms_1002b (h : Lok L) (hn : n < 138) {β9 : Type} (f9 : cH → Option β9) : (aS (hp L σ) (some (L.1 1002)) 100 (Int32.ofNat n) (.int v)).bind f9 = f9 (hp L (up2 σ 1002 n v)) := bn9 (ms_1002 h hn) f9
theorem mi_1003b (h : Lok L) (hn : n < 138) {β9 : Type} (f9 : Int32 → Option β9) : (aI (hp L σ) (some (L.1 1003)) 100 (Int32.ofNat n)).bind f9 = f9 (σ 1003 n) := bn9 (mi_1003 h hn) f9
theorem ms_1003b (h : Lok L) (hn : n < 138) {β9 : Type} (f9 : cH → Option β9) : (aS (hp L σ) (some (L.1 1003)) 100 (Int32.ofNat n) (.int v)).bind f9 = f9 (hp L (up2 σ 1003 n v)) := bn9 (ms_1003 h hn) f9
theorem mi_1004b (h : Lok L) (hn : n < 8) {β9 : Type} (f9 : Int32 → Option β9) : (aI (hp L σ) (some (L.1 1004)) 100 (Int32.ofNat n)).bind f9 = f9 (σ 1004 n) := bn9 (mi_1004 h hn) f9
theorem ms_1004b (h : Lok L) (hn : n < 8) {β9 : Type} (f9 : cH → Option β9) : (aS (hp L σ) (some (L.1 1004)) 100 (Int32.ofNat n) (.int v)).bind f9 = f9 (hp L (up2 σ 1004 n v)) := bn9 (ms_1004 h hn) f9
theorem mi_1005b (h : Lok L) (hn : n < 49) {β9 : Type} (f9 : Int32 → Option β9) : (aI (hp L σ) (some (L.1 1005)) 100 (Int32.ofNat n)).bind f9 = f9 (σ 1005 n) := bn9 (mi_1005 h hn) f9
theorem ms_1005b (h : Lok L) (hn : n < 49) {β9 : Type} (f9 : cH → Option β9) : (aS (hp L σ) (some (L.1 1005)) 100 (Int32.ofNat n) (.int v)).bind f9 = f9 (hp L (up2 σ 1005 n v)) := bn9 (ms_1005 h hn) f9
theorem mi_1006b (h : Lok L) (hn : n < 1701) {β9 : Type} (f9 : Int32 → Option β9) : (aI (hp L σ) (some (L.1 1006)) 100 (Int32.ofNat n)).bind f9 = f9 (σ 1006 n) := bn9 (mi_1006 h hn) f9
theorem ms_1006b (h : Lok L) (hn : n < 1701) {β9 : Type} (f9 : cH → Option β9) : (aS (hp L σ) (some (L.1 1006)) 100 (Int32.ofNat n) (.int v)).bind f9 = f9 (hp L (up2 σ 1006 n v)) := bn9 (ms_1006 h hn) f9
theorem mi_1007b (h : Lok L) (hn : n < 5) {β9 : Type} (f9 : Int32 → Option β9) : (aI (hp L σ) (some (L.1 1007)) 100 (Int32.ofNat n)).bind f9 = f9 (σ 1007 n) := bn9 (mi_1007 h hn) f9
theorem ms_1007b (h : Lok L) (hn : n < 5) {β9 : Type} (f9 : cH → Option β9) : (aS (hp L σ) (some (L.1 1007)) 100 (Int32.ofNat n) (.int v)).bind f9 = f9 (hp L (up2 σ 1007 n v)) := bn9 (ms_1007 h hn) f9
theorem mi_1008b (h : Lok L) (hn : n < 6) {β9 : Type} (f9 : Int32 → Option β9) : (aI (hp L σ) (some (L.1 1008)) 100 (Int32.ofNat n)).bind f9 = f9 (σ 1008 n) := bn9 (mi_1008 h hn) f9
theorem ms_1008b (h : Lok L) (hn : n < 6) {β9 : Type} (f9 : cH → Option β9) : (aS (hp L σ) (some (L.1 1008)) 100 (Int32.ofNat n) (.int v)).bind f9 = f9 (hp L (up2 σ 1008 n v)) := bn9 (ms_1008 h hn) f9
theorem mi_1009b (h : Lok L) (hn : n < 120) {β9 : Type} (f9 : Int32 → Option β9) : (aI (hp L σ) (some (L.1 1009)) 100 (Int32.ofNat n)).bind f9 = f9 (σ 1009 n) := bn9 (mi_1009 h hn) f9
theorem ms_1009b (h : Lok L) (hn : n < 120) {β9 : Type} (f9 : cH → Option β9) : (aS (hp L σ) (some (L.1 1009)) 100 (Int32.ofNat n) (.int v)).bind f9 = f9 (hp L (up2 σ 1009 n v)) := bn9 (ms_1009 h hn) f9
theorem mi_1011b (h : Lok L) (hn : n < 600) {β9 : Type} (f9 : Int32 → Option β9) : (aI (hp L σ) (some (L.1 1011)) 100 (Int32.ofNat n)).bind f9 = f9 (σ 1011 n) := bn9 (mi_1011 h hn) f9
theorem ms_1011b (h : Lok L) (hn : n < 600) {β9 : Type} (f9 : cH → Option β9) : (aS (hp L σ) (some (L.1 1011)) 100 (Int32.ofNat n) (.int v)).bind f9 = f9 (hp L (up2 σ 1011 n v)) := bn9 (ms_1011 h hn) f9
theorem mi_1012b (h : Lok L) (hn : n < 4) {β9 : Type} (f9 : Int32 → Option β9) : (aI (hp L σ) (some (L.1 1012)) 100 (Int32.ofNat n)).bind f9 = f9 (σ 1012 n) := bn9 (mi_1012 h hn) f9
theorem ms_1012b (h : Lok L) (hn : n < 4) {β9 : Type} (f9 : cH → Option β9) : (aS (hp L σ) (some (L.1 1012)) 100 (Int32.ofNat n) (.int v)).bind f9 = f9 (hp L (up2 σ 1012 n v)) := bn9 (ms_1012 h hn) f9
theorem mi_1013b (h : Lok L) (hn : n < 4) {β9 : Type} (f9 : Int32 → Option β9) : (aI (hp L σ) (some (L.1 1013)) 100 (Int32.ofNat n)).bind f9 = f9 (σ 1013 n) := bn9 (mi_1013 h hn) f9
theorem ms_1013b (h : Lok L) (hn : n < 4) {β9 : Type} (f9 : cH → Option β9) : (aS (hp L σ) (some (L.1 1013)) 100 (Int32.ofNat n) (.int v)).bind f9 = f9 (hp L (up2 σ 1013 n v)) := bn9 (ms_1013 h hn) f9
theorem mi_1014b (h : Lok L) (hn : n < 160) {β9 : Type} (f9 : Int32 → Option β9) : (aI (hp L σ) (some (L.1 1014)) 100 (Int32.ofNat n)).bind f9 = f9 (σ 1014 n) := bn9 (mi_1014 h hn) f9
theorem ms_1014b (h : Lok L) (hn : n < 160) {β9 : Type} (f9 : cH → Option β9) : (aS (hp L σ) (some (L.1 1014)) 100 (Int32.ofNat n) (.int v)).bind f9 = f9 (hp L (up2 σ 1014 n v)) := bn9 (ms_1014 h hn) f9
theorem mi_1015b (h : Lok L) (hn : n < 40) {β9 : Type} (f9 : Int32 → Option β9) : (aI (hp L σ) (some (L.1 1015)) 100 (Int32.ofNat n)).bind f9 = f9 (σ 1015 n) := bn9 (mi_1015 h hn) f9
theorem ms_1015b (h : Lok L) (hn : n < 40) {β9 : Type} (f9 : cH → Option β9) : (aS (hp L σ) (some (L.1 1015)) 100 (Int32.ofNat n) (.int v)).bind f9 = f9 (hp L (up2 σ 1015 n v)) := bn9 (ms_1015 h hn) f9
theorem mi_8b (h : Lok L) (hn : n < 7) {β9 : Type} (f9 : Int32 → Option β9) : (aI (hp L σ) (some (L.1 8)) 100 (Int32.ofNat n)).bind f9 = f9 (σ 8 n) := bn9 (mi_8 h hn) f9
theorem ms_8b (h : Lok L) (hn : n < 7) {β9 : Type} (f9 : cH → Option β9) : (aS (hp L σ) (some (L.1 8)) 100 (Int32.ofNat n) (.int v)).bind f9 = f9 (hp L (up2 σ 8 n v)) := bn9 (ms_8 h hn) f9
theorem mi_11b (h : Lok L) (hn : n < 5) {β9 : Type} (f9 : Int32 → Option β9) : (aI (hp L σ) (some (L.1 11)) 100 (Int32.ofNat n)).bind f9 = f9 (σ 11 n) := bn9 (mi_11 h hn) f9
theorem ms_11b (h : Lok L) (hn : n < 5) {β9 : Type} (f9 : cH → Option β9) : (aS (hp L σ) (some (L.1 11)) 100 (Int32.ofNat n) (.int v)).bind f9 = f9 (hp L (up2 σ 11 n v)) := bn9 (ms_11 h hn) f9
theorem mi_12b (h : Lok L) (hn : n < 6) {β9 : Type} (f9 : Int32 → Option β9) : (aI (hp L σ) (some (L.1 12)) 100 (Int32.ofNat n)).bind f9 = f9 (σ 12 n) := bn9 (mi_12 h hn) f9
theorem ms_12b (h : Lok L) (hn : n < 6) {β9 : Type} (f9 : cH → Option β9) : (aS (hp L σ) (some (L.1 12)) 100 (Int32.ofNat n) (.int v)).bind f9 = f9 (hp L (up2 σ 12 n v)) := bn9 (ms_12 h hn) f9
theorem X_f0b (h : Lok L) (hb : isW b = true) (hW : WX σ b ρ) {β9 : Type} (f9 : Int32 → Option β9) : (fI (hp L σ) (some (L.1 b)) 4 0).bind f9 = f9 (ρ 42) := bn9 (X_f0 h hb hW) f9
theorem X_f2b (h : Lok L) (hb : isW b = true) (hW : WX σ b ρ) {β9 : Type} (f9 : Int32 → Option β9) : (fI (hp L σ) (some (L.1 b)) 4 2).bind f9 = f9 (ρ 43) := bn9 (X_f2 h hb hW) f9
theorem X_f4b (h : Lok L) (hb : isW b = true) (hW : WX σ b ρ) {β9 : Type} (f9 : Int32 → Option β9) : (fI (hp L σ) (some (L.1 b)) 4 4).bind f9 = f9 (ρ 44) := bn9 (X_f4 h hb hW) f9
theorem X_f8b (h : Lok L) (hb : isW b = true) (hW : WX σ b ρ) {β9 : Type} (f9 : Int32 → Option β9) : (fI (hp L σ) (some (L.1 b)) 4 8).bind f9 = f9 (ρ 45) := bn9 (X_f8 h hb hW) f9
theorem X_c0b (h : Lok L) (hb : isW b = true) (hW : WX σ b ρ) (hn : n < 6) {β9 : Type} (f9 : Int32 → Option β9) : (aI (hp L σ) (some (L.1 (b + 2))) 100 (Int32.ofNat n)).bind f9 = f9 (ρ (56 + 5 * n + 0)) := bn9 (X_c0 h hb hW hn) f9
theorem X_e0b (h : Lok L) (hb : isW b = true) (hW : WX σ b ρ) (hn : n < 8) {β9 : Type} (f9 : Int32 → Option β9) : (aI (hp L σ) (some (L.1 (b + 12))) 100 (Int32.ofNat n)).bind f9 = f9 (ρ (86 + 5 * n + 0)) := bn9 (X_e0 h hb hW hn) f9
theorem X_c1b (h : Lok L) (hb : isW b = true) (hW : WX σ b ρ) (hn : n < 6) {β9 : Type} (f9 : Int32 → Option β9) : (aI (hp L σ) (some (L.1 (b + 3))) 100 (Int32.ofNat n)).bind f9 = f9 (ρ (56 + 5 * n + 1)) := bn9 (X_c1 h hb hW hn) f9
theorem X_e1b (h : Lok L) (hb : isW b = true) (hW : WX σ b ρ) (hn : n < 8) {β9 : Type} (f9 : Int32 → Option β9) : (aI (hp L σ) (some (L.1 (b + 13))) 100 (Int32.ofNat n)).bind f9 = f9 (ρ (86 + 5 * n + 1)) := bn9 (X_e1 h hb hW hn) f9
theorem X_c2b (h : Lok L) (hb : isW b = true) (hW : WX σ b ρ) (hn : n < 6) {β9 : Type} (f9 : Int32 → Option β9) : (aI (hp L σ) (some (L.1 (b + 4))) 100 (Int32.ofNat n)).bind f9 = f9 (ρ (56 + 5 * n + 2)) := bn9 (X_c2 h hb hW hn) f9
theorem X_e2b (h : Lok L) (hb : isW b = true) (hW : WX σ b ρ) (hn : n < 8) {β9 : Type} (f9 : Int32 → Option β9) : (aI (hp L σ) (some (L.1 (b + 14))) 100 (Int32.ofNat n)).bind f9 = f9 (ρ (86 + 5 * n + 2)) := bn9 (X_e2 h hb hW hn) f9
theorem X_c3b (h : Lok L) (hb : isW b = true) (hW : WX σ b ρ) (hn : n < 6) {β9 : Type} (f9 : Int32 → Option β9) : (aI (hp L σ) (some (L.1 (b + 5))) 100 (Int32.ofNat n)).bind f9 = f9 (ρ (56 + 5 * n + 3)) := bn9 (X_c3 h hb hW hn) f9
theorem X_e3b (h : Lok L) (hb : isW b = true) (hW : WX σ b ρ) (hn : n < 8) {β9 : Type} (f9 : Int32 → Option β9) : (aI (hp L σ) (some (L.1 (b + 15))) 100 (Int32.ofNat n)).bind f9 = f9 (ρ (86 + 5 * n + 3)) := bn9 (X_e3 h hb hW hn) f9
theorem X_c4b (h : Lok L) (hb : isW b = true) (hW : WX σ b ρ) (hn : n < 6) {β9 : Type} (f9 : Int32 → Option β9) : (aI (hp L σ) (some (L.1 (b + 6))) 100 (Int32.ofNat n)).bind f9 = f9 (ρ (56 + 5 * n + 4)) := bn9 (X_c4 h hb hW hn) f9
theorem X_e4b (h : Lok L) (hb : isW b = true) (hW : WX σ b ρ) (hn : n < 8) {β9 : Type} (f9 : Int32 → Option β9) : (aI (hp L σ) (some (L.1 (b + 16))) 100 (Int32.ofNat n)).bind f9 = f9 (ρ (86 + 5 * n + 4)) := bn9 (X_e4 h hb hW hn) f9
theorem X_cb (h : Lok L) (hb : isW b = true) (hW : WX σ b ρ) {f : Nat} (hf : f < 5) (hn : n < 6) {β9 : Type} (f9 : Int32 → Option β9) : (aI (hp L σ) (some (L.1 (b + 2 + f))) 100 (Int32.ofNat n)).bind f9 = f9 (ρ (56 + 5 * n + f)) := bn9 (X_c h hb hW hf hn) f9
theorem X_eb (h : Lok L) (hb : isW b = true) (hW : WX σ b ρ) {f : Nat} (hf : f < 5) (hn : n < 8) {β9 : Type} (f9 : Int32 → Option β9) : (aI (hp L σ) (some (L.1 (b + 12 + f))) 100 (Int32.ofNat n)).bind f9 = f9 (ρ (86 + 5 * n + f)) := bn9 (X_e h hb hW hf hn) f9
theorem X_w0b (h : Lok L) (hb : isW b = true) (hW : WX σ b ρ) (hn : n < 6) {β9 : Type} (f9 : Int32 → Option β9) : (aI (hp L σ) (some (L.1 (b + 22))) 100 (Int32.ofNat n)).bind f9 = f9 (ρ (126 + 2 * n + 0)) := bn9 (X_w0 h hb hW hn) f9
theorem X_w1b (h : Lok L) (hb : isW b = true) (hW : WX σ b ρ) (hn : n < 6) {β9 : Type} (f9 : Int32 → Option β9) : (aI (hp L σ) (some (L.1 (b + 23))) 100 (Int32.ofNat n)).bind f9 = f9 (ρ (126 + 2 * n + 1)) := bn9 (X_w1 h hb hW hn) f9
theorem X_hb (h : Lok L) (hb : isW b = true) (hW : WX σ b ρ) (hn : n < 10) {β9 : Type} (f9 : Int32 → Option β9) : (aI (hp L σ) (some (L.1 (b + 51))) 100 (Int32.ofNat n)).bind f9 = f9 (ρ (46 + n)) := bn9 (X_h h hb hW hn) f9
theorem X_yb (h : Lok L) (hb : isW b = true) (hW : WX σ b ρ) {f : Nat} (hf : f < 7) (hn : n < 7) {β9 : Type} (f9 : Int32 → Option β9) : (aI (hp L σ) (some (L.1 (b + 32 + f))) 100 (Int32.ofNat n)).bind f9 = f9 (if f = n then 0 else ρ (wy f n)) := bn9 (X_y h hb hW hf hn) f9
theorem X_rb (h : Lok L) (hb : isW b = true) (hW : WX σ b ρ) {f : Nat} (hf : f < 7) (hn : n < 7) {β9 : Type} (f9 : Int32 → Option β9) : (aI (hp L σ) (some (L.1 (b + 42 + f))) 100 (Int32.ofNat n)).bind f9 = f9 (if f = n then 0 else ρ (wy f n + 1)) := bn9 (X_r h hb hW hf hn) f9
theorem M_rb (h : Lok L) (hM : WM σ ρ) (hn : n < 138) {β9 : Type} (f9 : Int32 → Option β9) : (aI (hp L σ) (some (L.1 1001)) 100 (Int32.ofNat n)).bind f9 = f9 (ρ n) := bn9 (M_r h hM hn) f9
theorem M_42b (h : Lok L) (hM : WM σ ρ) {β9 : Type} (f9 : Int32 → Option β9) : (aI (hp L σ) (some (L.1 1001)) 100 42).bind f9 = f9 (ρ 42) := bn9 (M_42 h hM) f9
theorem M_43b (h : Lok L) (hM : WM σ ρ) {β9 : Type} (f9 : Int32 → Option β9) : (aI (hp L σ) (some (L.1 1001)) 100 43).bind f9 = f9 (ρ 43) := bn9 (M_43 h hM) f9
theorem M_44b (h : Lok L) (hM : WM σ ρ) {β9 : Type} (f9 : Int32 → Option β9) : (aI (hp L σ) (some (L.1 1001)) 100 44).bind f9 = f9 (ρ 44) := bn9 (M_44 h hM) f9
theorem M_45b (h : Lok L) (hM : WM σ ρ) {β9 : Type} (f9 : Int32 → Option β9) : (aI (hp L σ) (some (L.1 1001)) 100 45).bind f9 = f9 (ρ 45) := bn9 (M_45 h hM) f9
theorem cIs_0b (h : Lok L) (hM : WM σ ρ) (hn : n < 6) {β9 : Type} (f9 : Int32 → Option β9) : (F_X13_cIs (some (L.1 1000)) (Int32.ofNat n) 0 (hp L σ)).bind f9 = f9 (ρ (56 + 5 * n + 0)) := bn9 (cIs_0 h hM hn) f9
theorem cIs_1b (h : Lok L) (hM : WM σ ρ) (hn : n < 6) {β9 : Type} (f9 : Int32 → Option β9) : (F_X13_cIs (some (L.1 1000)) (Int32.ofNat n) 1 (hp L σ)).bind f9 = f9 (ρ (56 + 5 * n + 1)) := bn9 (cIs_1 h hM hn) f9
theorem cIs_2b (h : Lok L) (hM : WM σ ρ) (hn : n < 6) {β9 : Type} (f9 : Int32 → Option β9) : (F_X13_cIs (some (L.1 1000)) (Int32.ofNat n) 2 (hp L σ)).bind f9 = f9 (ρ (56 + 5 * n + 2)) := bn9 (cIs_2 h hM hn) f9
theorem cIs_3b (h : Lok L) (hM : WM σ ρ) (hn : n < 6) {β9 : Type} (f9 : Int32 → Option β9) : (F_X13_cIs (some (L.1 1000)) (Int32.ofNat n) 3 (hp L σ)).bind f9 = f9 (ρ (56 + 5 * n + 3)) := bn9 (cIs_3 h hM hn) f9
theorem cIs_4b (h : Lok L) (hM : WM σ ρ) (hn : n < 6) {β9 : Type} (f9 : Int32 → Option β9) : (F_X13_cIs (some (L.1 1000)) (Int32.ofNat n) 4 (hp L σ)).bind f9 = f9 (ρ (56 + 5 * n + 4)) := bn9 (cIs_4 h hM hn) f9
theorem cIs_nb (h : Lok L) (hM : WM σ ρ) (hn : n < 6) {f : Nat} (hf : f < 5) {β9 : Type} (f9 : Int32 → Option β9) : (F_X13_cIs (some (L.1 1000)) (Int32.ofNat n) (Int32.ofNat f) (hp L σ)).bind f9 = f9 (ρ (56 + 5 * n + f)) := bn9 (cIs_n h hM hn hf) f9
theorem eIs_0b (h : Lok L) (hM : WM σ ρ) (hn : n < 8) {β9 : Type} (f9 : Int32 → Option β9) : (F_X13_eIs (some (L.1 1000)) (Int32.ofNat n) 0 (hp L σ)).bind f9 = f9 (ρ (86 + 5 * n + 0)) := bn9 (eIs_0 h hM hn) f9
theorem eIs_1b (h : Lok L) (hM : WM σ ρ) (hn : n < 8) {β9 : Type} (f9 : Int32 → Option β9) : (F_X13_eIs (some (L.1 1000)) (Int32.ofNat n) 1 (hp L σ)).bind f9 = f9 (ρ (86 + 5 * n + 1)) := bn9 (eIs_1 h hM hn) f9
theorem eIs_2b (h : Lok L) (hM : WM σ ρ) (hn : n < 8) {β9 : Type} (f9 : Int32 → Option β9) : (F_X13_eIs (some (L.1 1000)) (Int32.ofNat n) 2 (hp L σ)).bind f9 = f9 (ρ (86 + 5 * n + 2)) := bn9 (eIs_2 h hM hn) f9
theorem eIs_3b (h : Lok L) (hM : WM σ ρ) (hn : n < 8) {β9 : Type} (f9 : Int32 → Option β9) : (F_X13_eIs (some (L.1 1000)) (Int32.ofNat n) 3 (hp L σ)).bind f9 = f9 (ρ (86 + 5 * n + 3)) := bn9 (eIs_3 h hM hn) f9
theorem eIs_4b (h : Lok L) (hM : WM σ ρ) (hn : n < 8) {β9 : Type} (f9 : Int32 → Option β9) : (F_X13_eIs (some (L.1 1000)) (Int32.ofNat n) 4 (hp L σ)).bind f9 = f9 (ρ (86 + 5 * n + 4)) := bn9 (eIs_4 h hM hn) f9
theorem eIs_nb (h : Lok L) (hM : WM σ ρ) (hn : n < 8) {f : Nat} (hf : f < 5) {β9 : Type} (f9 : Int32 → Option β9) : (F_X13_eIs (some (L.1 1000)) (Int32.ofNat n) (Int32.ofNat f) (hp L σ)).bind f9 = f9 (ρ (86 + 5 * n + f)) := bn9 (eIs_n h hM hn hf) f9
theorem M_cAt_0b (h : Lok L) (hM : WM σ ρ) (hn : n < 6) {β9 : Type} (f9 : Int32 → Option β9) : (aI (hp L σ) (some (L.1 1001)) 100 (F_X13_cAt (Int32.ofNat n) 0)).bind f9 = f9 (ρ (56 + 5 * n + 0)) := by rw [cAt_0]; exact bn9 (M_r h hM (by omega)) f9
theorem M_cAt_1b (h : Lok L) (hM : WM σ ρ) (hn : n < 6) {β9 : Type} (f9 : Int32 → Option β9) : (aI (hp L σ) (some (L.1 1001)) 100 (F_X13_cAt (Int32.ofNat n) 1)).bind f9 = f9 (ρ (56 + 5 * n + 1)) := by rw [cAt_1]; exact bn9 (M_r h hM (by omega)) f9
theorem M_cAt_2b (h : Lok L) (hM : WM σ ρ) (hn : n < 6) {β9 : Type} (f9 : Int32 → Option β9) : (aI (hp L σ) (some (L.1 1001)) 100 (F_X13_cAt (Int32.ofNat n) 2)).bind f9 = f9 (ρ (56 + 5 * n + 2)) := by rw [cAt_2]; exact bn9 (M_r h hM (by omega)) f9
theorem M_cAt_3b (h : Lok L) (hM : WM σ ρ) (hn : n < 6) {β9 : Type} (f9 : Int32 → Option β9) : (aI (hp L σ) (some (L.1 1001)) 100 (F_X13_cAt (Int32.ofNat n) 3)).bind f9 = f9 (ρ (56 + 5 * n + 3)) := by rw [cAt_3]; exact bn9 (M_r h hM (by omega)) f9
theorem M_cAt_4b (h : Lok L) (hM : WM σ ρ) (hn : n < 6) {β9 : Type} (f9 : Int32 → Option β9) : (aI (hp L σ) (some (L.1 1001)) 100 (F_X13_cAt (Int32.ofNat n) 4)).bind f9 = f9 (ρ (56 + 5 * n + 4)) := by rw [cAt_4]; exact bn9 (M_r h hM (by omega)) f9
theorem M_eAt_0b (h : Lok L) (hM : WM σ ρ) (hn : n < 8) {β9 : Type} (f9 : Int32 → Option β9) : (aI (hp L σ) (some (L.1 1001)) 100 (F_X13_eAt (Int32.ofNat n) 0)).bind f9 = f9 (ρ (86 + 5 * n + 0)) := by rw [eAt_0]; exact bn9 (M_r h hM (by omega)) f9
theorem M_eAt_1b (h : Lok L) (hM : WM σ ρ) (hn : n < 8) {β9 : Type} (f9 : Int32 → Option β9) : (aI (hp L σ) (some (L.1 1001)) 100 (F_X13_eAt (Int32.ofNat n) 1)).bind f9 = f9 (ρ (86 + 5 * n + 1)) := by rw [eAt_1]; exact bn9 (M_r h hM (by omega)) f9
theorem M_eAt_2b (h : Lok L) (hM : WM σ ρ) (hn : n < 8) {β9 : Type} (f9 : Int32 → Option β9) : (aI (hp L σ) (some (L.1 1001)) 100 (F_X13_eAt (Int32.ofNat n) 2)).bind f9 = f9 (ρ (86 + 5 * n + 2)) := by rw [eAt_2]; exact bn9 (M_r h hM (by omega)) f9
theorem M_eAt_3b (h : Lok L) (hM : WM σ ρ) (hn : n < 8) {β9 : Type} (f9 : Int32 → Option β9) : (aI (hp L σ) (some (L.1 1001)) 100 (F_X13_eAt (Int32.ofNat n) 3)).bind f9 = f9 (ρ (86 + 5 * n + 3)) := by rw [eAt_3]; exact bn9 (M_r h hM (by omega)) f9
theorem M_eAt_4b (h : Lok L) (hM : WM σ ρ) (hn : n < 8) {β9 : Type} (f9 : Int32 → Option β9) : (aI (hp L σ) (some (L.1 1001)) 100 (F_X13_eAt (Int32.ofNat n) 4)).bind f9 = f9 (ρ (86 + 5 * n + 4)) := by rw [eAt_4]; exact bn9 (M_r h hM (by omega)) f9
theorem M_wAt_0b (h : Lok L) (hM : WM σ ρ) (hn : n < 6) {β9 : Type} (f9 : Int32 → Option β9) : (aI (hp L σ) (some (L.1 1001)) 100 (F_X13_wAt (Int32.ofNat n) 0)).bind f9 = f9 (ρ (126 + 2 * n + 0)) := by rw [wAt_0]; exact bn9 (M_r h hM (by omega)) f9
theorem M_wAt_1b (h : Lok L) (hM : WM σ ρ) (hn : n < 6) {β9 : Type} (f9 : Int32 → Option β9) : (aI (hp L σ) (some (L.1 1001)) 100 (F_X13_wAt (Int32.ofNat n) 1)).bind f9 = f9 (ρ (126 + 2 * n + 1)) := by rw [wAt_1]; exact bn9 (M_r h hM (by omega)) f9
end L2b9
