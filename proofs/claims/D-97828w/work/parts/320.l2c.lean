/-! ### counted loops -/
def itF {α : Type} (f : Nat → α → α) : Nat → Nat → α → α
  | _, 0, a => a
  | j, k + 1, a => itF f (j + 1) k (f j a)
theorem itF_congr {α : Type} {f g : Nat → α → α} : ∀ (k j : Nat) (a : α), (∀ e, j ≤ e → e < j + k → ∀ b, f e b = g e b) → itF f j k a = itF g j k a
  | 0, _, _, _ => rfl
  | k + 1, j, a, h => by
    show itF f (j + 1) k (f j a) = itF g (j + 1) k (g j a)
    rw [h j (Nat.le_refl _) (by omega)]
    exact itF_congr k (j + 1) _ fun e h1 h2 => h e (by omega) (by omega)
theorem ofN_le {a b : Nat} (ha : a < 2147483648) (hb : b < 2147483648) : Int32.ofNat a ≤ Int32.ofNat b ↔ a ≤ b := by
  rw [Int32.le_iff_toInt_le, Int32.toInt_ofNat_of_lt ha, Int32.toInt_ofNat_of_lt hb]; omega
theorem ofN_lt {a b : Nat} (ha : a < 2147483648) (hb : b < 2147483648) : Int32.ofNat a < Int32.ofNat b ↔ a < b := by
  rw [Int32.lt_iff_toInt_lt, Int32.toInt_ofNat_of_lt ha, Int32.toInt_ofNat_of_lt hb]; omega
theorem ofN_inj {a b : Nat} (ha : a < 2147483648) (hb : b < 2147483648) : Int32.ofNat a = Int32.ofNat b ↔ a = b := by
  constructor
  · intro h
    have := congrArg Int32.toInt h
    rw [Int32.toInt_ofNat_of_lt ha, Int32.toInt_ofNat_of_lt hb] at this
    omega
  · rintro rfl; rfl
/-- which errands are carried by c -/
def stCar (how who : Nat → Int32) (c : Int32) (e : Nat) (a : Int32) : Int32 := a ||| (if how e = 1 ∧ who e = c then 1 <<< (Int32.ofNat e &&& 31) else 0)
def sCar (n : Nat) (how who : Nat → Int32) (c : Int32) : Int32 := itF (stCar how who c) 0 n 0
section L2c
variable {L : Lt} {σ : St}
/-- a world's cells -/
theorem wS {b j : Nat} (hb : isW b = true) (hj : wI j = true) (hl : j < 52) : sidP (b + j) = true ∧ sTN (b + j) = wTN j ∧ ∀ k, sP (b + j) k = wP b j k := by
  simp only [isW, Bool.or_eq_true, beq_iff_eq] at hb
  rcases hb with ((rfl | rfl) | rfl) | rfl
  · refine ⟨(by decide : ∀ j < 52, wI j = true → sidP (200 + j) = true) j hl hj, (by decide : ∀ j < 52, sTN (200 + j) = wTN j) j hl, fun k => ?_⟩
    unfold sP; rw [if_neg (by omega), if_pos (by omega), show (200 + j) / 100 * 100 = 200 by omega, show (200 + j) % 100 = j by omega]
  · refine ⟨(by decide : ∀ j < 52, wI j = true → sidP (300 + j) = true) j hl hj, (by decide : ∀ j < 52, sTN (300 + j) = wTN j) j hl, fun k => ?_⟩
    unfold sP; rw [if_neg (by omega), if_pos (by omega), show (300 + j) / 100 * 100 = 300 by omega, show (300 + j) % 100 = j by omega]
  · refine ⟨(by decide : ∀ j < 52, wI j = true → sidP (400 + j) = true) j hl hj, (by decide : ∀ j < 52, sTN (400 + j) = wTN j) j hl, fun k => ?_⟩
    unfold sP; rw [if_neg (by omega), if_pos (by omega), show (400 + j) / 100 * 100 = 400 by omega, show (400 + j) % 100 = j by omega]
  · refine ⟨(by decide : ∀ j < 52, wI j = true → sidP (500 + j) = true) j hl hj, (by decide : ∀ j < 52, sTN (500 + j) = wTN j) j hl, fun k => ?_⟩
    unfold sP; rw [if_neg (by omega), if_pos (by omega), show (500 + j) / 100 * 100 = 500 by omega, show (500 + j) % 100 = j by omega]
theorem w_tg (h : Lok L) {b : Nat} (hb : isW b = true) : tg (hp L σ) (some (L.1 b)) = some 4 := by
  have q := wS (j := 0) hb (by decide) (by decide)
  exact h.tg (i := b + 0) (sid_of q.1) (by rw [q.2.1]; rfl)
theorem w_fI (h : Lok L) {b k : Nat} (hb : isW b = true) (hk : wP b 0 k = none) : fI (hp L σ) (some (L.1 b)) 4 k = some (σ b k) := by
  have q := wS (j := 0) hb (by decide) (by decide)
  exact h.fI (i := b + 0) q.1 (by rw [q.2.1]; rfl) (by rw [q.2.2]; exact hk)
theorem w_pV (h : Lok L) {b k : Nat} {v : Int32} (hb : isW b = true) (hk : wP b 0 k = none) : pV (hp L σ) (some (L.1 b)) 4 k (.int v) = some (hp L (up2 σ b k v)) := by
  have q := wS (j := 0) hb (by decide) (by decide)
  exact h.pV (i := b + 0) q.1 (by rw [q.2.1]; rfl) (by rw [q.2.2]; exact hk)
theorem w_fA (h : Lok L) {b k r : Nat} (hb : isW b = true) (hk : wP b 0 k = some (some r)) : fA (hp L σ) (some (L.1 b)) 4 k = some (some (L.1 r)) := by
  have q := wS (j := 0) hb (by decide) (by decide)
  exact h.fA (i := b + 0) (r := some r) q.1 (by rw [q.2.1]; rfl) (by rw [q.2.2]; exact hk)
theorem w_aA (h : Lok L) {b j n r : Nat} (hb : isW b = true) (hj : wI j = true) (hl : j < 52) (ht : (wTN j).1 = 103) (hn : n < (wTN j).2) (hb9 : n < 2147483648) (hk : wP b j n = some (some r)) : aA (hp L σ) (some (L.1 (b + j))) 103 (Int32.ofNat n) = some (some (L.1 r)) := by
  have q := wS hb hj hl
  exact h.aA (r := some r) q.1 (by rw [q.2.1]; exact ht) (by rw [q.2.1]; exact hn) hb9 (by rw [q.2.2]; exact hk)
theorem w_aI (h : Lok L) {b j n : Nat} (hb : isW b = true) (hj : wI j = true) (hl : j < 52) (ht : (wTN j).1 = 100) (hn : n < (wTN j).2) (hb9 : n < 2147483648) (hk : wP b j n = none) : aI (hp L σ) (some (L.1 (b + j))) 100 (Int32.ofNat n) = some (σ (b + j) n) := by
  have q := wS hb hj hl
  exact h.aI q.1 (by rw [q.2.1]; exact ht) (by rw [q.2.1]; exact hn) hb9 (by rw [q.2.2]; exact hk)
theorem w_aS (h : Lok L) {b j n : Nat} {v : Int32} (hb : isW b = true) (hj : wI j = true) (hl : j < 52) (ht : (wTN j).1 = 100) (hn : n < (wTN j).2) (hb9 : n < 2147483648) (hk : wP b j n = none) : aS (hp L σ) (some (L.1 (b + j))) 100 (Int32.ofNat n) (.int v) = some (hp L (up2 σ (b + j) n v)) := by
  have q := wS hb hj hl
  exact h.aS q.1 (by rw [q.2.1]; exact ht) (by rw [q.2.1]; exact hn) hb9 (by rw [q.2.2]; exact hk)
theorem w_2 (h : Lok L) {b : Nat} (hb : isW b = true) : fI (hp L σ) (some (L.1 b)) 4 2 = some (σ b 2) := w_fI h hb rfl
theorem w_3 (h : Lok L) {b : Nat} (hb : isW b = true) : fA (hp L σ) (some (L.1 b)) 4 3 = some (some (L.1 (b + 11))) := w_fA h hb rfl
theorem w_e3 (h : Lok L) {b : Nat} (hb : isW b = true) : aA (hp L σ) (some (L.1 (b + 11))) 103 3 = some (some (L.1 (b + 15))) := w_aA (n := 3) h hb (by decide) (by decide) rfl (by decide) (by decide) rfl
theorem w_e4 (h : Lok L) {b : Nat} (hb : isW b = true) : aA (hp L σ) (some (L.1 (b + 11))) 103 4 = some (some (L.1 (b + 16))) := w_aA (n := 4) h hb (by decide) (by decide) rfl (by decide) (by decide) rfl
theorem w_eI3 (h : Lok L) {b n : Nat} (hb : isW b = true) (hn : n < 8) : aI (hp L σ) (some (L.1 (b + 15))) 100 (Int32.ofNat n) = some (σ (b + 15) n) := w_aI h hb (by decide) (by decide) rfl hn (by omega) rfl
theorem w_eI4 (h : Lok L) {b n : Nat} (hb : isW b = true) (hn : n < 8) : aI (hp L σ) (some (L.1 (b + 16))) 100 (Int32.ofNat n) = some (σ (b + 16) n) := w_aI h hb (by decide) (by decide) rfl hn (by omega) rfl
theorem x_carriedBy_L (h : Lok L) {b N : Nat} (hb : isW b = true) (hN : N ≤ 8) (hc : σ b 2 = Int32.ofNat N) (c : Int32) : ∀ (k j fu9 : Nat) (a : Int32), j + k = N → k < fu9 → F_X4_carriedBy_L4 fu9 (some (L.1 b)) c a (Int32.ofNat j) (hp L σ) = some (itF (stCar (σ (b + 15)) (σ (b + 16)) c) j k a)
  | k, j, 0, a, _, hf => absurd hf (Nat.not_lt_zero _)
  | 0, j, fu9 + 1, a, hj, _ => by
    show F_X4_carriedBy_B4 _ _ _ _ _ _ = _
    unfold F_X4_carriedBy_B4
    rw [w_2 h hb, hc, Option.bind_some, if_pos ((ofN_le (by omega) (by omega)).mpr (by omega))]
    rfl
  | k + 1, j, fu9 + 1, a, hj, hf => by
    show F_X4_carriedBy_B4 _ _ _ _ _ _ = _
    unfold F_X4_carriedBy_B4
    rw [w_2 h hb, hc, Option.bind_some, if_neg (fun q => absurd ((ofN_le (by omega) (by omega)).mp q) (by omega))]
    simp only [w_3 h hb, Option.bind_some, w_e3 h hb, w_e4 h hb, w_eI3 (n := j) h hb (by omega), w_eI4 (n := j) h hb (by omega)]
    unfold F_X4_carriedBy_J43 F_X4_carriedBy_J44
    rw [ofNs]
    have ih := fun a => x_carriedBy_L h hb hN hc c k (j + 1) fu9 a (by omega) (by omega)
    show _ = some (itF _ (j + 1) k _)
    by_cases h1 : σ (b + 15) j = 1
    · by_cases h2 : σ (b + 16) j = c
      · rw [if_neg (fun q => q h1), if_neg (fun q => q h2), ih]
        simp only [stCar, h1, h2, and_self, if_true]
      · rw [if_neg (fun q => q h1), if_pos h2, ih]
        simp only [stCar, h1, h2, and_false, if_false]
    · rw [if_pos h1, ih]
      simp only [stCar, h1, false_and, if_false]
theorem x_carriedBy (h : Lok L) {b N : Nat} (hb : isW b = true) (hN : N ≤ 8) (hc : σ b 2 = Int32.ofNat N) (c : Int32) : F_X4_carriedBy (some (L.1 b)) c (hp L σ) = some (sCar N (σ (b + 15)) (σ (b + 16)) c) := by
  unfold F_X4_carriedBy
  rw [if_pos (w_tg h hb)]
  exact x_carriedBy_L h hb hN hc c N 0 fu 0 (by omega) (by unfold fu; omega)
end L2c
