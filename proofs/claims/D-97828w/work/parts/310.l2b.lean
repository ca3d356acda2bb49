/-! ### the static layout -/
def isW (b : Nat) : Bool := b == 200 || b == 300 || b == 400 || b == 500
def wTN (j : Nat) : Nat × Nat := if j = 0 then (4, 10) else if j = 1 ∨ j = 11 then (103, 5) else if j = 21 then (103, 2) else if j = 31 ∨ j = 41 then (103, 7) else if j ≤ 6 then (100, 6) else if j ≤ 16 then (100, 8) else if j ≤ 23 then (100, 6) else if j ≤ 48 then (100, 7) else (100, 10)
def wI (j : Nat) : Bool := decide (j ≤ 6) || (decide (11 ≤ j) && decide (j ≤ 16)) || (decide (21 ≤ j) && decide (j ≤ 23)) || (decide (31 ≤ j) && decide (j ≤ 38)) || (decide (41 ≤ j) && decide (j ≤ 48)) || decide (j = 51)
def wP (b j k : Nat) : Option (Option Nat) := if j = 0 then (if k = 1 then some (some (b + 1)) else if k = 3 then some (some (b + 11)) else if k = 5 then some (some (b + 21)) else if k = 6 then some (some (b + 31)) else if k = 7 then some (some (b + 41)) else if k = 9 then some (some (b + 51)) else none) else if j = 1 then (if k < 5 then some (some (b + 2 + k)) else some none) else if j = 11 then (if k < 5 then some (some (b + 12 + k)) else some none) else if j = 21 then (if k < 2 then some (some (b + 22 + k)) else some none) else if j = 31 then (if k < 7 then some (some (b + 32 + k)) else some none) else if j = 41 then (if k < 7 then some (some (b + 42 + k)) else some none) else none
def oTN (i : Nat) : Nat × Nat := if i = 0 then (0, 20) else if i = 1 then (1, 7) else if i = 2 then (2, 8) else if i = 3 then (3, 6) else if i = 4 then (101, 120) else if i = 5 then (104, 42) else if i = 6 then (104, 10) else if i = 7 then (104, 4) else if i = 8 then (100, 7) else if i = 9 ∨ i = 10 then (103, 7) else if i = 11 then (100, 5) else if i = 12 then (100, 6) else if i = 13 then (103, 243)
  else if i < 40 then (100, 7) else if i < 110 then (5, 1) else if i < 200 then (6 + (i - 110) / 6, [2, 3, 3, 4, 4, 3, 4].getD ((i - 110) / 6) 0) else (100, 7)
def mTN (i : Nat) : Nat × Nat := if i = 1000 then (13, 30) else if i ≤ 1003 then (100, 138) else if i = 1004 then (100, 8) else if i = 1005 then (100, 49) else if i = 1006 then (100, 1701) else if i = 1007 then (100, 5) else if i = 1008 then (100, 6) else if i = 1009 then (100, 120) else if i = 1010 then (105, 7) else if i = 1011 then (100, 600) else if i ≤ 1013 then (100, 4) else if i = 1014 then (100, 160) else if i = 1015 then (100, 40) else (111, stlen.getD (i - 1020) 0)
def sTN (i : Nat) : Nat × Nat := if i < 200 then oTN i else if i < 600 then wTN (i % 100) else if i < 1000 then (100, 7) else mTN i
def sid (i : Nat) : Bool := decide (i < 14) || (decide (20 ≤ i) && decide (i ≤ 26)) || (decide (30 ≤ i) && decide (i ≤ 36)) || (decide (40 ≤ i) && decide (i ≤ 53)) || (decide (60 ≤ i) && decide (i ≤ 101)) || (decide (110 ≤ i) && decide (i ≤ 151)) || (decide (200 ≤ i) && decide (i < 600) && wI (i % 100)) || (decide (600 ≤ i) && decide (i < 843)) || (decide (1000 ≤ i) && decide (i ≤ 1015)) || (decide (1020 ≤ i) && decide (i < 1037))
def xP (k : Nat) : Option (Option Nat) := if k = 0 then some (some 1) else if k = 1 then some (some 2) else if k = 3 then some (some 200) else if k = 4 then some (some 300) else if k = 5 then some (some 400) else if k = 7 then some (some 5) else if k = 8 then some (some 6) else if k = 9 then some (some 7) else if k = 10 then some (some 8) else if k = 11 then some (some 9) else if k = 12 then some (some 10) else if k = 13 then some (some 11) else if k = 15 then some (some 12) else if k = 16 then some (some 13) else none
def rP (k : Nat) : Option (Option Nat) := if k = 0 then some (some 3) else if k = 1 then some (some 4) else if k = 2 then some (some 500) else none
def mP (k : Nat) : Option (Option Nat) := if k = 0 then some (some 1001) else if k = 1 then some (some 1002) else if k = 2 then some (some 1003) else if k = 4 then some (some 1004) else if k = 5 then some (some 1005) else if k = 7 then some (some 1006) else if k = 8 then some (some 1007) else if k = 9 then some (some 1008) else if k = 13 then some (some 1009) else if k = 20 then some (some 1010) else if k = 21 then some (some 1011) else if k = 26 then some (some 1012) else if k = 27 then some (some 1013) else if k = 28 then some (some 1014) else if k = 29 then some (some 1015) else none
def oP (i k : Nat) : Option (Option Nat) := if i = 0 then xP k else if i = 2 then rP k else if i = 5 then (if k < 42 then some (some (60 + k)) else some none) else if i = 6 then (if k < 10 then some (some (40 + k)) else some none) else if i = 7 then (if k < 4 then some (some (50 + k)) else some none)
  else if i = 9 then (if k < 7 then some (some (20 + k)) else some none) else if i = 10 then (if k < 7 then some (some (30 + k)) else some none) else if i = 13 then (if k < 243 then some (some (600 + k)) else some none)
  else if 60 ≤ i ∧ i ≤ 101 then (if k = 0 then some (some (i + 50)) else none) else if 110 ≤ i ∧ i ≤ 151 then (if 0 < k ∧ k < (oTN i).2 then some (some 0) else none) else none
def kt (k : Nat) : Nat := [1, 2, 3, 4, 5, 6, 7].getD k 0
def sP (i k : Nat) : Option (Option Nat) := if i < 200 then oP i k else if i < 600 then wP (i / 100 * 100) (i % 100) k else if i < 1000 then none else if i = 1000 then mP k else if i = 1010 then (if k < 7 then some (some (1020 + kt k)) else some none) else none
/-- the cells whose references never change -/
def sidP (i : Nat) : Bool := sid i && !(i == 1) && !(i == 3) && !(decide (40 ≤ i) && decide (i ≤ 53))
/-- addresses in use lie below the next; the sheets' arrays are named by their slots alone -/
def LX (L : Lt) : Prop := (∀ a i, L.2.1 a = some i → a < L.2.2.2.2.2) ∧ ∀ a i k r, L.2.1 a = some i → L.2.2.2.1 i k = some (some r) → 54 ≤ r → r ≤ 57 → i + 4 = r ∧ k = 0
def Lok (L : Lt) : Prop := Li L ∧ (∀ i, sid i = true → dm L i ∧ L.2.2.1 i = sTN i) ∧ (∀ i, sidP i = true → ∀ k, L.2.2.2.1 i k = sP i k) ∧ (L.2.2.2.1 1 6 = none ∧ LX L)
theorem sid_of {i : Nat} (h : sidP i = true) : sid i = true := by
  unfold sidP at h
  simp only [Bool.and_eq_true] at h
  exact h.1.1.1
section L2b
variable {L : Lt} {σ : St} {i k t : Nat} {j v : Int32}
theorem Lok.fI (h : Lok L) (hs : sidP i = true) (ht : (sTN i).1 = t) (hp9 : sP i k = none) : fI (hp L σ) (some (L.1 i)) t k = some (σ i k) :=
  hp_fI (h.2.1 i (sid_of hs)).1 (by rw [(h.2.1 i (sid_of hs)).2]; exact ht) (by rw [h.2.2.1 i hs]; exact hp9)
theorem Lok.fA (h : Lok L) (hs : sidP i = true) (ht : (sTN i).1 = t) {r : Option Nat} (hp9 : sP i k = some r) : fA (hp L σ) (some (L.1 i)) t k = some (r.map L.1) :=
  hp_fA (h.2.1 i (sid_of hs)).1 (by rw [(h.2.1 i (sid_of hs)).2]; exact ht) (by rw [h.2.2.1 i hs]; exact hp9)
theorem Lok.pV (h : Lok L) (hs : sidP i = true) (ht : (sTN i).1 = t) (hp9 : sP i k = none) : pV (hp L σ) (some (L.1 i)) t k (.int v) = some (hp L (up2 σ i k v)) :=
  hp_pV h.1 (h.2.1 i (sid_of hs)).1 (by rw [(h.2.1 i (sid_of hs)).2]; exact ht) (by rw [h.2.2.1 i hs]; exact hp9)
theorem Lok.tg (h : Lok L) (hs : sid i = true) (ht : (sTN i).1 = t) : tg (hp L σ) (some (L.1 i)) = some t := by
  rw [hp_tg (h.2.1 i hs).1, (h.2.1 i hs).2, ht]
theorem nN (n : Nat) (h : n < 2147483648) : (Int32.ofNat n).toNatClampNeg = n := by
  show (Int32.ofNat n).toInt.toNat = n
  rw [Int32.toInt_ofNat_of_lt h]; rfl
theorem nP (n : Nat) (h : n < 2147483648) : ¬ Int32.ofNat n < 0 := by
  rw [Int32.lt_iff_toInt_lt, Int32.toInt_ofNat_of_lt h]
  show ¬ (n : Int) < 0
  omega
theorem Lok.aI {n : Nat} (h : Lok L) (hs : sidP i = true) (ht : (sTN i).1 = t) (hn : n < (sTN i).2) (hb : n < 2147483648) (hp9 : sP i n = none) : aI (hp L σ) (some (L.1 i)) t (Int32.ofNat n) = some (σ i n) := by
  have e := (h.2.1 i (sid_of hs)).2
  rw [hp_aI (h.2.1 i (sid_of hs)).1 (by rw [e]; exact ht) (by rw [e, nN n hb]; rintro (q | q); exact nP n hb q; omega) (by rw [h.2.2.1 i hs, nN n hb]; exact hp9), nN n hb]
theorem Lok.aA {n : Nat} (h : Lok L) (hs : sidP i = true) (ht : (sTN i).1 = t) (hn : n < (sTN i).2) (hb : n < 2147483648) {r : Option Nat} (hp9 : sP i n = some r) : aA (hp L σ) (some (L.1 i)) t (Int32.ofNat n) = some (r.map L.1) := by
  have e := (h.2.1 i (sid_of hs)).2
  rw [hp_aA (r := r) (h.2.1 i (sid_of hs)).1 (by rw [e]; exact ht) (by rw [e, nN n hb]; rintro (q | q); exact nP n hb q; omega) (by rw [h.2.2.1 i hs, nN n hb]; exact hp9)]
theorem Lok.aS {n : Nat} (h : Lok L) (hs : sidP i = true) (ht : (sTN i).1 = t) (hn : n < (sTN i).2) (hb : n < 2147483648) (hp9 : sP i n = none) : aS (hp L σ) (some (L.1 i)) t (Int32.ofNat n) (.int v) = some (hp L (up2 σ i n v)) := by
  have e := (h.2.1 i (sid_of hs)).2
  rw [hp_aS h.1 (h.2.1 i (sid_of hs)).1 (by rw [e]; exact ht) (by rw [e, nN n hb]; rintro (q | q); exact nP n hb q; omega) (by rw [h.2.2.1 i hs, nN n hb]; exact hp9), nN n hb]
theorem Lok.aL (h : Lok L) (hs : sid i = true) (ht : 100 ≤ (sTN i).1 ∧ (sTN i).1 ≤ 105) : aL (hp L σ) (some (L.1 i)) = some (Int32.ofNat (sTN i).2) := by
  rw [hp_aL (h.2.1 i hs).1 (by rw [(h.2.1 i hs).2]; exact ht), (h.2.1 i hs).2]
theorem x_0 (h : Lok L) : fA (hp L σ) (some (L.1 0)) 0 0 = some (some (L.1 1)) := h.fA (by decide) (by decide) (r := some 1) (by decide)
theorem x_1 (h : Lok L) : fA (hp L σ) (some (L.1 0)) 0 1 = some (some (L.1 2)) := h.fA (by decide) (by decide) (r := some 2) (by decide)
theorem x_3 (h : Lok L) : fA (hp L σ) (some (L.1 0)) 0 3 = some (some (L.1 200)) := h.fA (by decide) (by decide) (r := some 200) (by decide)
theorem x_4 (h : Lok L) : fA (hp L σ) (some (L.1 0)) 0 4 = some (some (L.1 300)) := h.fA (by decide) (by decide) (r := some 300) (by decide)
theorem x_5 (h : Lok L) : fA (hp L σ) (some (L.1 0)) 0 5 = some (some (L.1 400)) := h.fA (by decide) (by decide) (r := some 400) (by decide)
theorem x_7 (h : Lok L) : fA (hp L σ) (some (L.1 0)) 0 7 = some (some (L.1 5)) := h.fA (by decide) (by decide) (r := some 5) (by decide)
theorem x_8 (h : Lok L) : fA (hp L σ) (some (L.1 0)) 0 8 = some (some (L.1 6)) := h.fA (by decide) (by decide) (r := some 6) (by decide)
theorem x_9 (h : Lok L) : fA (hp L σ) (some (L.1 0)) 0 9 = some (some (L.1 7)) := h.fA (by decide) (by decide) (r := some 7) (by decide)
theorem x_10 (h : Lok L) : fA (hp L σ) (some (L.1 0)) 0 10 = some (some (L.1 8)) := h.fA (by decide) (by decide) (r := some 8) (by decide)
theorem x_11 (h : Lok L) : fA (hp L σ) (some (L.1 0)) 0 11 = some (some (L.1 9)) := h.fA (by decide) (by decide) (r := some 9) (by decide)
theorem x_12 (h : Lok L) : fA (hp L σ) (some (L.1 0)) 0 12 = some (some (L.1 10)) := h.fA (by decide) (by decide) (r := some 10) (by decide)
theorem x_13 (h : Lok L) : fA (hp L σ) (some (L.1 0)) 0 13 = some (some (L.1 11)) := h.fA (by decide) (by decide) (r := some 11) (by decide)
theorem x_15 (h : Lok L) : fA (hp L σ) (some (L.1 0)) 0 15 = some (some (L.1 12)) := h.fA (by decide) (by decide) (r := some 12) (by decide)
theorem x_16 (h : Lok L) : fA (hp L σ) (some (L.1 0)) 0 16 = some (some (L.1 13)) := h.fA (by decide) (by decide) (r := some 13) (by decide)
theorem x_2 (h : Lok L) : fI (hp L σ) (some (L.1 0)) 0 2 = some (σ 0 2) := h.fI (by decide) (by decide) (by decide)
theorem xp_2 (h : Lok L) : pV (hp L σ) (some (L.1 0)) 0 2 (.int v) = some (hp L (up2 σ 0 2 v)) := h.pV (by decide) (by decide) (by decide)
theorem x_6 (h : Lok L) : fI (hp L σ) (some (L.1 0)) 0 6 = some (σ 0 6) := h.fI (by decide) (by decide) (by decide)
theorem xp_6 (h : Lok L) : pV (hp L σ) (some (L.1 0)) 0 6 (.int v) = some (hp L (up2 σ 0 6 v)) := h.pV (by decide) (by decide) (by decide)
theorem x_14 (h : Lok L) : fI (hp L σ) (some (L.1 0)) 0 14 = some (σ 0 14) := h.fI (by decide) (by decide) (by decide)
theorem xp_14 (h : Lok L) : pV (hp L σ) (some (L.1 0)) 0 14 (.int v) = some (hp L (up2 σ 0 14 v)) := h.pV (by decide) (by decide) (by decide)
theorem x_17 (h : Lok L) : fI (hp L σ) (some (L.1 0)) 0 17 = some (σ 0 17) := h.fI (by decide) (by decide) (by decide)
theorem xp_17 (h : Lok L) : pV (hp L σ) (some (L.1 0)) 0 17 (.int v) = some (hp L (up2 σ 0 17 v)) := h.pV (by decide) (by decide) (by decide)
theorem x_18 (h : Lok L) : fI (hp L σ) (some (L.1 0)) 0 18 = some (σ 0 18) := h.fI (by decide) (by decide) (by decide)
theorem xp_18 (h : Lok L) : pV (hp L σ) (some (L.1 0)) 0 18 (.int v) = some (hp L (up2 σ 0 18 v)) := h.pV (by decide) (by decide) (by decide)
theorem x_19 (h : Lok L) : fI (hp L σ) (some (L.1 0)) 0 19 = some (σ 0 19) := h.fI (by decide) (by decide) (by decide)
theorem xp_19 (h : Lok L) : pV (hp L σ) (some (L.1 0)) 0 19 (.int v) = some (hp L (up2 σ 0 19 v)) := h.pV (by decide) (by decide) (by decide)
theorem m_0 (h : Lok L) : fA (hp L σ) (some (L.1 1000)) 13 0 = some (some (L.1 1001)) := h.fA (by decide) (by decide) (r := some 1001) (by decide)
theorem m_1 (h : Lok L) : fA (hp L σ) (some (L.1 1000)) 13 1 = some (some (L.1 1002)) := h.fA (by decide) (by decide) (r := some 1002) (by decide)
theorem m_2 (h : Lok L) : fA (hp L σ) (some (L.1 1000)) 13 2 = some (some (L.1 1003)) := h.fA (by decide) (by decide) (r := some 1003) (by decide)
theorem m_4 (h : Lok L) : fA (hp L σ) (some (L.1 1000)) 13 4 = some (some (L.1 1004)) := h.fA (by decide) (by decide) (r := some 1004) (by decide)
theorem m_5 (h : Lok L) : fA (hp L σ) (some (L.1 1000)) 13 5 = some (some (L.1 1005)) := h.fA (by decide) (by decide) (r := some 1005) (by decide)
theorem m_7 (h : Lok L) : fA (hp L σ) (some (L.1 1000)) 13 7 = some (some (L.1 1006)) := h.fA (by decide) (by decide) (r := some 1006) (by decide)
theorem m_8 (h : Lok L) : fA (hp L σ) (some (L.1 1000)) 13 8 = some (some (L.1 1007)) := h.fA (by decide) (by decide) (r := some 1007) (by decide)
theorem m_9 (h : Lok L) : fA (hp L σ) (some (L.1 1000)) 13 9 = some (some (L.1 1008)) := h.fA (by decide) (by decide) (r := some 1008) (by decide)
theorem m_13 (h : Lok L) : fA (hp L σ) (some (L.1 1000)) 13 13 = some (some (L.1 1009)) := h.fA (by decide) (by decide) (r := some 1009) (by decide)
theorem m_20 (h : Lok L) : fA (hp L σ) (some (L.1 1000)) 13 20 = some (some (L.1 1010)) := h.fA (by decide) (by decide) (r := some 1010) (by decide)
theorem m_21 (h : Lok L) : fA (hp L σ) (some (L.1 1000)) 13 21 = some (some (L.1 1011)) := h.fA (by decide) (by decide) (r := some 1011) (by decide)
theorem m_26 (h : Lok L) : fA (hp L σ) (some (L.1 1000)) 13 26 = some (some (L.1 1012)) := h.fA (by decide) (by decide) (r := some 1012) (by decide)
theorem m_27 (h : Lok L) : fA (hp L σ) (some (L.1 1000)) 13 27 = some (some (L.1 1013)) := h.fA (by decide) (by decide) (r := some 1013) (by decide)
theorem m_28 (h : Lok L) : fA (hp L σ) (some (L.1 1000)) 13 28 = some (some (L.1 1014)) := h.fA (by decide) (by decide) (r := some 1014) (by decide)
theorem m_29 (h : Lok L) : fA (hp L σ) (some (L.1 1000)) 13 29 = some (some (L.1 1015)) := h.fA (by decide) (by decide) (r := some 1015) (by decide)
theorem m_3 (h : Lok L) : fI (hp L σ) (some (L.1 1000)) 13 3 = some (σ 1000 3) := h.fI (by decide) (by decide) (by decide)
theorem mp_3 (h : Lok L) : pV (hp L σ) (some (L.1 1000)) 13 3 (.int v) = some (hp L (up2 σ 1000 3 v)) := h.pV (by decide) (by decide) (by decide)
theorem m_6 (h : Lok L) : fI (hp L σ) (some (L.1 1000)) 13 6 = some (σ 1000 6) := h.fI (by decide) (by decide) (by decide)
theorem mp_6 (h : Lok L) : pV (hp L σ) (some (L.1 1000)) 13 6 (.int v) = some (hp L (up2 σ 1000 6 v)) := h.pV (by decide) (by decide) (by decide)
theorem m_10 (h : Lok L) : fI (hp L σ) (some (L.1 1000)) 13 10 = some (σ 1000 10) := h.fI (by decide) (by decide) (by decide)
theorem mp_10 (h : Lok L) : pV (hp L σ) (some (L.1 1000)) 13 10 (.int v) = some (hp L (up2 σ 1000 10 v)) := h.pV (by decide) (by decide) (by decide)
theorem m_11 (h : Lok L) : fI (hp L σ) (some (L.1 1000)) 13 11 = some (σ 1000 11) := h.fI (by decide) (by decide) (by decide)
theorem mp_11 (h : Lok L) : pV (hp L σ) (some (L.1 1000)) 13 11 (.int v) = some (hp L (up2 σ 1000 11 v)) := h.pV (by decide) (by decide) (by decide)
theorem m_12 (h : Lok L) : fI (hp L σ) (some (L.1 1000)) 13 12 = some (σ 1000 12) := h.fI (by decide) (by decide) (by decide)
theorem mp_12 (h : Lok L) : pV (hp L σ) (some (L.1 1000)) 13 12 (.int v) = some (hp L (up2 σ 1000 12 v)) := h.pV (by decide) (by decide) (by decide)
theorem m_14 (h : Lok L) : fI (hp L σ) (some (L.1 1000)) 13 14 = some (σ 1000 14) := h.fI (by decide) (by decide) (by decide)
theorem mp_14 (h : Lok L) : pV (hp L σ) (some (L.1 1000)) 13 14 (.int v) = some (hp L (up2 σ 1000 14 v)) := h.pV (by decide) (by decide) (by decide)
theorem m_15 (h : Lok L) : fI (hp L σ) (some (L.1 1000)) 13 15 = some (σ 1000 15) := h.fI (by decide) (by decide) (by decide)
theorem mp_15 (h : Lok L) : pV (hp L σ) (some (L.1 1000)) 13 15 (.int v) = some (hp L (up2 σ 1000 15 v)) := h.pV (by decide) (by decide) (by decide)
theorem m_16 (h : Lok L) : fI (hp L σ) (some (L.1 1000)) 13 16 = some (σ 1000 16) := h.fI (by decide) (by decide) (by decide)
theorem mp_16 (h : Lok L) : pV (hp L σ) (some (L.1 1000)) 13 16 (.int v) = some (hp L (up2 σ 1000 16 v)) := h.pV (by decide) (by decide) (by decide)
theorem m_17 (h : Lok L) : fI (hp L σ) (some (L.1 1000)) 13 17 = some (σ 1000 17) := h.fI (by decide) (by decide) (by decide)
theorem mp_17 (h : Lok L) : pV (hp L σ) (some (L.1 1000)) 13 17 (.int v) = some (hp L (up2 σ 1000 17 v)) := h.pV (by decide) (by decide) (by decide)
theorem m_18 (h : Lok L) : fI (hp L σ) (some (L.1 1000)) 13 18 = some (σ 1000 18) := h.fI (by decide) (by decide) (by decide)
theorem mp_18 (h : Lok L) : pV (hp L σ) (some (L.1 1000)) 13 18 (.int v) = some (hp L (up2 σ 1000 18 v)) := h.pV (by decide) (by decide) (by decide)
theorem m_19 (h : Lok L) : fI (hp L σ) (some (L.1 1000)) 13 19 = some (σ 1000 19) := h.fI (by decide) (by decide) (by decide)
theorem mp_19 (h : Lok L) : pV (hp L σ) (some (L.1 1000)) 13 19 (.int v) = some (hp L (up2 σ 1000 19 v)) := h.pV (by decide) (by decide) (by decide)
theorem m_22 (h : Lok L) : fI (hp L σ) (some (L.1 1000)) 13 22 = some (σ 1000 22) := h.fI (by decide) (by decide) (by decide)
theorem mp_22 (h : Lok L) : pV (hp L σ) (some (L.1 1000)) 13 22 (.int v) = some (hp L (up2 σ 1000 22 v)) := h.pV (by decide) (by decide) (by decide)
theorem m_23 (h : Lok L) : fI (hp L σ) (some (L.1 1000)) 13 23 = some (σ 1000 23) := h.fI (by decide) (by decide) (by decide)
theorem mp_23 (h : Lok L) : pV (hp L σ) (some (L.1 1000)) 13 23 (.int v) = some (hp L (up2 σ 1000 23 v)) := h.pV (by decide) (by decide) (by decide)
theorem m_24 (h : Lok L) : fI (hp L σ) (some (L.1 1000)) 13 24 = some (σ 1000 24) := h.fI (by decide) (by decide) (by decide)
theorem mp_24 (h : Lok L) : pV (hp L σ) (some (L.1 1000)) 13 24 (.int v) = some (hp L (up2 σ 1000 24 v)) := h.pV (by decide) (by decide) (by decide)
theorem m_25 (h : Lok L) : fI (hp L σ) (some (L.1 1000)) 13 25 = some (σ 1000 25) := h.fI (by decide) (by decide) (by decide)
theorem mp_25 (h : Lok L) : pV (hp L σ) (some (L.1 1000)) 13 25 (.int v) = some (hp L (up2 σ 1000 25 v)) := h.pV (by decide) (by decide) (by decide)
theorem x_tg (h : Lok L) : tg (hp L σ) (some (L.1 0)) = some 0 := h.tg (by decide) (by decide)
theorem m_tg (h : Lok L) : tg (hp L σ) (some (L.1 1000)) = some 13 := h.tg (by decide) (by decide)
end L2b
