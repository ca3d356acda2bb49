/-! ### plain mathematics: least ways, rounds -/
theorem itF_inv {α : Type} {f : Nat → α → α} (P : Nat → α → Prop) : ∀ (k j : Nat) (a : α), P j a → (∀ e b, j ≤ e → e < j + k → P e b → P (e + 1) (f e b)) → P (j + k) (itF f j k a)
  | 0, _, _, h, _ => h
  | k + 1, j, a, h, hs => by
    have := itF_inv P k (j + 1) (f j a) (hs j a (Nat.le_refl _) (by omega) h) (fun e b h1 h2 => hs e b (by omega) (by omega))
    rw [show j + (k + 1) = j + 1 + k by omega]; exact this
theorem itF_inv0 {α : Type} {f : Nat → α → α} (P : Nat → α → Prop) (k : Nat) (a : α) (h : P 0 a) (hs : ∀ e b, e < k → P e b → P (e + 1) (f e b)) : P k (itF f 0 k a) := by
  have := itF_inv P k 0 a h (fun e b _ h2 => hs e b (by omega))
  rwa [Nat.zero_add] at this
abbrev Tb : Type := Nat → Nat → Nat
def tset (t : Tb) (p q v : Nat) : Tb := fun p' q' => if p' = p ∧ q' = q then v else t p' q'
theorem tset_same (t : Tb) (p q v : Nat) : tset t p q v p q = v := by simp [tset]
theorem tset_ne {t : Tb} {p q v p' q' : Nat} (h : ¬ (p' = p ∧ q' = q)) : tset t p q v p' q' = t p' q' := by rw [tset, if_neg h]
def fwq (m p : Nat) (q : Nat) (t : Tb) : Tb := tset t p q (min (t p q) (t p m + t m q))
def fwp (m : Nat) (p : Nat) (t : Tb) : Tb := itF (fwq m p) 0 7 t
def fwm (m : Nat) (t : Tb) : Tb := itF (fwp m) 0 7 t
def fw (t : Tb) : Tb := itF fwm 0 7 t
theorem fwp_eq {t : Tb} {m p : Nat} (h0 : t m m = 0) : (∀ q, q < 7 → fwp m p t p q = min (t p q) (t p m + t m q)) ∧ (∀ q, 7 ≤ q → fwp m p t p q = t p q) ∧ ∀ p', p' ≠ p → ∀ q, fwp m p t p' q = t p' q := by
  unfold fwp
  refine itF_inv0 (fun q0 (t' : Tb) => (∀ q, q < q0 → t' p q = min (t p q) (t p m + t m q)) ∧ (∀ q, q0 ≤ q → t' p q = t p q) ∧ ∀ p', p' ≠ p → ∀ q, t' p' q = t p' q) 7 t ⟨fun q hq => absurd hq (by omega), fun _ _ => rfl, fun _ _ _ => rfl⟩ ?_
  intro e b he hP
  obtain ⟨h1, h2, h3⟩ := hP
  have hpm : b p m = t p m := by
    by_cases hm : m < e
    · rw [h1 m hm, h0]; omega
    · exact h2 m (by omega)
  have hmq : b m e = t m e := by
    by_cases hm : p = m
    · subst hm; exact h2 e (Nat.le_refl _)
    · exact h3 m (fun q => hm q.symm) e
  refine ⟨fun q hq => ?_, fun q hq => ?_, fun p' hp q => ?_⟩
  · by_cases hqe : q = e
    · subst hqe; unfold fwq; rw [tset_same, h2 q (Nat.le_refl _), hpm, hmq]
    · unfold fwq; rw [tset_ne (by omega)]; exact h1 q (by omega)
  · unfold fwq; rw [tset_ne (by omega)]; exact h2 q (by omega)
  · unfold fwq; rw [tset_ne (fun q9 => hp q9.1)]; exact h3 p' hp q
theorem fwm_eq {t : Tb} {m : Nat} (h0 : t m m = 0) (hm : m < 7) : ∀ p q, p < 7 → q < 7 → fwm m t p q = min (t p q) (t p m + t m q) := by
  unfold fwm
  have := itF_inv0 (f := fwp m) (fun p0 (t' : Tb) => (∀ p, p < p0 → ∀ q, q < 7 → t' p q = min (t p q) (t p m + t m q)) ∧ (∀ p, p0 ≤ p → ∀ q, t' p q = t p q)) 7 t ⟨fun q hq => absurd hq (by omega), fun _ _ _ => rfl⟩ ?_
  · exact fun p q hp hq => this.1 p hp q hq
  intro e b he hP
  obtain ⟨h1, h2⟩ := hP
  have hmq : ∀ q, q < 7 → b m q = t m q := by
    intro q hq
    by_cases hme : m < e
    · rw [h1 m hme q hq, h0]; omega
    · exact h2 m (by omega) q
  have hb0 : b m m = 0 := by rw [hmq m hm, h0]
  obtain ⟨g1, g2, g3⟩ := fwp_eq (t := b) (m := m) (p := e) hb0
  refine ⟨fun p hp q hq => ?_, fun p hp q => ?_⟩
  · by_cases hpe : p = e
    · subst hpe; rw [g1 q hq, h2 p (Nat.le_refl _), h2 p (Nat.le_refl _), hmq q hq]
    · rw [g3 p hpe q]; exact h1 p (by omega) q hq
  · rw [g3 p (by omega) q]; exact h2 p (by omega) q
/-- what is known of a table of least ways -/
def Clo (T0 T : Tb) : Prop := (∀ p, p < 7 → T p p = 0) ∧ (∀ p q r, p < 7 → q < 7 → r < 7 → T p q ≤ T p r + T r q) ∧ (∀ p q, p < 7 → q < 7 → T p q ≤ T0 p q) ∧ (∀ p q, p < 7 → q < 7 → T p q = T q p) ∧
  (∀ p q, p < 7 → q < 7 → T p q = 1000000 ∨ T p q ≤ 25344) ∧ (∀ p q, p < 7 → q < 7 → p ≠ q → T p q < 1000000 → ∃ r, r < 7 ∧ r ≠ p ∧ T0 p r < 1000000 ∧ T0 p r + T r q = T p q)
theorem fw_clo {T0 : Tb} (h0 : ∀ p, p < 7 → T0 p p = 0) (hs : ∀ p q, p < 7 → q < 7 → T0 p q = T0 q p) (hb : ∀ p q, p < 7 → q < 7 → T0 p q = 1000000 ∨ T0 p q ≤ 198) : Clo T0 (fw T0) := by
  have key := itF_inv0 (f := fwm) (fun m (T : Tb) => (∀ p, p < 7 → T p p = 0) ∧ (∀ p q r, p < 7 → q < 7 → r < m → T p q ≤ T p r + T r q) ∧ (∀ p q, p < 7 → q < 7 → T p q ≤ T0 p q) ∧ (∀ p q, p < 7 → q < 7 → T p q = T q p) ∧
    (∀ p q, p < 7 → q < 7 → T p q = 1000000 ∨ T p q ≤ 198 * 2 ^ m) ∧ (∀ p q, p < 7 → q < 7 → p ≠ q → T p q < 1000000 → ∃ r, r < 7 ∧ r ≠ p ∧ T0 p r < 1000000 ∧ T0 p r + T r q ≤ T p q)) 7 T0 ?_ ?_
  · obtain ⟨k1, k2, k3, k4, k5, k6⟩ := key
    refine ⟨k1, k2, k3, k4, fun p q hp hq => ?_, fun p q hp hq hn hT => ?_⟩
    · have := k5 p q hp hq; unfold fw; omega
    · obtain ⟨r, hr, hrp, hT0, hle⟩ := k6 p q hp hq hn hT
      refine ⟨r, hr, hrp, hT0, Nat.le_antisymm hle ?_⟩
      have g1 := k2 p q r hp hq hr
      have g2 := k3 p r hp hr
      unfold fw; omega
  · refine ⟨h0, fun _ _ r _ _ hr => absurd hr (by omega), fun _ _ _ _ => Nat.le_refl _, hs, fun p q hp hq => ?_, fun p q hp hq hn hT => ⟨q, hq, fun e => hn e.symm, hT, ?_⟩⟩
    · have := hb p q hp hq; omega
    · rw [h0 q hq]; omega
  · intro m T hm hP
    obtain ⟨k1, k2, k3, k4, k5, k6⟩ := hP
    have E := fwm_eq (t := T) (k1 m hm) hm
    refine ⟨fun p hp => ?_, fun p q r hp hq hr => ?_, fun p q hp hq => ?_, fun p q hp hq => ?_, fun p q hp hq => ?_, fun p q hp hq hn hT => ?_⟩
    · rw [E p p hp hp, k1 p hp]; omega
    · have hr7 : r < 7 := by omega
      rw [E p q hp hq, E p r hp hr7, E r q hr7 hq]
      by_cases hrm : r = m
      · subst hrm; rw [k1 r hm]; omega
      · have hr' : r < m := by omega
        have a1 := k2 p q r hp hq hr'
        have a2 := k2 m q r hm hq hr'
        have a3 := k2 p m r hp hm hr'
        omega
    · rw [E p q hp hq]; have := k3 p q hp hq; omega
    · rw [E p q hp hq, E q p hq hp, k4 p q hp hq, k4 p m hp hm, k4 m q hm hq, Nat.add_comm]
    · rw [E p q hp hq, Nat.pow_succ]
      have a1 := k5 p q hp hq
      have a2 := k5 p m hp hm
      have a3 := k5 m q hm hq
      have a4 := k3 p q hp hq
      have a5 := hb p q hp hq
      omega
    · rw [E p q hp hq] at hT ⊢
      by_cases hc : T p q ≤ T p m + T m q
      · obtain ⟨r, hr, hrp, hT0, hle⟩ := k6 p q hp hq hn (by omega)
        refine ⟨r, hr, hrp, hT0, ?_⟩
        rw [E r q hr hq]; omega
      · have hpm : p ≠ m := by
          intro e; subst e; rw [k1 p hp] at hc; omega
        obtain ⟨r, hr, hrp, hT0, hle⟩ := k6 p m hp hm hpm (by omega)
        refine ⟨r, hr, hrp, hT0, ?_⟩
        rw [E r q hr hq]; omega
/-! ### rounds: digits of threes -/
def dg (c i : Nat) : Nat := c / 3 ^ i % 3
theorem dg_add {c i : Nat} (hi : i < 5) (h : dg c i ≤ 1) (j : Nat) (hj : j < 5) : dg (c + 3 ^ i) j = if j = i then dg c i + 1 else dg c j := by
  unfold dg at h ⊢
  have hi' : i = 0 ∨ i = 1 ∨ i = 2 ∨ i = 3 ∨ i = 4 := by omega
  have hj' : j = 0 ∨ j = 1 ∨ j = 2 ∨ j = 3 ∨ j = 4 := by omega
  rcases hi' with rfl | rfl | rfl | rfl | rfl <;> rcases hj' with rfl | rfl | rfl | rfl | rfl <;> simp at h ⊢ <;> omega
theorem dg_max {c k i : Nat} (hk : k ≤ 5) (hi : i < k) (hc : c < 3 ^ k) (h : dg c i ≤ 1) : c + 3 ^ i < 3 ^ k := by
  unfold dg at h
  have hi' : i = 0 ∨ i = 1 ∨ i = 2 ∨ i = 3 ∨ i = 4 := by omega
  have hk' : k = 0 ∨ k = 1 ∨ k = 2 ∨ k = 3 ∨ k = 4 ∨ k = 5 := by omega
  rcases hk' with rfl | rfl | rfl | rfl | rfl | rfl <;> rcases hi' with rfl | rfl | rfl | rfl | rfl <;> simp at h hc ⊢ <;> omega
theorem dg_last {c k : Nat} (hk : k ≤ 5) (hc : c < 3 ^ k) (h : ∀ i, i < k → dg c i = 2) : c = 3 ^ k - 1 := by
  have h0 := h 0; have h1 := h 1; have h2 := h 2; have h3 := h 3; have h4 := h 4
  unfold dg at h0 h1 h2 h3 h4
  have hk' : k = 0 ∨ k = 1 ∨ k = 2 ∨ k = 3 ∨ k = 4 ∨ k = 5 := by omega
  rcases hk' with rfl | rfl | rfl | rfl | rfl | rfl <;> simp at h0 h1 h2 h3 h4 hc ⊢ <;> omega
theorem dg_of_last {k i : Nat} (hk : k ≤ 5) (hi : i < k) : dg (3 ^ k - 1) i = 2 := by
  unfold dg
  have hi' : i = 0 ∨ i = 1 ∨ i = 2 ∨ i = 3 ∨ i = 4 := by omega
  have hk' : k = 0 ∨ k = 1 ∨ k = 2 ∨ k = 3 ∨ k = 4 ∨ k = 5 := by omega
  rcases hk' with rfl | rfl | rfl | rfl | rfl | rfl <;> rcases hi' with rfl | rfl | rfl | rfl | rfl <;> first | rfl | omega
section DP
variable (k : Nat) (T : Tb) (fr to lb : Nat → Nat) (B : Nat)
def dnS (c pl i v : Nat) : Nat := v + if dg c i = 1 ∧ to i = pl then 3 ^ i else 0
def dn (c pl : Nat) : Nat := itF (dnS to c pl) 0 k c
def ldS (c i n : Nat) : Nat := n + if dg c i = 1 then lb i else 0
def ld (c more : Nat) : Nat := itF (ldS lb c) 0 k more
def rlx (t : Tb) (c p v : Nat) : Tb := tset t c p (min (t c p) v)
def gPl (c i : Nat) : Nat := if dg c i = 0 then fr i else to i
def gTh (c i : Nat) : Nat := dn k to c (gPl fr to c i) + if dg c i = 0 ∧ ld k lb (dn k to c (gPl fr to c i)) (lb i) ≤ B then 3 ^ i else 0
def goS (c p far i : Nat) (t : Tb) : Tb := if c < gTh k fr to lb B c i then rlx t (gTh k fr to lb B c i) (gPl fr to c i) (far + T p (gPl fr to c i)) else t
def goO (c p : Nat) (t : Tb) : Tb := itF (goS k T fr to lb B c p (t c p)) 0 k t
def xS (c p : Nat) (s : Tb × Nat) : Tb × Nat := if s.1 c p < 1000000 then (goO k T fr to lb B c p s.1, if c = 3 ^ k - 1 then min s.2 (goO k T fr to lb B c p s.1 c p) else s.2) else s
def xR (c : Nat) (s : Tb × Nat) : Tb × Nat := itF (xS k T fr to lb B c) 0 7 s
def t00 (s : Nat) : Tb := tset (fun _ _ => 1000000) 0 s 0
def xdp (s : Nat) : Tb × Nat := itF (xR k T fr to lb B) 0 (3 ^ k) (t00 s, if k = 0 then 0 else 1000000)
def wkS (c f y q : Nat) (t : Tb) : Tb := if T f q < 1000000 then rlx t (dn k to c q) q (y + T f q) else t
def wkF (c f : Nat) (t : Tb) : Tb := if t c f < 1000000 then itF (wkS k T to c f (t c f)) 0 7 t else t
def wkO (c : Nat) (t : Tb) : Tb := itF (wkF k T to c) 0 7 t
def tkS (c w i : Nat) (t : Tb) : Tb := if dg c i = 0 ∧ w + lb i ≤ B then rlx t (c + 3 ^ i) (fr i) (t c (fr i)) else t
def tkO (c : Nat) (t : Tb) : Tb := itF (tkS fr lb B c (ld k lb c 0)) 0 k t
def mC (c : Nat) (t : Tb) : Tb := tkO k fr lb B c (wkO k T to c t)
def mdp (s : Nat) : Tb := itF (mC k T fr to lb B) 0 (3 ^ k - 1) (t00 s)
def mbest (s : Nat) : Nat := itF (fun p b => min b (mdp k T fr to lb B s (3 ^ k - 1) p)) 0 7 1000000
end DP
section DPt
variable {k : Nat} {T : Tb} {fr to lb : Nat → Nat} {B : Nat}
theorem dn_spec (hk : k ≤ 5) {c pl : Nat} (hc : c < 3 ^ k) : dn k to c pl < 3 ^ k ∧ c ≤ dn k to c pl ∧ (∀ j, j < k → dg (dn k to c pl) j = if dg c j = 1 ∧ to j = pl then 2 else dg c j) ∧ ((∀ j, j < k → ¬ (dg c j = 1 ∧ to j = pl)) → dn k to c pl = c) ∧ ((∃ j, j < k ∧ dg c j = 1 ∧ to j = pl) → c < dn k to c pl) := by
  unfold dn
  have key := itF_inv0 (f := dnS to c pl) (fun i v => v < 3 ^ k ∧ c ≤ v ∧ (∀ j, j < k → dg v j = if j < i ∧ dg c j = 1 ∧ to j = pl then 2 else dg c j) ∧ ((∀ j, j < i → ¬ (dg c j = 1 ∧ to j = pl)) → v = c) ∧ ((∃ j, j < i ∧ dg c j = 1 ∧ to j = pl) → c < v)) k c ?_ ?_
  · obtain ⟨h1, h2, h3, h4, h5⟩ := key
    refine ⟨h1, h2, fun j hj => ?_, h4, h5⟩
    rw [h3 j hj]
    simp only [hj, true_and]
  · refine ⟨hc, Nat.le_refl _, fun j hj => ?_, fun _ => rfl, fun ⟨j, hj, _⟩ => absurd hj (by omega)⟩
    rw [if_neg (by omega)]
  · intro e v he ⟨h1, h2, h3, h4, h5⟩
    unfold dnS
    by_cases hx : dg c e = 1 ∧ to e = pl
    · rw [if_pos hx]
      have hde : dg v e = 1 := by rw [h3 e he, if_neg (by omega)]; exact hx.1
      have hp : 0 < 3 ^ e := Nat.pow_pos (by decide)
      refine ⟨dg_max hk he h1 (by omega), by omega, fun j hj => ?_, fun hn => absurd hx (hn e (by omega)), fun _ => by omega⟩
      rw [dg_add (by omega) (by omega) j (by omega)]
      by_cases hje : j = e
      · subst hje
        rw [if_pos rfl, hde, if_pos ⟨by omega, hx⟩]
      · rw [if_neg hje, h3 j hj]
        by_cases hj2 : j < e
        · simp only [hj2, show j < e + 1 by omega, true_and]
        · rw [if_neg (by omega), if_neg (by omega)]
    · rw [if_neg hx, Nat.add_zero]
      refine ⟨h1, h2, fun j hj => ?_, fun hn => h4 fun j hj => hn j (by omega), fun ⟨j, hj, hj2⟩ => h5 ⟨j, ?_, hj2⟩⟩
      · rw [h3 j hj]
        by_cases hje : j = e
        · subst hje
          rw [if_neg (by omega), if_neg (fun q => hx q.2)]
        · by_cases hj2 : j < e
          · simp only [hj2, show j < e + 1 by omega, true_and]
          · rw [if_neg (by omega), if_neg (by omega)]
      · by_cases hje : j = e
        · subst hje; exact absurd hj2 hx
        · omega
theorem ld_more (c more : Nat) : ld k lb c more = ld k lb c 0 + more := by
  unfold ld
  have : ∀ (n j a b : Nat), itF (ldS lb c) j n (a + b) = itF (ldS lb c) j n a + b := by
    intro n
    induction n with
    | zero => intro j a b; rfl
    | succ n ih =>
      intro j a b
      show itF (ldS lb c) (j + 1) n (ldS lb c j (a + b)) = itF (ldS lb c) (j + 1) n (ldS lb c j a) + b
      rw [← ih]; congr 1; unfold ldS; omega
  have h := this k 0 0 more
  rwa [Nat.zero_add] at h
/-- lower, and alike in the rows before -/
def lw (c : Nat) (t' t : Tb) : Prop := (∀ a b, t' a b ≤ t a b) ∧ ∀ a b, a < c → t' a b = t a b
theorem lw_refl (c : Nat) (t : Tb) : lw c t t := ⟨fun _ _ => Nat.le_refl _, fun _ _ _ => rfl⟩
theorem lw_trans {c : Nat} {a b d : Tb} (h1 : lw c a b) (h2 : lw c b d) : lw c a d := ⟨fun x y => Nat.le_trans (h1.1 x y) (h2.1 x y), fun x y h => (h1.2 x y h).trans (h2.2 x y h)⟩
theorem lw_mono {c c' : Nat} {a b : Tb} (h : c' ≤ c) (h1 : lw c a b) : lw c' a b := ⟨h1.1, fun x y h2 => h1.2 x y (by omega)⟩
theorem lw_rlx {t : Tb} {c a p v : Nat} (h : c ≤ a) : lw c (rlx t a p v) t := by
  refine ⟨fun x y => ?_, fun x y hx => ?_⟩
  · unfold rlx
    by_cases hxy : x = a ∧ y = p
    · obtain ⟨rfl, rfl⟩ := hxy; rw [tset_same]; omega
    · rw [tset_ne hxy]; omega
  · unfold rlx; rw [tset_ne (by omega)]
theorem rlx_le (t : Tb) (a p v : Nat) : rlx t a p v a p ≤ v := by unfold rlx; rw [tset_same]; omega
theorem rlx_or (t : Tb) (a p v x y : Nat) : rlx t a p v x y = t x y ∨ (x = a ∧ y = p ∧ rlx t a p v x y = v) := by
  unfold rlx
  by_cases hxy : x = a ∧ y = p
  · obtain ⟨rfl, rfl⟩ := hxy; rw [tset_same]; omega
  · exact .inl (tset_ne hxy)
theorem itF_lw {f : Nat → Tb → Tb} {c : Nat} (n : Nat) (t : Tb) (hf : ∀ i t, lw c (f i t) t) : lw c (itF f 0 n t) t :=
  itF_inv0 (fun _ t' => lw c t' t) n t (lw_refl _ _) fun e b _ h => lw_trans (hf e b) h
/-- after a run, what each step gave still holds -/
theorem itF_each {f : Nat → Tb → Tb} {c : Nat} (n : Nat) (t : Tb) (hf : ∀ i t, lw c (f i t) t) (Q : Nat → Tb → Prop) (hQ : ∀ i t t', lw c t' t → Q i t → Q i t') (hs : ∀ i t', i < n → lw c t' t → Q i (f i t')) : ∀ i, i < n → Q i (itF f 0 n t) := by
  have := itF_inv0 (f := f) (fun m t' => lw c t' t ∧ ∀ i, i < m → Q i t') n t ⟨lw_refl _ _, fun i hi => absurd hi (by omega)⟩ ?_
  · exact this.2
  · intro e b he ⟨h1, h2⟩
    refine ⟨lw_trans (hf e b) h1, fun i hi => ?_⟩
    by_cases hie : i = e
    · subst hie; exact hs i b he h1
    · exact hQ i b _ (hf e b) (h2 i (by omega))
theorem lw_goS (c p far i : Nat) (t : Tb) : lw (c + 1) (goS k T fr to lb B c p far i t) t := by
  unfold goS
  split
  · exact lw_rlx (by omega)
  · exact lw_refl _ _
theorem lw_goO (c p : Nat) (t : Tb) : lw (c + 1) (goO k T fr to lb B c p t) t := itF_lw k t fun i t' => lw_goS c p _ i t'
theorem lw_xS (c p : Nat) (s : Tb × Nat) : lw (c + 1) (xS k T fr to lb B c p s).1 s.1 := by
  unfold xS
  split
  · exact lw_goO c p s.1
  · exact lw_refl _ _
/-- a state's moves are closed -/
def xCl (k : Nat) (T : Tb) (fr to lb : Nat → Nat) (B c p : Nat) (t : Tb) : Prop := t c p < 1000000 → ∀ i, i < k → c < gTh k fr to lb B c i → t (gTh k fr to lb B c i) (gPl fr to c i) ≤ t c p + T p (gPl fr to c i)
theorem xCl_lw {c p : Nat} {t t' : Tb} (h : lw (c + 1) t' t) (hx : xCl k T fr to lb B c p t) : xCl k T fr to lb B c p t' := by
  intro h1 i hi h2
  rw [h.2 c p (by omega)] at h1 ⊢
  exact Nat.le_trans (h.1 _ _) (hx h1 i hi h2)
theorem xCl_goO (c p : Nat) (t : Tb) : xCl k T fr to lb B c p (goO k T fr to lb B c p t) := by
  intro h1 i hi h2
  have hl : lw (c + 1) (goO k T fr to lb B c p t) t := lw_goO c p t
  rw [hl.2 c p (by omega)] at h1 ⊢
  refine itF_each (f := goS k T fr to lb B c p (t c p)) (c := c + 1) k t (fun i t' => lw_goS c p _ i t') (fun i t' => c < gTh k fr to lb B c i → t' (gTh k fr to lb B c i) (gPl fr to c i) ≤ t c p + T p (gPl fr to c i)) (fun i a b hab hq h3 => Nat.le_trans (hab.1 _ _) (hq h3)) (fun i t' _ _ h3 => ?_) i hi h2
  unfold goS
  rw [if_pos h3]
  exact rlx_le _ _ _ _
theorem xR_all (c : Nat) (s : Tb × Nat) : lw (c + 1) (xR k T fr to lb B c s).1 s.1 ∧ ∀ p, p < 7 → xCl k T fr to lb B c p (xR k T fr to lb B c s).1 := by
  unfold xR
  refine itF_inv0 (f := xS k T fr to lb B c) (fun p0 s' => lw (c + 1) s'.1 s.1 ∧ ∀ p, p < p0 → xCl k T fr to lb B c p s'.1) 7 s ⟨lw_refl _ _, fun _ h => absurd h (by omega)⟩ ?_
  intro e b he ⟨h1, h2⟩
  refine ⟨lw_trans (lw_xS c e b) h1, fun p hp => ?_⟩
  by_cases hpe : p = e
  · subst hpe
    unfold xS
    by_cases hb : b.1 c p < 1000000
    · rw [if_pos hb]; exact xCl_goO c p b.1
    · rw [if_neg hb]; exact fun h => absurd h hb
  · exact xCl_lw (lw_xS c e b) (h2 p (by omega))
theorem xdp_cl (s : Nat) : ∀ c p, c < 3 ^ k → p < 7 → xCl k T fr to lb B c p (xdp k T fr to lb B s).1 := by
  unfold xdp
  have := itF_inv0 (f := xR k T fr to lb B) (fun c0 s' => ∀ c p, c < c0 → p < 7 → xCl k T fr to lb B c p s'.1) (3 ^ k) (t00 s, if k = 0 then 0 else 1000000) (fun c _ h => absurd h (by omega)) ?_
  · exact this
  intro e b he h c p hc hp
  obtain ⟨g1, g2⟩ := xR_all (k := k) (T := T) (fr := fr) (to := to) (lb := lb) (B := B) e b
  by_cases hce : c = e
  · subst hce; exact g2 p hp
  · exact xCl_lw (lw_mono (by omega) g1) (h c p (by omega) hp)
end DPt
/-! ### rounds: the two tables have the same least end -/
section DPu
variable {k : Nat} {T : Tb} {fr to lb : Nat → Nat} {B : Nat}
theorem gPl_lt (hfr : ∀ i, i < k → fr i < 7) (hto : ∀ i, i < k → to i < 7) {c i : Nat} (hi : i < k) : gPl fr to c i < 7 := by
  unfold gPl; split
  · exact hfr i hi
  · exact hto i hi
theorem gTh_lt (hk : k ≤ 5) {c i : Nat} (hc : c < 3 ^ k) (hi : i < k) : gTh k fr to lb B c i < 3 ^ k := by
  obtain ⟨h1, h2, h3, _⟩ := dn_spec (to := to) (pl := gPl fr to c i) hk hc
  unfold gTh
  split
  · rename_i hx
    refine dg_max hk hi h1 ?_
    rw [h3 i hi, if_neg (by omega)]; omega
  · exact h1
/-- all that is finite in the class's table comes by its moves -/
theorem goO_inv (hk : k ≤ 5) (hfr : ∀ i, i < k → fr i < 7) (hto : ∀ i, i < k → to i < 7) (Q : Nat → Nat → Nat → Prop)
    (hs : ∀ c p v i, c < 3 ^ k → p < 7 → Q c p v → i < k → c < gTh k fr to lb B c i → v + T p (gPl fr to c i) < 1000000 → Q (gTh k fr to lb B c i) (gPl fr to c i) (v + T p (gPl fr to c i)))
    (c p : Nat) (t : Tb) (hc : c < 3 ^ k) (hp : p < 7) (h : ∀ a b, t a b < 1000000 → a < 3 ^ k ∧ b < 7 ∧ Q a b (t a b)) (hf : t c p < 1000000) :
    ∀ a b, goO k T fr to lb B c p t a b < 1000000 → a < 3 ^ k ∧ b < 7 ∧ Q a b (goO k T fr to lb B c p t a b) := by
  unfold goO
  refine itF_inv0 (f := goS k T fr to lb B c p (t c p)) (fun _ (t' : Tb) => ∀ a b, t' a b < 1000000 → a < 3 ^ k ∧ b < 7 ∧ Q a b (t' a b)) k t h ?_
  intro i b hi hb x y hxy
  unfold goS at hxy ⊢
  by_cases hg : c < gTh k fr to lb B c i
  · rw [if_pos hg] at hxy ⊢
    rcases rlx_or b (gTh k fr to lb B c i) (gPl fr to c i) (t c p + T p (gPl fr to c i)) x y with he | ⟨rfl, rfl, he⟩
    · rw [he] at hxy ⊢; exact hb x y hxy
    · rw [he] at hxy ⊢
      exact ⟨gTh_lt hk hc hi, gPl_lt hfr hto hi, hs c p _ i hc hp (h c p hf).2.2 hi hg hxy⟩
  · rw [if_neg hg] at hxy ⊢; exact hb x y hxy
theorem xdp_inv (hk : k ≤ 5) (hfr : ∀ i, i < k → fr i < 7) (hto : ∀ i, i < k → to i < 7) (Q : Nat → Nat → Nat → Prop) {s : Nat} (hs7 : s < 7) (h0 : Q 0 s 0)
    (hs : ∀ c p v i, c < 3 ^ k → p < 7 → Q c p v → i < k → c < gTh k fr to lb B c i → v + T p (gPl fr to c i) < 1000000 → Q (gTh k fr to lb B c i) (gPl fr to c i) (v + T p (gPl fr to c i))) :
    ∀ a b, (xdp k T fr to lb B s).1 a b < 1000000 → a < 3 ^ k ∧ b < 7 ∧ Q a b ((xdp k T fr to lb B s).1 a b) := by
  unfold xdp
  refine itF_inv0 (f := xR k T fr to lb B) (fun _ (t' : Tb × Nat) => ∀ a b, t'.1 a b < 1000000 → a < 3 ^ k ∧ b < 7 ∧ Q a b (t'.1 a b)) (3 ^ k) _ ?_ ?_
  · intro a b hab
    show a < 3 ^ k ∧ b < 7 ∧ Q a b (t00 s a b)
    have hab : t00 s a b < 1000000 := hab
    unfold t00 at hab ⊢
    by_cases hx : a = 0 ∧ b = s
    · obtain ⟨rfl, rfl⟩ := hx
      rw [tset_same]; exact ⟨Nat.pow_pos (by decide), hs7, h0⟩
    · rw [tset_ne hx] at hab; omega
  · intro c b hc hb
    unfold xR
    refine itF_inv0 (f := xS k T fr to lb B c) (fun _ (t' : Tb × Nat) => ∀ a b, t'.1 a b < 1000000 → a < 3 ^ k ∧ b < 7 ∧ Q a b (t'.1 a b)) 7 _ hb ?_
    intro p b2 hp hb2
    unfold xS
    by_cases hf : b2.1 c p < 1000000
    · rw [if_pos hf]; exact goO_inv hk hfr hto Q hs c p b2.1 hc hp hb2 hf
    · rw [if_neg hf]; exact hb2
/-- the best end of the class's table -/
theorem xdp_best (s : Nat) : (xdp k T fr to lb B s).2 ≤ 1000000 ∧ (∀ p, p < 7 → (xdp k T fr to lb B s).1 (3 ^ k - 1) p < 1000000 → (xdp k T fr to lb B s).2 ≤ (xdp k T fr to lb B s).1 (3 ^ k - 1) p) ∧ ((xdp k T fr to lb B s).2 = 1000000 ∨ k = 0 ∧ (xdp k T fr to lb B s).2 = 0 ∨ ∃ p, p < 7 ∧ (xdp k T fr to lb B s).2 = (xdp k T fr to lb B s).1 (3 ^ k - 1) p) := by
  unfold xdp
  have hpos : 0 < 3 ^ k := Nat.pow_pos (by decide)
  have key := itF_inv0 (f := xR k T fr to lb B) (fun c0 (u : Tb × Nat) => u.2 ≤ 1000000 ∧ (c0 = 3 ^ k → ∀ p, p < 7 → u.1 (3 ^ k - 1) p < 1000000 → u.2 ≤ u.1 (3 ^ k - 1) p) ∧ (u.2 = 1000000 ∨ k = 0 ∧ u.2 = 0 ∨ (c0 = 3 ^ k ∧ ∃ p, p < 7 ∧ u.2 = u.1 (3 ^ k - 1) p))) (3 ^ k) (t00 s, if k = 0 then 0 else 1000000) ?_ ?_
  · obtain ⟨k1, k2, k3⟩ := key
    refine ⟨k1, k2 rfl, ?_⟩
    rcases k3 with h | h | h
    · exact .inl h
    · exact .inr (.inl h)
    · exact .inr (.inr h.2)
  · dsimp only
    refine ⟨by split <;> omega, fun h => absurd h (by omega), ?_⟩
    by_cases hk : k = 0
    · rw [if_pos hk]; exact .inr (.inl ⟨hk, rfl⟩)
    · rw [if_neg hk]; exact .inl rfl
  · intro c u hc ⟨u1, u2, u3⟩
    unfold xR
    by_cases hl : c = 3 ^ k - 1
    · have key := itF_inv0 (f := xS k T fr to lb B c) (fun p0 (v : Tb × Nat) => v.2 ≤ 1000000 ∧ (∀ p, p < p0 → v.1 c p < 1000000 → v.2 ≤ v.1 c p) ∧ (v.2 = 1000000 ∨ k = 0 ∧ v.2 = 0 ∨ ∃ p, p < 7 ∧ v.2 = v.1 c p)) 7 u ?_ ?_
      · obtain ⟨k1, k2, k3⟩ := key
        rw [← hl]
        refine ⟨k1, fun _ => k2, ?_⟩
        rcases k3 with h | h | h
        · exact .inl h
        · exact .inr (.inl h)
        · exact .inr (.inr ⟨by omega, h⟩)
      · refine ⟨u1, fun _ h => absurd h (by omega), ?_⟩
        rcases u3 with h | h | h
        · exact .inl h
        · exact .inr (.inl h)
        · omega
      · intro p v hp ⟨v1, v2, v3⟩
        have hlw := lw_goO (k := k) (T := T) (fr := fr) (to := to) (lb := lb) (B := B) c p v.1
        unfold xS
        by_cases hv : v.1 c p < 1000000
        · rw [if_pos hv, if_pos hl]
          dsimp only
          refine ⟨by omega, fun p' hp' h => ?_, ?_⟩
          · rw [hlw.2 c p' (by omega)] at h ⊢
            by_cases hpp : p' = p
            · subst hpp; rw [hlw.2 c p' (by omega)]; omega
            · have := v2 p' (by omega) h; omega
          · rw [hlw.2 c p (by omega)]
            by_cases hm : v.2 ≤ v.1 c p
            · rw [Nat.min_eq_left hm]
              rcases v3 with h | h | ⟨p', hp', h⟩
              · exact .inl h
              · exact .inr (.inl h)
              · exact .inr (.inr ⟨p', hp', by rw [hlw.2 c p' (by omega)]; exact h⟩)
            · rw [Nat.min_eq_right (by omega)]
              exact .inr (.inr ⟨p, hp, by rw [hlw.2 c p (by omega)]⟩)
        · rw [if_neg hv]
          refine ⟨v1, fun p' hp' h => ?_, v3⟩
          by_cases hpp : p' = p
          · subst hpp; exact absurd h hv
          · exact v2 p' (by omega) h
    · have hsame : (itF (xS k T fr to lb B c) 0 7 u).2 = u.2 := by
        refine itF_inv0 (f := xS k T fr to lb B c) (fun _ (v : Tb × Nat) => v.2 = u.2) 7 u rfl ?_
        intro p v _ hv
        unfold xS
        split
        · exact hv
        · exact hv
      rw [hsame]
      refine ⟨u1, fun h => absurd h (by omega), ?_⟩
      rcases u3 with h | h | h
      · exact .inl h
      · exact .inr (.inl h)
      · omega
/-! the model's table -/
theorem lw_wkS (c f y q : Nat) (t : Tb) (hk : k ≤ 5) (hc : c < 3 ^ k) : lw c (wkS k T to c f y q t) t := by
  unfold wkS; split
  · exact lw_rlx (dn_spec hk hc).2.1
  · exact lw_refl _ _
theorem lw_wkF (c f : Nat) (t : Tb) (hk : k ≤ 5) (hc : c < 3 ^ k) : lw c (wkF k T to c f t) t := by
  unfold wkF; split
  · exact itF_lw 7 t fun q t' => lw_wkS c f _ q t' hk hc
  · exact lw_refl _ _
theorem lw_wkO (c : Nat) (t : Tb) (hk : k ≤ 5) (hc : c < 3 ^ k) : lw c (wkO k T to c t) t := itF_lw 7 t fun f t' => lw_wkF c f t' hk hc
theorem lw_tkS (c w i : Nat) (t : Tb) : lw (c + 1) (tkS fr lb B c w i t) t := by
  have hp : 0 < 3 ^ i := Nat.pow_pos (by decide)
  unfold tkS; split
  · exact lw_rlx (by omega)
  · exact lw_refl _ _
theorem lw_tkO (c : Nat) (t : Tb) : lw (c + 1) (tkO k fr lb B c t) t := itF_lw k t fun i t' => lw_tkS c _ i t'
theorem lw_mC (c : Nat) (t : Tb) (hk : k ≤ 5) (hc : c < 3 ^ k) : lw c (mC k T fr to lb B c t) t := lw_trans (lw_mono (by omega) (lw_tkO c _)) (lw_wkO c t hk hc)
def mW (k : Nat) (T : Tb) (to : Nat → Nat) (c : Nat) (t : Tb) : Prop := ∀ f q, f < 7 → q < 7 → t c f < 1000000 → T f q < 1000000 → t (dn k to c q) q ≤ t c f + T f q
def mT (k : Nat) (fr lb : Nat → Nat) (B c : Nat) (t : Tb) : Prop := ∀ i, i < k → dg c i = 0 → ld k lb c 0 + lb i ≤ B → t (c + 3 ^ i) (fr i) ≤ t c (fr i)
theorem mW_lw {c : Nat} {t t' : Tb} (h : lw (c + 1) t' t) (hx : mW k T to c t) : mW k T to c t' := by
  intro f q hf hq h1 h2
  rw [h.2 c f (by omega)] at h1 ⊢
  exact Nat.le_trans (h.1 _ _) (hx f q hf hq h1 h2)
theorem mT_lw {c : Nat} {t t' : Tb} (h : lw (c + 1) t' t) (hx : mT k fr lb B c t) : mT k fr lb B c t' := by
  intro i hi h1 h2
  rw [h.2 c (fr i) (by omega)]
  exact Nat.le_trans (h.1 _ _) (hx i hi h1 h2)
theorem wkO_w (hk : k ≤ 5) {c : Nat} (hc : c < 3 ^ k) (hT0 : ∀ p, p < 7 → T p p = 0) (hT : ∀ p q r, p < 7 → q < 7 → r < 7 → T p q ≤ T p r + T r q) {A : Tb} (hA : ∀ a b, A a b ≤ 1000000) : mW k T to c (wkO k T to c A) := by
  unfold wkO
  have key := itF_inv0 (f := wkF k T to c) (fun f0 (t : Tb) => lw c t A ∧ (∀ f q, f < f0 → q < 7 → A c f < 1000000 → T f q < 1000000 → t (dn k to c q) q ≤ A c f + T f q) ∧ ∀ p, p < 7 → t c p < 1000000 → ∃ f, f < 7 ∧ A c f + T f p ≤ t c p) 7 A ?_ ?_
  · obtain ⟨k1, k2, k3⟩ := key
    intro f q hf hq h1 h2
    obtain ⟨f', hf', hle⟩ := k3 f hf h1
    by_cases hq' : T f' q < 1000000
    · have a1 := k2 f' q hf' hq (by omega) hq'
      have a2 := hT f' q f hf' hq hf
      omega
    · have a2 := hT f' q f hf' hq hf
      have a3 := k1.1 (dn k to c q) q
      have a4 := hA (dn k to c q) q
      omega
  · refine ⟨lw_refl _ _, fun _ _ h => absurd h (by omega), fun p hp h => ⟨p, hp, ?_⟩⟩
    rw [hT0 p hp]; omega
  · intro f0 t hf0 ⟨h1, h2, h3⟩
    refine ⟨lw_trans (lw_wkF c f0 t hk hc) h1, ?_, ?_⟩
    · intro f q hf hq ha hT9
      by_cases hff : f = f0
      · subst hff
        have hy : t c f ≤ A c f := h1.1 c f
        unfold wkF
        rw [if_pos (by omega)]
        have := itF_each (f := wkS k T to c f (t c f)) (c := c) 7 t (fun q t' => lw_wkS c f _ q t' hk hc) (fun q t' => T f q < 1000000 → t' (dn k to c q) q ≤ t c f + T f q) (fun q a b hab hq9 h9 => Nat.le_trans (hab.1 _ _) (hq9 h9)) (fun q t' _ _ h9 => by unfold wkS; rw [if_pos h9]; exact rlx_le _ _ _ _) q hq hT9
        omega
      · exact Nat.le_trans ((lw_wkF c f0 t hk hc).1 _ _) (h2 f q (by omega) hq ha hT9)
    · unfold wkF
      by_cases hy : t c f0 < 1000000
      · rw [if_pos hy]
        refine itF_inv0 (f := wkS k T to c f0 (t c f0)) (fun _ (t' : Tb) => ∀ p, p < 7 → t' c p < 1000000 → ∃ f, f < 7 ∧ A c f + T f p ≤ t' c p) 7 t h3 ?_
        intro q t' hq h3' p hp hlt
        unfold wkS at hlt ⊢
        by_cases hTq : T f0 q < 1000000
        · rw [if_pos hTq] at hlt ⊢
          rcases rlx_or t' (dn k to c q) q (t c f0 + T f0 q) c p with he | ⟨_, rfl, he⟩
          · rw [he] at hlt ⊢; exact h3' p hp hlt
          · rw [he] at hlt ⊢
            obtain ⟨f, hf, hle⟩ := h3 f0 hf0 hy
            have := hT f p f0 hf hp hf0
            exact ⟨f, hf, by omega⟩
        · rw [if_neg hTq] at hlt ⊢; exact h3' p hp hlt
      · rw [if_neg hy]; exact h3
theorem tkO_t (c : Nat) (t : Tb) : mT k fr lb B c (tkO k fr lb B c t) := by
  intro i hi h1 h2
  have hl := lw_tkO (k := k) (fr := fr) (lb := lb) (B := B) c t
  rw [hl.2 c (fr i) (by omega)]
  unfold tkO
  refine itF_each (f := tkS fr lb B c (ld k lb c 0)) (c := c + 1) k t (fun i t' => lw_tkS c _ i t') (fun i t' => dg c i = 0 → ld k lb c 0 + lb i ≤ B → t' (c + 3 ^ i) (fr i) ≤ t c (fr i)) (fun i a b hab hq h8 h9 => Nat.le_trans (hab.1 _ _) (hq h8 h9)) (fun i t' _ hl h8 h9 => ?_) i hi h1 h2
  unfold tkS
  rw [if_pos ⟨h8, h9⟩, hl.2 c (fr i) (by omega)]
  exact rlx_le _ _ _ _
theorem mdp_cl (hk : k ≤ 5) (hT0 : ∀ p, p < 7 → T p p = 0) (hT : ∀ p q r, p < 7 → q < 7 → r < 7 → T p q ≤ T p r + T r q) (s : Nat) : (∀ a b, mdp k T fr to lb B s a b ≤ 1000000) ∧ ∀ c, c < 3 ^ k - 1 → mW k T to c (mdp k T fr to lb B s) ∧ mT k fr lb B c (mdp k T fr to lb B s) := by
  unfold mdp
  refine itF_inv0 (f := mC k T fr to lb B) (fun c0 (t : Tb) => (∀ a b, t a b ≤ 1000000) ∧ ∀ c, c < c0 → mW k T to c t ∧ mT k fr lb B c t) (3 ^ k - 1) (t00 s) ⟨fun a b => ?_, fun _ h => absurd h (by omega)⟩ ?_
  · unfold t00 tset; split
    · exact Nat.zero_le _
    · exact Nat.le_refl _
  · intro e t he ⟨h1, h2⟩
    have hc : e < 3 ^ k := by omega
    have hl := lw_mC (k := k) (T := T) (fr := fr) (to := to) (lb := lb) (B := B) e t hk hc
    refine ⟨fun a b => Nat.le_trans (hl.1 a b) (h1 a b), fun c hc9 => ?_⟩
    by_cases hce : c = e
    · subst hce
      exact ⟨mW_lw (lw_tkO c _) (wkO_w hk hc hT0 hT h1), tkO_t c _⟩
    · have := h2 c (by omega)
      exact ⟨mW_lw (lw_mono (by omega) hl) this.1, mT_lw (lw_mono (by omega) hl) this.2⟩
theorem mdp_inv (hk : k ≤ 5) (hfr : ∀ i, i < k → fr i < 7) (Q : Nat → Nat → Nat → Prop) {s : Nat} (hs7 : s < 7) (h0 : Q 0 s 0)
    (hw : ∀ c f q v, c < 3 ^ k - 1 → f < 7 → q < 7 → Q c f v → T f q < 1000000 → v + T f q < 1000000 → Q (dn k to c q) q (v + T f q))
    (ht : ∀ c i v, c < 3 ^ k - 1 → i < k → v < 1000000 → Q c (fr i) v → dg c i = 0 → ld k lb c 0 + lb i ≤ B → Q (c + 3 ^ i) (fr i) v) :
    ∀ a b, mdp k T fr to lb B s a b < 1000000 → a < 3 ^ k ∧ b < 7 ∧ Q a b (mdp k T fr to lb B s a b) := by
  unfold mdp
  refine itF_inv0 (f := mC k T fr to lb B) (fun _ (t : Tb) => ∀ a b, t a b < 1000000 → a < 3 ^ k ∧ b < 7 ∧ Q a b (t a b)) (3 ^ k - 1) (t00 s) ?_ ?_
  · intro a b hab
    unfold t00 at hab ⊢
    by_cases hx : a = 0 ∧ b = s
    · obtain ⟨rfl, rfl⟩ := hx
      rw [tset_same]; exact ⟨Nat.pow_pos (by decide), hs7, h0⟩
    · rw [tset_ne hx] at hab; omega
  · intro c t hc h
    unfold mC
    have hc3 : c < 3 ^ k := by omega
    have hW : ∀ a b, wkO k T to c t a b < 1000000 → a < 3 ^ k ∧ b < 7 ∧ Q a b (wkO k T to c t a b) := by
      unfold wkO
      refine itF_inv0 (f := wkF k T to c) (fun _ (t : Tb) => ∀ a b, t a b < 1000000 → a < 3 ^ k ∧ b < 7 ∧ Q a b (t a b)) 7 t h ?_
      intro f t hf h
      unfold wkF
      by_cases hy : t c f < 1000000
      · rw [if_pos hy]
        refine itF_inv0 (f := wkS k T to c f (t c f)) (fun _ (t : Tb) => ∀ a b, t a b < 1000000 → a < 3 ^ k ∧ b < 7 ∧ Q a b (t a b)) 7 t h ?_
        intro q t' hq h' x y hxy
        unfold wkS at hxy ⊢
        by_cases hTq : T f q < 1000000
        · rw [if_pos hTq] at hxy ⊢
          rcases rlx_or t' (dn k to c q) q (t c f + T f q) x y with he | ⟨rfl, rfl, he⟩
          · rw [he] at hxy ⊢; exact h' x y hxy
          · rw [he] at hxy ⊢
            exact ⟨(dn_spec hk hc3).1, hq, hw c f y _ hc hf hq (h c f hy).2.2 hTq hxy⟩
        · rw [if_neg hTq] at hxy ⊢; exact h' x y hxy
      · rw [if_neg hy]; exact h
    unfold tkO
    have key := itF_inv0 (f := tkS fr lb B c (ld k lb c 0)) (fun _ (t' : Tb) => lw (c + 1) t' (wkO k T to c t) ∧ ∀ a b, t' a b < 1000000 → a < 3 ^ k ∧ b < 7 ∧ Q a b (t' a b)) k (wkO k T to c t) ⟨lw_refl _ _, hW⟩ ?_
    · exact key.2
    intro i t' hi ⟨hl, h'⟩
    refine ⟨lw_trans (lw_tkS c _ i t') hl, fun x y hxy => ?_⟩
    unfold tkS at hxy ⊢
    by_cases hx : dg c i = 0 ∧ ld k lb c 0 + lb i ≤ B
    · rw [if_pos hx] at hxy ⊢
      rcases rlx_or t' (c + 3 ^ i) (fr i) (t' c (fr i)) x y with he | ⟨rfl, rfl, he⟩
      · rw [he] at hxy ⊢; exact h' x y hxy
      · rw [he] at hxy ⊢
        exact ⟨dg_max hk hi hc3 (by omega), hfr i hi, ht c i _ hc hi hxy (h' c (fr i) hxy).2.2 hx.1 hx.2⟩
    · rw [if_neg hx] at hxy ⊢; exact h' x y hxy
end DPu
/-! ### rounds: conclusions -/
section DPv
variable {k : Nat} {T : Tb} {fr to lb : Nat → Nat} {B : Nat}
theorem mbest_spec (s : Nat) : mbest k T fr to lb B s ≤ 1000000 ∧ (∀ p, p < 7 → mbest k T fr to lb B s ≤ mdp k T fr to lb B s (3 ^ k - 1) p) ∧ (mbest k T fr to lb B s = 1000000 ∨ ∃ p, p < 7 ∧ mbest k T fr to lb B s = mdp k T fr to lb B s (3 ^ k - 1) p) := by
  unfold mbest
  generalize mdp k T fr to lb B s (3 ^ k - 1) = M
  refine itF_inv0 (f := fun p b => min b (M p)) (fun p0 b => b ≤ 1000000 ∧ (∀ p, p < p0 → b ≤ M p) ∧ (b = 1000000 ∨ ∃ p, p < 7 ∧ b = M p)) 7 1000000 ⟨Nat.le_refl _, fun _ h => absurd h (by omega), .inl rfl⟩ ?_
  intro e b he ⟨h1, h2, h3⟩
  refine ⟨by omega, fun p hp => ?_, ?_⟩
  · by_cases hpe : p = e
    · subst hpe; omega
    · have := h2 p (by omega); omega
  · by_cases hm : b ≤ M e
    · rw [Nat.min_eq_left hm]; exact h3
    · rw [Nat.min_eq_right (by omega)]; exact .inr ⟨e, he, rfl⟩
theorem not_last (hk : k ≤ 5) {c i : Nat} (hi : i < k) (h : c < gTh k fr to lb B c i) (hc : c < 3 ^ k) : c < 3 ^ k - 1 := by
  by_cases hl : c = 3 ^ k - 1
  · exfalso
    have hd : ∀ j, j < k → dg c j = 2 := fun j hj => by rw [hl]; exact dg_of_last hk hj
    have h2 := (dn_spec (to := to) (pl := gPl fr to c i) hk hc).2.2.2.1 (fun j hj q => by have := hd j hj; omega)
    unfold gTh at h
    rw [h2, if_neg (by have := hd i hi; omega)] at h
    omega
  · omega
theorem dp_le1 (hk : k ≤ 5) (hfr : ∀ i, i < k → fr i < 7) (hto : ∀ i, i < k → to i < 7) {s : Nat} (hs7 : s < 7) (hT0 : ∀ p, p < 7 → T p p = 0) (hT : ∀ p q r, p < 7 → q < 7 → r < 7 → T p q ≤ T p r + T r q) :
    ∀ a b, (xdp k T fr to lb B s).1 a b < 1000000 → a < 3 ^ k ∧ b < 7 ∧ mdp k T fr to lb B s a b ≤ (xdp k T fr to lb B s).1 a b := by
  obtain ⟨_, hcl⟩ := mdp_cl (fr := fr) (to := to) (lb := lb) (B := B) hk hT0 hT s
  refine xdp_inv hk hfr hto (fun c p v => mdp k T fr to lb B s c p ≤ v) hs7 ?_ ?_
  · have hl : lw 0 (mdp k T fr to lb B s) (t00 s) := by
      unfold mdp
      refine itF_inv0 (f := mC k T fr to lb B) (fun _ (t : Tb) => lw 0 t (t00 s)) (3 ^ k - 1) (t00 s) (lw_refl _ _) ?_
      intro e t he h
      exact lw_trans (lw_mono (by omega) (lw_mC e t hk (by omega))) h
    have := hl.1 0 s
    unfold t00 at this
    rw [tset_same] at this
    exact this
  · intro c p v i hc hp hQ hi hg hlt
    have hc1 := not_last hk hi hg hc
    obtain ⟨hW, _⟩ := hcl c hc1
    have hpl := gPl_lt hfr hto (c := c) hi
    have h1 := hW p (gPl fr to c i) hp hpl (by omega) (by omega)
    unfold gTh
    by_cases hx : dg c i = 0 ∧ ld k lb (dn k to c (gPl fr to c i)) (lb i) ≤ B
    · rw [if_pos hx]
      obtain ⟨d1, _, d3, _⟩ := dn_spec (to := to) (pl := gPl fr to c i) hk hc
      have hz : dg (dn k to c (gPl fr to c i)) i = 0 := by rw [d3 i hi, if_neg (by omega)]; exact hx.1
      have hth : dn k to c (gPl fr to c i) < 3 ^ k - 1 := by
        by_cases hl : dn k to c (gPl fr to c i) = 3 ^ k - 1
        · rw [hl, dg_of_last hk hi] at hz; omega
        · omega
      obtain ⟨_, hT9⟩ := hcl _ hth
      have h2 := hT9 i hi hz (by rw [← ld_more]; exact hx.2)
      have hpf : gPl fr to c i = fr i := by unfold gPl; rw [if_pos hx.1]
      rw [hpf] at h1 h2 ⊢
      omega
    · rw [if_neg hx, Nat.add_zero]; omega
theorem dp_le2 (hk : k ≤ 5) (hfr : ∀ i, i < k → fr i < 7) (hto : ∀ i, i < k → to i < 7) (hne : ∀ i, i < k → fr i ≠ to i) {s : Nat} (hs7 : s < 7) (hT0 : ∀ p, p < 7 → T p p = 0) (hT : ∀ p q r, p < 7 → q < 7 → r < 7 → T p q ≤ T p r + T r q) :
    ∀ a b, mdp k T fr to lb B s a b < 1000000 → a < 3 ^ k ∧ b < 7 ∧ (∀ j, j < k → ¬ (dg a j = 1 ∧ to j = b)) ∧ ∃ q, q < 7 ∧ (xdp k T fr to lb B s).1 a q + T q b ≤ mdp k T fr to lb B s a b := by
  have hcl := xdp_cl (k := k) (T := T) (fr := fr) (to := to) (lb := lb) (B := B) s
  refine mdp_inv hk hfr (fun a b v => (∀ j, j < k → ¬ (dg a j = 1 ∧ to j = b)) ∧ ∃ q, q < 7 ∧ (xdp k T fr to lb B s).1 a q + T q b ≤ v) hs7 ?_ ?_ ?_
  · refine ⟨fun j _ q => ?_, s, hs7, ?_⟩
    · have := q.1; unfold dg at this; rw [Nat.zero_div] at this; omega
    · have hl : lw 0 (xdp k T fr to lb B s).1 (t00 s) := by
        unfold xdp
        refine itF_inv0 (f := xR k T fr to lb B) (fun _ (u : Tb × Nat) => lw 0 u.1 (t00 s)) (3 ^ k) _ (lw_refl _ _) ?_
        intro e u _ h
        exact lw_trans (lw_mono (by omega) (xR_all e u).1) h
      have := hl.1 0 s
      unfold t00 at this
      rw [tset_same] at this
      rw [hT0 s hs7]; exact this
  · intro c f q v hc hf hq ⟨hn, r, hr, hle⟩ hTq hlt
    have hc3 : c < 3 ^ k := by omega
    obtain ⟨d1, d2, d3, d4, d5⟩ := dn_spec (to := to) (pl := q) hk hc3
    refine ⟨fun j hj hx => ?_, ?_⟩
    · rw [d3 j hj] at hx
      by_cases hy : dg c j = 1 ∧ to j = q
      · rw [if_pos hy] at hx; omega
      · rw [if_neg hy] at hx; exact hy hx
    · have h9 := hT r q f hr hq hf
      by_cases hex : ∃ j, j < k ∧ dg c j = 1 ∧ to j = q
      · obtain ⟨j, hj, hj1, hj2⟩ := hex
        have hpl : gPl fr to c j = q := by unfold gPl; rw [if_neg (by omega)]; exact hj2
        have hth : gTh k fr to lb B c j = dn k to c q := by unfold gTh; rw [if_neg (by omega), hpl]; rfl
        have := hcl c r hc3 hr (by omega) j hj (by rw [hth]; exact d5 ⟨j, hj, hj1, hj2⟩)
        rw [hth, hpl] at this
        refine ⟨q, hq, ?_⟩
        rw [hT0 q hq]; omega
      · rw [d4 fun j hj hx => hex ⟨j, hj, hx⟩]
        exact ⟨r, hr, by omega⟩
  · intro c i v hc hi hv ⟨hn, r, hr, hle⟩ hz hB
    have hc3 : c < 3 ^ k := by omega
    refine ⟨fun j hj hx => ?_, ?_⟩
    · rw [dg_add (by omega) (by omega) j (by omega)] at hx
      by_cases hji : j = i
      · subst hji; exact hne j hj hx.2.symm
      · rw [if_neg hji] at hx; exact hn j hj hx
    · have hpl : gPl fr to c i = fr i := by unfold gPl; rw [if_pos hz]
      have hd := (dn_spec (to := to) (pl := fr i) hk hc3).2.2.2.1 hn
      have hth : gTh k fr to lb B c i = c + 3 ^ i := by
        unfold gTh; rw [hpl, hd, if_pos ⟨hz, by rw [ld_more]; exact hB⟩]
      have hp : 0 < 3 ^ i := Nat.pow_pos (by decide)
      have := hcl c r hc3 hr (by omega) i hi (by rw [hth]; omega)
      rw [hth, hpl] at this
      refine ⟨fr i, hfr i hi, ?_⟩
      rw [hT0 _ (hfr i hi)]; omega
theorem dp_eq (hk : k ≤ 5) (hfr : ∀ i, i < k → fr i < 7) (hto : ∀ i, i < k → to i < 7) (hne : ∀ i, i < k → fr i ≠ to i) {s : Nat} (hs7 : s < 7) (hT0 : ∀ p, p < 7 → T p p = 0) (hT : ∀ p q r, p < 7 → q < 7 → r < 7 → T p q ≤ T p r + T r q) :
    (xdp k T fr to lb B s).2 = mbest k T fr to lb B s := by
  obtain ⟨b1, b2, b3⟩ := xdp_best (k := k) (T := T) (fr := fr) (to := to) (lb := lb) (B := B) s
  obtain ⟨m1, m2, m3⟩ := mbest_spec (k := k) (T := T) (fr := fr) (to := to) (lb := lb) (B := B) s
  have l1 := dp_le1 (lb := lb) (B := B) hk hfr hto hs7 hT0 hT
  have l2 := dp_le2 (lb := lb) (B := B) hk hfr hto hne hs7 hT0 hT
  apply Nat.le_antisymm
  · rcases m3 with h | ⟨p, hp, h⟩
    · omega
    · by_cases hf : mbest k T fr to lb B s < 1000000
      · obtain ⟨_, _, _, q, hq, hle⟩ := l2 (3 ^ k - 1) p (by omega)
        have := b2 q hq (by omega)
        omega
      · omega
  · rcases b3 with h | ⟨rfl, h⟩ | ⟨p, hp, h⟩
    · omega
    · have := m2 s hs7
      have e : mdp 0 T fr to lb B s (3 ^ 0 - 1) s = 0 := by
        exact (tset_same (fun _ _ => 1000000) 0 s 0 : t00 s 0 s = 0)
      omega
    · by_cases hf : (xdp k T fr to lb B s).2 < 1000000
      · have := (l1 (3 ^ k - 1) p (by omega)).2.2
        have := m2 p hp
        omega
      · omega
/-- a sum of digits -/
theorem dg_lt (c i : Nat) : dg c i < 3 := Nat.mod_lt _ (by decide)
def ds (c : Nat) : Nat := dg c 0 + dg c 1 + dg c 2 + dg c 3 + dg c 4
theorem ds_le (c : Nat) : ds c ≤ 10 := by
  unfold ds; have := dg_lt c 0; have := dg_lt c 1; have := dg_lt c 2; have := dg_lt c 3; have := dg_lt c 4; omega
theorem ds_add {c i : Nat} (hi : i < 5) (h : dg c i ≤ 1) : ds (c + 3 ^ i) = ds c + 1 := by
  unfold ds
  rw [dg_add hi h 0 (by omega), dg_add hi h 1 (by omega), dg_add hi h 2 (by omega), dg_add hi h 3 (by omega), dg_add hi h 4 (by omega)]
  have hi' : i = 0 ∨ i = 1 ∨ i = 2 ∨ i = 3 ∨ i = 4 := by omega
  rcases hi' with rfl | rfl | rfl | rfl | rfl <;> simp <;> omega
theorem dg_zero {c k j : Nat} (hk : k ≤ j) (hc : c < 3 ^ k) : dg c j = 0 := by
  unfold dg
  rw [Nat.div_eq_of_lt (Nat.lt_of_lt_of_le hc (Nat.pow_le_pow_right (by decide) hk))]
theorem ds_mono {c d : Nat} (h : ∀ j, j < 5 → dg c j ≤ dg d j) : ds c ≤ ds d := by
  unfold ds; have := h 0 (by omega); have := h 1 (by omega); have := h 2 (by omega); have := h 3 (by omega); have := h 4 (by omega); omega
theorem ds_mono_lt {c d : Nat} (h : ∀ j, j < 5 → dg c j ≤ dg d j) {i : Nat} (hi : i < 5) (hlt : dg c i < dg d i) : ds c < ds d := by
  unfold ds
  have h0 := h 0 (by omega); have h1 := h 1 (by omega); have h2 := h 2 (by omega); have h3 := h 3 (by omega); have h4 := h 4 (by omega)
  have hi' : i = 0 ∨ i = 1 ∨ i = 2 ∨ i = 3 ∨ i = 4 := by omega
  rcases hi' with rfl | rfl | rfl | rfl | rfl <;> omega
theorem ds_gTh (hk : k ≤ 5) {c i : Nat} (hc : c < 3 ^ k) (hi : i < k) (hg : c < gTh k fr to lb B c i) : ds c < ds (gTh k fr to lb B c i) := by
  obtain ⟨d1, d2, d3, d4, d5⟩ := dn_spec (to := to) (pl := gPl fr to c i) hk hc
  have hle : ∀ j, j < 5 → dg c j ≤ dg (dn k to c (gPl fr to c i)) j := by
    intro j hj
    by_cases hjk : j < k
    · rw [d3 j hjk]; split <;> omega
    · rw [dg_zero (by omega) hc]; omega
  unfold gTh at hg ⊢
  by_cases hx : dg c i = 0 ∧ ld k lb (dn k to c (gPl fr to c i)) (lb i) ≤ B
  · rw [if_pos hx]
    have hz : dg (dn k to c (gPl fr to c i)) i = 0 := by rw [d3 i hi, if_neg (by omega)]; exact hx.1
    rw [ds_add (by omega) (by omega)]
    have := ds_mono hle
    omega
  · rw [if_neg hx, Nat.add_zero] at hg ⊢
    by_cases hex : ∃ j, j < k ∧ dg c j = 1 ∧ to j = gPl fr to c i
    · obtain ⟨j, hj, hj2⟩ := hex
      refine ds_mono_lt hle (i := j) (by omega) ?_
      rw [d3 j hj, if_pos hj2]; omega
    · rw [d4 fun j hj hx => hex ⟨j, hj, hx⟩] at hg; omega
theorem dp_bound (hk : k ≤ 5) (hfr : ∀ i, i < k → fr i < 7) (hto : ∀ i, i < k → to i < 7) {s : Nat} (hs7 : s < 7) (hb : ∀ p q, p < 7 → q < 7 → T p q = 1000000 ∨ T p q ≤ 25344) (h : (xdp k T fr to lb B s).2 < 1000000) : (xdp k T fr to lb B s).2 ≤ 253440 := by
  have key := xdp_inv (lb := lb) (B := B) (T := T) hk hfr hto (fun c _ v => v ≤ 25344 * ds c) hs7 (Nat.zero_le _) (fun c p v i hc hp hQ hi hg hlt => by
    have h1 := ds_gTh hk hc hi hg
    have h2 := hb p (gPl fr to c i) hp (gPl_lt hfr hto hi)
    omega)
  obtain ⟨_, _, b3⟩ := xdp_best (k := k) (T := T) (fr := fr) (to := to) (lb := lb) (B := B) s
  rcases b3 with h9 | ⟨_, h9⟩ | ⟨p, hp, h9⟩
  · omega
  · omega
  · have := (key (3 ^ k - 1) p (by omega)).2.2
    have := ds_le (3 ^ k - 1)
    omega
/-- who brings all could have brought each -/
theorem dp_single (hk : k ≤ 5) (hfr : ∀ i, i < k → fr i < 7) (hto : ∀ i, i < k → to i < 7) {s : Nat} (hs7 : s < 7) (hT0 : ∀ p, p < 7 → T p p = 0) (hT : ∀ p q r, p < 7 → q < 7 → r < 7 → T p q ≤ T p r + T r q) (hb : ∀ p q, p < 7 → q < 7 → T p q = 1000000 ∨ T p q ≤ 25344) (h : (xdp k T fr to lb B s).2 < 1000000) :
    ∀ j, j < k → lb j ≤ B ∧ T s (fr j) < 1000000 ∧ T (fr j) (to j) < 1000000 := by
  intro j hj
  have key := xdp_inv (lb := lb) (B := B) (T := T) hk hfr hto (fun c p _ => T s p < 1000000 ∧ (1 ≤ dg c j → lb j ≤ B ∧ T s (fr j) < 1000000 ∧ T (fr j) p < 1000000) ∧ (dg c j = 2 → T (fr j) (to j) < 1000000)) hs7 ⟨by rw [hT0 s hs7]; omega, fun q => by unfold dg at q; rw [Nat.zero_div] at q; omega, fun q => by unfold dg at q; rw [Nat.zero_div] at q; omega⟩ ?_
  · obtain ⟨_, _, b3⟩ := xdp_best (k := k) (T := T) (fr := fr) (to := to) (lb := lb) (B := B) s
    rcases b3 with h9 | ⟨h8, h9⟩ | ⟨p, hp, h9⟩
    · omega
    · omega
    · obtain ⟨_, _, _, q1, q2⟩ := key (3 ^ k - 1) p (by omega)
      have hd := dg_of_last hk hj
      have := q1 (by omega)
      exact ⟨this.1, this.2.1, q2 hd⟩
  · intro c p v i hc hp ⟨hQ1, hQ2, hQ3⟩ hi hg hlt
    have hpl := gPl_lt hfr hto (c := c) hi
    obtain ⟨d1, d2, d3, d4, d5⟩ := dn_spec (to := to) (pl := gPl fr to c i) hk hc
    have hsp : T s (gPl fr to c i) < 1000000 := by
      have h1 := hT s (gPl fr to c i) p hs7 hpl hp
      have h2 := hb s p hs7 hp
      have h3 := hb p (gPl fr to c i) hp hpl
      omega
    have hfp : 1 ≤ dg c j → T (fr j) (gPl fr to c i) < 1000000 := by
      intro q
      have h0 := (hQ2 q).2.2
      have h1 := hT (fr j) (gPl fr to c i) p (hfr j hj) hpl hp
      have h2 := hb (fr j) p (hfr j hj) hp
      have h3 := hb p (gPl fr to c i) hp hpl
      omega
    have hdn : (1 ≤ dg (dn k to c (gPl fr to c i)) j → lb j ≤ B ∧ T s (fr j) < 1000000 ∧ T (fr j) (gPl fr to c i) < 1000000) ∧ (dg (dn k to c (gPl fr to c i)) j = 2 → T (fr j) (to j) < 1000000) := by
      rw [d3 j hj]
      by_cases hx : dg c j = 1 ∧ to j = gPl fr to c i
      · rw [if_pos hx]
        have := hQ2 (by omega)
        have h9 := hfp (by omega)
        exact ⟨fun _ => ⟨this.1, this.2.1, h9⟩, fun _ => by rw [hx.2]; exact h9⟩
      · rw [if_neg hx]
        exact ⟨fun q => ⟨(hQ2 q).1, (hQ2 q).2.1, hfp q⟩, hQ3⟩
    refine ⟨hsp, ?_⟩
    unfold gTh
    by_cases hx : dg c i = 0 ∧ ld k lb (dn k to c (gPl fr to c i)) (lb i) ≤ B
    · rw [if_pos hx]
      have hz : dg (dn k to c (gPl fr to c i)) i = 0 := by rw [d3 i hi, if_neg (by omega)]; exact hx.1
      rw [dg_add (by omega) (by omega) j (by omega)]
      by_cases hji : j = i
      · subst hji
        rw [if_pos rfl, hz]
        have hpf : gPl fr to c j = fr j := by unfold gPl; rw [if_pos hx.1]
        refine ⟨fun _ => ⟨?_, ?_, ?_⟩, fun q => by omega⟩
        · have := hx.2; rw [ld_more] at this; omega
        · rw [← hpf]; exact hsp
        · rw [hpf, hT0 _ (hfr j hj)]; omega
      · rw [if_neg hji]; exact hdn
    · rw [if_neg hx, Nat.add_zero]; exact hdn
theorem dp_one {fr to lb : Nat → Nat} (hfr : fr 0 < 7) (hto : to 0 < 7) {s : Nat} (hs7 : s < 7) (hB : lb 0 ≤ B) (h1 : T s (fr 0) + T (fr 0) (to 0) < 1000000) : (xdp 1 T fr to lb B s).2 < 1000000 := by
  have hcl := xdp_cl (k := 1) (T := T) (fr := fr) (to := to) (lb := lb) (B := B) s
  obtain ⟨_, b2, _⟩ := xdp_best (k := 1) (T := T) (fr := fr) (to := to) (lb := lb) (B := B) s
  have hl : lw 0 (xdp 1 T fr to lb B s).1 (t00 s) := by
    unfold xdp
    refine itF_inv0 (f := xR 1 T fr to lb B) (fun _ (u : Tb × Nat) => lw 0 u.1 (t00 s)) (3 ^ 1) _ (lw_refl _ _) ?_
    intro e u _ h
    exact lw_trans (lw_mono (by omega) (xR_all e u).1) h
  have h0 := hl.1 0 s
  unfold t00 at h0
  rw [tset_same] at h0
  have e0 : dn 1 to 0 (fr 0) = 0 := by simp [dn, itF, dnS, dg]
  have e1 : ld 1 lb 0 (lb 0) = lb 0 := by simp [ld, itF, ldS, dg]
  have p0 : gPl fr to 0 0 = fr 0 := by simp [gPl, dg]
  have g0 : gTh 1 fr to lb B 0 0 = 1 := by
    unfold gTh; rw [p0, e0, e1, if_pos ⟨by simp [dg], hB⟩]
  have c0 := hcl 0 s (by decide) hs7 (by omega) 0 (by omega) (by rw [g0]; omega)
  rw [g0, p0] at c0
  have p1 : gPl fr to 1 0 = to 0 := by simp [gPl, dg]
  have e2 : dn 1 to 1 (to 0) = 2 := by simp [dn, itF, dnS, dg]
  have g1 : gTh 1 fr to lb B 1 0 = 2 := by
    unfold gTh; rw [p1, e2, if_neg (by simp [dg])]
  have c1 := hcl 1 (fr 0) (by decide) hfr (by omega) 0 (by omega) (by rw [g1]; omega)
  rw [g1, p1] at c1
  have := b2 (to 0) hto (by rw [show 3 ^ 1 - 1 = 2 from rfl]; omega)
  rw [show 3 ^ 1 - 1 = 2 from rfl] at this
  omega
end DPv
