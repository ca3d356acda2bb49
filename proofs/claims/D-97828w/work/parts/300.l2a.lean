/-! LEVEL 2: the heap as a function of a store of ints -/
/-- a layout: where a cell lies, which cell lies at an address, tags and lengths, which entries are references (and to which cell), the rest of the heap, the next free address -/
abbrev Lt : Type := (Nat → Nat) × (Nat → Option Nat) × (Nat → Nat × Nat) × (Nat → Nat → Option (Option Nat)) × (Nat → Option cE) × Nat
abbrev St : Type := Nat → Nat → Int32
def vv (A : Nat → Nat) (p : Option (Option Nat)) (v : Int32) : Value := match p with
  | none => .int v
  | some none => .null
  | some (some r) => .ref (A r)
def hp (L : Lt) (σ : St) : cH := (fun a => match L.2.1 a with
  | some i => some ((L.2.2.1 i).1, (L.2.2.1 i).2, fun k => vv L.1 (L.2.2.2.1 i k) (σ i k))
  | none => L.2.2.2.2.1 a, L.2.2.2.2.2)
/-- the cell i is laid -/
def dm (L : Lt) (i : Nat) : Prop := L.2.1 (L.1 i) = some i
def Li (L : Lt) : Prop := ∀ a i, L.2.1 a = some i → L.1 i = a
def up2 (σ : St) (i k : Nat) (v : Int32) : St := fun i' k' => if i' = i ∧ k' = k then v else σ i' k'
theorem up2_same (σ : St) (i k : Nat) (v : Int32) : up2 σ i k v i k = v := by simp [up2]
theorem up2_ne {σ : St} {i k i' k' : Nat} {v : Int32} (h : ¬ (i' = i ∧ k' = k)) : up2 σ i k v i' k' = σ i' k' := by rw [up2, if_neg h]
section L2
variable {L : Lt} {σ : St} {i k t : Nat} {j v : Int32} {r : Option Nat}
theorem hp_at (h : dm L i) : (hp L σ).1 (L.1 i) = some ((L.2.2.1 i).1, (L.2.2.1 i).2, fun k => vv L.1 (L.2.2.2.1 i k) (σ i k)) := by
  unfold hp; dsimp only; rw [show L.2.1 (L.1 i) = some i from h]
theorem hp_cV (h : dm L i) : cV (hp L σ) (some (L.1 i)) = some (L.1 i, (L.2.2.1 i).1, (L.2.2.1 i).2, fun k => vv L.1 (L.2.2.2.1 i k) (σ i k)) := by
  unfold cV; dsimp only; rw [hp_at h]
theorem hp_tg (h : dm L i) : tg (hp L σ) (some (L.1 i)) = some (L.2.2.1 i).1 := by
  unfold tg; rw [hp_cV h]; rfl
theorem hp_fV (h : dm L i) (ht : (L.2.2.1 i).1 = t) : fV (hp L σ) (some (L.1 i)) t k = some (vv L.1 (L.2.2.2.1 i k) (σ i k)) := by
  unfold fV; rw [hp_cV h]; dsimp only; rw [if_pos ht]
theorem hp_fI (h : dm L i) (ht : (L.2.2.1 i).1 = t) (hp9 : L.2.2.2.1 i k = none) : fI (hp L σ) (some (L.1 i)) t k = some (σ i k) := by
  unfold fI; rw [hp_fV h ht, hp9]; rfl
theorem hp_fA (h : dm L i) (ht : (L.2.2.1 i).1 = t) (hp9 : L.2.2.2.1 i k = some r) : fA (hp L σ) (some (L.1 i)) t k = some (r.map L.1) := by
  unfold fA; rw [hp_fV h ht, hp9]; cases r <;> rfl
theorem hp_aV (h : dm L i) (ht : (L.2.2.1 i).1 = t) (hj : ¬ (j < 0 ∨ (L.2.2.1 i).2 ≤ j.toNatClampNeg)) : aV (hp L σ) (some (L.1 i)) t j = some (vv L.1 (L.2.2.2.1 i j.toNatClampNeg) (σ i j.toNatClampNeg)) := by
  unfold aV; rw [hp_cV h]; dsimp only; rw [if_pos ⟨ht, hj⟩]
theorem hp_aI (h : dm L i) (ht : (L.2.2.1 i).1 = t) (hj : ¬ (j < 0 ∨ (L.2.2.1 i).2 ≤ j.toNatClampNeg)) (hp9 : L.2.2.2.1 i j.toNatClampNeg = none) : aI (hp L σ) (some (L.1 i)) t j = some (σ i j.toNatClampNeg) := by
  unfold aI; rw [hp_aV h ht hj, hp9]; rfl
theorem hp_aA (h : dm L i) (ht : (L.2.2.1 i).1 = t) (hj : ¬ (j < 0 ∨ (L.2.2.1 i).2 ≤ j.toNatClampNeg)) (hp9 : L.2.2.2.1 i j.toNatClampNeg = some r) : aA (hp L σ) (some (L.1 i)) t j = some (r.map L.1) := by
  unfold aA; rw [hp_aV h ht hj, hp9]; cases r <;> rfl
theorem hp_aL (h : dm L i) (ht : 100 ≤ (L.2.2.1 i).1 ∧ (L.2.2.1 i).1 ≤ 105) : aL (hp L σ) (some (L.1 i)) = some (Int32.ofNat (L.2.2.1 i).2) := by
  unfold aL; rw [hp_cV h]; dsimp only; rw [if_pos ht]
theorem hp_wr (hL : Li L) (h : dm L i) (hp9 : L.2.2.2.1 i k = none) : wr (hp L σ) (L.1 i) ((L.2.2.1 i).1, (L.2.2.1 i).2, updV (fun k => vv L.1 (L.2.2.2.1 i k) (σ i k)) k (.int v)) = hp L (up2 σ i k v) := by
  refine Prod.ext (funext fun a => ?_) rfl
  show (if a = L.1 i then some ((L.2.2.1 i).1, (L.2.2.1 i).2, updV (fun k => vv L.1 (L.2.2.2.1 i k) (σ i k)) k (.int v)) else (hp L σ).1 a) = _
  by_cases ha : a = L.1 i
  · subst ha
    rw [if_pos rfl, hp_at h]
    refine congrArg some (congrArg (Prod.mk _) (congrArg (Prod.mk _) (funext fun k' => ?_)))
    unfold updV up2
    by_cases hk : k' = k
    · subst hk; rw [if_pos rfl, if_pos ⟨rfl, rfl⟩, hp9]; rfl
    · rw [if_neg hk, if_neg (fun q => hk q.2)]
  · rw [if_neg ha]
    unfold hp
    dsimp only
    cases hI : L.2.1 a with
    | none => rfl
    | some i' =>
      have hne : ¬ i' = i := fun q => ha (by rw [← q]; exact (hL a i' hI).symm)
      refine congrArg some (congrArg (Prod.mk _) (congrArg (Prod.mk _) (funext fun k' => ?_)))
      rw [up2_ne (fun q => hne q.1)]
theorem hp_pV (hL : Li L) (h : dm L i) (ht : (L.2.2.1 i).1 = t) (hp9 : L.2.2.2.1 i k = none) : pV (hp L σ) (some (L.1 i)) t k (.int v) = some (hp L (up2 σ i k v)) := by
  unfold pV; rw [hp_cV h]; dsimp only; rw [if_pos ht, hp_wr hL h hp9]
theorem hp_aS (hL : Li L) (h : dm L i) (ht : (L.2.2.1 i).1 = t) (hj : ¬ (j < 0 ∨ (L.2.2.1 i).2 ≤ j.toNatClampNeg)) (hp9 : L.2.2.2.1 i j.toNatClampNeg = none) : aS (hp L σ) (some (L.1 i)) t j (.int v) = some (hp L (up2 σ i j.toNatClampNeg v)) := by
  unfold aS; rw [hp_cV h]; dsimp only; rw [if_pos ⟨ht, hj⟩, hp_wr hL h hp9]
/-- a run of entries laid over another cell's -/
def cp2 (σ : St) (i sp i' dp n : Nat) : St := fun a k => if a = i' ∧ dp ≤ k ∧ k < dp + n then σ i (sp + (k - dp)) else σ a k
end L2
