/-- the classes by their tags -/
def gcl : List vw_C := [(RX0, TX0, 20), (RX1, TX1, 7), (RX2, TX2, 8), (RX3, TX3, 6), (RX4, TX4, 10), (RX5, TX5, 1), (RX6, TX6, 2), (RX7, TX7, 3), (RX8, TX8, 3), (RX9, TX9, 4), (RX10, TX10, 4), (RX11, TX11, 3), (RX12, TX12, 4), (RX13, TX13, 30)]
/-- the constant texts: lengths, bytes -/
def stlen : List Nat := [128, 7, 3, 6, 8, 6, 6, 6, 2, 6, 3, 5, 5, 6, 4, 2, 4]
def stbyt : List (List Int32) := [[99, 97, 114, 114, 105, 101, 114, 32, 111, 108, 100, 32, 32, 32, 32, 32, 112, 97, 105, 114, 101, 100, 32, 32, 99, 104, 101, 97, 116, 105, 110, 103, 104, 97, 110, 100, 101, 100, 32, 32, 119, 97, 116, 101, 114, 121, 32, 32, 98, 111, 97, 116, 101, 100, 32, 32, 119, 97, 121, 32, 32, 32, 32, 32, 101, 114, 114, 97, 110, 100, 32, 32, 119, 97, 114, 101, 32, 32, 32, 32, 97, 116, 32, 32, 32, 32, 32, 32, 115, 116, 114, 111, 110, 103, 32, 32, 121, 97, 114, 100, 115, 32, 32, 32, 114, 105, 118, 101, 114, 32, 32, 32, 102, 114, 111, 109, 32, 32, 32, 32, 116, 111, 32, 32, 32, 32, 32, 32], [99, 97, 114, 114, 105, 101, 114], [111, 108, 100], [112, 97, 105, 114, 101, 100], [99, 104, 101, 97, 116, 105, 110, 103], [104, 97, 110, 100, 101, 100], [119, 97, 116, 101, 114, 121], [98, 111, 97, 116, 101, 100], [97, 116], [115, 116, 114, 111, 110, 103], [119, 97, 121], [121, 97, 114, 100, 115], [114, 105, 118, 101, 114], [101, 114, 114, 97, 110, 100], [102, 114, 111, 109], [116, 111], [119, 97, 114, 101]]
def stown : List String := ["CarryFair$Reader", "CarryFairModel", "CarryFairModel", "CarryFairModel", "CarryFairModel", "CarryFairModel", "CarryFairModel", "CarryFairModel", "CarryFairModel", "CarryFairModel", "CarryFairModel", "CarryFairModel", "CarryFairModel", "CarryFairModel", "CarryFairModel", "CarryFairModel", "CarryFairModel"]
def stidx : List Nat := [74, 39, 41, 43, 45, 47, 49, 51, 326, 334, 340, 345, 347, 349, 354, 356, 358]
def sttx : List String := ["carrier old     paired  cheatinghanded  watery  boated  way     errand  ware    at      strong  yards   river   from    to      ", "carrier", "old", "paired", "cheating", "handed", "watery", "boated", "at", "strong", "way", "yards", "river", "errand", "from", "to", "ware"]
/-! LEVEL 0: the abstract heap, the judgement J, one row an instruction -/
/-- a cell: its tag (class number, or 100 and more: an array; 111: a constant text), its length, its contents -/
abbrev cE : Type := Nat × Nat × (Nat → Value)
/-- the cells by address, the next free address -/
abbrev cH : Type := (Nat → Option cE) × Nat
/-- state at the law's start, script's address, class numbers and slots, array classes, addresses of the constant texts -/
abbrev Gt : Type := State × Nat × va_G × (Nat → ClassId) × (Nat → Nat)
abbrev Xt : Type := Program × Launch × Env × Room × State × MethodId × Array Value × List Frame × Method × Code
def gb (g : Gt) : Nat := g.1.heap.size
/-- element types of the array tags -/
def aty (t : Nat) : Option FieldType := if t = 100 then some .int else if t = 101 then some .byte else if t = 102 then some .short else if t = 103 then some (.array .int) else if t = 104 then some (.object "CarryFair$Slot") else if t = 105 then some (.object "java/lang/String") else none
def hat (g : Gt) (a : Nat) (e : cE) (H : Heap) : Prop :=
  (∃ r : vw_C, gcl[e.1]? = some r ∧ e.2.1 = r.2.2 ∧ t_OB a (g.2.2.1.1 e.1) r.2.2 (g.2.2.1.2 e.1) H e.2.2 ∧ gb g ≤ a) ∨
  (∃ ty, aty e.1 = some ty ∧ H[a]? = some (arrV (g.2.2.2.1 e.1) e.2.1 e.2.2) ∧ gb g ≤ a) ∨
  (e.1 = 111 ∧ ∃ i, i < 17 ∧ a = g.2.2.2.2 i ∧ e.2.1 = stlen.getD i 0 ∧ ∀ j, j < e.2.1 → e.2.2 j = .int ((stbyt.getD i []).getD j 0))
def hrep (g : Gt) (w : cH) (H : Heap) : Prop := H.size = w.2 ∧ gb g ≤ w.2 ∧ (∀ q : Nat, q < gb g → H[q]? = g.1.heap[q]?) ∧ ∀ (a : Nat) (e : cE), w.1 a = some e → hat g a e H
def wk (g : Gt) (w : cH) (U : State) : Prop := g.1.WarmedH U.vm ∧ hrep g w U.heap
/-- what is known of the start -/
def Gok (g : Gt) : Prop := (∀ w ∈ lw_tbl, w.before #[Value.ref g.2.1] g.1 = true) ∧ (Jvm.Cond.and given_1 narrow_1).before #[Value.ref g.2.1] g.1 = true ∧
  (∀ (c : Nat) (q : vw_C), gcl[c]? = some q → u_Kn g.1 q.1 q.2.1 q.2.2 (g.2.2.1.1 c) (g.2.2.1.2 c)) ∧
  (∀ (t : Nat) (ty : FieldType), aty t = some ty → ArrOfT g.1 (g.2.2.2.1 t) ty ∧ va_RA g.1 (g.2.2.2.1 t) ty) ∧
  (∃ adV : Nat → Nat, vk_S 17 stlen stbyt g.2.2.2.2 adV (fun q => gb g ≤ q) g.1 g.1.heap) ∧ ∀ i, i < 17 → vk_R (stown.getD i "") (stidx.getD i 0) (sttx.getD i "") (g.2.2.2.2 i) g.1
def lk (ls : Array Slot) (nL : Nat) (vs : List (Option Value)) : Prop := ls.size = nL ∧ lv_wf ls ∧ ∀ (i : Nat) (v : Value), vs[i]? = some (some v) → ls[i]? = some (.val v) ∧ v.category = 1
/-- how a method's walk ends: outcome o, the heap w1, at most mc cells of ms slots made -/
def MQx (g : Gt) (below : List Frame) (s : State) (o : Outcome) (w1 : cH) (mc ms : Nat) : State → Prop := fun t =>
  t.status = .running ∧ Ended t below o ∧ wk g w1 t ∧ ∃ L, s.WarmedH t.vm ∧ s.sameButNew ({ t with vm := s.vm } : State) L mc ms ∧ ∀ q ∈ L, gb g ≤ q.base
def Bd (g : Gt) (x : Xt) (cc : ByteArray) (nL : Nat) (own : String) (ret : Option FieldType) : Prop := match x with
  | (p, _, _, _, s, m, args, _, meth, c) => p.tables.exec = Jvm.exec ∧ c.code = cc ∧ c.maxLocals = nL ∧ s.vm.findClass own = some m.cls ∧ (∀ w ∈ lw_all, w.before args s = true) ∧ meth.sig.returnType = ret ∧ meth.locks = false ∧ g.1.WarmedH s.vm ∧ Gok g
def J (g : Gt) (x : Xt) (o : Outcome) (w1 : cH) (mc ms : Nat) (w : cH) (k n pc : Nat) (vs : List (Option Value)) (st : List Value) : Prop := match x with
  | (p, l, e, R, s, m, args, below, meth, c) => ∀ (H : Heap) (locs : List Loc) (ls : Array Slot), hrep g w H → (∀ q ∈ locs, gb g ≤ q.base) → lk ls c.maxLocals vs → W p l e R s m args below meth c H locs k n (MQx g below s o w1 mc ms) (F0 m pc ls st)
/-- a method's contract: from the heap w, with the arguments av, it ends with outcome o and the heap w1 -/
def Mx (l : Launch) (y : MethodName) (ws : List Cond) (rm : Room) (g : Gt) (av : List Value) (w : cH) (o : Outcome) (w1 : cH) (mc ms : Nat) : Prop :=
  MetFree l y (headSpec ws rm) (fun a U => a = av.toArray ∧ wk g w U) (fun _ _ _ _ _ => True) (fun _ st oc t => oc = o ∧ wk g w1 t ∧ ∃ L, st.WarmedH t.vm ∧ st.sameButNew ({ t with vm := st.vm } : State) L mc ms ∧ ∀ q ∈ L, gb g ≤ q.base)
theorem wk_calling {g : Gt} {w : cH} {U : State} (h : wk g w U) (f : JFrame) (mk : MethodId) (a : Array Value) : wk g w (U.calling f mk a) := h
theorem Mx.met {l : Launch} {y : MethodName} {ws : List Cond} {rm : Room} {g : Gt} {av : List Value} {w w1 : cH} {v : Option Value} {mc ms : Nat} (h : Mx l y ws rm g av w (.returned v) w1 mc ms) :
    Met l y ws rm (fun a U => a = av.toArray ∧ wk g w U) (fun _ _ oc t => oc = .returned v ∧ wk g w1 t) mc ms (fun q => gb g ≤ q) := by
  intro p e h1 h2 h3 s m args below h4 h5 h6 h7
  obtain ⟨n, o, a1, a2, a3, rfl, a5, L, a6, a7, a8⟩ := h p e h1 h2 h3 s m args below h4 h5 h6 h7
  exact ⟨n, _, a1, a2, a3, ⟨rfl, a5⟩, L, ⟨⟨v, rfl⟩, a6, a7⟩, a8⟩
theorem W_mono {p : Program} {l : Launch} {e : Env} {R : Room} {s : State} {m : MethodId} {args : Array Value} {below : List Frame} {meth : Method} {c : Code} {H : Heap} {locs : List Loc} {k n : Nat} {Q Q' : State → Prop} {f : JFrame} (hq : ∀ t, Q t → Q' t) (h : W p l e R s m args below meth c H locs k n Q f) : W p l e R s m args below meth c H locs k n Q' f := by
  intro T hT X
  obtain ⟨t, a, b⟩ := h T hT X
  exact ⟨t, a, hq t b⟩
/-- a returning end -/
theorem MQx_of {g : Gt} {below : List Frame} {s t : State} {args : Array Value} {v : Option Value} {w1 : cH} {mc ms : Nat} (h : MQ below (fun _ _ oc t => oc = .returned v ∧ wk g w1 t) args s mc ms (fun q => gb g ≤ q) t) : MQx g below s (.returned v) w1 mc ms t := by
  obtain ⟨o, h1, h2, ⟨rfl, h4⟩, L, ⟨-, h5, h6⟩, h7⟩ := h
  exact ⟨h1, h2, h4, L, h5, h6, h7⟩
theorem wk_end {g : Gt} {w : cH} {s t : State} {H : Heap} (h0 : g.1.WarmedH s.vm) (hH : hrep g w H) (ht : t.heap = H) (hW : s.WarmedH t.vm) : wk g w t := ⟨State.WarmedH.trans h0 hW, by rw [ht]; exact hH⟩
/-- the locals at a method's entry, all of one word -/
theorem lk_args (vs : List Value) (hv : vs.all (fun v => v.category == 1) = true) (i : Nat) : lv_args i vs = (List.range vs.length).map (fun j => (i + j, vs.getD j .null)) := by
  induction vs generalizing i with
  | nil => rfl
  | cons v vs ih =>
    simp only [List.all_cons, Bool.and_eq_true, beq_iff_eq] at hv
    rw [lv_args, ih hv.2, List.length_cons, List.range_succ_eq_map, List.map_cons, List.map_map, hv.1]
    refine congr (congrArg List.cons rfl) (List.map_congr_left fun j _ => ?_)
    simp only [Function.comp, List.getD_cons_succ]
    rw [if_neg (by decide)]
    refine Prod.ext ?_ rfl
    show i + 1 + j = i + (j + 1)
    omega
theorem lk_entry (vs : List Value) {n : Nat} (h : (lg_sl vs).length ≤ n) (hv : vs.all (fun v => v.category == 1) = true) : lk ((lg_sl vs ++ List.replicate (n - (lg_sl vs).length) Slot.unset).toArray) n (vs.map some) := by
  obtain ⟨h1, h2, h3⟩ := lv_entry vs h
  refine ⟨h1, h2, fun i v hi => ?_⟩
  rw [List.getElem?_map] at hi
  cases hq : vs[i]? with
  | none => rw [hq] at hi; cases hi
  | some v' =>
    rw [hq] at hi
    cases hi
    have hm : v ∈ vs := List.mem_of_getElem? hq
    refine ⟨h3 (i, v) ?_, by simpa using List.all_eq_true.mp hv v hm⟩
    rw [lk_args vs hv 0]
    have hlt : i < vs.length := (List.getElem?_eq_some_iff.mp hq).1
    refine List.mem_map.mpr ⟨i, List.mem_range.mpr hlt, ?_⟩
    simp [List.getD_eq_getElem?_getD, hq]

def padL (n : Nat) (vs : List (Option Value)) : List (Option Value) := vs ++ List.replicate (n - vs.length) none
theorem lk_pad {ls : Array Slot} {nL n : Nat} {vs : List (Option Value)} (h : lk ls nL vs) : lk ls nL (padL n vs) := by
  refine ⟨h.1, h.2.1, fun i v hi => h.2.2 i v ?_⟩
  unfold padL at hi
  rw [List.getElem?_append] at hi
  split at hi
  · exact hi
  · rw [List.getElem?_replicate] at hi
    split at hi
    · cases hi
    · cases hi
set_option maxHeartbeats 1000000 in
/-- THE HEAD OF A METHOD -/
theorem mk_ct {l : Launch} {y : MethodName} {rm : Room} {g : Gt} {av : List Value} {w w1 : cH} {o : Outcome} {mc ms : Nat} (cc : ByteArray) (nL : Nat) (ret : Option FieldType) (own : String) (hy : plainFor y = true) (ho : y.cls = own) (hn : (lg_sl av).length ≤ nL) (hv : av.all (fun v => v.category == 1) = true) (G : Gok g)
    (body : ∀ x : Xt, Bd g x cc nL own ret → x.2.1 = l → x.2.2.2.1 = rm → x.2.2.2.2.2.2.2.2.1.name = y.name → x.2.2.2.2.2.2.2.2.2.exceptionTable.isEmpty = true → J g x o w1 mc ms w 0 0 0 (padL nL (av.map some)) []) : Mx l y (ws_ y cc nL ret) rm g av w o w1 mc ms := by
  refine MetFree.of_bodySF (code := cc) (maxLocals := nL) (ret := ret) hy ?_ ?_
  · intro args s m h hn
    obtain ⟨meth, c, h1, h2, h3, h4, h5, h6, -, -⟩ := Cond.code_spec hn (atoms_spec (ws := ws_ y cc nL ret) h _ List.mem_cons_self)
    exact ⟨meth, c, h1, h2, h3, h4, h5, h6⟩
  · intro p e s m args below meth c s₁ B hml hP _
    obtain ⟨rfl, hW0, hH⟩ := hP
    have hh0 : s₁.heap = s.heap := by rw [B.state]; rfl
    have hts := atoms_spec (ws := ws_ y cc nL ret) B.pre
    have hcode := hts _ List.mem_cons_self
    have hJ := body (p, l, e, rm, s, m, av.toArray, below, meth, c) ⟨B.exec, B.bytes, hml, by rw [← ho]; exact findClass_of_methodNamed B.named, fun w h => hts w (List.mem_cons_of_mem _ h), B.returns, B.notSynchronized, hW0, G⟩ rfl rfl (name_of_methodNamed B.named B.method).1 (B.noHandlers hcode)
    have hl := lk_entry av (n := nL) hn hv
    have hWj := hJ s.heap [] _ hH (fun q h => by cases h) (by rw [hml]; exact lk_pad hl)
    rw [← lg_entry_eq] at hWj
    obtain ⟨t, a1, b1, b2, b3, b4⟩ := hWj s₁ hh0 (Stand.of_body B)
    exact ⟨t, o, a1, b1, b2, rfl, b3, b4⟩
section JR
variable {g : Gt} {x : Xt} {o : Outcome} {w1 : cH} {mc ms : Nat} {w : cH} {k n pc : Nat} {vs vs' : List (Option Value)} {st : List Value} {cc : ByteArray} {nL : Nat} {own : String} {ret : Option FieldType}
/-- forgetting locals -/
def mskL : List Bool → List (Option Value) → List (Option Value)
  | b :: bs, v :: vs => (if b then v else none) :: mskL bs vs
  | _, _ => []
theorem mskL_get : ∀ (bs : List Bool) (vs : List (Option Value)) (i : Nat) (v : Value), (mskL bs vs)[i]? = some (some v) → vs[i]? = some (some v)
  | [], _, i, v, h => by simp [mskL] at h
  | _ :: _, [], i, v, h => by simp [mskL] at h
  | b :: bs, u :: vs, 0, v, h => by
    simp only [mskL, List.getElem?_cons_zero, Option.some.injEq] at h ⊢
    cases b with
    | true => simpa using h
    | false => simp at h
  | b :: bs, u :: vs, i + 1, v, h => by
    simp only [mskL, List.getElem?_cons_succ] at h ⊢
    exact mskL_get bs vs i v h
theorem j_msk (bs : List Bool) (h : mskL bs vs = vs') (kk : J g x o w1 mc ms w k n pc vs' st) : J g x o w1 mc ms w k n pc vs st := by
  obtain ⟨p, l, e, R, s, m, args, below, meth, c⟩ := x
  intro H locs ls hH hL hl
  refine kk H locs ls hH hL ⟨hl.1, hl.2.1, fun i v hi => hl.2.2 i v (mskL_get bs vs i v ?_)⟩
  rw [h]
  exact hi
theorem lk_store {ls : Array Slot} {i : Nat} {v : Value} (h : lk ls nL vs) (hi : i < nL) (hc : v.category = 1) (hs : vs.set i (some v) = vs') : ∃ ls', storeLocals ls i v = some ls' ∧ lk ls' nL vs' := by
  have hall : lv_has ls nL ((List.range vs.length).filterMap fun j => ((vs.getD j none).map fun u => (j, u))) := by
    refine ⟨h.1, h.2.1, fun q hq => ?_⟩
    obtain ⟨j, -, hj⟩ := List.mem_filterMap.mp hq
    cases hu : vs.getD j none with
    | none => rw [hu] at hj; cases hj
    | some u =>
      rw [hu] at hj
      cases hj
      refine (h.2.2 j u ?_).1
      rw [List.getD_eq_getElem?_getD] at hu
      cases hz : vs[j]? with
      | none => rw [hz] at hu; cases hu
      | some z => rw [hz] at hu; exact congrArg some hu
  obtain ⟨ls', e1, e2⟩ := lv_store1 (v := v) hall hi hc
  refine ⟨ls', e1, e2.1, e2.2.1, fun j u hj => ?_⟩
  subst hs
  by_cases hji : j = i
  · subst hji
    have hu : u = v := by
      rw [List.getElem?_set] at hj
      split at hj
      · split at hj
        · exact (Option.some.inj (Option.some.inj hj)).symm
        · cases hj
      · rename_i z; exact absurd rfl z
    subst hu
    exact ⟨e2.2.2 (j, u) List.mem_cons_self, hc⟩
  · rw [List.getElem?_set_ne (fun z => hji z.symm)] at hj
    have hu := h.2.2 j u hj
    refine ⟨e2.2.2 (j, u) (List.mem_cons_of_mem _ (List.mem_filter.mpr ⟨List.mem_filterMap.mpr ⟨j, List.mem_range.mpr (List.getElem?_eq_some_iff.mp hj).1, ?_⟩, ?_⟩)), hu.2⟩
    · rw [List.getD_eq_getElem?_getD, hj]; rfl
    · simp [hji, hu.2]

theorem j_iconst (B : Bd g x cc nL own ret) {i : Int} {v : Int32} (d : decode cc pc = .ok (.iconst i, 1)) (hv : Int32.ofInt i = v) (kk : J g x o w1 mc ms w k n (pc + 1) vs (.int v :: st)) : J g x o w1 mc ms w k n pc vs st := by
  obtain ⟨p, l, e, R, s, m, args, below, meth, c⟩ := x
  obtain ⟨hx, hb, hml, hown, hts, hr, hlk, hW0, hG⟩ := B
  intro H locs ls hH hL hl
  exact lv_iconst hx hb d hv (kk H locs ls hH hL hl)

theorem j_bipush (B : Bd g x cc nL own ret) {i : Int} {v : Int32} (d : decode cc pc = .ok (.bipush i, 2)) (hv : (Int8.ofInt i).toInt32 = v) (kk : J g x o w1 mc ms w k n (pc + 2) vs (.int v :: st)) : J g x o w1 mc ms w k n pc vs st := by
  obtain ⟨p, l, e, R, s, m, args, below, meth, c⟩ := x
  obtain ⟨hx, hb, hml, hown, hts, hr, hlk, hW0, hG⟩ := B
  intro H locs ls hH hL hl
  exact lv_bipush hx hb d hv (kk H locs ls hH hL hl)

theorem j_sipush (B : Bd g x cc nL own ret) {i : Int} {v : Int32} (d : decode cc pc = .ok (.sipush i, 3)) (hv : (Int16.ofInt i).toInt32 = v) (kk : J g x o w1 mc ms w k n (pc + 3) vs (.int v :: st)) : J g x o w1 mc ms w k n pc vs st := by
  obtain ⟨p, l, e, R, s, m, args, below, meth, c⟩ := x
  obtain ⟨hx, hb, hml, hown, hts, hr, hlk, hW0, hG⟩ := B
  intro H locs ls hH hL hl
  exact lv_sipush hx hb d hv (kk H locs ls hH hL hl)

theorem j_ldc (B : Bd g x cc nL own ret) {i : Nat} {v : Int32} (hc : Cond.constant own i v ∈ lw_all) (d : decode cc pc = .ok (.ldc i, 2)) (kk : J g x o w1 mc ms w k n (pc + 2) vs (.int v :: st)) : J g x o w1 mc ms w k n pc vs st := by
  obtain ⟨p, l, e, R, s, m, args, below, meth, c⟩ := x
  obtain ⟨hx, hb, hml, hown, hts, hr, hlk, hW0, hG⟩ := B
  intro H locs ls hH hL hl
  exact lv_ldc hx hb hown (hts _ hc) d (kk H locs ls hH hL hl)

theorem j_ldcw (B : Bd g x cc nL own ret) {i : Nat} {v : Int32} (hc : Cond.constant own i v ∈ lw_all) (d : decode cc pc = .ok (.ldc_w i, 3)) (kk : J g x o w1 mc ms w k n (pc + 3) vs (.int v :: st)) : J g x o w1 mc ms w k n pc vs st := by
  obtain ⟨p, l, e, R, s, m, args, below, meth, c⟩ := x
  obtain ⟨hx, hb, hml, hown, hts, hr, hlk, hW0, hG⟩ := B
  intro H locs ls hH hL hl
  exact lv_ldcw hx hb hown (hts _ hc) d (kk H locs ls hH hL hl)

theorem j_null (B : Bd g x cc nL own ret) (d : decode cc pc = .ok (.aconst_null, 1)) (kk : J g x o w1 mc ms w k n (pc + 1) vs (va_rf none :: st)) : J g x o w1 mc ms w k n pc vs st := by
  obtain ⟨p, l, e, R, s, m, args, below, meth, c⟩ := x
  obtain ⟨hx, hb, hml, hown, hts, hr, hlk, hW0, hG⟩ := B
  intro H locs ls hH hL hl
  exact lv_null hx hb d (kk H locs ls hH hL hl)

theorem j_iload_n (B : Bd g x cc nL own ret) {i : Fin 4} {a : Int32} (d : decode cc pc = .ok (.iload_n i, 1)) (hv : vs[(i : Nat)]? = some (some (.int a))) (kk : J g x o w1 mc ms w k n (pc + 1) vs (.int a :: st)) : J g x o w1 mc ms w k n pc vs st := by
  obtain ⟨p, l, e, R, s, m, args, below, meth, c⟩ := x
  obtain ⟨hx, hb, hml, hown, hts, hr, hlk, hW0, hG⟩ := B
  intro H locs ls hH hL hl
  exact lv_iload_n hx hb d rfl (hl.2.2 _ _ hv).1 (kk H locs ls hH hL hl)

theorem j_iload (B : Bd g x cc nL own ret) {i : Nat} {a : Int32} (d : decode cc pc = .ok (.iload i, 2)) (hv : vs[i]? = some (some (.int a))) (kk : J g x o w1 mc ms w k n (pc + 2) vs (.int a :: st)) : J g x o w1 mc ms w k n pc vs st := by
  obtain ⟨p, l, e, R, s, m, args, below, meth, c⟩ := x
  obtain ⟨hx, hb, hml, hown, hts, hr, hlk, hW0, hG⟩ := B
  intro H locs ls hH hL hl
  exact lv_iload hx hb d (hl.2.2 _ _ hv).1 (kk H locs ls hH hL hl)

theorem j_aload_n (B : Bd g x cc nL own ret) {i : Fin 4} {a : Option Nat} (d : decode cc pc = .ok (.aload_n i, 1)) (hv : vs[(i : Nat)]? = some (some (va_rf a))) (kk : J g x o w1 mc ms w k n (pc + 1) vs (va_rf a :: st)) : J g x o w1 mc ms w k n pc vs st := by
  obtain ⟨p, l, e, R, s, m, args, below, meth, c⟩ := x
  obtain ⟨hx, hb, hml, hown, hts, hr, hlk, hW0, hG⟩ := B
  intro H locs ls hH hL hl
  cases a with
  | none => exact lv_aload_nN hx hb d rfl (hl.2.2 _ _ hv).1 (kk H locs ls hH hL hl)
  | some a => exact lv_aload_n hx hb d rfl (hl.2.2 _ _ hv).1 (kk H locs ls hH hL hl)

theorem j_aload (B : Bd g x cc nL own ret) {i : Nat} {a : Option Nat} (d : decode cc pc = .ok (.aload i, 2)) (hv : vs[i]? = some (some (va_rf a))) (kk : J g x o w1 mc ms w k n (pc + 2) vs (va_rf a :: st)) : J g x o w1 mc ms w k n pc vs st := by
  obtain ⟨p, l, e, R, s, m, args, below, meth, c⟩ := x
  obtain ⟨hx, hb, hml, hown, hts, hr, hlk, hW0, hG⟩ := B
  intro H locs ls hH hL hl
  cases a with
  | none => exact lv_aloadN hx hb d (hl.2.2 _ _ hv).1 (kk H locs ls hH hL hl)
  | some a => exact lv_aload hx hb d (hl.2.2 _ _ hv).1 (kk H locs ls hH hL hl)

theorem j_istore_n (B : Bd g x cc nL own ret) {i : Fin 4} {a : Int32} (d : decode cc pc = .ok (.istore_n i, 1)) (hi : (i : Nat) < nL) (hs : vs.set (i : Nat) (some (.int a)) = vs') (kk : J g x o w1 mc ms w k n (pc + 1) vs' st) : J g x o w1 mc ms w k n pc vs (.int a :: st) := by
  obtain ⟨p, l, e, R, s, m, args, below, meth, c⟩ := x
  obtain ⟨hx, hb, hml, hown, hts, hr, hlk, hW0, hG⟩ := B
  intro H locs ls hH hL hl
  obtain ⟨ls', e', h'⟩ := lk_store (v := .int a) hl (by rw [hml]; exact hi) rfl hs
  have kk' := kk H locs ls' hH hL h'
  intro T hT X
  obtain ⟨t, a1, b1⟩ := kk' T hT X
  refine ⟨t, ?_, b1⟩
  jvm_step X.here [X.here.top, ↓top_set X.here.top, hx, hb, d, e']
  exact a1

theorem j_istore (B : Bd g x cc nL own ret) {i : Nat} {a : Int32} (d : decode cc pc = .ok (.istore i, 2)) (hi : i < nL) (hs : vs.set i (some (.int a)) = vs') (kk : J g x o w1 mc ms w k n (pc + 2) vs' st) : J g x o w1 mc ms w k n pc vs (.int a :: st) := by
  obtain ⟨p, l, e, R, s, m, args, below, meth, c⟩ := x
  obtain ⟨hx, hb, hml, hown, hts, hr, hlk, hW0, hG⟩ := B
  intro H locs ls hH hL hl
  obtain ⟨ls', e', h'⟩ := lk_store (v := .int a) hl (by rw [hml]; exact hi) rfl hs
  have kk' := kk H locs ls' hH hL h'
  intro T hT X
  obtain ⟨t, a1, b1⟩ := kk' T hT X
  refine ⟨t, ?_, b1⟩
  jvm_step X.here [X.here.top, ↓top_set X.here.top, hx, hb, d, e']
  exact a1

theorem j_astore_n (B : Bd g x cc nL own ret) {i : Fin 4} {a : Option Nat} (d : decode cc pc = .ok (.astore_n i, 1)) (hi : (i : Nat) < nL) (hs : vs.set (i : Nat) (some (va_rf a)) = vs') (kk : J g x o w1 mc ms w k n (pc + 1) vs' st) : J g x o w1 mc ms w k n pc vs (va_rf a :: st) := by
  obtain ⟨p, l, e, R, s, m, args, below, meth, c⟩ := x
  obtain ⟨hx, hb, hml, hown, hts, hr, hlk, hW0, hG⟩ := B
  intro H locs ls hH hL hl
  have hca : (va_rf a).category = 1 := by cases a <;> rfl
  obtain ⟨ls', e', h'⟩ := lk_store (v := va_rf a) hl (by rw [hml]; exact hi) hca hs
  have kk' := kk H locs ls' hH hL h'
  cases a with
  | none =>
    intro T hT X
    obtain ⟨t, a1, b1⟩ := kk' T hT X
    refine ⟨t, ?_, b1⟩
    have e' : storeLocals ls _ Value.null = some ls' := e'
    show Steps _ _ _ (T.setTop (F0 m pc ls (Value.null :: st))) t
    jvm_step X.here [X.here.top, ↓top_set X.here.top, hx, hb, d, e']
    exact ⟨rfl, a1⟩
  | some a =>
    intro T hT X
    obtain ⟨t, a1, b1⟩ := kk' T hT X
    refine ⟨t, ?_, b1⟩
    have e' : storeLocals ls _ (Value.ref a) = some ls' := e'
    show Steps _ _ _ (T.setTop (F0 m pc ls (Value.ref a :: st))) t
    jvm_step X.here [X.here.top, ↓top_set X.here.top, hx, hb, d, e']
    exact ⟨rfl, a1⟩

theorem j_astore (B : Bd g x cc nL own ret) {i : Nat} {a : Option Nat} (d : decode cc pc = .ok (.astore i, 2)) (hi : i < nL) (hs : vs.set i (some (va_rf a)) = vs') (kk : J g x o w1 mc ms w k n (pc + 2) vs' st) : J g x o w1 mc ms w k n pc vs (va_rf a :: st) := by
  obtain ⟨p, l, e, R, s, m, args, below, meth, c⟩ := x
  obtain ⟨hx, hb, hml, hown, hts, hr, hlk, hW0, hG⟩ := B
  intro H locs ls hH hL hl
  have hca : (va_rf a).category = 1 := by cases a <;> rfl
  obtain ⟨ls', e', h'⟩ := lk_store (v := va_rf a) hl (by rw [hml]; exact hi) hca hs
  have kk' := kk H locs ls' hH hL h'
  cases a with
  | none =>
    intro T hT X
    obtain ⟨t, a1, b1⟩ := kk' T hT X
    refine ⟨t, ?_, b1⟩
    have e' : storeLocals ls _ Value.null = some ls' := e'
    show Steps _ _ _ (T.setTop (F0 m pc ls (Value.null :: st))) t
    jvm_step X.here [X.here.top, ↓top_set X.here.top, hx, hb, d, e']
    exact ⟨rfl, a1⟩
  | some a =>
    intro T hT X
    obtain ⟨t, a1, b1⟩ := kk' T hT X
    refine ⟨t, ?_, b1⟩
    have e' : storeLocals ls _ (Value.ref a) = some ls' := e'
    show Steps _ _ _ (T.setTop (F0 m pc ls (Value.ref a :: st))) t
    jvm_step X.here [X.here.top, ↓top_set X.here.top, hx, hb, d, e']
    exact ⟨rfl, a1⟩

theorem j_iinc (B : Bd g x cc nL own ret) {i : Nat} {n9 : Int} {a v : Int32} (d : decode cc pc = .ok (.iinc i n9, 3)) (hi : i < nL) (hv : vs[i]? = some (some (.int a))) (he : a + Int32.ofInt n9 = v) (hs : vs.set i (some (.int v)) = vs') (kk : J g x o w1 mc ms w k n (pc + 3) vs' st) : J g x o w1 mc ms w k n pc vs st := by
  obtain ⟨p, l, e, R, s, m, args, below, meth, c⟩ := x
  obtain ⟨hx, hb, hml, hown, hts, hr, hlk, hW0, hG⟩ := B
  intro H locs ls hH hL hl
  subst he
  obtain ⟨ls', e', h'⟩ := lk_store (v := .int (a + Int32.ofInt n9)) hl (by rw [hml]; exact hi) rfl hs
  have kk' := kk H locs ls' hH hL h'
  have hg := (hl.2.2 _ _ hv).1
  intro T hT X
  obtain ⟨t, a1, b1⟩ := kk' T hT X
  refine ⟨t, ?_, b1⟩
  jvm_step X.here [X.here.top, ↓top_set X.here.top, hx, hb, d, hg, e']
  exact a1

theorem j_iadd (B : Bd g x cc nL own ret) {a b : Int32} (d : decode cc pc = .ok (.iadd, 1)) (kk : J g x o w1 mc ms w k n (pc + 1) vs (.int (a + b) :: st)) : J g x o w1 mc ms w k n pc vs (.int b :: .int a :: st) := by
  obtain ⟨p, l, e, R, s, m, args, below, meth, c⟩ := x
  obtain ⟨hx, hb, hml, hown, hts, hr, hlk, hW0, hG⟩ := B
  intro H locs ls hH hL hl
  exact lv_iadd hx hb d (kk H locs ls hH hL hl)

theorem j_isub (B : Bd g x cc nL own ret) {a b : Int32} (d : decode cc pc = .ok (.isub, 1)) (kk : J g x o w1 mc ms w k n (pc + 1) vs (.int (a - b) :: st)) : J g x o w1 mc ms w k n pc vs (.int b :: .int a :: st) := by
  obtain ⟨p, l, e, R, s, m, args, below, meth, c⟩ := x
  obtain ⟨hx, hb, hml, hown, hts, hr, hlk, hW0, hG⟩ := B
  intro H locs ls hH hL hl
  exact lv_isub hx hb d (kk H locs ls hH hL hl)

theorem j_imul (B : Bd g x cc nL own ret) {a b : Int32} (d : decode cc pc = .ok (.imul, 1)) (kk : J g x o w1 mc ms w k n (pc + 1) vs (.int (a * b) :: st)) : J g x o w1 mc ms w k n pc vs (.int b :: .int a :: st) := by
  obtain ⟨p, l, e, R, s, m, args, below, meth, c⟩ := x
  obtain ⟨hx, hb, hml, hown, hts, hr, hlk, hW0, hG⟩ := B
  intro H locs ls hH hL hl
  exact lv_imul hx hb d (kk H locs ls hH hL hl)

theorem j_iand (B : Bd g x cc nL own ret) {a b : Int32} (d : decode cc pc = .ok (.iand, 1)) (kk : J g x o w1 mc ms w k n (pc + 1) vs (.int (a &&& b) :: st)) : J g x o w1 mc ms w k n pc vs (.int b :: .int a :: st) := by
  obtain ⟨p, l, e, R, s, m, args, below, meth, c⟩ := x
  obtain ⟨hx, hb, hml, hown, hts, hr, hlk, hW0, hG⟩ := B
  intro H locs ls hH hL hl
  exact lv_iand hx hb d (kk H locs ls hH hL hl)

theorem j_ior (B : Bd g x cc nL own ret) {a b : Int32} (d : decode cc pc = .ok (.ior, 1)) (kk : J g x o w1 mc ms w k n (pc + 1) vs (.int (a ||| b) :: st)) : J g x o w1 mc ms w k n pc vs (.int b :: .int a :: st) := by
  obtain ⟨p, l, e, R, s, m, args, below, meth, c⟩ := x
  obtain ⟨hx, hb, hml, hown, hts, hr, hlk, hW0, hG⟩ := B
  intro H locs ls hH hL hl
  exact lv_ior hx hb d (kk H locs ls hH hL hl)

theorem j_ixor (B : Bd g x cc nL own ret) {a b : Int32} (d : decode cc pc = .ok (.ixor, 1)) (kk : J g x o w1 mc ms w k n (pc + 1) vs (.int (a ^^^ b) :: st)) : J g x o w1 mc ms w k n pc vs (.int b :: .int a :: st) := by
  obtain ⟨p, l, e, R, s, m, args, below, meth, c⟩ := x
  obtain ⟨hx, hb, hml, hown, hts, hr, hlk, hW0, hG⟩ := B
  intro H locs ls hH hL hl
  exact lv_ixor hx hb d (kk H locs ls hH hL hl)

theorem j_ishl (B : Bd g x cc nL own ret) {a b : Int32} (d : decode cc pc = .ok (.ishl, 1)) (kk : J g x o w1 mc ms w k n (pc + 1) vs (.int (a <<< (b &&& 31)) :: st)) : J g x o w1 mc ms w k n pc vs (.int b :: .int a :: st) := by
  obtain ⟨p, l, e, R, s, m, args, below, meth, c⟩ := x
  obtain ⟨hx, hb, hml, hown, hts, hr, hlk, hW0, hG⟩ := B
  intro H locs ls hH hL hl
  exact lv_ishl hx hb d (kk H locs ls hH hL hl)

theorem j_ishr (B : Bd g x cc nL own ret) {a b : Int32} (d : decode cc pc = .ok (.ishr, 1)) (kk : J g x o w1 mc ms w k n (pc + 1) vs (.int (a >>> (b &&& 31)) :: st)) : J g x o w1 mc ms w k n pc vs (.int b :: .int a :: st) := by
  obtain ⟨p, l, e, R, s, m, args, below, meth, c⟩ := x
  obtain ⟨hx, hb, hml, hown, hts, hr, hlk, hW0, hG⟩ := B
  intro H locs ls hH hL hl
  exact lv_ishr hx hb d (kk H locs ls hH hL hl)

theorem j_idiv (B : Bd g x cc nL own ret) {a b : Int32} (d : decode cc pc = .ok (.idiv, 1)) (hne : ¬ b = 0) (kk : J g x o w1 mc ms w k n (pc + 1) vs (.int (a / b) :: st)) : J g x o w1 mc ms w k n pc vs (.int b :: .int a :: st) := by
  obtain ⟨p, l, e, R, s, m, args, below, meth, c⟩ := x
  obtain ⟨hx, hb, hml, hown, hts, hr, hlk, hW0, hG⟩ := B
  intro H locs ls hH hL hl
  exact lv_idiv hx hb d hne (kk H locs ls hH hL hl)

theorem j_irem (B : Bd g x cc nL own ret) {a b : Int32} (d : decode cc pc = .ok (.irem, 1)) (hne : ¬ b = 0) (kk : J g x o w1 mc ms w k n (pc + 1) vs (.int (a - a / b * b) :: st)) : J g x o w1 mc ms w k n pc vs (.int b :: .int a :: st) := by
  obtain ⟨p, l, e, R, s, m, args, below, meth, c⟩ := x
  obtain ⟨hx, hb, hml, hown, hts, hr, hlk, hW0, hG⟩ := B
  intro H locs ls hH hL hl
  exact lv_irem hx hb d hne (kk H locs ls hH hL hl)

theorem j_ineg (B : Bd g x cc nL own ret) {a : Int32} (d : decode cc pc = .ok (.ineg, 1)) (kk : J g x o w1 mc ms w k n (pc + 1) vs (.int (-a) :: st)) : J g x o w1 mc ms w k n pc vs (.int a :: st) := by
  obtain ⟨p, l, e, R, s, m, args, below, meth, c⟩ := x
  obtain ⟨hx, hb, hml, hown, hts, hr, hlk, hW0, hG⟩ := B
  intro H locs ls hH hL hl
  exact lv_ineg hx hb d (kk H locs ls hH hL hl)

theorem j_iushr (B : Bd g x cc nL own ret) {a b : Int32} (d : decode cc pc = .ok (.iushr, 1)) (kk : J g x o w1 mc ms w k n (pc + 1) vs (.int ((a.toUInt32 >>> (b.toUInt32 &&& Int32.toUInt32 31)).toInt32) :: st)) : J g x o w1 mc ms w k n pc vs (.int b :: .int a :: st) := by
  obtain ⟨p, l, e, R, s, m, args, below, meth, c⟩ := x
  obtain ⟨hx, hb, hml, hown, hts, hr, hlk, hW0, hG⟩ := B
  intro H locs ls hH hL hl
  exact lv_iushr hx hb d rfl (kk H locs ls hH hL hl)

theorem j_i2b (B : Bd g x cc nL own ret) {a : Int32} (d : decode cc pc = .ok (.i2b, 1)) (kk : J g x o w1 mc ms w k n (pc + 1) vs (.int a.toInt8.toInt32 :: st)) : J g x o w1 mc ms w k n pc vs (.int a :: st) := by
  obtain ⟨p, l, e, R, s, m, args, below, meth, c⟩ := x
  obtain ⟨hx, hb, hml, hown, hts, hr, hlk, hW0, hG⟩ := B
  intro H locs ls hH hL hl
  exact lv_i2b hx hb d rfl (kk H locs ls hH hL hl)

theorem j_i2s (B : Bd g x cc nL own ret) {a : Int32} (d : decode cc pc = .ok (.i2s, 1)) (kk : J g x o w1 mc ms w k n (pc + 1) vs (.int a.toInt16.toInt32 :: st)) : J g x o w1 mc ms w k n pc vs (.int a :: st) := by
  obtain ⟨p, l, e, R, s, m, args, below, meth, c⟩ := x
  obtain ⟨hx, hb, hml, hown, hts, hr, hlk, hW0, hG⟩ := B
  intro H locs ls hH hL hl
  exact lv_i2s hx hb d rfl (kk H locs ls hH hL hl)

theorem j_i2c (B : Bd g x cc nL own ret) {a : Int32} (d : decode cc pc = .ok (.i2c, 1)) (kk : J g x o w1 mc ms w k n (pc + 1) vs (.int ((a.toUInt32 % 65536).toInt32) :: st)) : J g x o w1 mc ms w k n pc vs (.int a :: st) := by
  obtain ⟨p, l, e, R, s, m, args, below, meth, c⟩ := x
  obtain ⟨hx, hb, hml, hown, hts, hr, hlk, hW0, hG⟩ := B
  intro H locs ls hH hL hl
  exact lv_i2c hx hb d rfl (kk H locs ls hH hL hl)

theorem j_i2l (B : Bd g x cc nL own ret) {a : Int32} (d : decode cc pc = .ok (.i2l, 1)) (kk : J g x o w1 mc ms w k n (pc + 1) vs (.long a.toInt64 :: st)) : J g x o w1 mc ms w k n pc vs (.int a :: st) := by
  obtain ⟨p, l, e, R, s, m, args, below, meth, c⟩ := x
  obtain ⟨hx, hb, hml, hown, hts, hr, hlk, hW0, hG⟩ := B
  intro H locs ls hH hL hl
  exact lv_i2l hx hb d rfl (kk H locs ls hH hL hl)

theorem j_ladd (B : Bd g x cc nL own ret) {a b : Int64} (d : decode cc pc = .ok (.ladd, 1)) (kk : J g x o w1 mc ms w k n (pc + 1) vs (.long (a + b) :: st)) : J g x o w1 mc ms w k n pc vs (.long b :: .long a :: st) := by
  obtain ⟨p, l, e, R, s, m, args, below, meth, c⟩ := x
  obtain ⟨hx, hb, hml, hown, hts, hr, hlk, hW0, hG⟩ := B
  intro H locs ls hH hL hl
  exact lv_ladd hx hb d (kk H locs ls hH hL hl)

theorem j_dup (B : Bd g x cc nL own ret) {v : Value} (d : decode cc pc = .ok (.dup, 1)) (hv : v.category = 1) (kk : J g x o w1 mc ms w k n (pc + 1) vs (v :: v :: st)) : J g x o w1 mc ms w k n pc vs (v :: st) := by
  obtain ⟨p, l, e, R, s, m, args, below, meth, c⟩ := x
  obtain ⟨hx, hb, hml, hown, hts, hr, hlk, hW0, hG⟩ := B
  intro H locs ls hH hL hl
  exact lv_dup hx hb d hv (kk H locs ls hH hL hl)

theorem j_dup2 (B : Bd g x cc nL own ret) {v u : Value} (d : decode cc pc = .ok (.dup2, 1)) (hv : v.category = 1) (hu : u.category = 1) (kk : J g x o w1 mc ms w k n (pc + 1) vs (v :: u :: v :: u :: st)) : J g x o w1 mc ms w k n pc vs (v :: u :: st) := by
  obtain ⟨p, l, e, R, s, m, args, below, meth, c⟩ := x
  obtain ⟨hx, hb, hml, hown, hts, hr, hlk, hW0, hG⟩ := B
  intro H locs ls hH hL hl
  exact lv_dup2_11 hx hb d hv hu (kk H locs ls hH hL hl)

theorem j_pop (B : Bd g x cc nL own ret) {v : Value} (d : decode cc pc = .ok (.pop, 1)) (hv : v.category = 1) (kk : J g x o w1 mc ms w k n (pc + 1) vs st) : J g x o w1 mc ms w k n pc vs (v :: st) := by
  obtain ⟨p, l, e, R, s, m, args, below, meth, c⟩ := x
  obtain ⟨hx, hb, hml, hown, hts, hr, hlk, hW0, hG⟩ := B
  intro H locs ls hH hL hl
  exact lv_pop hx hb d hv (kk H locs ls hH hL hl)

theorem j_goto (B : Bd g x cc nL own ret) {off : Int} {tgt : Nat} (d : decode cc pc = .ok (.goto off, 3)) (ht : (pc : Int) + off = (tgt : Int)) (kk : J g x o w1 mc ms w k n tgt vs st) : J g x o w1 mc ms w k n pc vs st := by
  obtain ⟨p, l, e, R, s, m, args, below, meth, c⟩ := x
  obtain ⟨hx, hb, hml, hown, hts, hr, hlk, hW0, hG⟩ := B
  intro H locs ls hH hL hl
  exact lv_goto hx hb d ht (kk H locs ls hH hL hl)

theorem j_if_eq (B : Bd g x cc nL own ret) {a : Int32} {off : Int} {tgt : Nat} (d : decode cc pc = .ok (.ifCond .eq off, 3)) (ht : (pc : Int) + off = (tgt : Int)) {ρ : Type} {A B9 out : ρ} {ic : Decidable (a = 0)} (hF : (@ite ρ (a = 0) ic A B9) = out) (kt : a = 0 → A = out → J g x o w1 mc ms w k n tgt vs st) (kf : ¬ (a = 0) → B9 = out → J g x o w1 mc ms w k n (pc + 3) vs st) : J g x o w1 mc ms w k n pc vs (.int a :: st) := by
  obtain ⟨p, l, e, R, s, m, args, below, meth, c⟩ := x
  obtain ⟨hx, hb, hml, hown, hts, hr, hlk, hW0, hG⟩ := B
  intro H locs ls hH hL hl
  exact lv_if_eq hx hb d ht (fun h => kt h (by rw [← hF, if_pos h]) H locs ls hH hL hl) (fun h => kf h (by rw [← hF, if_neg h]) H locs ls hH hL hl)

theorem j_if_ne (B : Bd g x cc nL own ret) {a : Int32} {off : Int} {tgt : Nat} (d : decode cc pc = .ok (.ifCond .ne off, 3)) (ht : (pc : Int) + off = (tgt : Int)) {ρ : Type} {A B9 out : ρ} {ic : Decidable (¬ a = 0)} (hF : (@ite ρ (¬ a = 0) ic A B9) = out) (kt : ¬ a = 0 → A = out → J g x o w1 mc ms w k n tgt vs st) (kf : ¬ (¬ a = 0) → B9 = out → J g x o w1 mc ms w k n (pc + 3) vs st) : J g x o w1 mc ms w k n pc vs (.int a :: st) := by
  obtain ⟨p, l, e, R, s, m, args, below, meth, c⟩ := x
  obtain ⟨hx, hb, hml, hown, hts, hr, hlk, hW0, hG⟩ := B
  intro H locs ls hH hL hl
  exact lv_if_ne hx hb d ht (fun h => kt h (by rw [← hF, if_pos h]) H locs ls hH hL hl) (fun h => kf (fun z => z h) (by rw [← hF, if_neg (fun z => z h)]) H locs ls hH hL hl)

theorem j_if_lt (B : Bd g x cc nL own ret) {a : Int32} {off : Int} {tgt : Nat} (d : decode cc pc = .ok (.ifCond .lt off, 3)) (ht : (pc : Int) + off = (tgt : Int)) {ρ : Type} {A B9 out : ρ} {ic : Decidable (a < 0)} (hF : (@ite ρ (a < 0) ic A B9) = out) (kt : a < 0 → A = out → J g x o w1 mc ms w k n tgt vs st) (kf : ¬ (a < 0) → B9 = out → J g x o w1 mc ms w k n (pc + 3) vs st) : J g x o w1 mc ms w k n pc vs (.int a :: st) := by
  obtain ⟨p, l, e, R, s, m, args, below, meth, c⟩ := x
  obtain ⟨hx, hb, hml, hown, hts, hr, hlk, hW0, hG⟩ := B
  intro H locs ls hH hL hl
  exact lv_if_lt hx hb d ht (fun h => kt h (by rw [← hF, if_pos h]) H locs ls hH hL hl) (fun h => kf h (by rw [← hF, if_neg h]) H locs ls hH hL hl)

theorem j_if_ge (B : Bd g x cc nL own ret) {a : Int32} {off : Int} {tgt : Nat} (d : decode cc pc = .ok (.ifCond .ge off, 3)) (ht : (pc : Int) + off = (tgt : Int)) {ρ : Type} {A B9 out : ρ} {ic : Decidable (0 ≤ a)} (hF : (@ite ρ (0 ≤ a) ic A B9) = out) (kt : 0 ≤ a → A = out → J g x o w1 mc ms w k n tgt vs st) (kf : ¬ (0 ≤ a) → B9 = out → J g x o w1 mc ms w k n (pc + 3) vs st) : J g x o w1 mc ms w k n pc vs (.int a :: st) := by
  obtain ⟨p, l, e, R, s, m, args, below, meth, c⟩ := x
  obtain ⟨hx, hb, hml, hown, hts, hr, hlk, hW0, hG⟩ := B
  intro H locs ls hH hL hl
  exact lv_if_ge hx hb d ht (fun h => kt h (by rw [← hF, if_pos h]) H locs ls hH hL hl) (fun h => kf h (by rw [← hF, if_neg h]) H locs ls hH hL hl)

theorem j_if_gt (B : Bd g x cc nL own ret) {a : Int32} {off : Int} {tgt : Nat} (d : decode cc pc = .ok (.ifCond .gt off, 3)) (ht : (pc : Int) + off = (tgt : Int)) {ρ : Type} {A B9 out : ρ} {ic : Decidable (0 < a)} (hF : (@ite ρ (0 < a) ic A B9) = out) (kt : 0 < a → A = out → J g x o w1 mc ms w k n tgt vs st) (kf : ¬ (0 < a) → B9 = out → J g x o w1 mc ms w k n (pc + 3) vs st) : J g x o w1 mc ms w k n pc vs (.int a :: st) := by
  obtain ⟨p, l, e, R, s, m, args, below, meth, c⟩ := x
  obtain ⟨hx, hb, hml, hown, hts, hr, hlk, hW0, hG⟩ := B
  intro H locs ls hH hL hl
  exact lv_if_gt hx hb d ht (fun h => kt h (by rw [← hF, if_pos h]) H locs ls hH hL hl) (fun h => kf h (by rw [← hF, if_neg h]) H locs ls hH hL hl)

theorem j_if_le (B : Bd g x cc nL own ret) {a : Int32} {off : Int} {tgt : Nat} (d : decode cc pc = .ok (.ifCond .le off, 3)) (ht : (pc : Int) + off = (tgt : Int)) {ρ : Type} {A B9 out : ρ} {ic : Decidable (a ≤ 0)} (hF : (@ite ρ (a ≤ 0) ic A B9) = out) (kt : a ≤ 0 → A = out → J g x o w1 mc ms w k n tgt vs st) (kf : ¬ (a ≤ 0) → B9 = out → J g x o w1 mc ms w k n (pc + 3) vs st) : J g x o w1 mc ms w k n pc vs (.int a :: st) := by
  obtain ⟨p, l, e, R, s, m, args, below, meth, c⟩ := x
  obtain ⟨hx, hb, hml, hown, hts, hr, hlk, hW0, hG⟩ := B
  intro H locs ls hH hL hl
  exact lv_if_le hx hb d ht (fun h => kt h (by rw [← hF, if_pos h]) H locs ls hH hL hl) (fun h => kf h (by rw [← hF, if_neg h]) H locs ls hH hL hl)

theorem j_icmp_eq (B : Bd g x cc nL own ret) {a b : Int32} {off : Int} {tgt : Nat} (d : decode cc pc = .ok (.if_icmp .eq off, 3)) (ht : (pc : Int) + off = (tgt : Int)) {ρ : Type} {A B9 out : ρ} {ic : Decidable (a = b)} (hF : (@ite ρ (a = b) ic A B9) = out) (kt : a = b → A = out → J g x o w1 mc ms w k n tgt vs st) (kf : ¬ (a = b) → B9 = out → J g x o w1 mc ms w k n (pc + 3) vs st) : J g x o w1 mc ms w k n pc vs (.int b :: .int a :: st) := by
  obtain ⟨p, l, e, R, s, m, args, below, meth, c⟩ := x
  obtain ⟨hx, hb, hml, hown, hts, hr, hlk, hW0, hG⟩ := B
  intro H locs ls hH hL hl
  exact lv_icmp_eq hx hb d ht (fun h => kt h (by rw [← hF, if_pos h]) H locs ls hH hL hl) (fun h => kf h (by rw [← hF, if_neg h]) H locs ls hH hL hl)

theorem j_icmp_ne (B : Bd g x cc nL own ret) {a b : Int32} {off : Int} {tgt : Nat} (d : decode cc pc = .ok (.if_icmp .ne off, 3)) (ht : (pc : Int) + off = (tgt : Int)) {ρ : Type} {A B9 out : ρ} {ic : Decidable (¬ a = b)} (hF : (@ite ρ (¬ a = b) ic A B9) = out) (kt : ¬ a = b → A = out → J g x o w1 mc ms w k n tgt vs st) (kf : ¬ (¬ a = b) → B9 = out → J g x o w1 mc ms w k n (pc + 3) vs st) : J g x o w1 mc ms w k n pc vs (.int b :: .int a :: st) := by
  obtain ⟨p, l, e, R, s, m, args, below, meth, c⟩ := x
  obtain ⟨hx, hb, hml, hown, hts, hr, hlk, hW0, hG⟩ := B
  intro H locs ls hH hL hl
  exact lv_icmp_ne hx hb d ht (fun h => kt h (by rw [← hF, if_pos h]) H locs ls hH hL hl) (fun h => kf (fun z => z h) (by rw [← hF, if_neg (fun z => z h)]) H locs ls hH hL hl)

theorem j_icmp_lt (B : Bd g x cc nL own ret) {a b : Int32} {off : Int} {tgt : Nat} (d : decode cc pc = .ok (.if_icmp .lt off, 3)) (ht : (pc : Int) + off = (tgt : Int)) {ρ : Type} {A B9 out : ρ} {ic : Decidable (a < b)} (hF : (@ite ρ (a < b) ic A B9) = out) (kt : a < b → A = out → J g x o w1 mc ms w k n tgt vs st) (kf : ¬ (a < b) → B9 = out → J g x o w1 mc ms w k n (pc + 3) vs st) : J g x o w1 mc ms w k n pc vs (.int b :: .int a :: st) := by
  obtain ⟨p, l, e, R, s, m, args, below, meth, c⟩ := x
  obtain ⟨hx, hb, hml, hown, hts, hr, hlk, hW0, hG⟩ := B
  intro H locs ls hH hL hl
  exact lv_icmp_lt hx hb d ht (fun h => kt h (by rw [← hF, if_pos h]) H locs ls hH hL hl) (fun h => kf h (by rw [← hF, if_neg h]) H locs ls hH hL hl)

theorem j_icmp_ge (B : Bd g x cc nL own ret) {a b : Int32} {off : Int} {tgt : Nat} (d : decode cc pc = .ok (.if_icmp .ge off, 3)) (ht : (pc : Int) + off = (tgt : Int)) {ρ : Type} {A B9 out : ρ} {ic : Decidable (b ≤ a)} (hF : (@ite ρ (b ≤ a) ic A B9) = out) (kt : b ≤ a → A = out → J g x o w1 mc ms w k n tgt vs st) (kf : ¬ (b ≤ a) → B9 = out → J g x o w1 mc ms w k n (pc + 3) vs st) : J g x o w1 mc ms w k n pc vs (.int b :: .int a :: st) := by
  obtain ⟨p, l, e, R, s, m, args, below, meth, c⟩ := x
  obtain ⟨hx, hb, hml, hown, hts, hr, hlk, hW0, hG⟩ := B
  intro H locs ls hH hL hl
  exact lv_icmp_ge hx hb d ht (fun h => kt h (by rw [← hF, if_pos h]) H locs ls hH hL hl) (fun h => kf h (by rw [← hF, if_neg h]) H locs ls hH hL hl)

theorem j_icmp_gt (B : Bd g x cc nL own ret) {a b : Int32} {off : Int} {tgt : Nat} (d : decode cc pc = .ok (.if_icmp .gt off, 3)) (ht : (pc : Int) + off = (tgt : Int)) {ρ : Type} {A B9 out : ρ} {ic : Decidable (b < a)} (hF : (@ite ρ (b < a) ic A B9) = out) (kt : b < a → A = out → J g x o w1 mc ms w k n tgt vs st) (kf : ¬ (b < a) → B9 = out → J g x o w1 mc ms w k n (pc + 3) vs st) : J g x o w1 mc ms w k n pc vs (.int b :: .int a :: st) := by
  obtain ⟨p, l, e, R, s, m, args, below, meth, c⟩ := x
  obtain ⟨hx, hb, hml, hown, hts, hr, hlk, hW0, hG⟩ := B
  intro H locs ls hH hL hl
  exact lv_icmp_gt hx hb d ht (fun h => kt h (by rw [← hF, if_pos h]) H locs ls hH hL hl) (fun h => kf h (by rw [← hF, if_neg h]) H locs ls hH hL hl)

theorem j_icmp_le (B : Bd g x cc nL own ret) {a b : Int32} {off : Int} {tgt : Nat} (d : decode cc pc = .ok (.if_icmp .le off, 3)) (ht : (pc : Int) + off = (tgt : Int)) {ρ : Type} {A B9 out : ρ} {ic : Decidable (a ≤ b)} (hF : (@ite ρ (a ≤ b) ic A B9) = out) (kt : a ≤ b → A = out → J g x o w1 mc ms w k n tgt vs st) (kf : ¬ (a ≤ b) → B9 = out → J g x o w1 mc ms w k n (pc + 3) vs st) : J g x o w1 mc ms w k n pc vs (.int b :: .int a :: st) := by
  obtain ⟨p, l, e, R, s, m, args, below, meth, c⟩ := x
  obtain ⟨hx, hb, hml, hown, hts, hr, hlk, hW0, hG⟩ := B
  intro H locs ls hH hL hl
  exact lv_icmp_le hx hb d ht (fun h => kt h (by rw [← hF, if_pos h]) H locs ls hH hL hl) (fun h => kf h (by rw [← hF, if_neg h]) H locs ls hH hL hl)

theorem j_ifnull (B : Bd g x cc nL own ret) {a : Option Nat} {off : Int} {tgt : Nat} (d : decode cc pc = .ok (.ifnull off, 3)) (ht : (pc : Int) + off = (tgt : Int)) {ρ : Type} {A B9 out : ρ} {ic : Decidable (a = none)} (hF : (@ite ρ (a = none) ic A B9) = out) (kt : a = none → A = out → J g x o w1 mc ms w k n tgt vs st) (kf : ¬ a = none → B9 = out → J g x o w1 mc ms w k n (pc + 3) vs st) : J g x o w1 mc ms w k n pc vs (va_rf a :: st) := by
  obtain ⟨p, l, e, R, s, m, args, below, meth, c⟩ := x
  obtain ⟨hx, hb, hml, hown, hts, hr, hlk, hW0, hG⟩ := B
  intro H locs ls hH hL hl
  cases a with
  | none => exact lv_ifnullN hx hb d ht (kt rfl (by rw [← hF, if_pos rfl]) H locs ls hH hL hl)
  | some a => exact lv_ifnull hx hb d (kf (fun h => by cases h) (by rw [← hF, if_neg (fun h => by cases h)]) H locs ls hH hL hl)

theorem j_ifnonnull (B : Bd g x cc nL own ret) {a : Option Nat} {off : Int} {tgt : Nat} (d : decode cc pc = .ok (.ifnonnull off, 3)) (ht : (pc : Int) + off = (tgt : Int)) {ρ : Type} {A B9 out : ρ} {ic : Decidable (¬ a = none)} (hF : (@ite ρ (¬ a = none) ic A B9) = out) (kt : ¬ a = none → A = out → J g x o w1 mc ms w k n tgt vs st) (kf : a = none → B9 = out → J g x o w1 mc ms w k n (pc + 3) vs st) : J g x o w1 mc ms w k n pc vs (va_rf a :: st) := by
  obtain ⟨p, l, e, R, s, m, args, below, meth, c⟩ := x
  obtain ⟨hx, hb, hml, hown, hts, hr, hlk, hW0, hG⟩ := B
  intro H locs ls hH hL hl
  cases a with
  | none => exact lv_ifnonnullN hx hb d (kf rfl (by rw [← hF, if_neg (fun h => h rfl)]) H locs ls hH hL hl)
  | some a => exact lv_ifnonnull hx hb d ht (kt (fun h => by cases h) (by rw [← hF, if_pos (fun h => by cases h)]) H locs ls hH hL hl)

theorem j_tblIn (B : Bd g x cc nL own ret) {a : Int32} {dflt lo hi off : Int} {offs : Array Int} {len tgt : Nat} (v : Int32) (d : decode cc pc = .ok (.tableswitch dflt lo hi offs, len)) (he : a = v) (h12 : (decide (lo ≤ v.toInt) && decide (v.toInt ≤ hi)) = true) (ho : offs[(v.toInt - lo).toNat]? = some off) (ht : (pc : Int) + off = (tgt : Int)) (kk : J g x o w1 mc ms w k n tgt vs st) : J g x o w1 mc ms w k n pc vs (.int a :: st) := by
  obtain ⟨p, l, e, R, s, m, args, below, meth, c⟩ := x
  obtain ⟨hx, hb, hml, hown, hts, hr, hlk, hW0, hG⟩ := B
  intro H locs ls hH hL hl
  subst he
  simp only [Bool.and_eq_true, decide_eq_true_eq] at h12
  exact lv_tableIn hx hb d (by omega) (by omega) ho ht (kk H locs ls hH hL hl)

theorem j_tblOut (B : Bd g x cc nL own ret) {a : Int32} {dflt lo hi : Int} {offs : Array Int} {len tgt : Nat} (d : decode cc pc = .ok (.tableswitch dflt lo hi offs, len)) (hout : a.toInt < lo ∨ hi < a.toInt) (ht : (pc : Int) + dflt = (tgt : Int)) (kk : J g x o w1 mc ms w k n tgt vs st) : J g x o w1 mc ms w k n pc vs (.int a :: st) := by
  obtain ⟨p, l, e, R, s, m, args, below, meth, c⟩ := x
  obtain ⟨hx, hb, hml, hown, hts, hr, hlk, hW0, hG⟩ := B
  intro H locs ls hH hL hl
  exact lv_tableOut hx hb d hout ht (kk H locs ls hH hL hl)

theorem j_iret (B : Bd g x cc nL own ret) {a r : Int32} {nr : Int32} (hret : ret = some .int) (d : decode cc pc = .ok (.ireturn, 1)) (ho : o = .returned (some (.int a))) (hw : w = w1) (hk : k ≤ mc) (hn : n ≤ ms)  : J g x o w1 mc ms w k n pc vs [.int a] := by
  obtain ⟨p, l, e, R, s, m, args, below, meth, c⟩ := x
  obtain ⟨hx, hb, hml, hown, hts, hr, hlk, hW0, hG⟩ := B
  intro H locs ls hH hL hl
  subst hw; subst ho
  refine W.widen (k := mc) (n := ms) hk hn ?_
  exact W_mono (fun t h => MQx_of h) (W.iret (Qc := fun _ _ oc t => oc = .returned (some (.int a)) ∧ wk g w t) (free := fun q => gb g ≤ q) hx hb (hr.trans hret) (fun t ht hW => ⟨rfl, wk_end hW0 hH ht hW⟩) hL d)

theorem j_zret (B : Bd g x cc nL own ret) {a : Int32} {ty : FieldType} (hret : ret = some ty) (hnar : narrow ty (.int a) = .int a) (d : decode cc pc = .ok (.ireturn, 1)) (ho : o = .returned (some (.int a))) (hw : w = w1) (hk : k ≤ mc) (hn : n ≤ ms)  : J g x o w1 mc ms w k n pc vs [.int a] := by
  obtain ⟨p, l, e, R, s, m, args, below, meth, c⟩ := x
  obtain ⟨hx, hb, hml, hown, hts, hr, hlk, hW0, hG⟩ := B
  intro H locs ls hH hL hl
  subst hw; subst ho
  refine W.widen (k := mc) (n := ms) hk hn ?_
  exact W_mono (fun t h => MQx_of h) (W.zret (Qc := fun _ _ oc t => oc = .returned (some (.int a)) ∧ wk g w t) (free := fun q => gb g ≤ q) hx hb (hr.trans hret) hnar (fun t ht hW => ⟨rfl, wk_end hW0 hH ht hW⟩) hL d)

theorem j_vret (B : Bd g x cc nL own ret) (hret : ret = none) (d : decode cc pc = .ok (.return_, 1)) (ho : o = .returned none) (hw : w = w1) (hk : k ≤ mc) (hn : n ≤ ms)  : J g x o w1 mc ms w k n pc vs [] := by
  obtain ⟨p, l, e, R, s, m, args, below, meth, c⟩ := x
  obtain ⟨hx, hb, hml, hown, hts, hr, hlk, hW0, hG⟩ := B
  intro H locs ls hH hL hl
  subst hw; subst ho
  refine W.widen (k := mc) (n := ms) hk hn ?_
  exact W_mono (fun t h => MQx_of h) (W.vret (Qc := fun _ _ oc t => oc = .returned none ∧ wk g w t) (free := fun q => gb g ≤ q) hx hb (hr.trans hret) (fun t ht hW => ⟨rfl, wk_end hW0 hH ht hW⟩) hL d)

theorem j_aret (B : Bd g x cc nL own ret) {a : Option Nat} {rt : FieldType} (hret : ret = some rt) (hrt : (∃ n, rt = .object n) ∨ ∃ t, rt = .array t) (d : decode cc pc = .ok (.areturn, 1)) (ho : o = .returned (some (va_rf a))) (hw : w = w1) (hk : k ≤ mc) (hn : n ≤ ms)  : J g x o w1 mc ms w k n pc vs [va_rf a] := by
  obtain ⟨p, l, e, R, s, m, args, below, meth, c⟩ := x
  obtain ⟨hx, hb, hml, hown, hts, hr, hlk, hW0, hG⟩ := B
  intro H locs ls hH hL hl
  subst hw; subst ho
  refine W.widen (k := mc) (n := ms) hk hn ?_
  exact W_mono (fun t h => MQx_of h) (W.aret (Qc := fun _ _ oc t => oc = .returned (some (va_rf a)) ∧ wk g w t) (free := fun q => gb g ≤ q) hx hb (hr.trans hret) hrt (by cases a with | none => exact Or.inl rfl | some a => exact Or.inr ⟨a, rfl⟩) (fun t ht hW => ⟨rfl, wk_end hW0 hH ht hW⟩) hL d)

theorem narrow_bool (a : Int32) : narrow .boolean (.int a) = .int (a &&& 1) := by simp [narrow]
set_option maxHeartbeats 1000000 in
/-- the end of a boolean method: the answer's lowest bit -/
theorem j_bret (B : Bd g x cc nL own ret) {a : Int32} (hret : ret = some .boolean) (d : decode cc pc = .ok (.ireturn, 1)) (ho : o = .returned (some (.int (a &&& 1)))) (hw : w = w1) (hk : k ≤ mc) (hn : n ≤ ms) : J g x o w1 mc ms w k n pc vs [.int a] := by
  obtain ⟨p, l, e, R, s, m, args, below, meth, c⟩ := x
  obtain ⟨hx, hb, hml, hown, hts, hr, hlk, hW0, hG⟩ := B
  intro H locs ls hH hL hl
  subst hw; subst ho
  refine W.widen (k := mc) (n := ms) hk hn ?_
  refine W_mono (fun t h => MQx_of (args := args) h) ?_
  intro T hT X
  have hr : meth.sig.returnType = some .boolean := hr.trans hret
  obtain ⟨fs, hret', hrun, hended, hW, hframe⟩ := X.leave (v := some (.int (a &&& 1))) (fun h => by rw [hr] at h; cases h)
  have hmeth' : T.vm.method? m = some meth := X.method'
  refine ⟨T.setFrames fs, ?_, .returned (some (.int (a &&& 1))), hrun, hended, ⟨rfl, wk_end hW0 hH hT hW⟩, locs, ⟨⟨_, rfl⟩, hW, hframe⟩, hL⟩
  jvm_step X.here [X.here.top, hx, hb, d, hmeth', hr, narrow_bool]
  (try refine ⟨rfl, ?_⟩); (try refine ⟨rfl, ?_⟩)
  first | (intro acts; rw [hret' _ acts rfl rfl rfl]) | rw [hret' _ _ rfl rfl rfl]
  exact Steps.refl _
/-! ### cells -/
def wr (w : cH) (a : Nat) (e : cE) : cH := (fun q => if q = a then some e else w.1 q, w.2)
def nw (w : cH) (e : cE) : cH := (fun q => if q = w.2 then some e else w.1 q, w.2 + 1)
def cV (w : cH) (r : Option Nat) : Option (Nat × cE) := match r with
  | none => none
  | some a => match w.1 a with
    | none => none
    | some e => some (a, e)
def fV (w : cH) (r : Option Nat) (t k : Nat) : Option Value := match cV w r with
  | none => none
  | some q => if q.2.1 = t then some (q.2.2.2 k) else none
def vI : Option Value → Option Int32
  | some (.int i) => some i
  | _ => none
def vA : Option Value → Option (Option Nat)
  | some (.ref a) => some (some a)
  | some .null => some none
  | _ => none
def fI (w : cH) (r : Option Nat) (t k : Nat) : Option Int32 := vI (fV w r t k)
def fA (w : cH) (r : Option Nat) (t k : Nat) : Option (Option Nat) := vA (fV w r t k)
/-- storing into a field -/
def pV (w : cH) (r : Option Nat) (t k : Nat) (v : Value) : Option cH := match cV w r with
  | none => none
  | some q => if q.2.1 = t then some (wr w q.1 (q.2.1, q.2.2.1, updV q.2.2.2 k v)) else none
/-- the receiver's tag -/
def tg (w : cH) (r : Option Nat) : Option Nat := (cV w r).map fun q => q.2.1
/-- an element -/
def aV (w : cH) (r : Option Nat) (t : Nat) (i : Int32) : Option Value := match cV w r with
  | none => none
  | some q => if q.2.1 = t ∧ ¬ (i < 0 ∨ q.2.2.1 ≤ i.toNatClampNeg) then some (q.2.2.2 i.toNatClampNeg) else none
def aI (w : cH) (r : Option Nat) (t : Nat) (i : Int32) : Option Int32 := vI (aV w r t i)
def aA (w : cH) (r : Option Nat) (t : Nat) (i : Int32) : Option (Option Nat) := vA (aV w r t i)
def aS (w : cH) (r : Option Nat) (t : Nat) (i : Int32) (v : Value) : Option cH := match cV w r with
  | none => none
  | some q => if q.2.1 = t ∧ ¬ (i < 0 ∨ q.2.2.1 ≤ i.toNatClampNeg) then some (wr w q.1 (q.2.1, q.2.2.1, updV q.2.2.2 i.toNatClampNeg v)) else none
/-- an array's length -/
def aL (w : cH) (r : Option Nat) : Option Int32 := match cV w r with
  | none => none
  | some q => if 100 ≤ q.2.1 ∧ q.2.1 ≤ 105 then some (Int32.ofNat q.2.2.1) else none
theorem cV_some {w : cH} {r : Option Nat} {q : Nat × cE} (h : cV w r = some q) : r = some q.1 ∧ w.1 q.1 = some q.2 := by
  unfold cV at h
  cases r with
  | none => cases h
  | some a =>
    dsimp only at h
    cases he : w.1 a with
    | none => rw [he] at h; cases h
    | some e => rw [he] at h; cases h; exact ⟨rfl, he⟩
theorem fV_some {w : cH} {r : Option Nat} {t k : Nat} {v : Value} (h : fV w r t k = some v) : ∃ a e, r = some a ∧ w.1 a = some e ∧ e.1 = t ∧ e.2.2 k = v := by
  unfold fV at h
  cases hc : cV w r with
  | none => rw [hc] at h; cases h
  | some q =>
    rw [hc] at h
    dsimp only at h
    split at h
    · rename_i ht
      obtain ⟨h1, h2⟩ := cV_some hc
      exact ⟨q.1, q.2, h1, h2, ht, Option.some.inj h⟩
    · cases h
theorem vI_some {v : Option Value} {i : Int32} (h : vI v = some i) : v = some (.int i) := by
  unfold vI at h
  split at h
  · cases h; rfl
  · cases h
theorem vA_some {v : Option Value} {a : Option Nat} (h : vA v = some a) : v = some (va_rf a) := by
  unfold vA at h
  split at h
  · cases h; rfl
  · cases h; rfl
  · cases h
theorem aV_some {w : cH} {r : Option Nat} {t : Nat} {i : Int32} {v : Value} (h : aV w r t i = some v) : ∃ a e, r = some a ∧ w.1 a = some e ∧ e.1 = t ∧ ¬ (i < 0 ∨ e.2.1 ≤ i.toNatClampNeg) ∧ e.2.2 i.toNatClampNeg = v := by
  unfold aV at h
  cases hc : cV w r with
  | none => rw [hc] at h; cases h
  | some q =>
    rw [hc] at h
    dsimp only at h
    split at h
    · rename_i ht
      obtain ⟨h1, h2⟩ := cV_some hc
      exact ⟨q.1, q.2, h1, h2, ht.1, ht.2, Option.some.inj h⟩
    · cases h
theorem pV_some {w w2 : cH} {r : Option Nat} {t k : Nat} {v : Value} (h : pV w r t k v = some w2) : ∃ a e, r = some a ∧ w.1 a = some e ∧ e.1 = t ∧ w2 = wr w a (e.1, e.2.1, updV e.2.2 k v) := by
  unfold pV at h
  cases hc : cV w r with
  | none => rw [hc] at h; cases h
  | some q =>
    rw [hc] at h
    dsimp only at h
    split at h
    · rename_i ht
      obtain ⟨h1, h2⟩ := cV_some hc
      exact ⟨q.1, q.2, h1, h2, ht, (Option.some.inj h).symm⟩
    · cases h
theorem aS_some {w w2 : cH} {r : Option Nat} {t : Nat} {i : Int32} {v : Value} (h : aS w r t i v = some w2) : ∃ a e, r = some a ∧ w.1 a = some e ∧ e.1 = t ∧ ¬ (i < 0 ∨ e.2.1 ≤ i.toNatClampNeg) ∧ w2 = wr w a (e.1, e.2.1, updV e.2.2 i.toNatClampNeg v) := by
  unfold aS at h
  cases hc : cV w r with
  | none => rw [hc] at h; cases h
  | some q =>
    rw [hc] at h
    dsimp only at h
    split at h
    · rename_i ht
      obtain ⟨h1, h2⟩ := cV_some hc
      exact ⟨q.1, q.2, h1, h2, ht.1, ht.2, (Option.some.inj h).symm⟩
    · cases h
theorem tg_some {w : cH} {r : Option Nat} {t : Nat} (h : tg w r = some t) : ∃ a e, r = some a ∧ w.1 a = some e ∧ e.1 = t := by
  unfold tg at h
  cases hc : cV w r with
  | none => rw [hc] at h; cases h
  | some q =>
    rw [hc] at h
    obtain ⟨h1, h2⟩ := cV_some hc
    exact ⟨q.1, q.2, h1, h2, Option.some.inj h⟩
theorem aL_some {w : cH} {r : Option Nat} {i : Int32} (h : aL w r = some i) : ∃ a e, r = some a ∧ w.1 a = some e ∧ 100 ≤ e.1 ∧ e.1 ≤ 105 ∧ Int32.ofNat e.2.1 = i := by
  unfold aL at h
  cases hc : cV w r with
  | none => rw [hc] at h; cases h
  | some q =>
    rw [hc] at h
    dsimp only at h
    split at h
    · rename_i ht
      obtain ⟨h1, h2⟩ := cV_some hc
      exact ⟨q.1, q.2, h1, h2, ht.1, ht.2, Option.some.inj h⟩
    · cases h
/-! taking a bind apart -/
theorem bo {α β : Type} {f : Option α} {K : α → Option β} {out : β} (h : f.bind K = some out) : ∃ i, f = some i ∧ K i = some out := by
  cases f with
  | none => cases h
  | some i => exact ⟨i, rfl, h⟩
def cb {α β γ : Type} (f : Option (α × β)) (K : α → β → Option γ) : Option γ := match f with
  | none => none
  | some q => K q.1 q.2
theorem bc {α β γ : Type} {f : Option (α × β)} {K : α → β → Option γ} {out : γ} (h : cb f K = some out) : ∃ i u, f = some (i, u) ∧ K i u = some out := by
  cases f with
  | none => cases h
  | some q => exact ⟨q.1, q.2, rfl, h⟩
theorem bg {α : Type} {c : Prop} {ic : Decidable c} {f : Option α} {out : α} (h : (@ite _ c ic f none) = some out) : c ∧ f = some out := by
  by_cases hc : c
  · rw [if_pos hc] at h; exact ⟨hc, h⟩
  · rw [if_neg hc] at h; cases h
/-! what the heap holds -/
theorem gcl_lt {t : Nat} {r : vw_C} (h : gcl[t]? = some r) : t < 100 := by
  have h1 := (List.getElem?_eq_some_iff.mp h).1
  have h2 : gcl.length ≤ 100 := by decide
  omega
theorem aty_ge {t : Nat} {ty : FieldType} (h : aty t = some ty) : 100 ≤ t ∧ t ≤ 105 := by
  unfold aty at h
  repeat' split at h
  all_goals first | omega | cases h
theorem hat_obj {a : Nat} {e : cE} {H : Heap} {r : vw_C} (h : hat g a e H) (hr : gcl[e.1]? = some r) : e.2.1 = r.2.2 ∧ t_OB a (g.2.2.1.1 e.1) r.2.2 (g.2.2.1.2 e.1) H e.2.2 ∧ gb g ≤ a := by
  have h1 := gcl_lt hr
  rcases h with ⟨r', h2, h3⟩ | ⟨ty, h2, -⟩ | ⟨h2, -⟩
  · rw [hr] at h2; cases h2; exact h3
  · have := aty_ge h2; omega
  · omega
theorem hat_arr {a : Nat} {e : cE} {H : Heap} {ty : FieldType} (h : hat g a e H) (ht : aty e.1 = some ty) : H[a]? = some (arrV (g.2.2.2.1 e.1) e.2.1 e.2.2) ∧ gb g ≤ a := by
  have h1 := aty_ge ht
  rcases h with ⟨r', h2, -⟩ | ⟨ty', h2, h3⟩ | ⟨h2, -⟩
  · have := gcl_lt h2; omega
  · exact h3
  · omega
theorem hat_kept {a : Nat} {e : cE} {H H1 : Heap} (h : hat g a e H) (hq : H1[a]? = H[a]?) : hat g a e H1 := by
  rcases h with ⟨r, h1, h2, h3, h4⟩ | ⟨ty, h1, h2, h3⟩ | h
  · exact Or.inl ⟨r, h1, h2, h3.kept hq, h4⟩
  · exact Or.inr (Or.inl ⟨ty, h1, hq.trans h2, h3⟩)
  · exact Or.inr (Or.inr h)
/-- one cell is written -/
theorem hrep_wr {H H1 : Heap} {a : Nat} {e : cE} (h : hrep g w H) (ha : gb g ≤ a) (hz : H1.size = H.size) (hq : ∀ q, q ≠ a → H1[q]? = H[q]?) (he : hat g a e H1) : hrep g (wr w a e) H1 := by
  refine ⟨hz.trans h.1, h.2.1, fun q hq' => (hq q (by omega)).trans (h.2.2.1 q hq'), fun b e' hb => ?_⟩
  by_cases hba : b = a
  · subst hba
    simp only [wr, if_pos] at hb
    cases hb
    exact he
  · simp only [wr, if_neg hba] at hb
    exact hat_kept (h.2.2.2 b e' hb) (hq b hba)
/-- one cell is made -/
theorem hat_lt {a : Nat} {e : cE} {H : Heap} (G : Gok g) (hz : gb g ≤ H.size) (h : hat g a e H) : a < H.size := by
  rcases h with ⟨r, h1, h2, ⟨cell, h3, -⟩, h4⟩ | ⟨ty, h1, h2, h3⟩ | ⟨-, i, hi, rfl, -⟩
  · exact (Array.getElem?_eq_some_iff.mp h3).1
  · exact (Array.getElem?_eq_some_iff.mp h2).1
  · obtain ⟨-, -, -, -, ⟨adV, hS⟩, -⟩ := G
    obtain ⟨⟨cell, h3, -⟩, -⟩ := hS.1 i hi
    have := (Array.getElem?_eq_some_iff.mp h3).1
    unfold gb at hz
    omega
theorem hrep_nw {H H1 : Heap} {e : cE} (G : Gok g) (h : hrep g w H) (hz : H1.size = w.2 + 1) (hq : ∀ q, q < w.2 → H1[q]? = H[q]?) (he : hat g w.2 e H1) : hrep g (nw w e) H1 := by
  refine ⟨hz, Nat.le_trans h.2.1 (Nat.le_succ _), fun q hq' => (hq q (Nat.lt_of_lt_of_le hq' h.2.1)).trans (h.2.2.1 q hq'), fun b e' hb => ?_⟩
  by_cases hba : b = w.2
  · subst hba
    simp only [nw, if_pos] at hb
    cases hb
    exact he
  · simp only [nw, if_neg hba] at hb
    have h9 := h.2.2.2 b e' hb
    have hlt : b < H.size := hat_lt G (by rw [h.1]; exact h.2.1) h9
    exact hat_kept h9 (hq b (by rw [← h.1]; exact hlt))
theorem locs_add {locs : List Loc} {a i : Nat} (h : ∀ q ∈ locs, gb g ≤ q.base) (ha : gb g ≤ a) : ∀ q ∈ locs ++ [⟨a, i⟩], gb g ≤ q.base := by
  intro q hq
  rcases List.mem_append.mp hq with h1 | h1
  · exact h q h1
  · rw [List.mem_singleton] at h1; subst h1; exact ha

/-! ### fields -/
/-- the pool's entry idx of the class own is field k of the class with tag t -/
def FL (own : String) (idx t k : Nat) : Prop := ∃ (C : String) (T : u_T) (N : Nat), gcl[t]? = some (C, T, N) ∧ k < N ∧ (∀ w ∈ u_ws C T N, w ∈ lw_all) ∧ ((Cond.fieldLink own idx (T k).1 (T k).2.1 (T k).2.2.1 ∈ lw_all) ∨ ∃ host, Cond.fieldLinkNest own idx (T k).1 (T k).2.1 (T k).2.2.1 host ∈ lw_tbl)
/-- .. and its slots are apart: by names, or final and by declarers -/
def apT (T : u_T) (N : Nat) : Prop := ∀ a, a < N → ∀ b, b < N → a ≠ b → (T a).2.1 ≠ (T b).2.1 ∨ ((T a).2.2.2 = true ∧ (T b).2.2.2 = true ∧ (T a).1 ≠ (T b).1)
def FP (own : String) (idx t k : Nat) (ty : FieldType) (fin : Bool) : Prop := ∃ (C : String) (T : u_T) (N : Nat), gcl[t]? = some (C, T, N) ∧ k < N ∧ (∀ w ∈ u_ws C T N, w ∈ lw_all) ∧ ((Cond.fieldLink own idx (T k).1 (T k).2.1 (T k).2.2.1 ∈ lw_all) ∨ ∃ host, Cond.fieldLinkNest own idx (T k).1 (T k).2.1 (T k).2.2.1 host ∈ lw_tbl) ∧
  (T k).2.2.2 = fin ∧ (fin = true → (T k).1 = own) ∧ parseFieldDescriptor (T k).2.2.1 = some ty ∧ apT T N ∧ ∃ ty0 : Nat → FieldType, ∀ k, k < N → parseFieldDescriptor (T k).2.2.1 = some (ty0 k)
theorem fin_apart {args : Array Value} {s : State} {C O f d O' f' d' : String} (h : (Cond.laysFinal C O f d).before args s = true) (h' : (Cond.laysFinal C O' f' d').before args s = true)
    {cf kf fi fd cf' kf' fi' fd'} (hi : s.fieldFound? O f d = some (cf, kf, fi, fd)) (hi' : s.fieldFound? O' f' d' = some (cf', kf', fi', fd')) (hne : O ≠ O') : fd.slot ≠ fd'.slot := by
  obtain ⟨c1, k1, c2, k2, i1, f1, e1, e2, e3, -, -, -, e4, -, d1, e5, e6, -⟩ := Cond.laysFinal_spec h
  obtain ⟨c1', k1', c2', k2', i1', f1', e1', e2', e3', -, -, -, e4', -, d1', e5', e6', -⟩ := Cond.laysFinal_spec h'
  cases e1.symm.trans e1'
  cases hi.symm.trans e3
  cases hi'.symm.trans e3'
  intro hs
  rw [hs] at e5
  cases e5.symm.trans e5'
  have hk := State.fieldFound?_class hi
  have hk' := State.fieldFound?_class hi'
  obtain ⟨ka, ha, hna⟩ := Vm.findClass_spec e4
  obtain ⟨kb, hb, hnb⟩ := Vm.findClass_spec e4'
  cases hk.symm.trans ha
  cases hk'.symm.trans hb
  exact hne (by rw [← hna, ← hnb, ← e6, ← e6'])
theorem ap_slots {args : Array Value} {s : State} {C : String} {T : u_T} {N : Nat} {cC : ClassId} {iS : Nat → Nat} (hts : ∀ w ∈ lw_all, w.before args s = true) (hin : ∀ w ∈ u_ws C T N, w ∈ lw_all) (hK : u_Kn s C T N cC iS) (hap : apT T N) (ty0 : Nat → FieldType) (hty : ∀ k, k < N → parseFieldDescriptor (T k).2.2.1 = some (ty0 k)) : ∀ a b, a < N → b < N → a ≠ b → iS a ≠ iS b := by
  intro a b ha hb hne
  obtain ⟨cf, kf, fi, fd, hi, hsl⟩ := hK.1 a ha
  obtain ⟨cf', kf', fi', fd', hi', hsl'⟩ := hK.1 b hb
  rw [← hsl, ← hsl']
  rcases hap a ha b hb hne with h | ⟨h1, h2, h3⟩
  · refine u_apart (u_lays hts hin ha) (u_lays hts hin hb) hi hi' ?_
    rw [(State.fieldFound?_type hi (hty a ha)).1, (State.fieldFound?_type hi' (hty b hb)).1]
    exact h
  · have l1 := hts _ (hin _ (u_in_lay ha))
    have l2 := hts _ (hin _ (u_in_lay hb))
    unfold u_lay at l1 l2
    rw [if_pos h1] at l1
    rw [if_pos h2] at l2
    exact fin_apart l1 l2 hi hi' h3
theorem gK (hG : Gok g) {s : State} (hW : g.1.WarmedH s.vm) {t : Nat} {q : vw_C} (h : gcl[t]? = some q) : u_Kn s q.1 q.2.1 q.2.2 (g.2.2.1.1 t) (g.2.2.1.2 t) := u_Kn_moved hW.alike (hG.2.2.1 t q h)
theorem gA (hG : Gok g) {s : State} (hW : g.1.WarmedH s.vm) {t : Nat} {ty : FieldType} (h : aty t = some ty) : ArrOfT s (g.2.2.2.1 t) ty := arrOfT_moved hW.alike (hG.2.2.2.1 t ty h).1
theorem nestF (hG : Gok g) {s : State} {args : Array Value} (hW : g.1.WarmedH s.vm) {a : String} {i : Nat} {b n d h : String} (hq : Cond.fieldLinkNest a i b n d h ∈ lw_tbl) : (Cond.fieldLinkNest a i b n d h).before args s = true := va_Nw.use rfl (va_Nw.warmF hW (va_Nw.of rfl (hG.1 _ hq)))
theorem nestM (hG : Gok g) {s : State} (hW : g.1.WarmedH s.vm) {a : String} {i : Nat} {y : MethodName} {h : String} (hq : Cond.methodLinkNest a i y h ∈ lw_tbl) : va_Nw (.methodLinkNest a i y h) s := va_Nw.warmM hW (va_Nw.of rfl (hG.1 _ hq))
theorem castM (hG : Gok g) {s : State} (hW : g.1.WarmedH s.vm) {a b : String} (hq : Cond.castable a b ∈ lw_tbl) : va_Nw (.castable a b) s := va_Nw.warmC hW (va_Nw.of rfl (hG.1 _ hq))
theorem j_fld (B : Bd g x cc nL own ret) {idx t fk a : Nat} {e : cE} (L : FL own idx t fk) (he : w.1 a = some e) (ht : e.1 = t) (d : decode cc pc = .ok (.getfield idx, 3)) (kk : J g x o w1 mc ms w k n (pc + 3) vs (e.2.2 fk :: st)) : J g x o w1 mc ms w k n pc vs (.ref a :: st) := by
  obtain ⟨p, l, e0, R, s, m, args, below, meth, c⟩ := x
  obtain ⟨hx, hb, hml, hown, hts, hr, hlk, hW0, hG⟩ := B
  intro H locs ls hH hL hl
  obtain ⟨C, T, N, hc, hk, hin, hlink⟩ := L
  subst ht
  obtain ⟨hN, ⟨cell, q1, q2, q3, q4⟩, hba⟩ := hat_obj (hH.2.2.2 a e he) hc
  obtain ⟨hS, hfc, kC, hkC, hkind⟩ := gK hG hW0 hc
  obtain ⟨cf, kf, fi, f, hi, hsl⟩ := hS fk hk
  have hv : cell.slots[f.slot]? = some (e.2.2 fk) := by rw [hsl, q4 fk hk]
  have hst := (u_facts hfc hkC (u_lays hts hin hk) hi).1
  rcases hlink with hq | ⟨host, hq⟩
  · exact W.getf hx hb hown (hts _ hq) hi hst q1 (by rw [q3]; exact fun h => by cases h) hv rfl rfl d (kk H locs ls hH hL hl)
  · exact va_Wgetf hx hb hown (nestF hG hW0 hq) hi hst q1 (by rw [q3]; exact fun h => by cases h) hv rfl rfl d (kk H locs ls hH hL hl)
theorem j_getI (B : Bd g x cc nL own ret) {idx t fk : Nat} {r : Option Nat} (L : FL own idx t fk) (d : decode cc pc = .ok (.getfield idx, 3)) {β : Type} {K : Int32 → Option β} {out : β} (hF : (fI w r t fk).bind K = some out) (kk : ∀ i, K i = some out → J g x o w1 mc ms w k n (pc + 3) vs (.int i :: st)) : J g x o w1 mc ms w k n pc vs (va_rf r :: st) := by
  obtain ⟨i, h1, h2⟩ := bo hF
  obtain ⟨a, e, rfl, he, ht, hv⟩ := fV_some (vI_some h1)
  refine j_fld B L he ht d ?_
  rw [hv]
  exact kk i h2
theorem j_getA (B : Bd g x cc nL own ret) {idx t fk : Nat} {r : Option Nat} (L : FL own idx t fk) (d : decode cc pc = .ok (.getfield idx, 3)) {β : Type} {K : Option Nat → Option β} {out : β} (hF : (fA w r t fk).bind K = some out) (kk : ∀ i, K i = some out → J g x o w1 mc ms w k n (pc + 3) vs (va_rf i :: st)) : J g x o w1 mc ms w k n pc vs (va_rf r :: st) := by
  obtain ⟨i, h1, h2⟩ := bo hF
  obtain ⟨a, e, rfl, he, ht, hv⟩ := fV_some (vA_some h1)
  refine j_fld B L he ht d ?_
  rw [hv]
  exact kk i h2
theorem j_putV (B : Bd g x cc nL own ret) {idx t fk : Nat} {ty : FieldType} {fin : Bool} {r : Option Nat} {v : Value} (L : FP own idx t fk ty fin) (hfn : fin = true → x.2.2.2.2.2.2.2.2.1.name = "<init>") (hn : narrow ty v = v) (hfit : fits ty v = true) (d : decode cc pc = .ok (.putfield idx, 3)) {β : Type} {K : cH → Option β} {out : β} (hF : (pV w r t fk v).bind K = some out) (kk : ∀ w2, K w2 = some out → J g x o w1 mc ms w2 k n (pc + 3) vs st) : J g x o w1 mc ms w k n pc vs (v :: va_rf r :: st) := by
  obtain ⟨w2, h1, h2⟩ := bo hF
  obtain ⟨a, e, rfl, he, ht, rfl⟩ := pV_some h1
  have kk := kk _ h2
  obtain ⟨p, l, e0, R, s, m, args, below, meth, c⟩ := x
  obtain ⟨hx, hb, hml, hown, hts, hr, hlk, hW0, hG⟩ := B
  intro H locs ls hH hL hl
  obtain ⟨C, T, N, hc, hk, hin, hlink, hfin, hdecl, hd, hap, ty0, hty⟩ := L
  subst ht
  obtain ⟨hN, ⟨cell, q1, q2, q3, q4⟩, hba⟩ := hat_obj (hH.2.2.2 a e he) hc
  have hKn := gK hG hW0 hc
  have hap := ap_slots hts hin hKn hap ty0 hty
  obtain ⟨hS, hfc, kC, hkC, hkind⟩ := hKn
  obtain ⟨cf, kf, fi, f, hi, hsl⟩ := hS fk hk
  have hst := (u_facts hfc hkC (u_lays hts hin hk) hi).1
  have hlay := hts _ (hin _ (u_in_lay hk))
  have hlt : f.slot < cell.slots.size := by rw [hsl]; exact k2_hasslot (q4 fk hk)
  have key : ∀ H' : Heap, H'[a]? = some (cell.setSlot f.slot v) → H'.size = H.size → (∀ q, q ≠ a → H'[q]? = H[q]?) → W p l e0 R s m args below meth c H' (locs ++ [⟨a, f.slot⟩]) k n (MQx g below s o w1 mc ms) (F0 m (pc + 3) ls st) := by
    intro H' e1 e2 e3
    refine kk H' _ ls (hrep_wr hH hba e2 e3 (Or.inl ⟨_, hc, hN, ⟨_, e1, q2, q3, ?_⟩, hba⟩)) (locs_add hL hba) hl
    intro j hj
    have := t_set q4 hap hk v j hj
    rw [hsl]
    exact this
  have h6 : narrow f.type v = v ∧ s.fitsSlot (g.2.2.1.1 e.1) .none f.slot v = true := u_fits hfc hkC hkind (u_lays hts hin hk) hi hd hn hfit
  have hacc : hasFlag f.accessFlags Acc.final = false ∨ (m.cls = cf ∧ meth.name = "<init>") := by
    unfold u_lay at hlay
    cases fin with
    | false =>
      rw [if_neg (by show ¬ (T fk).2.2.2 = true; rw [hfin]; decide)] at hlay
      obtain ⟨_, _, _, _, _, _, -, -, hf', -, hnf, -⟩ := Cond.lays_spec hlay
      cases hi.symm.trans hf'
      exact Or.inl hnf
    | true =>
      rw [if_pos hfin] at hlay
      obtain ⟨_, _, c', _, _, _, -, -, hf', -, -, -, hown2, -⟩ := Cond.laysFinal_spec hlay
      cases hi.symm.trans hf'
      have hown2 : s.vm.findClass (T fk).1 = some cf := hown2
      rw [hdecl rfl] at hown2
      exact Or.inr ⟨Option.some.inj (hown.symm.trans hown2), hfn rfl⟩
  have ha : a < H.size := (Array.getElem?_eq_some_iff.mp q1).1
  have kf := key (H.setIfInBounds a (cell.setSlot f.slot v)) (by simp [Array.getElem?_setIfInBounds, ha]) (by simp) (by intro q hq; simp [Array.getElem?_setIfInBounds, Ne.symm hq])
  rcases hlink with hq | ⟨host, hq⟩
  · exact W.putf hx hb hown (hts _ hq) hi hst hacc q1 (by rw [q3]; exact fun h => by cases h) hlt h6.1 (by rw [q2, q3]; exact h6.2) rfl rfl d kf
  · exact va_Wputf hx hb hown (nestF hG hW0 hq) hi hst hacc q1 (by rw [q3]; exact fun h => by cases h) hlt h6.1 (by rw [q2, q3]; exact h6.2) rfl rfl d kf
/-! ### arrays -/
theorem arr_of (hG : Gok g) {s : State} (hW : g.1.WarmedH s.vm) {H : Heap} {a : Nat} {e : cE} {ty : FieldType} (hH : hrep g w H) (he : w.1 a = some e) (ht : aty e.1 = some ty) : H[a]? = some (arrV (g.2.2.2.1 e.1) e.2.1 e.2.2) ∧ gb g ≤ a ∧ s.isArrayOf (arrV (g.2.2.2.1 e.1) e.2.1 e.2.2) ty := by
  obtain ⟨h1, h2⟩ := hat_arr (hH.2.2.2 a e he) ht
  exact ⟨h1, h2, gA hG hW ht _ _⟩
theorem j_alen (B : Bd g x cc nL own ret) {r : Option Nat} (d : decode cc pc = .ok (.arraylength, 1)) {β : Type} {K : Int32 → Option β} {out : β} (hF : (aL w r).bind K = some out) (kk : ∀ i, K i = some out → J g x o w1 mc ms w k n (pc + 1) vs (.int i :: st)) : J g x o w1 mc ms w k n pc vs (va_rf r :: st) := by
  obtain ⟨i, h1, h2⟩ := bo hF
  obtain ⟨a, e, rfl, he, t1, t2, hv⟩ := aL_some h1
  have kk := kk _ h2
  obtain ⟨p, l, e0, R, s, m, args, below, meth, c⟩ := x
  obtain ⟨hx, hb, hml, hown, hts, hr, hlk, hW0, hG⟩ := B
  intro H locs ls hH hL hl
  have ht : ∃ ty, aty e.1 = some ty := by
    unfold aty
    rcases (show e.1 = 100 ∨ e.1 = 101 ∨ e.1 = 102 ∨ e.1 = 103 ∨ e.1 = 104 ∨ e.1 = 105 by omega) with h | h | h | h | h | h <;> rw [h] <;> exact ⟨_, rfl⟩
  obtain ⟨ty, ht⟩ := ht
  obtain ⟨q1, q2, q3⟩ := arr_of hG hW0 hH he ht
  exact W.alen hx hb q1 q3 (by rw [arrV_size]; exact hv) rfl rfl d (kk H locs ls hH hL hl)
theorem j_iaload (B : Bd g x cc nL own ret) {r : Option Nat} {i : Int32} (d : decode cc pc = .ok (.iaload, 1)) {β : Type} {K : Int32 → Option β} {out : β} (hF : (aI w r 100 i).bind K = some out) (kk : ∀ v, K v = some out → J g x o w1 mc ms w k n (pc + 1) vs (.int v :: st)) : J g x o w1 mc ms w k n pc vs (.int i :: va_rf r :: st) := by
  obtain ⟨v, h1, h2⟩ := bo hF
  obtain ⟨a, e, rfl, he, ht, hin, hv⟩ := aV_some (vI_some h1)
  have kk := kk _ h2
  obtain ⟨p, l, e0, R, s, m, args, below, meth, c⟩ := x
  obtain ⟨hx, hb, hml, hown, hts, hr, hlk, hW0, hG⟩ := B
  intro H locs ls hH hL hl
  obtain ⟨q1, q2, q3⟩ := arr_of (ty := .int) hG hW0 hH he (by rw [ht]; rfl)
  have hlt : i.toNatClampNeg < e.2.1 := Nat.not_le.mp fun q => hin (Or.inr q)
  exact W.iald (v := .int v) hx hb q1 q3 (fun q => by cases q) (by rw [arrV_size]; exact hin) (by rw [arrV_read _ _ hlt, hv]) rfl rfl d (kk H locs ls hH hL hl)
theorem j_baload (B : Bd g x cc nL own ret) {r : Option Nat} {i : Int32} (d : decode cc pc = .ok (.baload, 1)) {β : Type} {K : Int32 → Option β} {out : β} (hF : (aI w r 101 i).bind K = some out) (kk : ∀ v, K v = some out → J g x o w1 mc ms w k n (pc + 1) vs (.int v :: st)) : J g x o w1 mc ms w k n pc vs (.int i :: va_rf r :: st) := by
  obtain ⟨v, h1, h2⟩ := bo hF
  obtain ⟨a, e, rfl, he, ht, hin, hv⟩ := aV_some (vI_some h1)
  have kk := kk _ h2
  obtain ⟨p, l, e0, R, s, m, args, below, meth, c⟩ := x
  obtain ⟨hx, hb, hml, hown, hts, hr, hlk, hW0, hG⟩ := B
  intro H locs ls hH hL hl
  obtain ⟨q1, q2, q3⟩ := arr_of (ty := .byte) hG hW0 hH he (by rw [ht]; rfl)
  have hlt : i.toNatClampNeg < e.2.1 := Nat.not_le.mp fun q => hin (Or.inr q)
  exact W.bald (v := .int v) hx hb q1 q3 (fun q => by cases q) (by rw [arrV_size]; exact hin) (by rw [arrV_read _ _ hlt, hv]) rfl rfl d (kk H locs ls hH hL hl)
theorem j_saload (B : Bd g x cc nL own ret) {r : Option Nat} {i : Int32} (d : decode cc pc = .ok (.saload, 1)) {β : Type} {K : Int32 → Option β} {out : β} (hF : (aI w r 102 i).bind K = some out) (kk : ∀ v, K v = some out → J g x o w1 mc ms w k n (pc + 1) vs (.int v :: st)) : J g x o w1 mc ms w k n pc vs (.int i :: va_rf r :: st) := by
  obtain ⟨v, h1, h2⟩ := bo hF
  obtain ⟨a, e, rfl, he, ht, hin, hv⟩ := aV_some (vI_some h1)
  have kk := kk _ h2
  obtain ⟨p, l, e0, R, s, m, args, below, meth, c⟩ := x
  obtain ⟨hx, hb, hml, hown, hts, hr, hlk, hW0, hG⟩ := B
  intro H locs ls hH hL hl
  obtain ⟨q1, q2, q3⟩ := arr_of (ty := .short) hG hW0 hH he (by rw [ht]; rfl)
  have hlt : i.toNatClampNeg < e.2.1 := Nat.not_le.mp fun q => hin (Or.inr q)
  exact W.sald (v := .int v) hx hb q1 q3 (fun q => by cases q) (by rw [arrV_size]; exact hin) (by rw [arrV_read _ _ hlt, hv]) rfl rfl d (kk H locs ls hH hL hl)
theorem j_iastore (B : Bd g x cc nL own ret) {r : Option Nat} {i v : Int32} (d : decode cc pc = .ok (.iastore, 1)) {β : Type} {K : cH → Option β} {out : β} (hF : (aS w r 100 i (.int v)).bind K = some out) (kk : ∀ w2, K w2 = some out → J g x o w1 mc ms w2 k n (pc + 1) vs st) : J g x o w1 mc ms w k n pc vs (.int v :: .int i :: va_rf r :: st) := by
  obtain ⟨w2, h1, h2⟩ := bo hF
  obtain ⟨a, e, rfl, he, ht, hin, rfl⟩ := aS_some h1
  have kk := kk _ h2
  obtain ⟨p, l, e0, R, s, m, args, below, meth, c⟩ := x
  obtain ⟨hx, hb, hml, hown, hts, hr, hlk, hW0, hG⟩ := B
  intro H locs ls hH hL hl
  obtain ⟨q1, q2, q3⟩ := arr_of (ty := .int) hG hW0 hH he (by rw [ht]; rfl)
  refine W.iast hx hb q1 q3 (fun q => by cases q) (by rw [arrV_size]; exact hin) rfl rfl d fun H1 e1 z oq => ?_
  refine kk H1 _ ls (hrep_wr hH q2 z oq (Or.inr (Or.inl ⟨.int, by rw [ht]; rfl, ?_, q2⟩))) (locs_add hL q2) hl
  exact e1.trans (congrArg some (arrV_store _ _ _ _ _))
theorem j_bastore (B : Bd g x cc nL own ret) {r : Option Nat} {i v : Int32} (d : decode cc pc = .ok (.bastore, 1)) {β : Type} {K : cH → Option β} {out : β} (hF : (aS w r 101 i (.int v.toInt8.toInt32)).bind K = some out) (kk : ∀ w2, K w2 = some out → J g x o w1 mc ms w2 k n (pc + 1) vs st) : J g x o w1 mc ms w k n pc vs (.int v :: .int i :: va_rf r :: st) := by
  obtain ⟨w2, h1, h2⟩ := bo hF
  obtain ⟨a, e, rfl, he, ht, hin, rfl⟩ := aS_some h1
  have kk := kk _ h2
  obtain ⟨p, l, e0, R, s, m, args, below, meth, c⟩ := x
  obtain ⟨hx, hb, hml, hown, hts, hr, hlk, hW0, hG⟩ := B
  intro H locs ls hH hL hl
  obtain ⟨q1, q2, q3⟩ := arr_of (ty := .byte) hG hW0 hH he (by rw [ht]; rfl)
  refine W.bast hx hb q1 q3 (fun q => by cases q) (by rw [arrV_size]; exact hin) rfl rfl d fun H1 e1 z oq => ?_
  refine kk H1 _ ls (hrep_wr hH q2 z oq (Or.inr (Or.inl ⟨.byte, by rw [ht]; rfl, ?_, q2⟩))) (locs_add hL q2) hl
  exact e1.trans (congrArg some (arrV_store _ _ _ _ _))
theorem j_sastore (B : Bd g x cc nL own ret) {r : Option Nat} {i v : Int32} (d : decode cc pc = .ok (.sastore, 1)) {β : Type} {K : cH → Option β} {out : β} (hF : (aS w r 102 i (.int v.toInt16.toInt32)).bind K = some out) (kk : ∀ w2, K w2 = some out → J g x o w1 mc ms w2 k n (pc + 1) vs st) : J g x o w1 mc ms w k n pc vs (.int v :: .int i :: va_rf r :: st) := by
  obtain ⟨w2, h1, h2⟩ := bo hF
  obtain ⟨a, e, rfl, he, ht, hin, rfl⟩ := aS_some h1
  have kk := kk _ h2
  obtain ⟨p, l, e0, R, s, m, args, below, meth, c⟩ := x
  obtain ⟨hx, hb, hml, hown, hts, hr, hlk, hW0, hG⟩ := B
  intro H locs ls hH hL hl
  obtain ⟨q1, q2, q3⟩ := arr_of (ty := .short) hG hW0 hH he (by rw [ht]; rfl)
  refine W.sast hx hb q1 q3 (fun q => by cases q) (by rw [arrV_size]; exact hin) rfl rfl d fun H1 e1 z oq => ?_
  refine kk H1 _ ls (hrep_wr hH q2 z oq (Or.inr (Or.inl ⟨.short, by rw [ht]; rfl, ?_, q2⟩))) (locs_add hL q2) hl
  exact e1.trans (congrArg some (arrV_store _ _ _ _ _))
theorem j_aaload (B : Bd g x cc nL own ret) {r : Option Nat} {i : Int32} (t : Nat) {ty : FieldType} (hty : aty t = some ty) (href : ty.isReference = true) (d : decode cc pc = .ok (.aaload, 1)) {β : Type} {K : Option Nat → Option β} {out : β} (hF : (aA w r t i).bind K = some out) (kk : ∀ v, K v = some out → J g x o w1 mc ms w k n (pc + 1) vs (va_rf v :: st)) : J g x o w1 mc ms w k n pc vs (.int i :: va_rf r :: st) := by
  obtain ⟨v, h1, h2⟩ := bo hF
  obtain ⟨a, e, rfl, he, ht, hin, hv⟩ := aV_some (vA_some h1)
  have kk := kk _ h2
  obtain ⟨p, l, e0, R, s, m, args, below, meth, c⟩ := x
  obtain ⟨hx, hb, hml, hown, hts, hr, hlk, hW0, hG⟩ := B
  intro H locs ls hH hL hl
  obtain ⟨q1, q2, q3⟩ := arr_of (ty := ty) hG hW0 hH he (by rw [ht]; exact hty)
  have hlt : i.toNatClampNeg < e.2.1 := Nat.not_le.mp fun q => hin (Or.inr q)
  exact W.aald (v := va_rf v) hx hb q1 q3 href (fun q => by cases q) (by rw [arrV_size]; exact hin) (by rw [arrV_read _ _ hlt, hv]) rfl rfl d (kk H locs ls hH hL hl)
/-! ### calls that come back -/
def cat1 : List Value → Prop
  | [] => True
  | v :: vs => v.category = 1 ∧ cat1 vs
theorem cat1_sum : ∀ (vs : List Value), cat1 vs → (vs.map fun v => v.category).sum = vs.length
  | [], _ => rfl
  | v :: vs, h => by rw [List.map_cons, List.sum_cons, cat1_sum vs h.2, h.1, List.length_cons, Nat.add_comm]
theorem cr (a : Option Nat) : (va_rf a).category = 1 := by cases a <;> rfl
/-- the invokevirtual idx of the class own calls y, of the class with tag t -/
def CV (own : String) (idx t : Nat) (y : MethodName) (bytes : ByteArray) (maxL : Nat) (rt : Option FieldType) (na : Nat) : Prop := ∃ (T : u_T) (N : Nat), gcl[t]? = some (y.cls, T, N) ∧ GoodIn lw_all (wsV own idx y.cls y (ws_ y bytes maxL rt)) ∧ (y.cls ≠ "java/lang/invoke/MethodHandle" ∧ y.cls ≠ "java/lang/invoke/VarHandle" ∧ (parseMethodDescriptor y.desc).map (fun d => d.parameters.length) = some na)
/-- .. invokestatic, of a class of the nest or not -/
def CS (own : String) (idx : Nat) (y : MethodName) (bytes : ByteArray) (maxL : Nat) (rt : Option FieldType) (na : Nat) : Prop := (GoodIn lw_all (va_wsS own idx y (ws_ y bytes maxL rt)) ∨ (∃ host, Cond.methodLinkNest own idx y host ∈ lw_tbl) ∧ Cond.static y ∈ lw_all ∧ Cond.initialized y.cls ∈ lw_all ∧ Cond.code y bytes maxL rt ∈ lw_all) ∧ (y.cls ≠ "java/lang/invoke/MethodHandle" ∧ y.cls ≠ "java/lang/invoke/VarHandle" ∧ (parseMethodDescriptor y.desc).map (fun d => d.parameters.length) = some na)
/-- .. a constructor -/
def CI (own : String) (idx : Nat) (y : MethodName) (bytes : ByteArray) (maxL : Nat) (na : Nat) : Prop := (Cond.methodLink own idx y ∈ lw_all ∨ ∃ host, Cond.methodLinkNest own idx y host ∈ lw_tbl) ∧ Cond.instanceMethod y ∈ lw_all ∧ Cond.initialized y.cls ∈ lw_all ∧ Cond.code y bytes maxL none ∈ lw_all ∧ y.name = "<init>" ∧ (y.cls ≠ "java/lang/invoke/MethodHandle" ∧ y.cls ≠ "java/lang/invoke/VarHandle" ∧ (parseMethodDescriptor y.desc).map (fun d => d.parameters.length) = some na)
/-- a room fits into another -/
def rmOk (rm R : Room) (maxL k n mc ms : Nat) : Bool := decide (rm.cells = mc) && decide (rm.slots = ms) && decide (rm.frames + 1 ≤ R.frames) && decide (8 + (maxL + 11) + rm.locals ≤ R.locals) && decide (k + mc ≤ R.cells) && decide (n + ms ≤ R.slots)
theorem rmOk_spec {rm R : Room} {maxL k n mc ms : Nat} (h : rmOk rm R maxL k n mc ms = true) : rm.cells = mc ∧ rm.slots = ms ∧ (rm.frames + 1 ≤ R.frames ∧ 8 + (maxL + 11) + rm.locals ≤ R.locals) ∧ k + mc ≤ R.cells ∧ n + ms ≤ R.slots := by
  simp only [rmOk, Bool.and_eq_true, decide_eq_true_eq] at h
  exact ⟨h.1.1.1.1.1, h.1.1.1.1.2, ⟨h.1.1.1.2, h.1.1.2⟩, h.1.2, h.2⟩
theorem j_ofRun {p : Program} {l : Launch} {e : Env} {R : Room} {s : State} {m : MethodId} {args : Array Value} {below : List Frame} {meth : Method} {c : Code} {H : Heap} {locs : List Loc} {ls : Array Slot} {mc' ms' : Nat} {rest st2 : List Value} {v : Option Value} {w2 : cH}
    (hrun : va_Run p l e R s m args below meth c H locs k n mc' ms' (F0 m pc ls st) rest (fun _ oc t => oc = .returned v ∧ wk g w2 t) (fun q => gb g ≤ q)) (h2 : v.toList ++ rest = st2) (hL : ∀ q ∈ locs, gb g ≤ q.base) (hl : lk ls c.maxLocals vs)
    (kk : J g (p, l, e, R, s, m, args, below, meth, c) o w1 mc ms w2 (k + mc') (n + ms') (pc + 3) vs st2) : W p l e R s m args below meth c H locs k n (MQx g below s o w1 mc ms) (F0 m pc ls st) := by
  subst h2
  intro T hT X
  obtain ⟨v', st0, t, T', L, e1, X', hL', e2, e3, ⟨hv, hwk⟩, go⟩ := hrun T hT X
  cases hv
  obtain ⟨t', a1, b1⟩ := kk T'.heap (locs ++ L) ls (by rw [e2]; exact hwk.2) (fun q hq => by
    rcases List.mem_append.mp hq with h | h
    · exact hL q h
    · exact hL' q h) hl T' rfl X'
  exact ⟨t', go t' a1, b1⟩
theorem j_rV (B : Bd g x cc nL own ret) {idx t na maxL : Nat} {y : MethodName} {bytes : ByteArray} {rt : Option FieldType} {l : Launch} {rm R : Room} {mc' ms' : Nat} {r : Option Nat} {v : Option Value} {w2 : cH} {st2 : List Value} (As rest : List Value) (cv : CV own idx t y bytes maxL rt na) (d : decode cc pc = .ok (.invokevirtual idx, 3)) (hl : x.2.1 = l) (hR : x.2.2.2.1 = R)
    (M : tg w r = some t ∧ Mx l y (ws_ y bytes maxL rt) rm g (va_rf r :: As) w (.returned v) w2 mc' ms') (hrm : rmOk rm R maxL k n mc' ms' = true) (hn : As.length = na) (hst : As.reverse ++ va_rf r :: rest = st) (h2 : v.toList ++ rest = st2) (hc1 : cat1 rest) (hc8 : rest.length ≤ 8)
    (kk : J g x o w1 mc ms w2 (k + mc') (n + ms') (pc + 3) vs st2) : J g x o w1 mc ms w k n pc vs st := by
  obtain ⟨ht, M⟩ := M
  obtain ⟨a, e9, rfl, he, ht⟩ := tg_some ht
  subst hl; subst hR; subst hst
  obtain ⟨p, l, e, R, s, m, args, below, meth, c⟩ := x
  obtain ⟨hx, hb, hml, hown, hts, hr, hlk, hW0, hG⟩ := B
  intro H locs ls hH hL hl
  obtain ⟨T, N, hc, hgood, hd⟩ := cv
  obtain ⟨r1, r2, r3, r4, r5⟩ := rmOk_spec hrm
  subst ht
  obtain ⟨hN, ⟨cell, q1, q2, q3, q4⟩, hba⟩ := hat_obj (hH.2.2.2 a e9 he) hc
  obtain ⟨-, hfc, -⟩ := gK hG hW0 hc
  have hrun := va_runV (p := p) (l := l) (e := e) (R := R) (s := s) (m := m) (args := args) (below := below) (meth := meth) (c := c) (H := H) (locs := locs) (cells := k) (slots := n) (b := a) (As := As) (rest := rest) (g := F0 m pc ls (As.reverse ++ Value.ref a :: rest)) (nL := nL) (C := y.cls) ⟨hx, hb, hml, hown, hts⟩ M.met (cwV na hts hgood rfl r1 r2 ⟨rfl, hd⟩ r3)
    ⟨fun a' U f mk q => ⟨q.1, wk_calling q.2 f mk a'⟩, ⟨cell, q1, by rw [q3]; rfl, by rw [q2]; exact hfc⟩, fun U hU hW => ⟨rfl, wk_end hW0 hH hU hW⟩⟩ rfl hn (by rw [← hml]; exact hl.1) rfl (lv_room (by rw [cat1_sum _ hc1]; exact hc8)) d ⟨r4, r5⟩
  exact j_ofRun hrun h2 hL hl kk
theorem j_rS (B : Bd g x cc nL own ret) {idx na maxL : Nat} {y : MethodName} {bytes : ByteArray} {rt : Option FieldType} {l : Launch} {rm R : Room} {mc' ms' : Nat} {v : Option Value} {w2 : cH} {st2 : List Value} (As rest : List Value) (cs : CS own idx y bytes maxL rt na) (d : decode cc pc = .ok (.invokestatic idx, 3)) (hl : x.2.1 = l) (hR : x.2.2.2.1 = R)
    (M : Mx l y (ws_ y bytes maxL rt) rm g As w (.returned v) w2 mc' ms') (hrm : rmOk rm R maxL k n mc' ms' = true) (hn : As.length = na) (hst : As.reverse ++ rest = st) (h2 : v.toList ++ rest = st2) (hc1 : cat1 rest) (hc8 : rest.length ≤ 8)
    (kk : J g x o w1 mc ms w2 (k + mc') (n + ms') (pc + 3) vs st2) : J g x o w1 mc ms w k n pc vs st := by
  subst hl; subst hR; subst hst
  obtain ⟨p, l, e, R, s, m, args, below, meth, c⟩ := x
  obtain ⟨hx, hb, hml, hown, hts, hr, hlk, hW0, hG⟩ := B
  intro H locs ls hH hL hl
  obtain ⟨hlink, hd⟩ := cs
  obtain ⟨r1, r2, r3, r4, r5⟩ := rmOk_spec hrm
  have hp : PreS s H (fun a U => a = As.toArray ∧ wk g w U) As := ⟨fun a' U f mk q => ⟨q.1, wk_calling q.2 f mk a'⟩, fun U hU hW => ⟨rfl, wk_end hW0 hH hU hW⟩⟩
  rcases hlink with hgood | ⟨⟨host, hq⟩, h1, h3, h4⟩
  · have hrun := va_runS (p := p) (l := l) (e := e) (R := R) (s := s) (m := m) (args := args) (below := below) (meth := meth) (c := c) (H := H) (locs := locs) (cells := k) (slots := n) (As := As) (rest := rest) (g := F0 m pc ls (As.reverse ++ rest)) (nL := nL) ⟨hx, hb, hml, hown, hts⟩ M.met (va_cwS na hts hgood rfl r1 r2 hd r3) hp rfl hn (by rw [← hml]; exact hl.1) rfl (lv_room (by rw [cat1_sum _ hc1]; exact hc8)) d ⟨r4, r5⟩
    exact j_ofRun hrun h2 hL hl kk
  · have hrun := va_runSN (p := p) (l := l) (e := e) (R := R) (s := s) (m := m) (args := args) (below := below) (meth := meth) (c := c) (H := H) (locs := locs) (cells := k) (slots := n) (As := As) (rest := rest) (g := F0 m pc ls (As.reverse ++ rest)) (nL := nL) ⟨hx, hb, hml, hown, hts⟩ M.met ⟨va_cnB na hts (lw_meth h4) rfl r1 r2 (nestM hG hW0 hq) (hts _ h3) hd r3, hts _ h1, trivial⟩ hp rfl hn (by rw [← hml]; exact hl.1) rfl (lv_room (by rw [cat1_sum _ hc1]; exact hc8)) d ⟨r4, r5⟩
    exact j_ofRun hrun h2 hL hl kk
theorem j_rI (B : Bd g x cc nL own ret) {idx na maxL : Nat} {y : MethodName} {bytes : ByteArray} {l : Launch} {rm R : Room} {mc' ms' : Nat} {a : Nat} {w2 : cH} {st2 : List Value} (As rest : List Value) (ci : CI own idx y bytes maxL na) (d : decode cc pc = .ok (.invokespecial idx, 3)) (hl : x.2.1 = l) (hR : x.2.2.2.1 = R)
    (M : Mx l y (ws_ y bytes maxL none) rm g (va_rf (some a) :: As) w (.returned none) w2 mc' ms') (hrm : rmOk rm R maxL k n mc' ms' = true) (hn : As.length = na) (hst : As.reverse ++ va_rf (some a) :: rest = st) (h2 : rest = st2) (hc1 : cat1 rest) (hc8 : rest.length ≤ 8)
    (kk : J g x o w1 mc ms w2 (k + mc') (n + ms') (pc + 3) vs st2) : J g x o w1 mc ms w k n pc vs st := by
  subst hl; subst hR; subst hst
  obtain ⟨p, l, e, R, s, m, args, below, meth, c⟩ := x
  obtain ⟨hx, hb, hml, hown, hts, hr, hlk, hW0, hG⟩ := B
  intro H locs ls hH hL hl
  obtain ⟨hlink, hin, hini, hcode, hy1, hd⟩ := ci
  obtain ⟨r1, r2, r3, r4, r5⟩ := rmOk_spec hrm
  have hp : PreS s H (fun a9 U => a9 = (va_rf (some a) :: As).toArray ∧ wk g w U) (Value.ref a :: As) := ⟨fun a' U f mk q => ⟨q.1, wk_calling q.2 f mk a'⟩, fun U hU hW => ⟨rfl, wk_end hW0 hH hU hW⟩⟩
  rcases hlink with hq | ⟨host, hq⟩
  · have hrun := va_runI (p := p) (l := l) (e := e) (R := R) (s := s) (m := m) (args := args) (below := below) (meth := meth) (c := c) (H := H) (locs := locs) (cells := k) (slots := n) (b := a) (As := As) (rest := rest) (g := F0 m pc ls (As.reverse ++ Value.ref a :: rest)) (nL := nL) ⟨hx, hb, hml, hown, hts⟩ M.met (cwI na hts (lw_meth hcode) rfl r1 r2 (hts _ hini) (hts _ hq) (hts _ hin) hy1 hd r3) hp rfl hn (by rw [← hml]; exact hl.1) rfl (lv_room (by rw [cat1_sum _ hc1]; exact hc8)) d ⟨r4, r5⟩
    exact j_ofRun hrun (by rw [← h2]; rfl) hL hl kk
  · have hrun := va_runIN (p := p) (l := l) (e := e) (R := R) (s := s) (m := m) (args := args) (below := below) (meth := meth) (c := c) (H := H) (locs := locs) (cells := k) (slots := n) (b := a) (As := As) (rest := rest) (g := F0 m pc ls (As.reverse ++ Value.ref a :: rest)) (nL := nL) ⟨hx, hb, hml, hown, hts⟩ M.met ⟨va_cnB na hts (lw_meth hcode) rfl r1 r2 (nestM hG hW0 hq) (hts _ hini) hd r3, hy1, hts _ hin⟩ hp rfl hn (by rw [← hml]; exact hl.1) rfl (lv_room (by rw [cat1_sum _ hc1]; exact hc8)) d ⟨r4, r5⟩
    exact j_ofRun hrun (by rw [← h2]; rfl) hL hl kk
/-- Object's own constructor -/
theorem j_objInit (B : Bd g x cc nL own ret) {idx : Nat} {a : Nat} {R : Room} (h1 : Cond.methodLink own idx Lib.objectInit ∈ lw_all) (h2 : Cond.instanceMethod Lib.objectInit ∈ lw_all) (h3 : Cond.code Lib.objectInit ⟨#[0xb1]⟩ 1 none ∈ lw_all) (d : decode cc pc = .ok (.invokespecial idx, 3)) (hR : x.2.2.2.1 = R) (hf : 1 ≤ R.frames) (hlo : st.length + 12 ≤ R.locals) (hc1 : cat1 st) (kk : J g x o w1 mc ms w k n (pc + 3) vs st) : J g x o w1 mc ms w k n pc vs (va_rf (some a) :: st) := by
  subst hR
  obtain ⟨p, l, e, R, s, m, args, below, meth, c⟩ := x
  obtain ⟨hx, hb, hml, hown, hts, hr, hlk, hW0, hG⟩ := B
  intro H locs ls hH hL hl
  refine W.objInit hx hb hown (hts _ h1) (hts _ h2) (hts _ h3) rfl (by rw [hml, ← hml]; exact hl.1) rfl d hf ?_ (kk H locs ls hH hL hl)
  show 2 * 0 + (st.map fun v => v.category).sum + 12 ≤ R.locals
  rw [cat1_sum _ hc1]
  dsimp only at hlo
  omega
theorem raF {U : State} {cA : ClassId} {ty : FieldType} (h : va_RA U cA ty) : U.vm.findClass ("[" ++ ty.toString) = some cA := by
  cases ty with
  | object C => obtain ⟨kA, comp, -, -, -, h4⟩ := h; exact h4
  | _ => exact h
theorem gFA (hG : Gok g) {s : State} (hW : g.1.WarmedH s.vm) {t : Nat} {ty : FieldType} (h : aty t = some ty) : s.vm.findClass ("[" ++ ty.toString) = some (g.2.2.2.1 t) := raF ((hG.2.2.2.1 t ty h).2.moved hW.alike)
/-! ### making cells -/
def NW (own : String) (idx t nn : Nat) (df : Nat → Value) : Prop := ∃ (C : String) (T : u_T) (N : Nat) (ty : Nat → FieldType), gcl[t]? = some (C, T, N) ∧ (∀ w ∈ u_ws C T N, w ∈ lw_all) ∧ (∀ k, k < N → parseFieldDescriptor (T k).2.2.1 = some (ty k)) ∧ Cond.classLink own idx C ∈ lw_all ∧ Cond.instantiable C nn ∈ lw_all ∧ Cond.initialized C ∈ lw_all ∧ ∀ k, k < N → defaultValue (ty k) = df k
/-- a fresh object of tag t with N fields -/
def nO (w : cH) (t N : Nat) (df : Nat → Value) : cH := nw w (t, N, df)
theorem j_new (B : Bd g x cc nL own ret) {idx t nn N : Nat} {df : Nat → Value} {R : Room} (hN : NW own idx t nn df) (hNN : (gcl.getD t ("", fun _ => ("", "", "", false), 0)).2.2 = N) (d : decode cc pc = .ok (.new idx, 3)) (hR : x.2.2.2.1 = R) (hc : k + 1 ≤ R.cells) (hs : n + nn ≤ R.slots) (kk : J g x o w1 mc ms (nO w t N df) (k + 1) (n + nn) (pc + 3) vs (va_rf (some w.2) :: st)) : J g x o w1 mc ms w k n pc vs st := by
  subst hR
  obtain ⟨p, l, e, R, s, m, args, below, meth, c⟩ := x
  obtain ⟨hx, hb, hml, hown, hts, hr, hlk, hW0, hG⟩ := B
  intro H locs ls hH hL hl
  obtain ⟨C, T, N', ty, hcl, hin, hty, h1, h2, h3, hdf⟩ := hN
  have hNe : N' = N := by rw [← hNN, List.getD_eq_getElem?_getD, hcl]; rfl
  subst hNe
  have hK := gK hG hW0 hcl
  obtain ⟨hS, hfc, kC0, hkC0, hkind⟩ := hK
  refine W.newcK hx hb hown (hts _ h1) (hts _ h2) (hts _ h3) rfl d hc hs hfc hH.1 fun H' kC hkC e1 e2 e3 => ?_
  refine kk H' locs ls (hrep_nw hG hH e2 (fun q hq => e3 q hq) (Or.inl ⟨_, hcl, rfl, ?_, hH.2.1⟩)) hL hl
  exact t_OB.to (u_born ty hts hin ⟨hS, hfc, kC0, hkC0, hkind⟩ hkC e1 hty) (fun k hk => hdf k hk)
/-- a fresh array of numbers -/
def nA (w : cH) (t : Nat) (i : Int32) : cH := nw w (t, i.toNatClampNeg, fun _ => .int 0)
theorem j_newarray (B : Bd g x cc nL own ret) {at9 : ArrayType} {ty : FieldType} {i : Int32} {N : Nat} {R : Room} (t : Nat) (hty : newarray.typeOf at9 = ty) (hta : aty t = some ty) (hdv : defaultValue ty = .int 0) (hq : Cond.arrayClass ty ∈ lw_all) (d : decode cc pc = .ok (.newarray at9, 2)) (h0 : ¬ i < 0) (hN : i.toNatClampNeg ≤ N) (hN2 : N * componentBytes ty ≤ 536870912) (hR : x.2.2.2.1 = R) (hc : k + 1 ≤ R.cells) (hs : n + N ≤ R.slots) (kk : J g x o w1 mc ms (nA w t i) (k + 1) (n + N) (pc + 2) vs (va_rf (some w.2) :: st)) : J g x o w1 mc ms w k n pc vs (.int i :: st) := by
  subst hR
  obtain ⟨p, l, e, R, s, m, args, below, meth, c⟩ := x
  obtain ⟨hx, hb, hml, hown, hts, hr, hlk, hW0, hG⟩ := B
  intro H locs ls hH hL hl
  subst hty
  dsimp only at hs hc
  refine W.newa hx hb (hts _ hq) rfl d rfl h0 (Nat.le_trans (Nat.mul_le_mul_right _ hN) hN2) hc (by omega) fun cA kA comp f1 f2 f3 => ?_
  refine W.widen (k := k + 1) (n := n + N) (Nat.le_refl _) (by omega) ?_
  have hfc : s.vm.findClass ("[" ++ (newarray.typeOf at9).toString) = some (g.2.2.2.1 t) := gFA hG hW0 hta
  cases hfc.symm.trans f1
  have hz := hH.1
  refine W.eq (g2 := F0 m (pc + 2) ls (va_rf (some w.2) :: st)) (by show F0 m (pc + 2) ls (Value.ref H.size :: st) = _; rw [hz]; rfl) ?_
  refine kk _ locs ls (hrep_nw hG hH (by rw [Array.size_push, hz]) (fun q hq => ?_) (Or.inr (Or.inl ⟨_, hta, ?_, hH.2.1⟩))) hL hl
  · rw [Array.getElem?_push, if_neg (by rw [hz]; omega)]
  · rw [← hz, hdv, arrV_new]
    show (H.push _)[H.size]? = _
    rw [Array.getElem?_push_size]
/-! ### ends, with the function's own end -/
theorem j_lI (B : Bd g x cc nL own ret) {a r : Int32} (hret : ret = some .int) (d : decode cc pc = .ok (.ireturn, 1)) (hF : some a = some r) (hk : k ≤ mc) (hn : n ≤ ms) : J g x (.returned (some (.int r))) w mc ms w k n pc vs [.int a] := by
  cases hF; exact j_iret B (r := 0) (nr := 0) hret d rfl rfl hk hn
theorem j_lIw (B : Bd g x cc nL own ret) {a r : Int32} (hret : ret = some .int) (d : decode cc pc = .ok (.ireturn, 1)) (hF : some (a, w) = some (r, w1)) (hk : k ≤ mc) (hn : n ≤ ms) : J g x (.returned (some (.int r))) w1 mc ms w k n pc vs [.int a] := by
  cases hF; exact j_iret B (r := 0) (nr := 0) hret d rfl rfl hk hn
theorem j_lIp (B : Bd g x cc nL own ret) {a r : Int32} (hret : ret = some .int) (d : decode cc pc = .ok (.ireturn, 1)) (hF : a = r) (hk : k ≤ mc) (hn : n ≤ ms) : J g x (.returned (some (.int r))) w mc ms w k n pc vs [.int a] := by
  cases hF; exact j_iret B (r := 0) (nr := 0) hret d rfl rfl hk hn
theorem j_lB (B : Bd g x cc nL own ret) {a r : Int32} (hret : ret = some .boolean) (d : decode cc pc = .ok (.ireturn, 1)) (hF : some (a &&& 1) = some r) (hk : k ≤ mc) (hn : n ≤ ms) : J g x (.returned (some (.int r))) w mc ms w k n pc vs [.int a] := by
  cases hF; exact j_bret B hret d rfl rfl hk hn
theorem j_lBw (B : Bd g x cc nL own ret) {a r : Int32} (hret : ret = some .boolean) (d : decode cc pc = .ok (.ireturn, 1)) (hF : some (a &&& 1, w) = some (r, w1)) (hk : k ≤ mc) (hn : n ≤ ms) : J g x (.returned (some (.int r))) w1 mc ms w k n pc vs [.int a] := by
  cases hF; exact j_bret B hret d rfl rfl hk hn
theorem j_lBp (B : Bd g x cc nL own ret) {a r : Int32} (hret : ret = some .boolean) (d : decode cc pc = .ok (.ireturn, 1)) (hF : a &&& 1 = r) (hk : k ≤ mc) (hn : n ≤ ms) : J g x (.returned (some (.int r))) w mc ms w k n pc vs [.int a] := by
  cases hF; exact j_bret B hret d rfl rfl hk hn
theorem j_lZ (B : Bd g x cc nL own ret) {a r : Int32} (hnar : a &&& 1 = a) (hret : ret = some .boolean) (d : decode cc pc = .ok (.ireturn, 1)) (hF : some a = some r) (hk : k ≤ mc) (hn : n ≤ ms) : J g x (.returned (some (.int r))) w mc ms w k n pc vs [.int a] := by
  cases hF; exact j_bret B hret d (by rw [hnar]) rfl hk hn
theorem j_lZw (B : Bd g x cc nL own ret) {a r : Int32} (hnar : a &&& 1 = a) (hret : ret = some .boolean) (d : decode cc pc = .ok (.ireturn, 1)) (hF : some (a, w) = some (r, w1)) (hk : k ≤ mc) (hn : n ≤ ms) : J g x (.returned (some (.int r))) w1 mc ms w k n pc vs [.int a] := by
  cases hF; exact j_bret B hret d (by rw [hnar]) rfl hk hn
theorem j_lZp (B : Bd g x cc nL own ret) {a r : Int32} (hnar : a &&& 1 = a) (hret : ret = some .boolean) (d : decode cc pc = .ok (.ireturn, 1)) (hF : a = r) (hk : k ≤ mc) (hn : n ≤ ms) : J g x (.returned (some (.int r))) w mc ms w k n pc vs [.int a] := by
  cases hF; exact j_bret B hret d (by rw [hnar]) rfl hk hn
theorem j_lV (B : Bd g x cc nL own ret) (hret : ret = none) (d : decode cc pc = .ok (.return_, 1)) (hF : some w = some w1) (hk : k ≤ mc) (hn : n ≤ ms) : J g x (.returned none) w1 mc ms w k n pc vs [] := by
  cases hF; exact j_vret B hret d rfl rfl hk hn
theorem j_lA (B : Bd g x cc nL own ret) {a r : Option Nat} {rt : FieldType} (hret : ret = some rt) (hrt : (∃ n, rt = .object n) ∨ ∃ t, rt = .array t) (d : decode cc pc = .ok (.areturn, 1)) (hF : some a = some r) (hk : k ≤ mc) (hn : n ≤ ms) : J g x (.returned (some (va_rf r))) w mc ms w k n pc vs [va_rf a] := by
  cases hF; exact j_aret B hret hrt d rfl rfl hk hn
theorem j_lAw (B : Bd g x cc nL own ret) {a r : Option Nat} {rt : FieldType} (hret : ret = some rt) (hrt : (∃ n, rt = .object n) ∨ ∃ t, rt = .array t) (d : decode cc pc = .ok (.areturn, 1)) (hF : some (a, w) = some (r, w1)) (hk : k ≤ mc) (hn : n ≤ ms) : J g x (.returned (some (va_rf r))) w1 mc ms w k n pc vs [va_rf a] := by
  cases hF; exact j_aret B hret hrt d rfl rfl hk hn
theorem j_widen {k' n' : Nat} (hk : k ≤ k') (hn : n ≤ n') (kk : J g x o w1 mc ms w k' n' pc vs st) : J g x o w1 mc ms w k n pc vs st := by
  obtain ⟨p, l, e, R, s, m, args, below, meth, c⟩ := x
  intro H locs ls hH hL hl
  exact W.widen hk hn (kk H locs ls hH hL hl)
/-- the fuel of every loop -/
def fu : Nat := 4096
theorem lg_le {av : List Value} {nL : Nat} (h : cat1 av) (hn : av.length ≤ nL) : (lg_sl av).length ≤ nL := by
  have : ∀ av : List Value, cat1 av → (lg_sl av).length = av.length := by
    intro av
    induction av with
    | nil => intro _; rfl
    | cons v vs ih =>
      intro h
      have h2 : lg_sl (v :: vs) = .val v :: lg_sl vs := by
        show (v :: vs).flatMap _ = _
        rw [List.flatMap_cons, if_neg (by rw [h.1]; decide)]
        rfl
      rw [h2, List.length_cons, ih h.2, List.length_cons]
  rw [this av h]
  exact hn
theorem av_ok {av : List Value} (h : cat1 av) : av.all (fun v => v.category == 1) = true := by
  induction av with
  | nil => rfl
  | cons v vs ih => rw [List.all_cons, ih h.2, h.1]; rfl
theorem tbl_out {a : Int32} (lo hi : Int) (h : ∀ z : Int, lo ≤ z → z ≤ hi → ¬ a.toInt = z) : a.toInt < lo ∨ hi < a.toInt := by
  by_cases h1 : a.toInt < lo
  · exact Or.inl h1
  · by_cases h2 : hi < a.toInt
    · exact Or.inr h2
    · exact absurd rfl (h a.toInt (by omega) (by omega))
theorem nar_rf (ty : FieldType) (a : Option Nat) (h : (∃ n, ty = .object n) ∨ ∃ t, ty = .array t) : narrow ty (va_rf a) = va_rf a := by
  rcases h with ⟨n, rfl⟩ | ⟨t, rfl⟩ <;> cases a <;> rfl
theorem fit_rf (ty : FieldType) (a : Option Nat) (h : (∃ n, ty = .object n) ∨ ∃ t, ty = .array t) : fits ty (va_rf a) = true := by
  rcases h with ⟨n, rfl⟩ | ⟨t, rfl⟩ <;> cases a <;> rfl
theorem nar_b {v : Int32} (h : v &&& 1 = v) : narrow .boolean (.int v) = .int v := by rw [narrow_bool, h]
theorem fit_b {v : Int32} (h : v &&& 1 = v) : fits .boolean (.int v) = true := by
  have h1 := pk_and v (m := 1) 1 (by decide)
  rw [h] at h1
  rcases (show v.toBitVec.toNat % 2 ^ 1 = 0 ∨ v.toBitVec.toNat % 2 ^ 1 = 1 by omega) with h2 | h2
  · rw [h2] at h1; rw [h1]; decide
  · rw [h2] at h1; rw [h1]; decide
theorem j_lcmp (B : Bd g x cc nL own ret) {a b : Int64} (d : decode cc pc = .ok (.lcmp, 1)) (kk : J g x o w1 mc ms w k n (pc + 1) vs (.int (lg_cmp a b) :: st)) : J g x o w1 mc ms w k n pc vs (.long b :: .long a :: st) := by
  obtain ⟨p, l, e, R, s, m, args, below, meth, c⟩ := x
  obtain ⟨hx, hb, hml, hown, hts, hr, hlk, hW0, hG⟩ := B
  intro H locs ls hH hL hl
  exact W.lcmp hx hb d (kk H locs ls hH hL hl)
/-! ### classes of cells -/
/-- the class's name of a tag -/
def cnm (t : Nat) : String := match aty t with
  | some ty => "[" ++ ty.toString
  | none => match gcl[t]? with
    | some r => r.1
    | none => "java/lang/String"
theorem cls_of (hG : Gok g) {s : State} (hW : g.1.WarmedH s.vm) {H : Heap} {a : Nat} {e : cE} (hH : hrep g w H) (he : w.1 a = some e) : ∃ cell : Cell, H[a]? = some cell ∧ cell.vm.isStatics = false ∧ s.vm.findClass (cnm e.1) = some cell.cls := by
  have h := hH.2.2.2 a e he
  rcases h with ⟨r, h1, h2, ⟨cell, q1, q2, q3, q4⟩, h4⟩ | ⟨ty, h1, h2, h3⟩ | ⟨h1, i, hi, rfl, -⟩
  · obtain ⟨-, hfc, -⟩ := gK hG hW h1
    refine ⟨cell, q1, by rw [q3]; rfl, ?_⟩
    have hlt := gcl_lt h1
    have hn : aty e.1 = none := by
      cases hz : aty e.1 with
      | none => rfl
      | some ty => have := aty_ge hz; omega
    rw [q2, cnm, hn, h1]
    exact hfc
  · refine ⟨_, h2, rfl, ?_⟩
    rw [cnm, h1]
    exact gFA hG hW h1
  · obtain ⟨-, -, -, -, ⟨adV, hS⟩, -⟩ := id hG
    obtain ⟨⟨cell, q1, q2, q3, q4⟩, -⟩ := hS.1 i hi
    have hlt : g.2.2.2.2 i < gb g := (Array.getElem?_eq_some_iff.mp q1).1
    refine ⟨cell, by rw [hH.2.2.1 _ hlt]; exact q1, q2, ?_⟩
    rw [h1, show cnm 111 = "java/lang/String" by decide, hW.alike.findClass]
    exact q3
/-- the cast idx of the class own lets the tags ts pass -/
def CK (own : String) (idx : Nat) (ts : List Nat) : Prop := ∃ nm : String, Cond.classLink own idx nm ∈ lw_all ∧ ∀ t ∈ ts, cnm t = nm ∨ Cond.castable (cnm t) nm ∈ lw_tbl
def ckc (w : cH) (r : Option Nat) (ts : List Nat) : Bool := match r with
  | none => true
  | some a => match w.1 a with
    | none => false
    | some e => ts.contains e.1
theorem asg_of (hG : Gok g) {s : State} (hW : g.1.WarmedH s.vm) {t : Nat} {nm : String} {cid : ClassId} (hc : s.vm.findClass (cnm t) = some cid) (h : cnm t = nm ∨ Cond.castable (cnm t) nm ∈ lw_tbl) : ∃ cT, s.vm.findClass nm = some cT ∧ s.vm.assignable cid cT = true := by
  rcases h with h | h
  · exact ⟨cid, by rw [← h]; exact hc, va_asg _ _⟩
  · obtain ⟨c0, t0, f1, f2, f3⟩ := Cond.castable_spec (va_Nw.use (A := #[]) rfl (castM hG hW h))
    cases hc.symm.trans f1
    exact ⟨t0, f2, f3⟩
theorem j_cast (B : Bd g x cc nL own ret) {idx : Nat} {ts : List Nat} {r : Option Nat} (K : CK own idx ts) (hck : ckc w r ts = true) (d : decode cc pc = .ok (.checkcast idx, 3)) (kk : J g x o w1 mc ms w k n (pc + 3) vs (va_rf r :: st)) : J g x o w1 mc ms w k n pc vs (va_rf r :: st) := by
  obtain ⟨p, l, e, R, s, m, args, below, meth, c⟩ := x
  obtain ⟨hx, hb, hml, hown, hts, hr, hlk, hW0, hG⟩ := B
  intro H locs ls hH hL hl
  have kk := kk H locs ls hH hL hl
  cases r with
  | none => exact lv_castN hx hb d kk
  | some a =>
    obtain ⟨nm, hlink, hall⟩ := K
    unfold ckc at hck
    dsimp only at hck
    cases he : w.1 a with
    | none => rw [he] at hck; cases hck
    | some e9 =>
      rw [he] at hck
      obtain ⟨cell, h1, h2, h3⟩ := cls_of hG hW0 hH he
      obtain ⟨cT, f1, f2⟩ := asg_of hG hW0 h3 (hall e9.1 (by simpa using hck))
      intro T hT X
      obtain ⟨vm', X', st'⟩ := X.checkcastYes hx hown (hts _ hlink) (by rw [hT]; exact h1) h2 f1 f2 (g := F0 m pc ls (.ref a :: st)) rfl rfl (by rw [hb]; exact d)
      obtain ⟨t, a1, b1⟩ := kk (T.setVm vm') hT X'
      exact ⟨t, st' t a1, b1⟩
/-- instanceof: tags that are, tags that aren't -/
def iof (w : cH) (r : Option Nat) (yes no : List Nat) : Option Int32 := match r with
  | none => some 0
  | some a => match w.1 a with
    | none => none
    | some e => if yes.contains e.1 then some 1 else if no.contains e.1 then some 0 else none
def NK (own : String) (idx : Nat) (no : List Nat) (g : Gt) : Prop := ∃ nm : String, Cond.classLink own idx nm ∈ lw_all ∧ ∀ t ∈ no, va_Nc (cnm t) nm g.1
theorem j_inst (B : Bd g x cc nL own ret) {idx : Nat} {yes no : List Nat} {r : Option Nat} (K : CK own idx yes) (N : NK own idx no g) (d : decode cc pc = .ok (.instanceof idx, 3)) {β : Type} {K9 : Int32 → Option β} {out : β} (hF : (iof w r yes no).bind K9 = some out) (kk : ∀ i, K9 i = some out → J g x o w1 mc ms w k n (pc + 3) vs (.int i :: st)) : J g x o w1 mc ms w k n pc vs (va_rf r :: st) := by
  obtain ⟨i, h1, h2⟩ := bo hF
  have kk := kk i h2
  obtain ⟨p, l, e, R, s, m, args, below, meth, c⟩ := x
  obtain ⟨hx, hb, hml, hown, hts, hr, hlk, hW0, hG⟩ := B
  intro H locs ls hH hL hl
  have kk := kk H locs ls hH hL hl
  unfold iof at h1
  cases r with
  | none => cases h1; exact lv_instN hx hb d kk
  | some a =>
    dsimp only at h1
    cases he : w.1 a with
    | none => rw [he] at h1; cases h1
    | some e9 =>
      rw [he] at h1
      dsimp only at h1
      obtain ⟨cell, q1, q2, q3⟩ := cls_of hG hW0 hH he
      split at h1
      · rename_i hy
        cases h1
        obtain ⟨nm, hlink, hall⟩ := K
        obtain ⟨cT, f1, f2⟩ := asg_of hG hW0 q3 (hall e9.1 (by simpa using hy))
        intro T hT X
        obtain ⟨vm', X', st'⟩ := X.instanceofYes hx hown (hts _ hlink) (by rw [hT]; exact q1) q2 f1 f2 (g := F0 m pc ls (.ref a :: st)) rfl rfl (by rw [hb]; exact d)
        obtain ⟨t, a1, b1⟩ := kk (T.setVm vm') hT X'
        exact ⟨t, st' t a1, b1⟩
      · split at h1
        · rename_i hn
          cases h1
          obtain ⟨nm, hlink, hall⟩ := N
          exact va_instNo hx hb hown (hts _ hlink) ((hall e9.1 (by simpa using hn)).moved hW0.alike) ⟨cell, q1, q2, q3⟩ d kk
        · cases h1
/-! ### fields that several classes inherit: the receiver's tag is one of ts -/
def fVc (w : cH) (r : Option Nat) (ts : List Nat) (k : Nat) : Option Value := match cV w r with
  | none => none
  | some q => if ts.contains q.2.1 = true then some (q.2.2.2 k) else none
def fIc (w : cH) (r : Option Nat) (ts : List Nat) (k : Nat) : Option Int32 := vI (fVc w r ts k)
def fAc (w : cH) (r : Option Nat) (ts : List Nat) (k : Nat) : Option (Option Nat) := vA (fVc w r ts k)
def pVc (w : cH) (r : Option Nat) (ts : List Nat) (k : Nat) (v : Value) : Option cH := match cV w r with
  | none => none
  | some q => if ts.contains q.2.1 = true then some (wr w q.1 (q.2.1, q.2.2.1, updV q.2.2.2 k v)) else none
theorem fVc_some {w : cH} {r : Option Nat} {ts : List Nat} {k : Nat} {v : Value} (h : fVc w r ts k = some v) : ∃ a e, r = some a ∧ w.1 a = some e ∧ e.1 ∈ ts ∧ e.2.2 k = v := by
  unfold fVc at h
  cases hc : cV w r with
  | none => rw [hc] at h; cases h
  | some q =>
    rw [hc] at h
    dsimp only at h
    split at h
    · rename_i ht
      obtain ⟨h1, h2⟩ := cV_some hc
      exact ⟨q.1, q.2, h1, h2, by simpa using ht, Option.some.inj h⟩
    · cases h
theorem pVc_some {w w2 : cH} {r : Option Nat} {ts : List Nat} {k : Nat} {v : Value} (h : pVc w r ts k v = some w2) : ∃ t, t ∈ ts ∧ pV w r t k v = some w2 := by
  unfold pVc at h
  cases hc : cV w r with
  | none => rw [hc] at h; cases h
  | some q =>
    rw [hc] at h
    dsimp only at h
    split at h
    · rename_i ht
      exact ⟨q.2.1, by simpa using ht, by unfold pV; rw [hc]; dsimp only; rw [if_pos rfl]; exact h⟩
    · cases h
def FLc (own : String) (idx : Nat) (ts : List Nat) (k : Nat) : Prop := ∀ t, t ∈ ts → FL own idx t k
def FPc (own : String) (idx : Nat) (ts : List Nat) (k : Nat) (ty : FieldType) (fin : Bool) : Prop := ∀ t, t ∈ ts → FP own idx t k ty fin
theorem j_getIc (B : Bd g x cc nL own ret) {idx fk : Nat} {ts : List Nat} {r : Option Nat} (L : FLc own idx ts fk) (d : decode cc pc = .ok (.getfield idx, 3)) {β : Type} {K : Int32 → Option β} {out : β} (hF : (fIc w r ts fk).bind K = some out) (kk : ∀ i, K i = some out → J g x o w1 mc ms w k n (pc + 3) vs (.int i :: st)) : J g x o w1 mc ms w k n pc vs (va_rf r :: st) := by
  obtain ⟨i, h1, h2⟩ := bo hF
  obtain ⟨a, e, rfl, he, ht, hv⟩ := fVc_some (vI_some h1)
  refine j_fld B (L e.1 ht) he rfl d ?_
  rw [hv]
  exact kk i h2
theorem j_getAc (B : Bd g x cc nL own ret) {idx fk : Nat} {ts : List Nat} {r : Option Nat} (L : FLc own idx ts fk) (d : decode cc pc = .ok (.getfield idx, 3)) {β : Type} {K : Option Nat → Option β} {out : β} (hF : (fAc w r ts fk).bind K = some out) (kk : ∀ i, K i = some out → J g x o w1 mc ms w k n (pc + 3) vs (va_rf i :: st)) : J g x o w1 mc ms w k n pc vs (va_rf r :: st) := by
  obtain ⟨i, h1, h2⟩ := bo hF
  obtain ⟨a, e, rfl, he, ht, hv⟩ := fVc_some (vA_some h1)
  refine j_fld B (L e.1 ht) he rfl d ?_
  rw [hv]
  exact kk i h2
theorem j_putVc (B : Bd g x cc nL own ret) {idx fk : Nat} {ts : List Nat} {ty : FieldType} {fin : Bool} {r : Option Nat} {v : Value} (L : FPc own idx ts fk ty fin) (hfn : fin = true → x.2.2.2.2.2.2.2.2.1.name = "<init>") (hn : narrow ty v = v) (hfit : fits ty v = true) (d : decode cc pc = .ok (.putfield idx, 3)) {β : Type} {K : cH → Option β} {out : β} (hF : (pVc w r ts fk v).bind K = some out) (kk : ∀ w2, K w2 = some out → J g x o w1 mc ms w2 k n (pc + 3) vs st) : J g x o w1 mc ms w k n pc vs (v :: va_rf r :: st) := by
  obtain ⟨w2, h1, h2⟩ := bo hF
  obtain ⟨t, ht, h3⟩ := pVc_some h1
  exact j_putV B (L t ht) hfn hn hfit d (K := K) (out := out) (by rw [h3]; exact h2) kk
/-! ### System.arraycopy between arrays of one kind of numbers -/
def cpA (w : cH) (r0 : Option Nat) (sp : Int32) (r1 : Option Nat) (dp n : Int32) (t : Nat) : Option cH := match cV w r0, cV w r1 with
  | some q0, some q1 => if q0.2.1 = t ∧ q1.2.1 = t ∧ ¬ sp < 0 ∧ ¬ dp < 0 ∧ ¬ n < 0 ∧ sp.toNatClampNeg + n.toNatClampNeg ≤ q0.2.2.1 ∧ dp.toNatClampNeg + n.toNatClampNeg ≤ q1.2.2.1 ∧ (List.range n.toNatClampNeg).all (fun i => fits ((aty t).getD .int) (q0.2.2.2 (sp.toNatClampNeg + i))) = true then
      some (wr w q1.1 (q1.2.1, q1.2.2.1, va_cpy q0.2.2.2 q1.2.2.2 sp.toNatClampNeg dp.toNatClampNeg n.toNatClampNeg)) else none
  | _, _ => none
set_option maxHeartbeats 1000000 in
theorem j_acopy (B : Bd g x cc nL own ret) {idx t : Nat} {ty : FieldType} {r0 r1 : Option Nat} {sp dp nn : Int32} {R : Room} (hta : aty t = some ty) (hprim : refKind ty = false) (h1 : Cond.methodLink own idx arraycopyName ∈ lw_all) (h2 : Cond.native arraycopyName ∈ lw_all) (h3 : Cond.static arraycopyName ∈ lw_all) (h4 : Cond.initialized "java/lang/System" ∈ lw_all) (d : decode cc pc = .ok (.invokestatic idx, 3)) (hR : x.2.2.2.1 = R) (hf : 1 ≤ R.frames) (hlo : st.length + 18 ≤ R.locals) (hc1 : cat1 st) {β : Type} {K : cH → Option β} {out : β} (hF : (cpA w r0 sp r1 dp nn t).bind K = some out) (kk : ∀ w2, K w2 = some out → J g x o w1 mc ms w2 k n (pc + 3) vs st) : J g x o w1 mc ms w k n pc vs (.int nn :: .int dp :: va_rf r1 :: .int sp :: va_rf r0 :: st) := by
  obtain ⟨w2, e1, e2⟩ := bo hF
  have kk := kk w2 e2
  unfold cpA at e1
  cases hc0 : cV w r0 with
  | none => rw [hc0] at e1; cases e1
  | some q0 =>
  cases hc9 : cV w r1 with
  | none => rw [hc0, hc9] at e1; cases e1
  | some q1 =>
  rw [hc0, hc9] at e1
  dsimp only at e1
  split at e1
  case isFalse => cases e1
  rename_i hcond
  obtain ⟨t0, t1, n1, n2, n3, n4, n5, n6⟩ := hcond
  cases e1
  obtain ⟨rfl, he0⟩ := cV_some hc0
  obtain ⟨rfl, he1⟩ := cV_some hc9
  subst hR
  obtain ⟨p, l, e, R, s, m, args, below, meth, c⟩ := x
  obtain ⟨hx, hb, hml, hown, hts, hr, hlk, hW0, hG⟩ := B
  intro H locs ls hH hL hl
  dsimp only at hf hlo
  obtain ⟨u1, u2, u3⟩ := arr_of (ty := ty) hG hW0 hH he0 (by rw [t0]; exact hta)
  obtain ⟨v1, v2, v3⟩ := arr_of (ty := ty) hG hW0 hH he1 (by rw [t1]; exact hta)
  have nn' : ∀ z : Int32, ¬ z < 0 → z.toInt = (z.toNatClampNeg : Int) := by
    intro z hz
    have hz0 : (0 : Int) ≤ z.toInt := by
      have := Int32.not_lt.mp hz
      simpa using Int32.le_iff_toInt_le.mp this
    show z.toInt = ((z.toInt.toNat : Nat) : Int)
    omega
  intro T hT X
  obtain ⟨-, k0, hk0, cm0, hkk0⟩ := u3
  obtain ⟨-, k1, hk1, cm1, hkk1⟩ := v3
  obtain ⟨vm', X', step⟩ := X.arraycopy hx hown (hts _ h1) (hts _ h2) (hts _ h3) (hts _ h4) (src := q0.1) (dst := q1.1) (cs := arrV (g.2.2.2.1 q0.2.1) q0.2.2.1 q0.2.2.2) (cd := arrV (g.2.2.2.1 q1.2.1) q1.2.2.1 q1.2.2.2) (srcPos := sp) (destPos := dp) (n := nn) (by rw [hT]; exact u1) (by rw [hT]; exact v1)
    (fun _ h => by cases h) (fun _ h => by cases h) (fun h => by cases h) (fun h => by cases h) hk0 hk1 hkk0 hkk1 (by simp [hprim]) n1 n2 n3
    (by rw [nn' sp n1, nn' nn n3, arrV_size]; omega)
    (by rw [nn' dp n2, nn' nn n3, arrV_size]; omega)
    (fun vm₁ _ i hi => by
      have e : (arrV (g.2.2.2.1 q0.2.1) q0.2.2.1 q0.2.2.2).slots.getD (sp.toNatClampNeg + i) .null = q0.2.2.2 (sp.toNatClampNeg + i) := by
        rw [Array.getD_eq_getD_getElem?, arrV_read _ _ (by omega)]
        rfl
      have hfi : fits ty (q0.2.2.2 (sp.toNatClampNeg + i)) = true := by
        have := List.all_eq_true.mp n6 i (List.mem_range.mpr hi)
        rw [hta] at this
        exact this
      refine ⟨?_, ?_⟩
      · rw [e]
        exact hfi
      · rw [e]
        revert hfi
        cases q0.2.2.2 (sp.toNatClampNeg + i) with
        | ref a9 => intro hfi; cases ty <;> first | (cases hfi; done) | (cases hprim; done)
        | _ => intro _; exact trivial)
    (g := F0 m pc ls (.int nn :: .int dp :: .ref q1.1 :: .int sp :: .ref q0.1 :: st)) rfl (by rw [hml, ← hml]; exact hl.1) (rest := st) rfl (by rw [hb]; exact d) hf (by show 2 * 0 + (st.map fun v => v.category).sum + (nativeFrameWords "java/lang/System" "arraycopy" 5 + 11) ≤ _; rw [cat1_sum _ hc1, show nativeFrameWords "java/lang/System" "arraycopy" 5 = 7 by decide]; omega)
  have e9 : copied (arrV (g.2.2.2.1 q0.2.1) q0.2.2.1 q0.2.2.2) (arrV (g.2.2.2.1 q1.2.1) q1.2.2.1 q1.2.2.2) sp dp nn = arrV (g.2.2.2.1 q1.2.1) q1.2.2.1 (va_cpy q0.2.2.2 q1.2.2.2 sp.toNatClampNeg dp.toNatClampNeg nn.toNatClampNeg) := va_copied (fun z => z) _ _ _ _ n4
  rw [e9] at X' step
  have hla : q1.1 < H.size := (Array.getElem?_eq_some_iff.mp v1).1
  obtain ⟨t', a1, b1⟩ := kk _ _ ls (hrep_wr (a := q1.1) (H1 := H.setIfInBounds q1.1 (arrV (g.2.2.2.1 q1.2.1) q1.2.2.1 (va_cpy q0.2.2.2 q1.2.2.2 sp.toNatClampNeg dp.toNatClampNeg nn.toNatClampNeg))) hH v2 (by simp) (fun q hq => by simp [Array.getElem?_setIfInBounds, Ne.symm hq]) (Or.inr (Or.inl ⟨ty, by rw [t1]; exact hta, by simp [Array.getElem?_setIfInBounds, hla], v2⟩))) (fun q hq => by
      rcases List.mem_append.mp hq with h | h
      · exact hL q h
      · obtain ⟨z, -, hz⟩ := List.mem_map.mp h
        rw [← hz]
        exact v2) hl _ (by rw [← hT]; rfl) X'
  exact ⟨t', step t' a1, b1⟩
/-! ### arrays of references -/
/-- a fresh array of references -/
def nR (w : cH) (t : Nat) (i : Int32) : cH := nw w (t, i.toNatClampNeg, fun _ => .null)
theorem j_anew (B : Bd g x cc nL own ret) {idx : Nat} {C : String} {i : Int32} {N : Nat} {R : Room} (t : Nat) (hta : aty t = some (.object C)) (h1 : Cond.classLink own idx C ∈ lw_all) (h2 : Cond.arrayOver (.object C) ∈ lw_tbl) (d : decode cc pc = .ok (.anewarray idx, 3)) (h0 : ¬ i < 0) (hN : i.toNatClampNeg = N) (hN2 : N * 4 ≤ 536870912) (hR : x.2.2.2.1 = R) (hc : k + 1 ≤ R.cells) (hs : n + N ≤ R.slots) (kk : J g x o w1 mc ms (nR w t i) (k + 1) (n + N) (pc + 3) vs (va_rf (some w.2) :: st)) : J g x o w1 mc ms w k n pc vs (.int i :: st) := by
  subst hR
  obtain ⟨p, l, e, R, s, m, args, below, meth, c⟩ := x
  obtain ⟨hx, hb, hml, hown, hts, hr, hlk, hW0, hG⟩ := B
  intro H locs ls hH hL hl
  subst hN
  dsimp only at hs hc
  have hov : va_AO C s := va_AO.moved hW0.alike (va_AO.of (hG.1 _ h2))
  refine W.anew hx hb hown (hts _ h1) (va_AO.use hov) rfl d rfl h0 hN2 hc hs fun cA kA comp f1 f2 f3 f4 => ?_
  cases (gFA hG hW0 hta).symm.trans f1
  have hz := hH.1
  refine W.eq (g2 := F0 m (pc + 3) ls (va_rf (some w.2) :: st)) (by show F0 m (pc + 3) ls (Value.ref H.size :: st) = _; rw [hz]; rfl) ?_
  refine kk _ locs ls (hrep_nw hG hH (by rw [Array.size_push, hz]) (fun q hq => ?_) (Or.inr (Or.inl ⟨_, hta, ?_, hH.2.1⟩))) hL hl
  · rw [Array.getElem?_push, if_neg (by rw [hz]; omega)]
  · rw [← hz, arrV_new]
    show (H.push _)[H.size]? = _
    rw [Array.getElem?_push_size]
/-- storing a reference of class E (or a text) -/
theorem j_aastore (B : Bd g x cc nL own ret) {r : Option Nat} {i : Int32} {v : Nat} {E : String} (t : Nat) (hta : aty t = some (.object E)) (d : decode cc pc = .ok (.aastore, 1)) (hcls : ∃ e9, w.1 v = some e9 ∧ cnm e9.1 = E) {β : Type} {K : cH → Option β} {out : β} (hF : (aS w r t i (.ref v)).bind K = some out) (kk : ∀ w2, K w2 = some out → J g x o w1 mc ms w2 k n (pc + 1) vs st) : J g x o w1 mc ms w k n pc vs (va_rf (some v) :: .int i :: va_rf r :: st) := by
  obtain ⟨w2, h1, h2⟩ := bo hF
  obtain ⟨a, e, rfl, he, ht, hin, rfl⟩ := aS_some h1
  have kk := kk _ h2
  obtain ⟨p, l, e0, R, s, m, args, below, meth, c⟩ := x
  obtain ⟨hx, hb, hml, hown, hts, hr, hlk, hW0, hG⟩ := B
  intro H locs ls hH hL hl
  obtain ⟨q1, q2, q3⟩ := arr_of (ty := .object E) hG hW0 hH he (by rw [ht]; exact hta)
  obtain ⟨e9, he9, hE⟩ := hcls
  obtain ⟨cellV, g1, g3, g4⟩ := cls_of hG hW0 hH he9
  have hRA : va_RA s (g.2.2.2.1 t) (.object E) := (hG.2.2.2.1 t _ hta).2.moved hW0.alike
  obtain ⟨kA, comp, k1, k2, k3, -⟩ := hRA
  obtain ⟨kE, hkE, -⟩ := Vm.findClass_spec k3
  obtain ⟨kC, hkC, -⟩ := Vm.findClass_spec g4
  rw [hE] at g4
  cases g4.symm.trans k3
  have hlt : i.toNatClampNeg < e.2.1 := Nat.not_le.mp fun q => hin (Or.inr q)
  have h0 : ¬ i < 0 := fun q => hin (Or.inl q)
  refine W.aast hx hb q1 (fun q h => by cases h) (fun h => by cases h) (by show s.vm.classes[g.2.2.2.1 e.1]? = _; rw [ht]; exact k1) k2 rfl hkE ⟨h0, by rw [arrV_size]; exact hlt⟩ g1 (fun q h => by rw [h] at g3; cases g3) hkC (va_asg _ _) rfl rfl d fun H1 e1 z oq => ?_
  refine kk H1 _ ls (hrep_wr hH q2 z oq (Or.inr (Or.inl ⟨.object E, by rw [ht]; exact hta, ?_, q2⟩))) (locs_add hL q2) hl
  exact e1.trans (congrArg some (arrV_store _ _ _ _ _))
/-! ### calls inside the carriers' family -/
def tgi (w : cH) (r : Option Nat) (ts : List Nat) : Bool := match tg w r with
  | some t => ts.contains t
  | none => false
theorem tgi_some {w : cH} {r : Option Nat} {ts : List Nat} (h : tgi w r ts = true) : ∃ t, tg w r = some t ∧ t ∈ ts := by
  unfold tgi at h
  cases ht : tg w r with
  | none => rw [ht] at h; cases h
  | some t => rw [ht] at h; exact ⟨t, rfl, by simpa using h⟩
theorem tgi_one {w : cH} {r : Option Nat} {t : Nat} (h : tgi w r [t] = true) : tg w r = some t := by
  obtain ⟨t', h1, h2⟩ := tgi_some h
  rw [List.mem_singleton] at h2
  rw [h1, h2]
def clsTag (t : Nat) : Prop := ∃ r : vw_C, gcl[t]? = some r
theorem clsTag_of {t : Nat} (h : t < 14) : clsTag t := ⟨gcl[t]'(by have : gcl.length = 14 := by decide
                                                                   omega), List.getElem?_eq_getElem _⟩
theorem cls_tg {w : cH} {v t : Nat} {E : String} (h : tg w (some v) = some t) (hE : cnm t = E) : ∃ e9, w.1 v = some e9 ∧ cnm e9.1 = E := by
  obtain ⟨a, e, ha, he, ht⟩ := tg_some h
  cases ha
  exact ⟨e, he, by rw [ht]; exact hE⟩
theorem rcv_of (hG : Gok g) {s : State} (hW : g.1.WarmedH s.vm) {H : Heap} {r : Option Nat} {t : Nat} (hH : hrep g w H) (ht : tg w r = some t) (hc : clsTag t) : ∃ a, r = some a ∧ (∃ cell : Cell, H[a]? = some cell ∧ cell.vm.isStatics = false ∧ s.vm.findClass (cnm t) = some cell.cls) ∧ ClassAt s (cnm t) (g.2.2.1.1 t) := by
  obtain ⟨a, e, rfl, he, rfl⟩ := tg_some ht
  obtain ⟨r, hr⟩ := hc
  refine ⟨a, rfl, cls_of hG hW hH he, ?_⟩
  obtain ⟨-, h⟩ := gK hG hW hr
  have hn : aty e.1 = none := by
    have := gcl_lt hr
    cases hz : aty e.1 with
    | none => rfl
    | some ty => have := aty_ge hz; omega
  rw [cnm, hn, hr]
  exact h
/-- super.x: the call names x, and goes to y (x itself, or what x's class inherits from y's class, its superclass) -/
def CSU (own : String) (idx : Nat) (x y : MethodName) (bytes : ByteArray) (maxL : Nat) (rt : Option FieldType) (na : Nat) : Prop := Cond.methodLink own idx x ∈ lw_all ∧ Cond.sameMethod x.cls y.cls x.name x.desc ∈ lw_all ∧ Cond.superclass own x.cls ∈ lw_all ∧ (x.cls = y.cls ∨ Cond.superclass x.cls y.cls ∈ lw_all) ∧ Cond.instanceMethod y ∈ lw_all ∧ Cond.initialized y.cls ∈ lw_all ∧ Cond.code y bytes maxL rt ∈ lw_all ∧ y = ⟨y.cls, x.name, x.desc⟩ ∧ x.name ≠ "<init>" ∧ (parseMethodDescriptor y.desc).map (fun d => d.parameters.length) = some na
set_option maxHeartbeats 1000000 in
theorem j_rSU (B : Bd g x cc nL own ret) {idx t na maxL : Nat} {x9 y : MethodName} {bytes : ByteArray} {rt : Option FieldType} {l : Launch} {rm R : Room} {mc' ms' : Nat} {r : Option Nat} {v : Option Value} {w2 : cH} {st2 : List Value} (As rest : List Value) (cv : CSU own idx x9 y bytes maxL rt na) (ht : tg w r = some t) (hct : clsTag t) (d : decode cc pc = .ok (.invokespecial idx, 3)) (hl : x.2.1 = l) (hR : x.2.2.2.1 = R)
    (M : Mx l y (ws_ y bytes maxL rt) rm g (va_rf r :: As) w (.returned v) w2 mc' ms') (hrm : rmOk rm R maxL k n mc' ms' = true) (hn : As.length = na) (hst : As.reverse ++ va_rf r :: rest = st) (h2 : v.toList ++ rest = st2) (hc1 : cat1 rest) (hc8 : rest.length ≤ 8)
    (kk : J g x o w1 mc ms w2 (k + mc') (n + ms') (pc + 3) vs st2) : J g x o w1 mc ms w k n pc vs st := by
  subst hl; subst hR; subst hst
  obtain ⟨p, l, e, R, s, m, args, below, meth, c⟩ := x
  obtain ⟨hx, hb, hml, hown, hts, hr, hlk, hW0, hG⟩ := B
  intro H locs ls hH hL hl
  obtain ⟨a, rfl, ⟨cell, q1, q2, q3⟩, hat⟩ := rcv_of hG hW0 hH ht hct
  obtain ⟨c1, c2, c3, c4, c5, c6, c7, c8, c9, c10⟩ := cv
  obtain ⟨r1, r2, r3, r4, r5⟩ := rmOk_spec hrm
  refine j_ofRun (rest := rest) (v := v) ?_ h2 hL hl kk
  have hM := M.met
  have hbl : FrameBlind (fun a9 U => a9 = (va_rf (some a) :: As).toArray ∧ wk g w U) := fun a' U f mk q => ⟨q.1, wk_calling q.2 f mk a'⟩
  have hK : Back l R p e below s args y 3 8 (PreOf R mc' ms' (fun a9 U => a9 = (va_rf (some a) :: As).toArray ∧ wk g w U)) (PostOf (fun _ _ oc t => oc = .returned v ∧ wk g w2 t) mc' ms' (fun q => gb g ≤ q)) :=
    back_of (bytes := bytes) (maxL := maxL) (ret := rt) hM hbl r1 r2 r3.1 r3.2 (pay_in hts (lw_meth c7)) List.mem_cons_self (fun a' U hW => word_at hW (Or.inl (by first | rfl | simp [Cond.onTables, Cond.keeps, Cond.steady])) (hts _ c6))
  intro T hT X
  obtain ⟨mk, methM, hnamed, hmethM, hstM, habM⟩ := Cond.instanceMethod_spec (hts _ c5)
  obtain ⟨methM', cM, hmethM', -, -, -, -, -, -, hsigM⟩ := Cond.code_spec hnamed (hts _ c7)
  cases hmethM.symm.trans hmethM'
  obtain ⟨ps, dk, kp, hps, hdk, hkp, hsuper, -, -, hnid⟩ := Cond.superclass_spec hown (hts _ c3)
  have hn9 : s.methodNamed? ⟨y.cls, x9.name, x9.desc⟩ = some mk := by rw [← c8]; exact hnamed
  have hfy := findClass_of_methodNamed hnamed
  have hsub : s.vm.isSubclass ps mk.cls = true := by
    rcases c4 with h | h
    · have hpm : ps = mk.cls := Option.some.inj (hps.symm.trans (by rw [h]; exact hfy))
      rw [hpm]; simp [Vm.isSubclass, Vm.isSubclassAux]
    · obtain ⟨ps2, dk2, kp2, hps2, hdk2, hkp2, hsuper2, -, -, -⟩ := Cond.superclass_spec hps (hts _ h)
      have hpm : ps2 = mk.cls := Option.some.inj (hps2.symm.trans hfy)
      subst hpm
      simp [Vm.isSubclass, Vm.isSubclassAux, hdk2, hsuper2]
      refine Or.inr ?_
      have hz : ps < s.vm.classes.size := (Array.getElem?_eq_some_iff.mp hdk2).1
      cases hsz : s.vm.classes.size with
      | zero => rw [hsz] at hz; exact absurd hz (Nat.not_lt_zero _)
      | succ n9 => simp [Vm.isSubclassAux]
  obtain ⟨kB, hkB, -⟩ := Vm.findClass_spec q3
  have hlen : As.length = methM.sig.parameters.length := by
    rw [hsigM] at c10
    rw [hn]; exact (Option.some.inj c10).symm
  obtain ⟨vm₁, X₁, hstep₁⟩ := X.invokespecialUp hx hown (hts _ c1) (hts _ c2) hn9 hmethM hstM habM c9 hdk hnid hps hsuper hsub (a := a) (cell := cell) (by rw [hT]; exact q1)
    (fun z h => by rw [h] at q2; cases q2) hkB (g := F0 m pc ls (As.reverse ++ Value.ref a :: rest)) rfl (argsL := As) (rest := rest) hlen rfl (by rw [hb]; exact d)
  obtain ⟨v', ⟨U', l2, c2', s2⟩, X', ⟨g', mk', t', L, e1, e2, hq, h1, hL', h2', h3⟩, hsteps⟩ := hK m meth c ⟨T.setVm vm₁, locs, k, n⟩ { (F0 m pc ls (As.reverse ++ Value.ref a :: rest)) with stack := rest } (.invokespecial idx) mk (Value.ref a :: As).toArray X₁ rfl (by rw [hml, ← hml]; exact hl.1) (by rw [hb]; exact d) (lv_room (by rw [cat1_sum _ hc1]; exact hc8)) (X₁.named hnamed) ⟨r4, r5, rfl, wk_end hW0 hH hT X₁.warmed⟩
  dsimp only [Pt.U, Pt.locs, Pt.cells, Pt.slots] at X' e1 e2 h1 h2' h3 hsteps
  subst h1; subst h2'; subst h3
  exact ⟨v', (T.setVm vm₁).calling g' mk' (Value.ref a :: As).toArray, t', U', L, hT, X', hL', e1, e2, hq, fun target h => hstep₁ _ (by rw [doInvoke_state]; exact hsteps.trans h)⟩
/-- an overriding method: the call names x, the receiver's tag is t, the method is y -/
def CUO (own : String) (idx t : Nat) (x y : MethodName) (bytes : ByteArray) (maxL : Nat) (rt : Option FieldType) (na : Nat) : Prop := GoodIn lw_all (va_wsO own idx (cnm t) x.cls x y (ws_ y bytes maxL rt)) ∧ (∃ b0 m0 r0, Cond.code ⟨x.cls, x.name, x.desc⟩ b0 m0 r0 ∈ lw_all) ∧ clsTag t ∧ (x.cls ≠ "java/lang/invoke/MethodHandle" ∧ x.cls ≠ "java/lang/invoke/VarHandle" ∧ (parseMethodDescriptor x.desc).map (fun d => d.parameters.length) = some na)
theorem j_rU (B : Bd g x cc nL own ret) {idx t na maxL : Nat} {x9 y : MethodName} {bytes : ByteArray} {rt : Option FieldType} {l : Launch} {rm R : Room} {mc' ms' : Nat} {r : Option Nat} {v : Option Value} {w2 : cH} {st2 : List Value} (As rest : List Value) (cv : CUO own idx t x9 y bytes maxL rt na) (ht : tg w r = some t) (d : decode cc pc = .ok (.invokevirtual idx, 3)) (hl : x.2.1 = l) (hR : x.2.2.2.1 = R)
    (M : Mx l y (ws_ y bytes maxL rt) rm g (va_rf r :: As) w (.returned v) w2 mc' ms') (hrm : rmOk rm R maxL k n mc' ms' = true) (hn : As.length = na) (hst : As.reverse ++ va_rf r :: rest = st) (h2 : v.toList ++ rest = st2) (hc1 : cat1 rest) (hc8 : rest.length ≤ 8)
    (kk : J g x o w1 mc ms w2 (k + mc') (n + ms') (pc + 3) vs st2) : J g x o w1 mc ms w k n pc vs st := by
  subst hl; subst hR; subst hst
  obtain ⟨p, l, e, R, s, m, args, below, meth, c⟩ := x
  obtain ⟨hx, hb, hml, hown, hts, hr, hlk, hW0, hG⟩ := B
  intro H locs ls hH hL hl
  obtain ⟨hgood, ⟨b0, m0, r0, h0⟩, hct, hd⟩ := cv
  obtain ⟨a, rfl, hrc, hat⟩ := rcv_of hG hW0 hH ht hct
  obtain ⟨r1, r2, r3, r4, r5⟩ := rmOk_spec hrm
  have hrun := va_runU (p := p) (l := l) (e := e) (R := R) (s := s) (m := m) (args := args) (below := below) (meth := meth) (c := c) (H := H) (locs := locs) (cells := k) (slots := n) (b := a) (As := As) (rest := rest) (g := F0 m pc ls (As.reverse ++ Value.ref a :: rest)) (nL := nL) (C := cnm t) ⟨hx, hb, hml, hown, hts⟩ M.met (va_cwO na hts hgood rfl r1 r2 h0 hd r3)
    ⟨fun a' U f mk q => ⟨q.1, wk_calling q.2 f mk a'⟩, hrc, fun U hU hW => ⟨rfl, wk_end hW0 hH hU hW⟩⟩ rfl hn (by rw [← hml]; exact hl.1) rfl (lv_room (by rw [cat1_sum _ hc1]; exact hc8)) d ⟨r4, r5⟩
  exact j_ofRun hrun h2 hL hl kk
/-- the same through an interface -/
def CUF (own : String) (idx t : Nat) (x y : MethodName) (bytes : ByteArray) (maxL : Nat) (rt : Option FieldType) (na : Nat) : Prop := GoodIn lw_all (va_wsF own idx (cnm t) x y (ws_ y bytes maxL rt)) ∧ clsTag t ∧ Cond.declares x ∈ lw_tbl ∧ Cond.interfaceMethod x.cls x.cls x.name x.desc ∈ lw_tbl ∧ Cond.publicMethod y ∈ lw_tbl ∧ Cond.unhidden (cnm t) x.name x.desc ∈ lw_tbl ∧ Cond.castable (cnm t) x.cls ∈ lw_tbl ∧ (x.cls ≠ "java/lang/invoke/MethodHandle" ∧ x.cls ≠ "java/lang/invoke/VarHandle" ∧ (parseMethodDescriptor x.desc).map (fun d => d.parameters.length) = some na)
theorem j_ofRun5 {p : Program} {l : Launch} {e : Env} {R : Room} {s : State} {m : MethodId} {args : Array Value} {below : List Frame} {meth : Method} {c : Code} {H : Heap} {locs : List Loc} {ls : Array Slot} {mc' ms' : Nat} {rest st2 : List Value} {v : Option Value} {w2 : cH}
    (hrun : va_Run5 p l e R s m args below meth c H locs k n mc' ms' (F0 m pc ls st) rest (fun _ oc t => oc = .returned v ∧ wk g w2 t) (fun q => gb g ≤ q)) (h2 : v.toList ++ rest = st2) (hL : ∀ q ∈ locs, gb g ≤ q.base) (hl : lk ls c.maxLocals vs)
    (kk : J g (p, l, e, R, s, m, args, below, meth, c) o w1 mc ms w2 (k + mc') (n + ms') (pc + 5) vs st2) : W p l e R s m args below meth c H locs k n (MQx g below s o w1 mc ms) (F0 m pc ls st) := by
  subst h2
  intro T hT X
  obtain ⟨v', st0, t, T', L, e1, X', hL', e2, e3, ⟨hv, hwk⟩, go⟩ := hrun T hT X
  cases hv
  obtain ⟨t', a1, b1⟩ := kk T'.heap (locs ++ L) ls (by rw [e2]; exact hwk.2) (fun q hq => by
    rcases List.mem_append.mp hq with h | h
    · exact hL q h
    · exact hL' q h) hl T' rfl X'
  exact ⟨t', go t' a1, b1⟩
theorem j_rF (B : Bd g x cc nL own ret) {idx cnt t na maxL : Nat} {x9 y : MethodName} {bytes : ByteArray} {rt : Option FieldType} {l : Launch} {rm R : Room} {mc' ms' : Nat} {r : Option Nat} {v : Option Value} {w2 : cH} {st2 : List Value} (As rest : List Value) (cv : CUF own idx t x9 y bytes maxL rt na) (ht : tg w r = some t) (d : decode cc pc = .ok (.invokeinterface idx cnt, 5)) (hl : x.2.1 = l) (hR : x.2.2.2.1 = R)
    (M : Mx l y (ws_ y bytes maxL rt) rm g (va_rf r :: As) w (.returned v) w2 mc' ms') (hrm : rmOk rm R maxL k n mc' ms' = true) (hn : As.length = na) (hst : As.reverse ++ va_rf r :: rest = st) (h2 : v.toList ++ rest = st2) (hc1 : cat1 rest) (hc8 : rest.length ≤ 8)
    (kk : J g x o w1 mc ms w2 (k + mc') (n + ms') (pc + 5) vs st2) : J g x o w1 mc ms w k n pc vs st := by
  subst hl; subst hR; subst hst
  obtain ⟨p, l, e, R, s, m, args, below, meth, c⟩ := x
  obtain ⟨hx, hb, hml, hown, hts, hr, hlk, hW0, hG⟩ := B
  intro H locs ls hH hL hl
  obtain ⟨hgood, hct, f1, f2, f3, f4, f5, hd⟩ := cv
  obtain ⟨a, rfl, hrc, hat⟩ := rcv_of hG hW0 hH ht hct
  obtain ⟨r1, r2, r3, r4, r5⟩ := rmOk_spec hrm
  have hFw : va_Fw (cnm t) x9 y s := va_Fw.moved ⟨hd.1, hd.2.1⟩ hW0.alike (va_Fw.of (hG.1 _ f1) (hG.1 _ f2) (hG.1 _ f3) (hG.1 _ f4) (hG.1 _ f5))
  have hrun := va_runF (p := p) (l := l) (e := e) (R := R) (s := s) (m := m) (args := args) (below := below) (meth := meth) (c := c) (H := H) (locs := locs) (cells := k) (slots := n) (b := a) (As := As) (rest := rest) (g := F0 m pc ls (As.reverse ++ Value.ref a :: rest)) (nL := nL) (C := cnm t) hat ⟨hx, hb, hml, hown, hts⟩ M.met (va_cwF na hts hgood rfl r1 r2 hFw hd r3)
    ⟨fun a' U f mk q => ⟨q.1, wk_calling q.2 f mk a'⟩, hrc, fun U hU hW => ⟨rfl, wk_end hW0 hH hU hW⟩⟩ rfl hn (by rw [← hml]; exact hl.1) rfl (lv_room (by rw [cat1_sum _ hc1]; exact hc8)) d ⟨r4, r5⟩
  exact j_ofRun5 hrun h2 hL hl kk
/-! ### exceptions; methods with handlers -/
/-- outcomes of a method that may throw -/
def oxI : Except Nat Int32 → Outcome
  | .ok i => .returned (some (.int i))
  | .error a => .threw a
def oxA : Except Nat (Option Nat) → Outcome
  | .ok i => .returned (some (va_rf i))
  | .error a => .threw a
def oxV : Except Nat Unit → Outcome
  | .ok _ => .returned none
  | .error a => .threw a
def xb {α β : Type} (f : Option (Except Nat α × cH)) (h : Nat → cH → Option β) (K : α → cH → Option β) : Option β := match f with
  | none => none
  | some (.error a, u) => h a u
  | some (.ok i, u) => K i u
theorem xbo {α β : Type} {f : Option (Except Nat α × cH)} {h : Nat → cH → Option β} {K : α → cH → Option β} {out : β} (hF : xb f h K = some out) : (∃ a u, f = some (.error a, u) ∧ h a u = some out) ∨ ∃ i u, f = some (.ok i, u) ∧ K i u = some out := by
  unfold xb at hF
  split at hF
  · cases hF
  · exact Or.inl ⟨_, _, rfl, hF⟩
  · exact Or.inr ⟨_, _, rfl, hF⟩
/-- the callee's words, and what they say of its code -/
def wsOk (y : MethodName) (ws : List Cond) (maxL : Nat) : Prop := GoodIn lw_all ws ∧ ∀ (args : Array Value) (U : State), (∀ w ∈ ws, w.before args U = true) → ∃ mk meth c, U.methodNamed? y = some mk ∧ U.vm.method? mk = some meth ∧ meth.code = some c ∧ c.maxLocals = maxL ∧ parseMethodDescriptor y.desc = some meth.sig
theorem wsOk_code {y : MethodName} {b : ByteArray} {maxL : Nat} {rt : Option FieldType} (h : Cond.code y b maxL rt ∈ lw_all) : wsOk y (ws_ y b maxL rt) maxL := by
  refine ⟨lw_meth h, fun args U hw => ?_⟩
  have h1 := hw _ List.mem_cons_self
  obtain ⟨mk, hn⟩ := Cond.code_named h1
  obtain ⟨meth, c, a1, a2, -, a3, -, -, -, a4⟩ := Cond.code_spec hn h1
  exact ⟨mk, meth, c, hn, a1, a2, a3, a4⟩
theorem wsOk_codeW {y : MethodName} {b : ByteArray} {maxL : Nat} {rt : Option FieldType} {hh : List (Nat × Nat × Nat × Nat)} (h : Cond.codeWith y b maxL rt hh ∈ lw_all) : wsOk y (wsW_ y b maxL rt hh) maxL := by
  refine ⟨lw_methW h, fun args U hw => ?_⟩
  obtain ⟨mk, meth, c, a1, a2, a3, -, a4, -, -, -, a5⟩ := Cond.codeWith_spec (hw _ List.mem_cons_self)
  exact ⟨mk, meth, c, a1, a2, a3, a4, a5⟩
/-- the invokevirtual idx of own calls y of tag t, whose words are ws -/
def CX (own : String) (idx t : Nat) (y : MethodName) (ws : List Cond) (maxL na : Nat) : Prop := (∃ (T : u_T) (N : Nat), gcl[t]? = some (y.cls, T, N)) ∧ Cond.methodLink own idx y ∈ lw_all ∧ Cond.instanceMethod y ∈ lw_all ∧ Cond.selects y.cls y y ∈ lw_all ∧ Cond.initialized y.cls ∈ lw_all ∧ wsOk y ws maxL ∧ (y.cls ≠ "java/lang/invoke/MethodHandle" ∧ y.cls ≠ "java/lang/invoke/VarHandle") ∧ (parseMethodDescriptor y.desc).map (fun d => d.parameters.length) = some na
set_option maxHeartbeats 2000000 in
theorem gcallV {p : Program} {l : Launch} {e : Env} {R : Room} {s : State} {m : MethodId} {args : Array Value} {below : List Frame} {meth : Method} {c : Code} (B : Bd g (p, l, e, R, s, m, args, below, meth, c) cc nL own ret) {H : Heap} {locs : List Loc} {ls : Array Slot} (hH : hrep g w H) (hl : lk ls c.maxLocals vs)
    {idx t na maxL : Nat} {y : MethodName} {ws : List Cond} {rm : Room} {mc' ms' : Nat} {r : Option Nat} {o' : Outcome} {w2 : cH} {As rest : List Value} (cv : CX own idx t y ws maxL na) (d : decode cc pc = .ok (.invokevirtual idx, 3)) (ht : tg w r = some t)
    (M : Mx l y ws rm g (va_rf r :: As) w o' w2 mc' ms') (hrm : rmOk rm R maxL k n mc' ms' = true) (hn : As.length = na) (hst : As.reverse ++ va_rf r :: rest = st) (hc1 : cat1 rest) (hc8 : rest.length ≤ 8) {T : State} (hT : T.heap = H) (X : Stand p l e R s m args below meth c T locs k n) :
    ∃ (vm₁ : Vm) (s₂ : State) (mk : MethodId) (L : List Loc), Stand p l e R s m args below meth c (T.setVm vm₁) locs k n ∧ Ended s₂ (.java (F0 m pc ls rest) :: below) o' ∧ wk g w2 s₂ ∧ ((T.setVm vm₁).calling (F0 m pc ls rest) mk (va_rf r :: As).toArray).WarmedH s₂.vm ∧ ((T.setVm vm₁).calling (F0 m pc ls rest) mk (va_rf r :: As).toArray).sameButNew ({ s₂ with vm := ((T.setVm vm₁).calling (F0 m pc ls rest) mk (va_rf r :: As).toArray).vm } : State) L mc' ms' ∧ (∀ q ∈ L, gb g ≤ q.base) ∧ ∀ target, Steps p.tables e below s₂ target → Steps p.tables e below (T.setTop (F0 m pc ls st)) target := by
  obtain ⟨hx, hb, hml, hown, hts, hr, hlk, hW0, hG⟩ := B
  subst hst
  obtain ⟨⟨Tt, N, hc⟩, c1, c2, c3, c4, ⟨hgood, hcode⟩, c6, c7⟩ := cv
  obtain ⟨r1, r2, r3, r4, r5⟩ := rmOk_spec hrm
  obtain ⟨a, e9, rfl, he, rfl⟩ := tg_some ht
  obtain ⟨hN, ⟨cellB, q1, q2, q3, q4⟩, hba⟩ := hat_obj (hH.2.2.2 a e9 he) hc
  obtain ⟨-, hfc, -⟩ := gK hG hW0 hc
  obtain ⟨mk, methM, hnamed, hmethM, hstM, habM⟩ := Cond.instanceMethod_spec (hts _ c2)
  have hwsS : ∀ w ∈ ws, ∀ (a' : Array Value) (U : State), s.WarmedH U.vm → w.before a' U = true := pay_in hts hgood
  obtain ⟨mk', methM', cM', hnamed', hmethM', hcM', hlM', hsigM⟩ := hcode args s (fun w hw => hwsS w hw args s (State.WarmedH.refl s))
  cases hnamed.symm.trans hnamed'
  cases hmethM.symm.trans hmethM'
  obtain ⟨cz, r2z, m2, z1, z2, z3, z4, kP, hkP, hkPi⟩ := Cond.selects_spec (hts _ c3)
  have hcl : s.vm.findClass y.cls = some cellB.cls := by rw [q2]; exact hfc
  cases hcl.symm.trans z1
  cases (State.methodFound?_of_named hnamed c6).symm.trans z2
  cases hnamed.symm.trans z3
  have hselP : selectMethod e.platform s.vm cellB.cls mk = .method mk := by rw [Launch.admits_selectMethod X.admits]; exact z4
  have hlen : As.length = methM.sig.parameters.length := by
    rw [hsigM] at c7
    rw [hn]; exact (Option.some.inj c7).symm
  obtain ⟨vm₁, X₁, hstep₁⟩ := X.invokevirtual hx hown (hts _ c1) hnamed hmethM hstM hkP hkPi c6 (a := a) (cell := cellB) (by rw [hT]; exact q1)
    (fun z h => by rw [q3] at h; cases h) hselP hmethM habM hkP hkPi (g := F0 m pc ls (As.reverse ++ Value.ref a :: rest)) rfl (argsL := As) (rest := rest) hlen rfl (by rw [hb]; exact d)
  -- the call itself
  have h : At (T.setVm vm₁) m c below := X₁.here
  obtain ⟨mkY, methY, cY, hnY, hmY, hcY, hlY, -⟩ := hcode (va_rf (some a) :: As).toArray (T.setVm vm₁) (fun w hw => hwsS w hw _ _ X₁.warmed)
  have hnY' : (T.setVm vm₁).methodNamed? y = some mk := X₁.named hnamed
  cases hnY.symm.trans hnY'
  obtain ⟨kY, hkY, -⟩ := className_of_methodNamed hnY
  have hinitY : kY.init = .initialized := Cond.initialized_spec (args := #[]) (findClass_of_methodNamed hnY) hkY (word_at X₁.warmed (Or.inl (by first | rfl | simp [Cond.onTables, Cond.keeps, Cond.steady])) (hts _ c4))
  have hroom := X₁.room_calling (g := F0 m pc ls rest) (R' := rm) (args' := (va_rf (some a) :: As).toArray) (by show ls.size = c.maxLocals; exact hl.1) hmY hcY r3.1 (by
    show 2 * 0 + (rest.map fun v => v.category).sum + (cY.maxLocals + 11) + rm.locals ≤ R.locals
    rw [cat1_sum _ hc1, hlY]
    have := r3.2
    omega) (by rw [r1]; exact r4) (by rw [r2]; exact r5)
  have happ : (headSpec ws rm).appliesLoose y e.platform ((T.setVm vm₁).calling (F0 m pc ls rest) mk (va_rf (some a) :: As).toArray) = true :=
    Spec.appliesLoose_calling (g := F0 m pc ls rest) h (by rw [hb]; exact d) hnY hkY hinitY hroom (atoms_intro fun w hw => hwsS w hw _ _ X₁.warmed)
  obtain ⟨mid, hmid⟩ := h.above
  have hfr : ((T.setVm vm₁).setTop (F0 m pc ls rest)).frames = (.java (F0 m pc ls rest) :: mid) ++ below := by rw [State.frames_setTop' _ h.top, hmid]; rfl
  obtain ⟨o9, s₂, hsteps, -, hend, hq⟩ := Steps.callFree M p X.admits X.cas X.clock (acts := []) hfr happ ⟨rfl, wk_end hW0 hH hT X₁.warmed⟩ trivial
  obtain ⟨rfl, hwk, L, hW2, hsame, hL⟩ := hq
  rw [State.frames_setTop' _ h.top, X₁.tail] at hend
  exact ⟨vm₁, s₂, mk, L, X₁, hend, hwk, hW2, hsame, hL, fun target hh => hstep₁ _ fun acts => by rw [doInvoke_state]; exact hsteps.trans hh⟩
/-- a call that returns -/
theorem j_rVX (B : Bd g x cc nL own ret) {idx t na maxL : Nat} {y : MethodName} {ws : List Cond} {l : Launch} {rm R : Room} {mc' ms' : Nat} {r : Option Nat} {v : Option Value} {w2 : cH} {st2 : List Value} (As rest : List Value) (cv : CX own idx t y ws maxL na) (d : decode cc pc = .ok (.invokevirtual idx, 3)) (hl : x.2.1 = l) (hR : x.2.2.2.1 = R)
    (M : tg w r = some t ∧ Mx l y ws rm g (va_rf r :: As) w (.returned v) w2 mc' ms') (hrm : rmOk rm R maxL k n mc' ms' = true) (hn : As.length = na) (hst : As.reverse ++ va_rf r :: rest = st) (h2 : v.toList ++ rest = st2) (hc1 : cat1 rest) (hc8 : rest.length ≤ 8)
    (kk : J g x o w1 mc ms w2 (k + mc') (n + ms') (pc + 3) vs st2) : J g x o w1 mc ms w k n pc vs st := by
  subst hl; subst hR; subst h2
  obtain ⟨p, l, e, R, s, m, args, below, meth, c⟩ := x
  intro H locs ls hH hL hl T hT X
  obtain ⟨vm₁, s₂, mk, L, X₁, hend, hwk, hW2, hsame, hL', hgo⟩ := gcallV B hH hl cv d M.1 M.2 hrm hn hst hc1 hc8 hT X
  obtain ⟨T', X', -, -, rfl⟩ := X₁.outOf (g := F0 m pc ls rest) rfl (by rw [B.2.1]; exact d) hend hW2 hsame
  obtain ⟨t', a1, b1⟩ := kk T'.heap (locs ++ L) ls hwk.2 (fun q hq => by
    rcases List.mem_append.mp hq with h | h
    · exact hL q h
    · exact hL' q h) hl T' rfl X'
  exact ⟨t', hgo t' a1, b1⟩
/-- the walk with an exception under way, the frame at pc -/
def JT (g : Gt) (x : Xt) (o : Outcome) (w1 : cH) (mc ms : Nat) (w : cH) (k n pc : Nat) (vs : List (Option Value)) (a : Nat) : Prop := match x with
  | (p, l, e, R, s, m, args, below, meth, c) => ∀ (H : Heap) (locs : List Loc) (ls : Array Slot) (st : List Value), hrep g w H → (∀ q ∈ locs, gb g ≤ q.base) → lk ls c.maxLocals vs → ∀ T : State, T.heap = H → Stand p l e R s m args below meth c T locs k n → ∃ t, Steps p.tables e below ((T.setTop (F0 m pc ls st)).pushFrame (.throwing a)) t ∧ MQx g below s o w1 mc ms t
theorem j_rVT (B : Bd g x cc nL own ret) {idx t na maxL : Nat} {y : MethodName} {ws : List Cond} {l : Launch} {rm R : Room} {mc' ms' : Nat} {r : Option Nat} {a : Nat} {w2 : cH} (As rest : List Value) (cv : CX own idx t y ws maxL na) (d : decode cc pc = .ok (.invokevirtual idx, 3)) (hl : x.2.1 = l) (hR : x.2.2.2.1 = R)
    (M : tg w r = some t ∧ Mx l y ws rm g (va_rf r :: As) w (.threw a) w2 mc' ms') (hrm : rmOk rm R maxL k n mc' ms' = true) (hn : As.length = na) (hst : As.reverse ++ va_rf r :: rest = st) (hc1 : cat1 rest) (hc8 : rest.length ≤ 8)
    (kk : JT g x o w1 mc ms w2 (k + mc') (n + ms') pc vs a) : J g x o w1 mc ms w k n pc vs st := by
  subst hl; subst hR
  obtain ⟨p, l, e, R, s, m, args, below, meth, c⟩ := x
  intro H locs ls hH hL hl T hT X
  obtain ⟨vm₁, s₂, mk, L, X₁, hend, hwk, hW2, hsame, hL', hgo⟩ := gcallV B hH hl cv d M.1 M.2 hrm hn hst hc1 hc8 hT X
  obtain ⟨T', X', -, -, rfl⟩ := X₁.outOfThrown (g := F0 m pc ls rest) rfl hend hW2 hsame
  have hh : T'.heap = ((T'.setTop (F0 m pc ls rest)).pushFrame (.throwing a)).heap := (Stand.throwing_heap T' _ a).symm
  obtain ⟨t', a1, b1⟩ := kk T'.heap (locs ++ L) ls rest (by rw [hh]; exact hwk.2) (fun q hq => by
    rcases List.mem_append.mp hq with h | h
    · exact hL q h
    · exact hL' q h) hl T' rfl X'
  exact ⟨t', hgo t' a1, b1⟩
theorem j_athrow (B : Bd g x cc nL own ret) {a : Nat} (d : decode cc pc = .ok (.athrow, 1)) (kk : JT g x o w1 mc ms w k n pc vs a) : J g x o w1 mc ms w k n pc vs (va_rf (some a) :: st) := by
  obtain ⟨p, l, e, R, s, m, args, below, meth, c⟩ := x
  obtain ⟨hx, hb, hml, hown, hts, hr, hlk, hW0, hG⟩ := B
  intro H locs ls hH hL hl T hT X
  obtain ⟨t, a1, b1⟩ := kk H locs ls st hH hL hl T hT X
  refine ⟨t, ?_, b1⟩
  show Steps p.tables e below (T.setTop (F0 m pc ls (Value.ref a :: st))) t
  jvm_step X.here [hx, hb, d, athrow.wp_sem]
  exact a1
/-- the table of handlers -/
def Hh (x : Xt) (hh : List (Nat × Nat × Nat × Nat)) : Prop := x.2.2.2.2.2.2.2.2.2.exceptionTable.toList.map (fun h => (h.startPc, h.endPc, h.handlerPc, h.catchType)) = hh
theorem Hh_nil (h : x.2.2.2.2.2.2.2.2.2.exceptionTable.isEmpty = true) : Hh x [] := by
  unfold Hh
  rw [Array.isEmpty_iff] at h
  rw [h]; rfl
theorem jt_leave (B : Bd g x cc nL own ret) {hh : List (Nat × Nat × Nat × Nat)} {a : Nat} (hH9 : Hh x hh) (hout : hh.all (fun q => !(decide (q.1 ≤ pc) && decide (pc < q.2.1))) = true) (ho : o = .threw a) (hw : w = w1) (hk : k ≤ mc) (hn : n ≤ ms) : JT g x o w1 mc ms w k n pc vs a := by
  obtain ⟨p, l, e, R, s, m, args, below, meth, c⟩ := x
  obtain ⟨hx, hb, hml, hown, hts, hr, hlk, hW0, hG⟩ := B
  intro H locs ls st hH hL hl T hT X
  subst hw; subst ho
  have X := stand_widen X hk hn
  have hcov : ∀ z ∈ c.exceptionTable.toList, covers z pc = false := by
    intro z hz
    have h1 : (z.startPc, z.endPc, z.handlerPc, z.catchType) ∈ hh := by
      unfold Hh at hH9
      rw [← hH9]
      exact List.mem_map.mpr ⟨z, hz, rfl⟩
    have h2 := List.all_eq_true.mp hout _ h1
    simp [covers] at h2 ⊢
    omega
  obtain ⟨s1, s2, s3, s4, s5⟩ := X.leaveThrown a (g := F0 m pc ls st) rfl rfl rfl hcov
  exact ⟨_, s1, s2, s3, wk_end hW0 hH hT s4, locs, s4, s5, hL⟩
theorem jt_any (B : Bd g x cc nL own ret) {hh : List (Nat × Nat × Nat × Nat)} {q1 q2 q3 : Nat} {a : Nat} (hH9 : Hh x ((q1, q2, q3, 0) :: hh)) (hcov : (decide (q1 ≤ pc) && decide (pc < q2)) = true) (kk : J g x o w1 mc ms w k n q3 vs [va_rf (some a)]) : JT g x o w1 mc ms w k n pc vs a := by
  obtain ⟨p, l, e, R, s, m, args, below, meth, c⟩ := x
  obtain ⟨hx, hb, hml, hown, hts, hr, hlk, hW0, hG⟩ := B
  intro H locs ls st hH hL hl T hT X
  unfold Hh at hH9
  obtain ⟨z, zs, h1, h2, -⟩ := List.map_eq_cons_iff.mp hH9
  simp only [Prod.mk.injEq] at h2
  obtain ⟨e1, e2, e3, e4⟩ := h2
  obtain ⟨t, a1, b1⟩ := kk H locs ls hH hL hl T hT X
  refine ⟨t, X.catchAt a (g := F0 m pc ls st) rfl (Finds.catchAny (meth := meth) (code := c) ?_ X.code [] z zs h1 (fun y hy => by cases hy) ?_ e4) ?_, b1⟩
  · rw [Stand.throwing_vm]; exact X.method'
  · simpa [covers, e1, e2] using hcov
  · rw [e3]; exact a1
theorem stepThrowing_cold {e : Env} {s : State} {a : Addr} {f : JFrame} {r : List Frame} {pc : Nat} {vm' : Vm} (hfind : ∀ (Q : Handler → Pre) (E : CtlPost) (d : Bool) (acts : List Action), wp (findHandler f a) Q E e d acts s ↔ Q (.found pc) d acts (s.setVm vm')) :
    (stepThrowing e s a (.java f :: r)).Is ((s.setVm vm').setFrames (.java { f with pc := pc, stack := [.ref a] } :: r)) [] := by
  simp only [stepThrowing, searchFrame, vmDo]
  generalize hr : Sem.go _ e false [] s = res
  obtain ⟨as, rfl, ha⟩ := Sem.eq_ok_of hr (a := Handler.found pc) (s' := s.setVm vm') (acts' := []) (by simp [hfind])
  exact ⟨rfl, ha⟩
theorem steps_caughtCold {tb : Tables} {e : Env} {s target : State} {f : JFrame} {c : Code} {below : List Frame} {a : Addr} [Ours tb] (h : At s f.method c below) {pc : Nat} {vm' : Vm} (hfind : ∀ (Q : Handler → Pre) (E : CtlPost) (d : Bool) (acts : List Action), wp (findHandler f a) Q E e d acts ((s.setTop f).pushFrame (.throwing a)) ↔ Q (.found pc) d acts (((s.setTop f).pushFrame (.throwing a)).setVm vm'))
    (hrest : Steps tb e below ((s.setVm vm').setTop { f with pc := pc, stack := [.ref a] }) target) :
    Steps tb e below ((s.setTop f).pushFrame (.throwing a)) target := by
  obtain ⟨hgo, hw⟩ := h.throwing a
  refine Steps.head hgo hw ?_
  rw [stepThread_throwing (frames_entered h.top _), (stepThrowing_cold (s := (s.setTop f).pushFrame (.throwing a)) hfind).1]
  obtain ⟨g₀, hg⟩ := Option.isSome_iff_exists.mp h.top
  obtain ⟨r, hr⟩ := State.topJava?_eq_some.mp hg
  have hr' : (s.setVm vm').frames = .java g₀ :: r := hr
  rw [State.pushFrame_setVm, State.pushFrame, State.setFrames_setFrames]
  rw [State.setTop_of_frames _ hr'] at hrest
  have e1 : (s.setTop f).setVm vm' = (s.setVm vm').setTop f := by
    rw [State.setTop_of_frames _ hr, State.setTop_of_frames _ hr']; rfl
  rw [e1, State.setTop_of_frames _ hr', State.setFrames_setFrames]
  rw [show s.frames.tail = r by rw [hr]; rfl]
  exact hrest
set_option maxHeartbeats 2000000 in
theorem find_cold {e : Env} {U : State} {f : JFrame} {a : Addr} {z : ExceptionTableEntry} {zs : List ExceptionTableEntry} {meth : Method} {c : Code} {cT : ClassId} {cell : Cell} {vm' : Vm} (hm : U.vm.method? f.method = some meth) (hc : meth.code = some c) (hs : c.exceptionTable.toList = z :: zs) (hx : covers z f.pc = true) (h0 : z.catchType ≠ 0)
    (hg : (Jvm.resolveClass f.method.cls z.catchType).Gives e.toSetting U.vm (.ok cT) vm') (hcell : U.heap[a]? = some cell) (hobj : ∀ k, cell.vm ≠ .statics k) (hk : ∃ k, vm'.classes[cell.cls]? = some k) (hcl : ∃ k, vm'.classes[cT]? = some k) (hfit : vm'.assignable cell.cls cT = true) (hsz : vm'.classes.size ≤ U.vm.classes.size) :
    ∀ (Q : Handler → Pre) (E : CtlPost) (d : Bool) (acts : List Action), wp (findHandler f a) Q E e d acts U ↔ Q (.found z.handlerPc) d acts (U.setVm vm') := by
  intro Q E d acts
  rw [W.findHandler_eq hm hc, hs]
  simp only [covers] at hx
  have hop : (VmOp.resolveClass f.method.cls z.catchType).answer e U.vm = .ok cT ∧ (VmOp.resolveClass f.method.cls z.catchType).tables e U.vm = vm' := hg.op rfl
  have h2 : (U.setVm vm').heap[a]? = some cell := hcell
  have hld := VmOp.lands_eq (op := VmOp.resolveClass f.method.cls z.catchType) (e := e) (s := U) hop.2 hsz
  simp [findHandler.go, hx, h0, hop.1, hld, hcell, hobj, hk, hcl, hfit, VmOp.dirties, VmOp.acts]
set_option maxHeartbeats 2000000 in
theorem jt_cls (B : Bd g x cc nL own ret) {hh : List (Nat × Nat × Nat × Nat)} {q1 q2 q3 ct t a : Nat} {nm : String} (hH9 : Hh x ((q1, q2, q3, ct) :: hh)) (hct : ct ≠ 0) (hcov : (decide (q1 ≤ pc) && decide (pc < q2)) = true) (hlink : Cond.classLink own ct nm ∈ lw_all) (ht : tg w (some a) = some t) (hcls : cnm t = nm) (kk : J g x o w1 mc ms w k n q3 vs [va_rf (some a)]) : JT g x o w1 mc ms w k n pc vs a := by
  obtain ⟨p, l, e, R, s, m, args, below, meth, c⟩ := x
  obtain ⟨hx, hb, hml, hown, hts, hr, hlk, hW0, hG⟩ := B
  intro H locs ls st hH hL hl T hT X
  unfold Hh at hH9
  obtain ⟨z, zs, h1, h2, -⟩ := List.map_eq_cons_iff.mp hH9
  simp only [Prod.mk.injEq] at h2
  obtain ⟨e1, e2, e3, e4⟩ := h2
  obtain ⟨a', e9, hra, he, rfl⟩ := tg_some ht
  cases hra
  obtain ⟨cell, g1, g2, g3⟩ := cls_of hG hW0 hH he
  rw [hcls] at g3
  have hpl : e.platform.magicAccessors = ({} : Platform).magicAccessors := by rw [X.admits.platform]
  obtain ⟨c', hc', hcl⟩ := Cond.classLink_spec hown (hts _ hlink) e.platform hpl
  cases g3.symm.trans hc'
  obtain ⟨dk, _, _, kt, hd, _, _, _, _, hkt, _, hopen⟩ := hcl.here
  have hcl₀ := X.warmed.classLinks hcl
  have hW' : s.WarmedH (T.vm.noted m.cls ct (.cls cell.cls)) := X.warmed.noted hd hopen (State.rightAt_cls hcl)
  obtain ⟨kt', hkt', -⟩ := hW'.alike.2.2 _ _ hkt
  have X' := X.noted hW'
  obtain ⟨t', a1, b1⟩ := kk H locs ls hH hL hl (T.setVm (T.vm.noted m.cls ct (.cls cell.cls))) hT X'
  refine ⟨t', ?_, b1⟩
  refine steps_caughtCold (f := F0 m pc ls st) (pc := z.handlerPc) (vm' := T.vm.noted m.cls ct (.cls cell.cls)) X.here (find_cold (meth := meth) (c := c) (cT := cell.cls) (cell := cell) ?_ X.code h1 ?_ (by rw [e4]; exact hct) ?_ ?_ (fun k9 h => by rw [h] at g2; cases g2) ⟨kt', hkt'⟩ ⟨kt', hkt'⟩ (va_asg _ _) ?_) ?_
  · rw [Stand.throwing_vm]; exact X.method'
  · simpa [covers, e1, e2] using hcov
  · rw [Stand.throwing_vm, e4]; exact resolveClass_links e.toSetting hcl₀
  · rw [Stand.throwing_heap, hT]; exact g1
  · rw [Stand.throwing_vm]; first | no_record | simp [Vm.noted]
  · rw [e3]; exact a1
set_option maxHeartbeats 1000000 in
/-- THE HEAD OF A METHOD WITH HANDLERS -/
theorem mk_ctW {l : Launch} {y : MethodName} {rm : Room} {g : Gt} {av : List Value} {w w1 : cH} {o : Outcome} {mc ms : Nat} (cc : ByteArray) (nL : Nat) (ret : Option FieldType) (hh : List (Nat × Nat × Nat × Nat)) (own : String) (hy : plainFor y = true) (ho : y.cls = own) (hn : (lg_sl av).length ≤ nL) (hv : av.all (fun v => v.category == 1) = true) (G : Gok g)
    (body : ∀ x : Xt, Bd g x cc nL own ret → x.2.1 = l → x.2.2.2.1 = rm → x.2.2.2.2.2.2.2.2.1.name = y.name → Hh x hh → J g x o w1 mc ms w 0 0 0 (padL nL (av.map some)) []) : Mx l y (wsW_ y cc nL ret hh) rm g av w o w1 mc ms := by
  refine MetFree.of_bodySF (code := cc) (maxLocals := nL) (ret := ret) hy ?_ ?_
  · intro args s m h hn
    obtain ⟨m9, meth, c, hn9, h1, h2, h3, h4, -, h5, h6, -⟩ := Cond.codeWith_spec (atoms_spec (ws := wsW_ y cc nL ret hh) h _ List.mem_cons_self)
    cases hn.symm.trans hn9
    exact ⟨meth, c, h1, h2, h3, h4, h5, h6⟩
  · intro p e s m args below meth c s₁ B hml hP _
    obtain ⟨rfl, hW0, hH⟩ := hP
    have hh0 : s₁.heap = s.heap := by rw [B.state]; rfl
    have hts := atoms_spec (ws := wsW_ y cc nL ret hh) B.pre
    have hcode := hts _ List.mem_cons_self
    have hHh : c.exceptionTable.toList.map (fun h => (h.startPc, h.endPc, h.handlerPc, h.catchType)) = hh := by
      obtain ⟨m9, meth9, c9, hn9, h1, h2, -, -, h5, -⟩ := Cond.codeWith_spec hcode
      cases B.named.symm.trans hn9
      cases B.method.symm.trans h1
      cases (Stand.of_body B).code.symm.trans h2
      exact h5
    have hJ := body (p, l, e, rm, s, m, av.toArray, below, meth, c) ⟨B.exec, B.bytes, hml, by rw [← ho]; exact findClass_of_methodNamed B.named, fun w h => hts w (List.mem_cons_of_mem _ h), B.returns, B.notSynchronized, hW0, G⟩ rfl rfl (name_of_methodNamed B.named B.method).1 hHh
    have hl := lk_entry av (n := nL) hn hv
    have hWj := hJ s.heap [] _ hH (fun q h => by cases h) (by rw [hml]; exact lk_pad hl)
    rw [← lg_entry_eq] at hWj
    obtain ⟨t, a1, b1, b2, b3, b4⟩ := hWj s₁ hh0 (Stand.of_body B)
    exact ⟨t, o, a1, b1, b2, rfl, b3, b4⟩
/-! ends of methods that may throw -/
theorem j_xI (B : Bd g x cc nL own ret) {a : Int32} {r : Except Nat Int32} (hret : ret = some .int) (d : decode cc pc = .ok (.ireturn, 1)) (hF : some (Except.ok a, w) = some (r, w1)) (hk : k ≤ mc) (hn : n ≤ ms) : J g x (oxI r) w1 mc ms w k n pc vs [.int a] := by
  cases hF; exact j_iret B (r := 0) (nr := 0) hret d rfl rfl hk hn
theorem j_xV (B : Bd g x cc nL own ret) {r : Except Nat Unit} (hret : ret = none) (d : decode cc pc = .ok (.return_, 1)) (hF : some (Except.ok (), w) = some (r, w1)) (hk : k ≤ mc) (hn : n ≤ ms) : J g x (oxV r) w1 mc ms w k n pc vs [] := by
  cases hF; exact j_vret B hret d rfl rfl hk hn
theorem j_xA (B : Bd g x cc nL own ret) {a : Option Nat} {r : Except Nat (Option Nat)} {rt : FieldType} (hret : ret = some rt) (hrt : (∃ n, rt = .object n) ∨ ∃ t, rt = .array t) (d : decode cc pc = .ok (.areturn, 1)) (hF : some (Except.ok a, w) = some (r, w1)) (hk : k ≤ mc) (hn : n ≤ ms) : J g x (oxA r) w1 mc ms w k n pc vs [va_rf a] := by
  cases hF; exact j_aret B hret hrt d rfl rfl hk hn
theorem jt_I (B : Bd g x cc nL own ret) {hh : List (Nat × Nat × Nat × Nat)} {a : Nat} {r : Except Nat Int32} (hH9 : Hh x hh) (hout : hh.all (fun q => !(decide (q.1 ≤ pc) && decide (pc < q.2.1))) = true) (hF : some (Except.error a, w) = some (r, w1)) (hk : k ≤ mc) (hn : n ≤ ms) : JT g x (oxI r) w1 mc ms w k n pc vs a := by
  cases hF; exact jt_leave B hH9 hout rfl rfl hk hn
theorem jt_V (B : Bd g x cc nL own ret) {hh : List (Nat × Nat × Nat × Nat)} {a : Nat} {r : Except Nat Unit} (hH9 : Hh x hh) (hout : hh.all (fun q => !(decide (q.1 ≤ pc) && decide (pc < q.2.1))) = true) (hF : some (Except.error a, w) = some (r, w1)) (hk : k ≤ mc) (hn : n ≤ ms) : JT g x (oxV r) w1 mc ms w k n pc vs a := by
  cases hF; exact jt_leave B hH9 hout rfl rfl hk hn
theorem jt_A (B : Bd g x cc nL own ret) {hh : List (Nat × Nat × Nat × Nat)} {a : Nat} {r : Except Nat (Option Nat)} (hH9 : Hh x hh) (hout : hh.all (fun q => !(decide (q.1 ≤ pc) && decide (pc < q.2.1))) = true) (hF : some (Except.error a, w) = some (r, w1)) (hk : k ≤ mc) (hn : n ≤ ms) : JT g x (oxA r) w1 mc ms w k n pc vs a := by
  cases hF; exact jt_leave B hH9 hout rfl rfl hk hn
/-! ### constant texts -/
theorem j_ldcS (B : Bd g x cc nL own ret) {i idx : Nat} (hi : i < 17) (ho : stown.getD i "" = own) (hx9 : stidx.getD i 0 = idx) (d : decode cc pc = .ok (.ldc idx, 2)) (kk : J g x o w1 mc ms w k n (pc + 2) vs (va_rf (some (g.2.2.2.2 i)) :: st)) : J g x o w1 mc ms w k n pc vs st := by
  obtain ⟨p, l, e, R, s, m, args, below, meth, c⟩ := x
  obtain ⟨hx, hb, hml, hown, hts, hr, hlk, hW0, hG⟩ := B
  intro H locs ls hH hL hl
  have hR := (hG.2.2.2.2.2 i hi).warm hW0
  rw [ho, hx9] at hR
  exact va_ldcS hx hb hown hR d (kk H locs ls hH hL hl)
/-- the value of a static of which only 'a reference or null' is told -/
def stv (g : Gt) (cls nm ds : String) : Option Nat := match (Term.static cls nm ds).eval #[] g.1 none [] g.1 with
  | some (.ref a) => some a
  | _ => none
theorem j_gets (B : Bd g x cc nL own ret) {C nm ds : String} {v : Value} {idx : Nat} (hZ : va_Z C nm ds v (fun q => gb g ≤ q) g.1 g.1.heap) (hlink : Cond.fieldLink own idx C nm ds ∈ lw_all) (d : decode cc pc = .ok (.getstatic idx, 3)) (kk : J g x o w1 mc ms w k n (pc + 3) vs (v :: st)) : J g x o w1 mc ms w k n pc vs st := by
  obtain ⟨p, l, e, R, s, m, args, below, meth, c⟩ := x
  obtain ⟨hx, hb, hml, hown, hts, hr, hlk, hW0, hG⟩ := B
  intro H locs ls hH hL hl
  obtain ⟨cf, kf, fi, f, a, cell, h1, h2, h3, h4, h5, h6, h7, h8⟩ := hZ.moved hW0.alike
  have hlt : a < gb g := (Array.getElem?_eq_some_iff.mp h5).1
  exact W.gets hx hb hown (hts _ hlink) h1 h2 h3 h4 (by rw [hH.2.2.1 a hlt]; exact h5) (fun e => by rw [e] at h6; cases h6) h7 rfl d (kk H locs ls hH hL hl)
theorem old_lt {g : Gt} : ∀ a : Nat, a < g.1.heap.size → ¬ gb g ≤ a := fun a h h2 => by unfold gb at h2; omega
theorem Z_ref (hG : Gok g) {C nm ds : String} (h1 : Cond.laysStatic C nm ds ∈ lw_tbl) (h2 : Cond.initialized C ∈ lw_tbl) (h3 : (Cond.isRef (.static C nm ds)).before #[Value.ref g.2.1] g.1 = true) : va_Z C nm ds (va_rf (stv g C nm ds)) (fun q => gb g ≤ q) g.1 g.1.heap := by
  have hA : (Term.static C nm ds).eval #[Value.ref g.2.1] g.1 none [] g.1 = (Term.static C nm ds).eval #[] g.1 none [] g.1 := rfl
  have hv : (Term.static C nm ds).eval #[Value.ref g.2.1] g.1 none [] g.1 = some (va_rf (stv g C nm ds)) := by
    unfold stv
    rw [← hA]
    cases hv : (Term.static C nm ds).eval #[Value.ref g.2.1] g.1 none [] g.1 with
    | none => simp [Cond.before, Cond.holds, Cond.value, hv] at h3
    | some z => cases z <;> simp [Cond.before, Cond.holds, Cond.value, hv] at h3 <;> rfl
  exact va_Zof (hG.1 _ h1) (hG.1 _ h2) hv old_lt
/-- a word of the start by itself -/
theorem nar_of (hG : Gok g) {c9 : Cond} (h : c9 ∈ flatC (Cond.and given_1 narrow_1)) : c9.before #[Value.ref g.2.1] g.1 = true := flat_of_before _ hG.2.1 _ h
theorem j_ldcSw (B : Bd g x cc nL own ret) {i idx : Nat} (hi : i < 17) (ho : stown.getD i "" = own) (hx9 : stidx.getD i 0 = idx) (d : decode cc pc = .ok (.ldc_w idx, 3)) (kk : J g x o w1 mc ms w k n (pc + 3) vs (va_rf (some (g.2.2.2.2 i)) :: st)) : J g x o w1 mc ms w k n pc vs st := by
  obtain ⟨p, l, e, R, s, m, args, below, meth, c⟩ := x
  obtain ⟨hx, hb, hml, hown, hts, hr, hlk, hW0, hG⟩ := B
  intro H locs ls hH hL hl
  have hR := (hG.2.2.2.2.2 i hi).warm hW0
  rw [ho, hx9] at hR
  intro T hT X
  obtain ⟨t, a1, b1⟩ := kk H locs ls hH hL hl T hT X
  refine ⟨t, ?_, b1⟩
  obtain ⟨k9, cf, i9, a', hk, hcf, hcp, -, hr9, hev'⟩ := Cond.stringRef_spec hown hR.1
  cases hR.2.symm.trans hev'
  obtain ⟨k', hk', he⟩ := X.warmed.alike.2.2 _ _ hk
  have hr' : k'.resolved[idx]? = some (some (.string (g.2.2.2.2 i))) := by
    rcases X.warmed.entry hk hk' idx with h | ⟨h, -⟩
    · rw [h]; exact hr9
    · rw [hr9] at h; cases h
  jvm_step X.here [hx, hb, d, ldc_w.wp_string (e := e) (s := T) (f := F0 m pc ls st) X.here.top hk' (by rw [he]; exact hcf) hcp hr']
  exact a1
/-! ### texts -/
def sln (w : cH) (r : Option Nat) : Option Int32 := match cV w r with
  | none => none
  | some q => if q.2.1 = 111 then some (Int32.ofNat q.2.2.1) else none
def chr (w : cH) (r : Option Nat) (i : Int32) : Option Int32 := match cV w r with
  | none => none
  | some q => if q.2.1 = 111 ∧ ¬ (i < 0 ∨ q.2.2.1 ≤ i.toNatClampNeg) then vI (some (q.2.2.2 i.toNatClampNeg)) else none
abbrev rm_str : Room := { frames := 4, cells := 0, slots := 0, locals := 100 }
def CSt (own : String) (idx : Nat) (y : MethodName) (bytes : ByteArray) (maxL : Nat) (rt : Option FieldType) (na : Nat) : Prop := GoodIn lw_all (wsV own idx y.cls y (ws_ y bytes maxL rt)) ∧ y.cls = "java/lang/String" ∧ (y.cls ≠ "java/lang/invoke/MethodHandle" ∧ y.cls ≠ "java/lang/invoke/VarHandle" ∧ (parseMethodDescriptor y.desc).map (fun d => d.parameters.length) = some na)
theorem cstr_charAt {own : String} {idx : Nat} (h : Cond.methodLink own idx yJ5_charAt ∈ lw_all) : CSt own idx yJ5_charAt cJ5_charAt 2 (some .char) 1 := ⟨lw_V h q1096 q1097 q146 q1098, rfl, by decide +kernel⟩
theorem cstr_length {own : String} {idx : Nat} (h : Cond.methodLink own idx yJ5_length ∈ lw_all) : CSt own idx yJ5_length cJ5_length 1 (some .int) 0 := ⟨lw_V h q1812 q1813 q146 q1814, rfl, by decide +kernel⟩
theorem cstr_isLatin1 {own : String} {idx : Nat} (h : Cond.methodLink own idx yJ5_isLatin1 ∈ lw_all) : CSt own idx yJ5_isLatin1 cJ5_isLatin1 1 (some .boolean) 0 := ⟨lw_V h q1100 q1101 q146 q1102, rfl, by decide +kernel⟩
theorem cstr_coder {own : String} {idx : Nat} (h : Cond.methodLink own idx yJ5_coder ∈ lw_all) : CSt own idx yJ5_coder cJ5_coder 1 (some .byte) 0 := ⟨lw_V h q1816 q1817 q146 q1818, rfl, by decide +kernel⟩
theorem j_rStr (B : Bd g x cc nL own ret) {idx na maxL : Nat} {y : MethodName} {bytes : ByteArray} {rt : Option FieldType} {l : Launch} {rm R : Room} {mc' ms' : Nat} {r : Option Nat} {v : Option Value} {w2 : cH} {st2 : List Value} (As rest : List Value) (cv : CSt own idx y bytes maxL rt na) (d : decode cc pc = .ok (.invokevirtual idx, 3)) (hl : x.2.1 = l) (hR : x.2.2.2.1 = R)
    (M : tg w r = some 111 ∧ Mx l y (ws_ y bytes maxL rt) rm g (va_rf r :: As) w (.returned v) w2 mc' ms') (hrm : rmOk rm R maxL k n mc' ms' = true) (hn : As.length = na) (hst : As.reverse ++ va_rf r :: rest = st) (h2 : v.toList ++ rest = st2) (hc1 : cat1 rest) (hc8 : rest.length ≤ 8)
    (kk : J g x o w1 mc ms w2 (k + mc') (n + ms') (pc + 3) vs st2) : J g x o w1 mc ms w k n pc vs st := by
  obtain ⟨ht, M⟩ := M
  obtain ⟨a, e9, rfl, he, ht⟩ := tg_some ht
  subst hl; subst hR; subst hst
  obtain ⟨p, l, e, R, s, m, args, below, meth, c⟩ := x
  obtain ⟨hx, hb, hml, hown, hts, hr, hlk, hW0, hG⟩ := B
  intro H locs ls hH hL hl
  obtain ⟨hgood, hys, hd⟩ := cv
  obtain ⟨r1, r2, r3, r4, r5⟩ := rmOk_spec hrm
  obtain ⟨cell, q1, q2, q3⟩ := cls_of hG hW0 hH he
  rw [ht, show cnm 111 = "java/lang/String" by decide, ← hys] at q3
  have hrun := va_runV (p := p) (l := l) (e := e) (R := R) (s := s) (m := m) (args := args) (below := below) (meth := meth) (c := c) (H := H) (locs := locs) (cells := k) (slots := n) (b := a) (As := As) (rest := rest) (g := F0 m pc ls (As.reverse ++ Value.ref a :: rest)) (nL := nL) (C := y.cls) ⟨hx, hb, hml, hown, hts⟩ M.met (cwV na hts hgood rfl r1 r2 ⟨rfl, hd⟩ r3)
    ⟨fun a' U f mk q => ⟨q.1, wk_calling q.2 f mk a'⟩, ⟨cell, q1, q2, q3⟩, fun U hU hW => ⟨rfl, wk_end hW0 hH hU hW⟩⟩ rfl hn (by rw [← hml]; exact hl.1) rfl (lv_room (by rw [cat1_sum _ hc1]; exact hc8)) d ⟨r4, r5⟩
  exact j_ofRun hrun h2 hL hl kk
/-! ### the default method half: its interface isn't said to be initialised, so its four instructions are walked in the caller's walk -/
theorem any_same {vm vm' : Vm} (h : vm.Alike vm') (f : Class → Bool) (hf : ∀ k : Class, f k.bare = f k) (c : ClassId) : (vm'.classes[c]?).any f = (vm.classes[c]?).any f := by
  cases hk : vm.classes[c]? with
  | none => rw [h.none hk]
  | some k =>
    obtain ⟨k', hk', he⟩ := h.2.2 _ _ hk
    rw [hk']
    show f k' = f k
    rw [← hf k', Class.bare_of he, hf]
theorem near_same {vm vm' : Vm} (h : vm.Alike vm') (c : ClassId) (nm ds : String) : nearestHeld vm' c nm ds = nearestHeld vm c nm ds := by
  have a1 : superinterfaceMethods vm' = superinterfaceMethods vm := (superinterfaceMethods_bare vm').symm.trans ((congrArg superinterfaceMethods h.bare_eq).trans (superinterfaceMethods_bare vm))
  have a2 : maximallySpecific vm' = maximallySpecific vm := (maximallySpecific_bare vm').symm.trans ((congrArg maximallySpecific h.bare_eq).trans (maximallySpecific_bare vm))
  have a3 := any_same h (·.isInterface) fun _ => rfl
  have a4 := any_same h (fun x => x.methods.any fun m => !m.isAbstract && !m.isStatic) fun _ => rfl
  have a5 : ∀ (q : ClassId → Bool) (k : ClassId), (vm'.classes[k]?).any (·.interfaces.any q) = (vm.classes[k]?).any (·.interfaces.any q) := fun q => any_same h _ fun _ => rfl
  simp only [nearestHeld, held, h.superclasses, h.declaredIn, h.superinterfaces, h.method?, a1, a2, a3, a4, a5]
/-- what the word says, at alike tables -/
theorem dflt_spec {a : Array Value} {s : State} {cls : String} {x y : MethodName} (h : (Cond.landsInDefault cls x y).before a s = true) :
    ∃ c r m rm mk, s.vm.findClass cls = some c ∧ s.methodFound? x.cls x.name x.desc = some r ∧ s.methodNamed? y = some m ∧ s.vm.method? r = some rm ∧ selectMethod {} s.vm c r = .method m ∧ s.vm.classes[m.cls]? = some mk ∧ mk.isInterface = true ∧
      (∀ k d, nearestHeld s.vm c rm.name rm.desc = some (k, .default d) → d = m) ∧ ∀ k b, nearestHeld s.vm c rm.name rm.desc ≠ some (k, .thrower b) := by
  simp only [Cond.before, Cond.holds, Cond.value] at h
  cases h1 : s.vm.findClass cls with
  | none => simp [h1] at h
  | some c =>
    cases h2 : s.methodFound? x.cls x.name x.desc with
    | none => simp [h1, h2] at h
    | some r =>
      cases h3 : s.methodNamed? y with
      | none => simp [h1, h2, h3] at h
      | some m =>
        cases h4 : s.vm.method? r with
        | none => simp [h1, h2, h3, h4] at h
        | some rm =>
          simp only [h1, h2, h3, h4, Option.map_some, beq_iff_eq, Option.some.injEq] at h
          split at h
          · rename_i m' hs
            simp only [Bool.and_eq_true, decide_eq_true_eq, Option.any_eq_true] at h
            obtain ⟨⟨⟨⟨h5, mk, h6, h7⟩, -⟩, -⟩, h8⟩ := h
            subst h5
            refine ⟨c, r, m', rm, mk, rfl, rfl, rfl, h4, hs, h6, h7, fun k d q => ?_, fun k b q => ?_⟩
            · rw [q] at h8; simpa using h8
            · rw [q] at h8; cases h8
          · cases h
theorem selV_dflt {e : Env} {d : Bool} {acts : List Action} {s : State} {E : CtlPost} {Q : Selection → Pre} {c : ClassId} {r m : MethodId} {rm meth : Method} {mk : Class} (h1 : selectMethod e.platform s.vm c r = .method m) (h2 : s.vm.method? r = some rm) (h3 : s.vm.method? m = some meth)
    (h4 : s.vm.classes[m.cls]? = some mk) (h5 : mk.isInterface = true) (h6 : ∀ k d, nearestHeld s.vm c rm.name rm.desc = some (k, .default d) → d = m) (h7 : ∀ k b, nearestHeld s.vm c rm.name rm.desc ≠ some (k, .thrower b)) :
    wp (invokeinterface.selectVirtual c r) Q E e d acts s ↔ Q (.method m) d acts s := by
  by_cases hp : e.platform.privateHidesDefault = true
  · rcases hq : nearestHeld s.vm c rm.name rm.desc with _ | ⟨k, hd⟩
    · simp [invokeinterface.selectVirtual, h2, selectFor_method h1 h3, h4, h5, hp, hq]
    · cases hd with
      | nothing => simp [invokeinterface.selectVirtual, h2, selectFor_method h1 h3, h4, h5, hp, hq]
      | default d' => cases h6 k d' hq; simp [invokeinterface.selectVirtual, h2, selectFor_method h1 h3, h4, h5, hp, hq]
      | thrower b => exact absurd hq (h7 k b)
  · simp only [Bool.not_eq_true] at hp
    simp [invokeinterface.selectVirtual, h2, selectFor_method h1 h3, h4, h5, hp]
theorem inv_dflt {Q : Unit → Pre} {E : CtlPost} {e : Env} {d : Bool} {acts : List Action} {s : State} {f : JFrame} {index a : Nat} {r m : MethodId} {c' : ClassId} {k k' mk : Class} {rm meth : Method} {As rest : List Value} {cell : Cell}
    (hs : s.topJava?.isSome) (hn : namesResolved s.vm f.method.cls index c') (hk' : s.vm.classes[c']? = some k') (hcl : k'.isInterface = false) (hr : s.vm.methodReady f.method.cls index r)
    (hk : s.vm.classes[r.cls]? = some k) (hrm : s.vm.method? r = some rm) (hpoly : signaturePolymorphic k rm = false) (hst : rm.isStatic = false)
    (hlen : As.length = rm.sig.parameters.length) (hstack : f.stack = As.reverse ++ .ref a :: rest) (hcell : s.heap[a]? = some cell) (hobj : ∀ c, cell.vm ≠ .statics c)
    (h1 : selectMethod e.platform s.vm cell.cls r = .method m) (h3 : s.vm.method? m = some meth) (habs : meth.isAbstract = false)
    (h4 : s.vm.classes[m.cls]? = some mk) (h5 : mk.isInterface = true) (h6 : ∀ k d, nearestHeld s.vm cell.cls rm.name rm.desc = some (k, .default d) → d = m) (h7 : ∀ k b, nearestHeld s.vm cell.cls rm.name rm.desc ≠ some (k, .thrower b)) :
    wp (invokevirtual.sem index) Q E e d acts (s.setTop f) ↔ E (.invoke m (.ref a :: As).toArray) acts (s.setTop { f with stack := rest }) := by
  obtain ⟨kc, cf, ci, nn, g1, g2, g3, g4⟩ := hn
  have hpre : ∀ {Q' : ClassId → Pre}, wp (Jvm.refClassAt index) Q' E e d acts (s.setTop f) ↔ Q' c' d acts (s.setTop f) := by
    intro Q'
    rcases g3 with g3 | g3 <;> simp [Jvm.refClassAt, Jvm.constantAt, State.method?_setTop f hs, g1, g2, g3, W.resolveClassAt_ready (State.method?_setTop f hs) g4]
  simp only [invokevirtual.sem, wp_bind', hpre, W.theClass, State.vm_setTop, hk', Option.some.injEq, exists_eq_left', W.ite, hcl, Bool.false_eq_true, if_false, wp_pure', W.resolveMethodAt_ready (State.method?_setTop f hs) hr]
  simp only [W.theMethod, State.vm_setTop, hrm, Option.some.injEq, exists_eq_left', Seam.isPolymorphic, wp_bind', W.theClass, hk, wp_pure', hpoly, W.ite, Bool.false_eq_true, if_false, hst, Jvm.popArgs, ← hlen, popN_top hs hstack]
  simp [hs, hcell, hobj, selV_dflt (s := s.setTop _) (show selectMethod e.platform (s.setTop _).vm cell.cls r = .method m from h1) hrm h3 h4 h5 h6 h7, h3, habs]
/-- half's own four instructions -/
theorem half_walk {p : Program} {l : Launch} {e : Env} {R : Room} {s : State} {m : MethodId} {args : Array Value} {below : List Frame} {meth : Method} {c : Code} {T : State} {locs : List Loc} (X : Stand p l e R s m args below meth c T locs k n) (hx : p.tables.exec = Jvm.exec)
    {mk : MethodId} {mY : Method} {cY : Code} (hn : T.methodNamed? yX14_half = some mk) (hm : T.vm.method? mk = some mY) (hc : mY.code = some cY) (hb : cY.code = cX14_half) (hml : cY.maxLocals = 2) (hr : mY.sig.returnType = some .int) (hlk : mY.locks = false)
    {f : JFrame} (hf : f.method = m) (hsz : f.locals.size = c.maxLocals) (hfr : 1 ≤ R.frames) (hlo : 2 * f.monitorRoom + (f.stack.map fun v => v.category).sum + 13 ≤ R.locals) {ig : Instr} (hdg : decode c.code f.pc = .ok (ig, 3)) (a : Addr) (i : Int32) {target : State}
    (hT : Steps p.tables e below (T.setTop { f with pc := f.pc + 3, stack := .int (i / 2) :: f.stack }) target) (acts : List Action) : Steps p.tables e below (doInvoke e (T.setTop f) acts mk #[.ref a, .int i]).1 target := by
  subst hf
  rw [doInvoke_enter X.here.top acts hm hc hlk (by rw [hml]; exact X.notFull hsz hfr hlo)]
  have hA : At ((T.setTop f).pushFrame (.java (entryFrame mk #[.ref a, .int i] cY.maxLocals))) mk cY below := At.enter X.here #[.ref a, .int i] hm hc (State.plainMethod.of_named (x := yX14_half) (plainFor_of_name (by decide)) hn hm)
  have hfs := frames_entered (g := f) X.here.top (.java (entryFrame mk #[.ref a, .int i] cY.maxLocals))
  generalize hU : (T.setTop f).pushFrame (.java (entryFrame mk #[.ref a, .int i] cY.maxLocals)) = U at hA hfs
  have hUm : U.vm.method? mk = some mY := by rw [← hU]; exact hm
  have he : entryFrame mk #[.ref a, .int i] cY.maxLocals = { method := mk, pc := 0, locals := #[.val (.ref a), .val (.int i)], stack := [], locked := none } := by rw [hml]; rfl
  rw [he]
  jvm_step hA [hx, hb, dX14_half_0]
  jvm_step hA [hx, hb, dX14_half_1]
  jvm_step hA [hx, hb, dX14_half_2]
  jvm_step hA [hx, hb, dX14_half_3, hUm, hr, hA.top]
  intro acts
  have hcU : U.code? f.method = some c := by
    have h := X.here.code
    rw [State.code?_eq] at h ⊢
    rw [← hU]
    exact h
  rw [doReturn_leave (g := f) (cg := c) (meth := mY) acts hfs hUm hlk rfl rfl hcU hdg]
  obtain ⟨g0, hg0⟩ := Option.isSome_iff_exists.mp X.here.top
  obtain ⟨r0, hr0⟩ := State.topJava?_eq_some.mp hg0
  have e1 : T.frames.tail = r0 := by rw [hr0]; rfl
  have e2 : U.setFrames (.java f :: T.frames.tail) = T.setTop f := by
    rw [← hU, State.pushFrame, State.setFrames_setFrames, State.setTop_of_frames _ hr0, State.setFrames_setFrames, e1]
  rw [e2]
  have e3 : (T.setTop f).setTop { f with pc := f.pc + 3, stack := (some (narrow .int (Value.int (i / 2)))).toList ++ f.stack } = T.setTop { f with pc := f.pc + 3, stack := .int (i / 2) :: f.stack } := by
    rw [State.setTop_of_frames _ (State.frames_setTop f hr0), State.setTop_of_frames _ hr0, State.setTop_of_frames _ hr0, State.setFrames_setFrames]
    rfl
  rw [e3]
  exact hT
set_option maxHeartbeats 1000000 in
/-- the call of half through a class -/
theorem j_half (B : Bd g x cc nL own ret) {idx t : Nat} {R : Room} {r : Option Nat} {i : Int32} (rest : List Value) (q1 : Cond.methodLink own idx ⟨own, "half", "(I)I"⟩ ∈ flatC (Cond.and given_1 narrow_1)) (q2 : Cond.sameMethod own "CarryFair$Carries" "half" "(I)I" ∈ flatC (Cond.and given_1 narrow_1)) (q3 : Cond.landsInDefault (cnm t) ⟨own, "half", "(I)I"⟩ yX14_half ∈ flatC (Cond.and given_1 narrow_1)) (hct : clsTag t)
    (ht : tg w r = some t) (d : decode cc pc = .ok (.invokevirtual idx, 3)) (hR : x.2.2.2.1 = R) (hrm : (decide (1 ≤ R.frames) && decide (21 ≤ R.locals)) = true) (hc1 : cat1 rest) (hc8 : rest.length ≤ 8)
    (kk : J g x o w1 mc ms w k n (pc + 3) vs (.int (i / 2) :: rest)) : J g x o w1 mc ms w k n pc vs (.int i :: va_rf r :: rest) := by
  subst hR
  obtain ⟨p, l, e, R, s, m, args, below, meth, c⟩ := x
  obtain ⟨hx, hb, hml, hown, hts, hr, hlk, hW0, hG⟩ := B
  intro H locs ls hH hL hl
  obtain ⟨a, rfl, ⟨cell, hc, hobj, hcls⟩, -⟩ := rcv_of hG hW0 hH ht hct
  simp only [Bool.and_eq_true, decide_eq_true_eq] at hrm
  have hlink : (Cond.methodLink own idx ⟨own, "half", "(I)I"⟩).before args s = true := word_at hW0 (Or.inl (by simp [Cond.onTables, Cond.keeps, Cond.steady])) (nar_of hG q1)
  have hsame : (Cond.sameMethod own "CarryFair$Carries" "half" "(I)I").before args s = true := word_at hW0 (Or.inl (by simp [Cond.onTables, Cond.keeps, Cond.steady])) (nar_of hG q2)
  have hdec : (Cond.instanceMethod yX14_half).before args s = true := hts _ q587
  have hcode : (Cond.code yX14_half cX14_half 2 (some .int)).before args s = true := hts _ q589
  obtain ⟨c2, r2, m2, rm, mk2, g1, g2, g3, g4, g5, g6, g7, g8, g9⟩ := dflt_spec (nar_of hG q3)
  intro T hT X
  have al := hW0.alike
  obtain ⟨r0, rmm, hn0, hm0, hst0, hab0⟩ := Cond.instanceMethod_spec hdec
  obtain ⟨mY, cY, hmY, hcY, hbY, hlY, hrY, hkY, -, hsig⟩ := Cond.code_spec hn0 hcode
  obtain ⟨cn, ck, r1, hcn, hck, hni, hf, hn1⟩ := Cond.sameMethod_found hsame
  have e1 : r0 = r1 := Option.some.inj (hn0.symm.trans hn1)
  subst e1
  obtain ⟨-, -, r4, -, -, -, hf4, hn4⟩ := Cond.sameMethod_found (nar_of hG q2)
  have e2 : r2 = r4 := Option.some.inj (g2.symm.trans hf4)
  subst e2
  have e4 : s.methodNamed? yX14_half = g.1.methodNamed? yX14_half := State.methodNamed?_setVm (s := g.1) al (x := yX14_half)
  have e5 : r0 = r2 := Option.some.inj (hn0.symm.trans (e4.trans hn4))
  subst e5
  have e3 : r0 = m2 := Option.some.inj (hn4.symm.trans g3)
  subst e3
  have e6 : rm = rmm := by
    have h := g4
    rw [← al.method?, hm0] at h
    exact (Option.some.inj h).symm
  subst e6
  have e7 : c2 = cell.cls := by
    rw [← al.findClass, hcls] at g1
    exact (Option.some.inj g1).symm
  subst e7
  cases hm0.symm.trans hmY
  have hlen9 : ([Value.int i] : List Value).length = rm.sig.parameters.length := by
    have h : (parseMethodDescriptor yX14_half.desc).map (fun d => d.parameters.length) = some 1 := by decide +kernel
    rw [hsig] at h
    exact (Option.some.inj h).symm
  have hpl : e.platform.magicAccessors = ({} : Platform).magicAccessors := by rw [X.admits.platform]
  obtain ⟨ci, hlk9, hright⟩ := Cond.methodLink_specUp hown hcn hck hni hf hlink e.platform hpl (by rw [X.admits.platform])
  have hE : s.MethodEntryUp e T.vm m.cls idx cn r0 ci := State.methodEntryUp X.warmed hlk9 hright
  obtain ⟨kr, hkr, hnr⟩ := className_of_methodNamed hn0
  obtain ⟨dk, cfile, nt, _, _, _, _, _, hd, hcf, hcp, -⟩ := hlk9.here
  have ak := hE.warmed.alike
  have ag : g.1.vm.Alike (T.vm.calledUp m.cls ci idx cn r0) := al.trans ak
  obtain ⟨dk2, hdk2, hres⟩ := hE.classReady
  obtain ⟨dk3, hdk3, hed⟩ := ak.2.2 _ _ hd
  cases hdk2.symm.trans hdk3
  obtain ⟨kr2, hkr2, her⟩ := ak.2.2 _ _ hkr
  obtain ⟨ck2, hck2, hec⟩ := ak.2.2 _ _ hck
  obtain ⟨mk3, hmk3, hem⟩ := ag.2.2 _ _ g6
  have X1 : Stand p l e R s m args below meth c (T.setVm (T.vm.calledUp m.cls ci idx cn r0)) locs k n := X.noted hE.warmed
  obtain ⟨t, a1, b1⟩ := kk H locs ls hH hL hl (T.setVm (T.vm.calledUp m.cls ci idx cn r0)) hT X1
  refine ⟨t, ?_, b1⟩
  jvm_step X.here [hx, hb, d, invokevirtual.wp_coldUp (e := e) (s := T) (s₀ := s) (f := F0 m pc ls (.int i :: va_rf (some a) :: rest)) X.here.top X.warmed hE hd hcf (Or.inl hcp) hck hni,
    inv_dflt (e := e) (s := T.setVm (T.vm.calledUp m.cls ci idx cn r0)) (f := F0 m pc ls (.int i :: va_rf (some a) :: rest)) (r := r0) (m := r0) (c' := cn) (k := kr2) (k' := ck2) (mk := mk3) (rm := rm) (meth := rm) (a := a) (As := [.int i]) (rest := rest) (cell := cell)
      X.here.top ⟨dk2, cfile, ci, nt, hdk2, by rw [hed]; exact hcf, Or.inl hcp, dk2, hdk2, hres⟩ hck2 (by rw [hec]; exact hni) hE.ready hkr2 (by show (T.vm.calledUp m.cls ci idx cn r0).method? r0 = some rm; rw [ak.method?]; exact hm0)
      (by rw [her]; show signaturePolymorphic kr rm = false; simp [signaturePolymorphic, hnr, show yX14_half.cls = "CarryFair$Carries" from rfl]) hst0 hlen9 rfl (by show T.heap[a]? = some cell; rw [hT]; exact hc) (fun z h => by rw [h] at hobj; cases hobj)
      (by show selectMethod e.platform (T.vm.calledUp m.cls ci idx cn r0) cell.cls r0 = .method r0; rw [Launch.admits_selectMethod X.admits, ag.selectMethod]; exact g5)
      (by show (T.vm.calledUp m.cls ci idx cn r0).method? r0 = some rm; rw [ak.method?]; exact hm0) hab0 hmk3 (by rw [hem]; exact g7)
      (by show ∀ k d, nearestHeld (T.vm.calledUp m.cls ci idx cn r0) cell.cls rm.name rm.desc = some (k, .default d) → d = r0; rw [near_same ag]; exact g8) (by show ∀ k b, nearestHeld (T.vm.calledUp m.cls ci idx cn r0) cell.cls rm.name rm.desc ≠ some (k, .thrower b); rw [near_same ag]; exact g9)]
  intro acts
  have hnU : (T.setVm (T.vm.calledUp m.cls ci idx cn r0)).methodNamed? yX14_half = some r0 := (State.methodNamed?_setVm (s := s) ak (x := yX14_half)).trans hn0
  exact half_walk X1 hx hnU (by show (T.vm.calledUp m.cls ci idx cn r0).method? r0 = some rm; rw [ak.method?]; exact hm0) hcY hbY hlY hrY hkY (f := F0 m pc ls rest) rfl hl.1 hrm.1 (by
    have h8 : 2 * (F0 m pc ls rest).monitorRoom + (rest.map fun v => v.category).sum ≤ 8 := lv_room (by rw [cat1_sum _ hc1]; exact hc8)
    have h9 := hrm.2
    show 2 * (F0 m pc ls rest).monitorRoom + (rest.map fun v => v.category).sum + 13 ≤ R.locals
    omega) (by rw [hb]; exact d) a i a1 acts
theorem j_half_X7 (B : Bd g x cc nL "CarryFair$Old" ret) {t : Nat} {R : Room} {r : Option Nat} {i : Int32} (rest : List Value) (ht : tg w r = some t) (hm : t ∈ [7, 9]) (d : decode cc pc = .ok (.invokevirtual 26, 3)) (hR : x.2.2.2.1 = R) (hrm : (decide (1 ≤ R.frames) && decide (21 ≤ R.locals)) = true) (hc1 : cat1 rest) (hc8 : rest.length ≤ 8)
    (kk : J g x o w1 mc ms w k n (pc + 3) vs (.int (i / 2) :: rest)) : J g x o w1 mc ms w k n pc vs (.int i :: va_rf r :: rest) := by
  simp only [List.mem_cons, List.not_mem_nil, or_false] at hm
  rcases hm with rfl | rfl
  · exact j_half B rest (by decide +kernel) (by decide +kernel) (by rw [show cnm 7 = "CarryFair$Old" by decide]; decide +kernel) (clsTag_of (by decide)) ht d hR hrm hc1 hc8 kk
  · exact j_half B rest (by decide +kernel) (by decide +kernel) (by rw [show cnm 9 = "CarryFair$Cheating" by decide]; decide +kernel) (clsTag_of (by decide)) ht d hR hrm hc1 hc8 kk
theorem j_half_X8 (B : Bd g x cc nL "CarryFair$Paired" ret) {t : Nat} {R : Room} {r : Option Nat} {i : Int32} (rest : List Value) (ht : tg w r = some t) (hm : t ∈ [8, 10]) (d : decode cc pc = .ok (.invokevirtual 30, 3)) (hR : x.2.2.2.1 = R) (hrm : (decide (1 ≤ R.frames) && decide (21 ≤ R.locals)) = true) (hc1 : cat1 rest) (hc8 : rest.length ≤ 8)
    (kk : J g x o w1 mc ms w k n (pc + 3) vs (.int (i / 2) :: rest)) : J g x o w1 mc ms w k n pc vs (.int i :: va_rf r :: rest) := by
  simp only [List.mem_cons, List.not_mem_nil, or_false] at hm
  rcases hm with rfl | rfl
  · exact j_half B rest (by decide +kernel) (by decide +kernel) (by rw [show cnm 8 = "CarryFair$Paired" by decide]; decide +kernel) (clsTag_of (by decide)) ht d hR hrm hc1 hc8 kk
  · exact j_half B rest (by decide +kernel) (by decide +kernel) (by rw [show cnm 10 = "CarryFair$Handed" by decide]; decide +kernel) (clsTag_of (by decide)) ht d hR hrm hc1 hc8 kk
theorem j_half_X12 (B : Bd g x cc nL "CarryFair$Boated" ret) {t : Nat} {R : Room} {r : Option Nat} {i : Int32} (rest : List Value) (ht : tg w r = some t) (hm : t ∈ [12]) (d : decode cc pc = .ok (.invokevirtual 21, 3)) (hR : x.2.2.2.1 = R) (hrm : (decide (1 ≤ R.frames) && decide (21 ≤ R.locals)) = true) (hc1 : cat1 rest) (hc8 : rest.length ≤ 8)
    (kk : J g x o w1 mc ms w k n (pc + 3) vs (.int (i / 2) :: rest)) : J g x o w1 mc ms w k n pc vs (.int i :: va_rf r :: rest) := by
  simp only [List.mem_cons, List.not_mem_nil, or_false] at hm
  rcases hm with rfl
  · exact j_half B rest (by decide +kernel) (by decide +kernel) (by rw [show cnm 12 = "CarryFair$Boated" by decide]; decide +kernel) (clsTag_of (by decide)) ht d hR hrm hc1 hc8 kk
/-! ### an array of rows -/
/-- ra rows of rb ints, the first j of them made -/
def nMj (w : cH) (ra rb j : Nat) : cH := (fun q => if q = w.2 then some (103, ra, fun i => if i < j then .ref (w.2 + 1 + i) else .null) else if w.2 < q ∧ q ≤ w.2 + j then some (100, rb, fun _ => .int 0) else w.1 q, w.2 + 1 + j)
def nM (w : cH) (ra rb : Nat) : cH := nMj w ra rb ra
theorem nMj_zero (w : cH) (ra rb : Nat) : nMj w ra rb 0 = nw w (103, ra, fun _ => .null) := by
  unfold nMj nw
  refine Prod.ext (funext fun q => ?_) rfl
  dsimp only
  by_cases h : q = w.2
  · rw [if_pos h, if_pos h]; simp
  · rw [if_neg h, if_neg h, if_neg (by omega)]
theorem nMj_succ (w : cH) (ra rb j : Nat) : nMj w ra rb (j + 1) = wr (nw (nMj w ra rb j) (100, rb, fun _ => .int 0)) w.2 (103, ra, updV (fun i => if i < j then .ref (w.2 + 1 + i) else .null) j (.ref (w.2 + 1 + j))) := by
  unfold nMj nw wr
  refine Prod.ext (funext fun q => ?_) (by show w.2 + 1 + (j + 1) = w.2 + 1 + j + 1; omega)
  dsimp only
  by_cases h : q = w.2
  · rw [if_pos h, if_pos h]
    refine congrArg some (congrArg (Prod.mk 103) (congrArg (Prod.mk ra) (funext fun i => ?_)))
    unfold updV
    by_cases hi : i = j
    · subst hi; rw [if_pos (by omega), if_pos rfl]
    · rw [if_neg hi]
      show _ = if i < j then Value.ref (w.2 + 1 + i) else Value.null
      by_cases hj : i < j
      · rw [if_pos hj, if_pos (by omega)]
      · rw [if_neg hj, if_neg (by omega)]
  · rw [if_neg h, if_neg h]
    by_cases h2 : q = w.2 + 1 + j
    · rw [if_pos (by omega), if_pos h2]
    · rw [if_neg h2, if_neg h]
      by_cases h3 : w.2 < q ∧ q ≤ w.2 + j
      · rw [if_pos h3, if_pos (by omega)]
      · rw [if_neg h3, if_neg (by omega)]
/-- the states on the way -/
def mS (T : State) (c1 c2 : ClassId) (ra rb A : Nat) : Nat → State
  | 0 => T.pushCell { cls := c1, slots := Array.replicate ra .null, vm := .none }
  | j + 1 => ((mS T c1 c2 ra rb A j).pushCell { cls := c2, slots := Array.replicate rb (.int 0), vm := .none }).setCell A ((arrV c1 ra (fun i => if i < j then .ref (A + 1 + i) else .null)).setSlot j (.ref (A + 1 + j)))
set_option maxHeartbeats 1000000 in
theorem mS_ok (hG : Gok g) {p : Program} {l : Launch} {e : Env} {R : Room} {s : State} {m : MethodId} {args : Array Value} {below : List Frame} {meth : Method} {c : Code} {T : State} {locs : List Loc} (X : Stand p l e R s m args below meth c T locs k n) (hH : hrep g w T.heap) (hL : ∀ q ∈ locs, gb g ≤ q.base) (ra rb : Nat) (j : Nat) :
    ∃ L, Stand p l e R s m args below meth c (mS T (g.2.2.2.1 103) (g.2.2.2.1 100) ra rb w.2 j) L (k + 1 + j) (n + ra + j * rb) ∧ hrep g (nMj w ra rb j) (mS T (g.2.2.2.1 103) (g.2.2.2.1 100) ra rb w.2 j).heap ∧ ∀ q ∈ L, gb g ≤ q.base := by
  have t103 : aty 103 = some (.array .int) := by decide
  have t100 : aty 100 = some .int := by decide
  induction j with
  | zero =>
    refine ⟨locs, by simpa [mS] using X.pushed { cls := g.2.2.2.1 103, slots := Array.replicate ra .null, vm := .none }, ?_, hL⟩
    rw [nMj_zero]
    have hz := hH.1
    refine hrep_nw hG hH (by show (T.heap.push _).size = _; rw [Array.size_push, hz]) (fun q hq => ?_) (Or.inr (Or.inl ⟨_, t103, ?_, hH.2.1⟩))
    · show (T.heap.push _)[q]? = _
      rw [Array.getElem?_push, if_neg (by rw [hz]; omega)]
    · rw [← hz]
      show (T.heap.push _)[T.heap.size]? = _
      rw [Array.getElem?_push_size, arrV_new]
  | succ j ih =>
    obtain ⟨L, hX, hR, hL2⟩ := ih
    have hX2 := hX.pushed { cls := g.2.2.2.1 100, slots := Array.replicate rb (.int 0), vm := .none }
    have hz := hR.1
    have hR2 : hrep g (nw (nMj w ra rb j) (100, rb, fun _ => .int 0)) ((mS T (g.2.2.2.1 103) (g.2.2.2.1 100) ra rb w.2 j).pushCell { cls := g.2.2.2.1 100, slots := Array.replicate rb (.int 0), vm := .none }).heap := by
      refine hrep_nw hG hR (by show (Array.push _ _).size = _; rw [Array.size_push, hz]) (fun q hq => ?_) (Or.inr (Or.inl ⟨_, t100, ?_, hR.2.1⟩))
      · show (Array.push _ _)[q]? = _
        rw [Array.getElem?_push, if_neg (by rw [hz]; omega)]
      · rw [← hz]
        show (Array.push _ _)[(mS T (g.2.2.2.1 103) (g.2.2.2.1 100) ra rb w.2 j).heap.size]? = _
        rw [Array.getElem?_push_size, arrV_new]
    generalize hU : (mS T (g.2.2.2.1 103) (g.2.2.2.1 100) ra rb w.2 j).pushCell { cls := g.2.2.2.1 100, slots := Array.replicate rb (.int 0), vm := .none } = U at hX2 hR2
    have hA : U.heap[w.2]? = some (arrV (g.2.2.2.1 103) ra (fun i => if i < j then .ref (w.2 + 1 + i) else .null)) := by
      have h := hR2.2.2.2 w.2 (103, ra, fun i => if i < j then .ref (w.2 + 1 + i) else .null) (by unfold nw nMj; dsimp only; rw [if_neg (by omega), if_pos rfl])
      exact (hat_arr h t103).1
    have hlt : w.2 < U.heap.size := (Array.getElem?_eq_some_iff.mp hA).1
    have hX3 := hX2.stored hA j (.ref (w.2 + 1 + j))
    have e1 : mS T (g.2.2.2.1 103) (g.2.2.2.1 100) ra rb w.2 (j + 1) = U.setCell w.2 ((arrV (g.2.2.2.1 103) ra (fun i => if i < j then .ref (w.2 + 1 + i) else .null)).setSlot j (.ref (w.2 + 1 + j))) := by rw [← hU]; rfl
    rw [e1]
    refine ⟨L ++ [⟨w.2, j⟩], ?_, ?_, fun q hq => ?_⟩
    · have hh := hX3
      rw [show ({ cls := g.2.2.2.1 100, slots := Array.replicate rb (.int 0), vm := .none } : Cell).slots.size = rb by simp] at hh
      rw [show k + 1 + (j + 1) = k + 1 + j + 1 by omega, show n + ra + (j + 1) * rb = n + ra + j * rb + rb by rw [Nat.add_mul]; omega]
      exact hh
    · rw [nMj_succ]
      refine hrep_wr hR2 hH.2.1 (size_setCell _ _ _) (fun q hq => heapAt_setCell_ne _ (Ne.symm hq)) (Or.inr (Or.inl ⟨_, t103, ?_, hH.2.1⟩))
      rw [heapAt_setCell_self _ hlt, arrV_store]
    · rcases List.mem_append.mp hq with h | h
      · exact hL2 q h
      · rw [List.mem_singleton.mp h]; exact hH.2.1
theorem mk_row {E : CtlPost} {e : Env} {d : Bool} {acts : List Action} {s : State} {c comp : ClassId} {k9 : Class} {ib : Int32} {Q : Addr → Pre} (hib : ¬ ib < 0) (hk : s.vm.classes[c]? = some k9) (hkind : k9.kind = .array comp .int) (h : wp (Jvm.newArray c ib.toNatClampNeg (.int 0)) Q E e d acts s) : wp (multianewarray.make c [ib]) Q E e d acts s := by
  rw [multianewarray.make]
  simp only [hib, if_false, wp_bind', wp_pure', W.theClass]
  refine ⟨k9, hk, ?_⟩
  simp only [hkind]
  exact h
set_option maxHeartbeats 2000000 in
theorem j_multi (B : Bd g x cc nL own ret) {idx ra rb : Nat} {ia ib : Int32} {R : Room} (h1 : Cond.classLink own idx "[[I" ∈ lw_all) (h2 : Cond.arrayOver (.array .int) ∈ lw_tbl) (d : decode cc pc = .ok (.multianewarray idx 2, 4)) (ha : ¬ ia < 0) (hb9 : ¬ ib < 0) (hra : ia.toNatClampNeg = ra) (hrb : ib.toNatClampNeg = rb) (hbig : (decide (ra * 4 ≤ 536870912) && decide (rb * 4 ≤ 536870912) && decide (0 < ra)) = true) (hR : x.2.2.2.1 = R) (hc : k + 1 + ra ≤ R.cells) (hs : n + ra + ra * rb ≤ R.slots) (kk : J g x o w1 mc ms (nM w ra rb) (k + 1 + ra) (n + ra + ra * rb) (pc + 4) vs (va_rf (some w.2) :: st)) : J g x o w1 mc ms w k n pc vs (.int ib :: .int ia :: st) := by
  subst hR
  obtain ⟨p, l, e, R, s, m, args, below, meth, c⟩ := x
  obtain ⟨hx, hb, hml, hown, hts, hr, hlk, hW0, hG⟩ := B
  intro H locs ls hH hL hl
  dsimp only at hs hc
  simp only [Bool.and_eq_true, decide_eq_true_eq] at hbig
  have al := hW0.alike
  obtain ⟨comp, cA, kA, f1, f2, f3, f4, f5⟩ := arrayOverA_spec (hG.1 _ h2)
  have t103 : aty 103 = some (.array .int) := by decide
  have t100 : aty 100 = some .int := by decide
  have e1 : comp = g.2.2.2.1 100 := by
    have h := gFA hG (State.WarmedH.refl g.1) t100
    rw [show ("[" ++ FieldType.int.toString) = (FieldType.array .int).toString by decide, f1] at h
    exact Option.some.inj h
  have e2 : cA = g.2.2.2.1 103 := by
    have h := gFA hG (State.WarmedH.refl g.1) t103
    rw [f5] at h
    exact Option.some.inj h
  subst e1; subst e2
  intro T hT X
  have hpl : e.platform.magicAccessors = ({} : Platform).magicAccessors := by rw [X.admits.platform]
  obtain ⟨cc', hfcc, hcl⟩ := Cond.classLink_spec hown (hts _ h1) e.platform hpl
  have e3 : g.2.2.2.1 103 = cc' := by
    have h := gFA hG hW0 t103
    rw [show ("[" ++ (FieldType.array .int).toString) = "[[I" by decide, hfcc] at h
    exact (Option.some.inj h).symm
  subst e3
  obtain ⟨hg1, hwarm1, hready1⟩ := State.classEntry (e := e) X.warmed hcl
  generalize T.vm.noted m.cls idx (.cls (g.2.2.2.1 103)) = vm1 at hg1 hwarm1 hready1
  have X1 := X.noted hwarm1
  have ag : g.1.vm.Alike vm1 := al.trans hwarm1.alike
  obtain ⟨kA1, hkA1, heA⟩ := ag.2.2 _ _ f3
  have hkind1 : kA1.kind = .array (g.2.2.2.1 100) (.array .int) := by rw [heA]; exact f4
  obtain ⟨kI, cI, hkI, hkindI⟩ : ∃ k9 c9, vm1.classes[g.2.2.2.1 100]? = some k9 ∧ k9.kind = .array c9 .int := by
    obtain ⟨-, k9, h9, c9, h8⟩ := (arrOfT_moved (E := T.setVm vm1) ag (hG.2.2.2.1 100 _ t100).1) 0 (fun _ => .null)
    exact ⟨k9, c9, h9, h8⟩
  have ok := mS_ok (w := w) hG X1 (by show hrep g w T.heap; rw [hT]; exact hH) hL ra rb
  obtain ⟨L, hX, hRf, hL2⟩ := ok ra
  obtain ⟨t, a1, b1⟩ := kk _ L ls hRf hL2 hl _ rfl hX
  refine ⟨t, ?_, b1⟩
  jvm_step X.here [hx, hb, d]
  simp only [multianewarray.sem, wp_bind']
  rw [W.resolveClassAt_transfer (s := T.setTop (F0 m pc ls (.int ib :: .int ia :: st))) (State.method?_setTop (F0 m pc ls (.int ib :: .int ia :: st)) X.here.top) hg1 hready1, W.resolveClassAt_ready (s := (T.setTop (F0 m pc ls (.int ib :: .int ia :: st))).setVm vm1) (State.method?_setTop (F0 m pc ls (.int ib :: .int ia :: st)) X.here.top) hready1]
  rw [show (T.setTop (F0 m pc ls (.int ib :: .int ia :: st))).setVm vm1 = (T.setVm vm1).setTop (F0 m pc ls (.int ib :: .int ia :: st)) from rfl]
  simp only [wp_bind']
  rw [show (2 : Nat) = ([.int ia, .int ib] : List Value).length from rfl, popN_top (s := T.setVm vm1) (f := F0 m pc ls (.int ib :: .int ia :: st)) (args := [.int ia, .int ib]) (rest := st) X1.here.top rfl]
  simp only [List.mapM_cons, List.mapM_nil, pure_bind, wp_bind', wp_pure']
  rw [multianewarray.make]
  simp only [ha, if_false, wp_bind', wp_pure', W.theClass]
  refine ⟨kA1, hkA1, ?_⟩
  simp only [hkind1, wp_bind']
  obtain ⟨rr1, rr2⟩ := X1.roomAbove (a := 1) (b := ra) (by omega) (by omega)
  subst hra; subst hrb
  refine W.newArray_of (k := kA1) hkA1 hkind1 (by rw [Launch.admits_arrayLengthLimit X.admits]; omega) (by rw [Launch.admits_maxHeapBytes X.admits]; show ¬ ia.toNatClampNeg * 4 > 536870912; omega) (by show T.heap.size < _; exact rr1) (by show T.slotsUsed + _ ≤ _; exact rr2) rfl fun acts1 => ?_
  have hi0 : ¬ (ia == 0) = true := by
    intro h
    rw [beq_iff_eq] at h
    subst h
    exact absurd hbig.2 (by decide)
  rw [if_neg hi0]
  have hz : T.heap.size = w.2 := by rw [hT]; exact hH.1
  rw [show Array.size ((T.setVm vm1).setTop { method := m, pc := pc, locals := ls, stack := st, locked := none }).heap = w.2 from hz]
  simp only [wp_bind', Std.Legacy.Range.forIn_eq_forIn_range']
  refine wp_forIn_inv (fun rest s' => ∃ j, j ≤ ia.toNatClampNeg ∧ rest = List.range' j (ia.toNatClampNeg - j) ∧ s' = (mS (T.setVm vm1) (g.2.2.2.1 103) (g.2.2.2.1 100) ia.toNatClampNeg ib.toNatClampNeg w.2 j).setTop { method := m, pc := pc, locals := ls, stack := st, locked := none }) _ _ ⟨0, Nat.zero_le _, by simp [Std.Legacy.Range.size], rfl⟩ ?_ ?_
  · rintro x rest s' d' acts' Q' ⟨j, hj, hr9, rfl⟩ hq
    have hlt : j < ia.toNatClampNeg := by
      rcases Nat.lt_or_ge j ia.toNatClampNeg with h | h
      · exact h
      · rw [show ia.toNatClampNeg - j = 0 by omega] at hr9; cases hr9
    rw [show ia.toNatClampNeg - j = (ia.toNatClampNeg - (j + 1)) + 1 by omega, List.range'_succ] at hr9
    obtain ⟨rfl, rfl⟩ := List.cons.inj hr9
    obtain ⟨L3, hX3, hR3, -⟩ := ok x
    have hmul : x * ib.toNatClampNeg + ib.toNatClampNeg ≤ ia.toNatClampNeg * ib.toNatClampNeg := by
      rw [← Nat.succ_mul]; exact Nat.mul_le_mul_right _ hlt
    obtain ⟨q1, q2⟩ := hX3.roomAbove (a := 1) (b := ib.toNatClampNeg) (by omega) (by omega)
    have hvm3 : ∀ j, (mS (T.setVm vm1) (g.2.2.2.1 103) (g.2.2.2.1 100) ia.toNatClampNeg ib.toNatClampNeg w.2 j).vm = vm1 := by
      intro j
      induction j with
      | zero => rfl
      | succ j ih => exact ih
    simp only [wp_bind']
    refine mk_row (k9 := kI) hb9 (by show (mS _ _ _ _ _ _ x).vm.classes[_]? = _; rw [hvm3]; exact hkI) hkindI ?_
    refine W.newArray_of (k := kI) (by show (mS _ _ _ _ _ _ x).vm.classes[_]? = _; rw [hvm3]; exact hkI) hkindI (by rw [Launch.admits_arrayLengthLimit X.admits]; omega) (by rw [Launch.admits_maxHeapBytes X.admits]; show ¬ ib.toNatClampNeg * 4 > 536870912; omega) (by show (mS _ _ _ _ _ _ x).heap.size < _; omega) q2 rfl fun acts1 => ?_
    have hz3 := hR3.1
    have hA : ((mS (T.setVm vm1) (g.2.2.2.1 103) (g.2.2.2.1 100) ia.toNatClampNeg ib.toNatClampNeg w.2 x).heap.push { cls := g.2.2.2.1 100, slots := Array.replicate ib.toNatClampNeg (.int 0) })[w.2]? = some (arrV (g.2.2.2.1 103) ia.toNatClampNeg (fun i => if i < x then .ref (w.2 + 1 + i) else .null)) := by
      have h := hR3.2.2.2 w.2 (103, ia.toNatClampNeg, fun i => if i < x then .ref (w.2 + 1 + i) else .null) (by unfold nMj; dsimp only; rw [if_pos rfl])
      rw [Array.getElem?_push, if_neg (by rw [hz3]; show ¬ w.2 = w.2 + 1 + x; omega)]
      exact (hat_arr h t103).1
    rw [wp_bind', W.writeLoc]
    refine ⟨arrV (g.2.2.2.1 103) ia.toNatClampNeg (fun i => if i < x then .ref (w.2 + 1 + i) else .null), hA, (by intro h; cases h), by show x < (Array.ofFn (n := ia.toNatClampNeg) _).size; simpa using hlt, ?_, ?_⟩
    · have hk3 : (mS (T.setVm vm1) (g.2.2.2.1 103) (g.2.2.2.1 100) ia.toNatClampNeg ib.toNatClampNeg w.2 x).vm.classes[g.2.2.2.1 103]? = some kA1 := by rw [hvm3]; exact hkA1
      simp [State.fitsSlot, State.slotType?, arrV, hk3, hkind1, fits]
    · simp only [wp_pure']
      refine hq _ _ _ ⟨x + 1, hlt, rfl, ?_⟩
      rw [show Array.size ((mS (T.setVm vm1) (g.2.2.2.1 103) (g.2.2.2.1 100) ia.toNatClampNeg ib.toNatClampNeg w.2 x).setTop { method := m, pc := pc, locals := ls, stack := st, locked := none }).heap = w.2 + 1 + x from hz3]
      rfl
  · rintro s' d' acts' ⟨j, hj, hr9, rfl⟩
    have hje : j = ia.toNatClampNeg := by
      rcases Nat.lt_or_ge j ia.toNatClampNeg with h | h
      · rw [show ia.toNatClampNeg - j = (ia.toNatClampNeg - (j + 1)) + 1 by omega, List.range'_succ] at hr9; cases hr9
      · omega
    subst hje
    simp only [wp_pure', wp_bind']
    simp [jvm, hX.here.top]
    exact a1
/-! ### texts: the JDK's own methods over the constant texts -/
theorem hq_of {H : Heap} (hH : hrep g w H) : ∀ a : Nat, a < g.1.heap.size → ¬ (fun q => gb g ≤ q) a → H[a]? = g.1.heap[a]? := fun a h _ => hH.2.2.1 a h
/-- a field of a constant text -/
theorem j_tf (B : Bd g x cc nL own ret) {nm ds : String} {v : Value} {idx q : Nat} (hE : va_OF "java/lang/String" nm ds v q (fun q => gb g ≤ q) g.1 g.1.heap) (hlink : Cond.fieldLink own idx "java/lang/String" nm ds ∈ lw_all) (d : decode cc pc = .ok (.getfield idx, 3)) (kk : J g x o w1 mc ms w k n (pc + 3) vs (v :: st)) : J g x o w1 mc ms w k n pc vs (.ref q :: st) := by
  obtain ⟨p, l, e, R, s, m, args, below, meth, c⟩ := x
  obtain ⟨hx, hb, hml, hown, hts, hr, hlk, hW0, hG⟩ := B
  intro H locs ls hH hL hl
  obtain ⟨cf, kf, fi, f, cell, h1, h2, h3, h4, h5, h6⟩ := (hE.moved hW0.alike).kept (hq_of hH)
  exact W.getf hx hb hown (hts _ hlink) h1 h2 h3 h4 (v := v) h5 rfl rfl d (kk H locs ls hH hL hl)
theorem j_tlen (B : Bd g x cc nL own ret) {N t : Nat} {f : Nat → Value} (hE : va_T .byte t N f (fun q => gb g ≤ q) g.1 g.1.heap) (d : decode cc pc = .ok (.arraylength, 1)) (kk : J g x o w1 mc ms w k n (pc + 1) vs (.int (Int32.ofNat N) :: st)) : J g x o w1 mc ms w k n pc vs (.ref t :: st) := by
  obtain ⟨p, l, e, R, s, m, args, below, meth, c⟩ := x
  obtain ⟨hx, hb, hml, hown, hts, hr, hlk, hW0, hG⟩ := B
  intro H locs ls hH hL hl
  obtain ⟨cell, h1, h2, h3, h4, h5, h6, h7⟩ := (hE.moved hW0.alike).kept (hq_of hH)
  exact W.alen (n := Int32.ofNat N) hx hb h1 h2 h5 rfl rfl d (kk H locs ls hH hL hl)
theorem j_tld (B : Bd g x cc nL own ret) {N t : Nat} {f : Nat → Value} {i v : Int32} (hE : va_T .byte t N f (fun q => gb g ≤ q) g.1 g.1.heap) (hi : ¬ (i < 0 ∨ N ≤ i.toNatClampNeg)) (hv : f i.toNatClampNeg = .int v) (d : decode cc pc = .ok (.baload, 1)) (kk : J g x o w1 mc ms w k n (pc + 1) vs (.int v :: st)) : J g x o w1 mc ms w k n pc vs (.int i :: .ref t :: st) := by
  obtain ⟨p, l, e, R, s, m, args, below, meth, c⟩ := x
  obtain ⟨hx, hb, hml, hown, hts, hr, hlk, hW0, hG⟩ := B
  intro H locs ls hH hL hl
  obtain ⟨cell, h1, h2, h3, h4, h5, h6, h7⟩ := (hE.moved hW0.alike).kept (hq_of hH)
  have hlt : i.toNatClampNeg < N := Nat.not_le.mp fun q => hi (Or.inr q)
  exact W.bald (v := .int v) hx hb h1 h2 h3 (fun q => by rcases q with q | q; exact hi (Or.inl q); omega) (by rw [h6 _ hlt, hv]) rfl rfl d (kk H locs ls hH hL hl)
set_option maxHeartbeats 1000000 in
/-- the end of a method that answers a byte or a char -/
theorem j_nret (B : Bd g x cc nL own ret) {a : Int32} {ft : FieldType} (hret : ret = some ft) (hnar : narrow ft (.int a) = .int a) (hft : ft = .char ∨ ft = .byte) (d : decode cc pc = .ok (.ireturn, 1)) (hw : w = w1) (hk : k ≤ mc) (hn : n ≤ ms) : J g x (.returned (some (.int a))) w1 mc ms w k n pc vs [.int a] := by
  obtain ⟨p, l, e, R, s, m, args, below, meth, c⟩ := x
  obtain ⟨hx, hb, hml, hown, hts, hr, hlk, hW0, hG⟩ := B
  intro H locs ls hH hL hl
  subst hw
  refine W.widen (k := mc) (n := ms) hk hn ?_
  refine W_mono (fun t h => MQx_of (args := args) h) ?_
  intro T hT X
  have hr : meth.sig.returnType = some ft := hr.trans hret
  obtain ⟨fs, hret', hrun, hended, hW, hframe⟩ := X.leave (v := some (.int a)) (fun h => by rw [hr] at h; cases h)
  have hmeth' : T.vm.method? m = some meth := X.method'
  refine ⟨T.setFrames fs, ?_, .returned (some (.int a)), hrun, hended, ⟨rfl, wk_end hW0 hH hT hW⟩, locs, ⟨⟨_, rfl⟩, hW, hframe⟩, hL⟩
  rcases hft with rfl | rfl
  · jvm_step X.here [X.here.top, hx, hb, d, hmeth', hr]
    (try refine ⟨rfl, ?_⟩); (try refine ⟨rfl, ?_⟩)
    rw [hnar]
    first | (intro acts; rw [hret' _ acts rfl rfl rfl]) | rw [hret' _ _ rfl rfl rfl]
    exact Steps.refl _
  · jvm_step X.here [X.here.top, hx, hb, d, hmeth', hr]
    (try refine ⟨rfl, ?_⟩); (try refine ⟨rfl, ?_⟩)
    rw [hnar]
    first | (intro acts; rw [hret' _ acts rfl rfl rfl]) | rw [hret' _ _ rfl rfl rfl]
    exact Steps.refl _
abbrev rm_s0 : Room := { frames := 0, cells := 0, slots := 0, locals := 0 }
abbrev rm_s1 : Room := { frames := 1, cells := 0, slots := 0, locals := 22 }
abbrev rm_s2 : Room := { frames := 2, cells := 0, slots := 0, locals := 43 }
theorem ct_chk7 {l : Launch} (G : Gok g) {i L : Int32} {v : Option Nat} (h0 : ¬ i < 0) (h1 : i < L) : Mx l yJ7_checkIndex (ws_ yJ7_checkIndex cJ7_checkIndex 3 (some .int)) rm_s0 g [.int i, .int L, va_rf v] w (.returned (some (.int i))) w 0 0 := by
  refine mk_ct cJ7_checkIndex 3 (some .int) "jdk/internal/util/Preconditions" (by decide +kernel) rfl (lg_le ⟨rfl, rfl, cr _, trivial⟩ (Nat.le_of_ble_eq_true rfl)) (av_ok ⟨rfl, rfl, cr _, trivial⟩) G (fun x B hl hR hin hh => ?_)
  show J g x _ _ 0 0 w 0 0 0 [some (.int i), some (.int L), some (va_rf v)] []
  refine j_iload_n B dJ7_checkIndex_0 rfl ?_
  refine j_if_lt (tgt := 9) (A := ()) (B9 := ()) (out := ()) (ic := inferInstance) B dJ7_checkIndex_1 (by decide) rfl (fun h _ => absurd h h0) (fun _ _ => ?_)
  refine j_iload_n B dJ7_checkIndex_4 rfl ?_
  refine j_iload_n B dJ7_checkIndex_5 rfl ?_
  refine j_icmp_lt (tgt := 16) (A := ()) (B9 := ()) (out := ()) (ic := inferInstance) B dJ7_checkIndex_6 (by decide) rfl (fun _ _ => ?_) (fun h _ => absurd h1 h)
  refine j_iload_n B dJ7_checkIndex_16 rfl ?_
  exact j_lIp B rfl dJ7_checkIndex_17 rfl (by decide) (by decide)
theorem cs_J5_1059 : CS "java/lang/String" 1059 yJ7_checkIndex cJ7_checkIndex 3 (some .int) 3 := ⟨Or.inl (lw_S q1113 q1114 q148 q1115), by decide +kernel⟩
theorem cs_J6_9 : CS "java/lang/StringLatin1" 9 yJ5_checkIndex cJ5_checkIndex 2 none 2 := ⟨Or.inl (lw_S q1108 q1109 q146 q1110), by decide +kernel⟩
theorem cs_J5_495 : CS "java/lang/String" 495 yJ6_charAt cJ6_charAt 2 (some .char) 2 := ⟨Or.inl (lw_S q1105 q1106 q147 q1107), by decide +kernel⟩
theorem ct_chk5 {l : Launch} (G : Gok g) {i L : Int32} (h0 : ¬ i < 0) (h1 : i < L) : Mx l yJ5_checkIndex (ws_ yJ5_checkIndex cJ5_checkIndex 2 none) rm_s1 g [.int i, .int L] w (.returned none) w 0 0 := by
  refine mk_ct cJ5_checkIndex 2 none "java/lang/String" (by decide +kernel) rfl (lg_le ⟨rfl, rfl, trivial⟩ (Nat.le_of_ble_eq_true rfl)) (av_ok ⟨rfl, rfl, trivial⟩) G (fun x B hl hR hin hh => ?_)
  show J g x _ _ 0 0 w 0 0 0 [some (.int i), some (.int L)] []
  refine j_iload_n B dJ5_checkIndex_0 rfl ?_
  refine j_iload_n B dJ5_checkIndex_1 rfl ?_
  refine j_gets B (Z_ref G q1112 (lw_all_tbl q148) (nar_of G (by decide +kernel))) q1111 dJ5_checkIndex_2 ?_
  refine j_rS (st2 := [.int i]) B [.int i, .int L, va_rf _] [] cs_J5_1059 dJ5_checkIndex_5 hl hR (ct_chk7 G h0 h1) rfl rfl rfl rfl trivial (Nat.le_of_ble_eq_true rfl) ?_
  refine j_pop B dJ5_checkIndex_8 rfl ?_
  exact j_lV B rfl dJ5_checkIndex_9 rfl (by decide) (by decide)
theorem ilt_of {i : Int32} {N : Nat} (hN : N < 2147483648) (h0 : ¬ i < 0) (h : i.toNatClampNeg < N) : i < Int32.ofNat N := by
  rw [Int32.lt_iff_toInt_lt, Int32.toInt_ofNat_of_lt hN]
  rw [Int32.lt_iff_toInt_lt] at h0
  have e1 : i.toNatClampNeg = i.toInt.toNat := rfl
  have e2 : (0 : Int32).toInt = 0 := rfl
  omega
theorem ct_ch6 {l : Launch} (G : Gok g) {N t : Nat} {f : Nat → Value} {i v : Int32} (hE : va_T .byte t N f (fun q => gb g ≤ q) g.1 g.1.heap) (hN : N < 2147483648) (hi : ¬ (i < 0 ∨ N ≤ i.toNatClampNeg)) (hv : f i.toNatClampNeg = .int v) (h1 : narrow .char (.int v) = .int v) (h2 : ((v &&& 255).toUInt32 % 65536).toInt32 = v) :
    Mx l yJ6_charAt (ws_ yJ6_charAt cJ6_charAt 2 (some .char)) rm_s2 g [va_rf (some t), .int i] w (.returned (some (.int v))) w 0 0 := by
  refine mk_ct cJ6_charAt 2 (some .char) "java/lang/StringLatin1" (by decide +kernel) rfl (lg_le ⟨cr _, rfl, trivial⟩ (Nat.le_of_ble_eq_true rfl)) (av_ok ⟨cr _, rfl, trivial⟩) G (fun x B hl hR hin hh => ?_)
  show J g x _ _ 0 0 w 0 0 0 [some (va_rf (some t)), some (.int i)] []
  refine j_iload_n B dJ6_charAt_0 rfl ?_
  refine j_aload_n (a := some t) B dJ6_charAt_1 rfl ?_
  refine j_tlen B hE dJ6_charAt_2 ?_
  refine j_rS (st2 := []) B [.int i, .int (Int32.ofNat N)] [] cs_J6_9 dJ6_charAt_3 hl hR (ct_chk5 G (fun h => hi (Or.inl h)) (ilt_of hN (fun h => hi (Or.inl h)) (Nat.not_le.mp fun q => hi (Or.inr q)))) rfl rfl rfl rfl trivial (Nat.le_of_ble_eq_true rfl) ?_
  refine j_aload_n (a := some t) B dJ6_charAt_6 rfl ?_
  refine j_iload_n B dJ6_charAt_7 rfl ?_
  refine j_tld B hE hi hv dJ6_charAt_8 ?_
  refine j_sipush (v := 255) B dJ6_charAt_9 (by decide) ?_
  refine j_iand B dJ6_charAt_12 ?_
  refine j_i2c B dJ6_charAt_13 ?_
  rw [h2]
  exact j_nret B rfl h1 (Or.inl rfl) dJ6_charAt_14 rfl (by decide) (by decide)
theorem Z_cs (hG : Gok g) : va_Z "java/lang/String" "COMPACT_STRINGS" "Z" (.int 1) (fun q => gb g ≤ q) g.1 g.1.heap := by
  refine va_Zof (args := #[Value.ref g.2.1]) (hG.1 _ q1104) (hG.1 _ (lw_all_tbl q146)) ?_ (fun a h => Nat.not_le.mpr h)
  have h := nar_of hG (c9 := Cond.eq (.static "java/lang/String" "COMPACT_STRINGS" "Z") (.int 1)) (by decide +kernel)
  cases hv : (Term.static "java/lang/String" "COMPACT_STRINGS" "Z").eval #[Value.ref g.2.1] g.1 none [] g.1 with
  | none => simp [Cond.before, Cond.holds, Cond.value, hv] at h
  | some z =>
    have e1 : (Term.int 1).eval #[Value.ref g.2.1] g.1 none [] g.1 = some (.int 1) := rfl
    cases z <;> simp [Cond.before, Cond.holds, Cond.value, hv, e1] at h
    rw [h]
theorem ct_isL {l : Launch} (G : Gok g) {a : Nat} (ht : tg w (some a) = some 111) (hE : va_OF "java/lang/String" "coder" "B" (.int 0) a (fun q => gb g ≤ q) g.1 g.1.heap) : tg w (some a) = some 111 ∧ Mx l yJ5_isLatin1 (ws_ yJ5_isLatin1 cJ5_isLatin1 1 (some .boolean)) rm_s0 g [va_rf (some a)] w (.returned (some (.int 1))) w 0 0 := by
  refine ⟨ht, mk_ct cJ5_isLatin1 1 (some .boolean) "java/lang/String" (by decide +kernel) rfl (lg_le ⟨cr _, trivial⟩ (Nat.le_of_ble_eq_true rfl)) (av_ok ⟨cr _, trivial⟩) G (fun x B hl hR hin hh => ?_)⟩
  show J g x _ _ 0 0 w 0 0 0 [some (va_rf (some a))] []
  refine j_gets B (Z_cs G) q1103 dJ5_isLatin1_0 ?_
  refine j_if_eq (tgt := 17) (A := ()) (B9 := ()) (out := ()) (ic := inferInstance) B dJ5_isLatin1_3 (by decide) rfl (fun h _ => absurd h (by decide)) (fun _ _ => ?_)
  refine j_aload_n (a := some a) B dJ5_isLatin1_6 rfl ?_
  refine j_tf B hE q1930 dJ5_isLatin1_7 ?_
  refine j_if_ne (tgt := 17) (A := ()) (B9 := ()) (out := ()) (ic := inferInstance) B dJ5_isLatin1_10 (by decide) rfl (fun h _ => absurd rfl h) (fun _ _ => ?_)
  refine j_iconst (v := 1) B dJ5_isLatin1_13 (by decide) ?_
  refine j_goto (tgt := 18) B dJ5_isLatin1_14 (by decide) ?_
  exact j_lZp B (by decide) rfl dJ5_isLatin1_18 rfl (by decide) (by decide)
theorem ct_coder {l : Launch} (G : Gok g) {a : Nat} (ht : tg w (some a) = some 111) (hE : va_OF "java/lang/String" "coder" "B" (.int 0) a (fun q => gb g ≤ q) g.1 g.1.heap) : tg w (some a) = some 111 ∧ Mx l yJ5_coder (ws_ yJ5_coder cJ5_coder 1 (some .byte)) rm_s0 g [va_rf (some a)] w (.returned (some (.int 0))) w 0 0 := by
  refine ⟨ht, mk_ct cJ5_coder 1 (some .byte) "java/lang/String" (by decide +kernel) rfl (lg_le ⟨cr _, trivial⟩ (Nat.le_of_ble_eq_true rfl)) (av_ok ⟨cr _, trivial⟩) G (fun x B hl hR hin hh => ?_)⟩
  show J g x _ _ 0 0 w 0 0 0 [some (va_rf (some a))] []
  refine j_gets B (Z_cs G) q1103 dJ5_coder_0 ?_
  refine j_if_eq (tgt := 13) (A := ()) (B9 := ()) (out := ()) (ic := inferInstance) B dJ5_coder_3 (by decide) rfl (fun h _ => absurd h (by decide)) (fun _ _ => ?_)
  refine j_aload_n (a := some a) B dJ5_coder_6 rfl ?_
  refine j_tf B hE q1930 dJ5_coder_7 ?_
  refine j_goto (tgt := 14) B dJ5_coder_10 (by decide) ?_
  exact j_nret B rfl (by decide) (Or.inr rfl) dJ5_coder_14 rfl (by decide) (by decide)
theorem j_rep (h : (∃ H, hrep g w H) → J g x o w1 mc ms w k n pc vs st) : J g x o w1 mc ms w k n pc vs st := by
  obtain ⟨p, l, e, R, s, m, args, below, meth, c⟩ := x
  intro H locs ls hH hL hl
  exact h ⟨H, hH⟩ H locs ls hH hL hl
/-- a constant text of the heap -/
theorem txt_of {H : Heap} {a : Nat} {e : cE} (hH : hrep g w H) (he : w.1 a = some e) (ht : e.1 = 111) : ∃ i, i < 17 ∧ a = g.2.2.2.2 i ∧ e.2.1 = stlen.getD i 0 ∧ ∀ j, j < e.2.1 → e.2.2 j = .int ((stbyt.getD i []).getD j 0) := by
  rcases hH.2.2.2 a e he with ⟨r, h1, -⟩ | ⟨ty, h1, -⟩ | ⟨-, h⟩
  · rw [ht] at h1; cases h1
  · rw [ht] at h1; cases h1
  · exact h
theorem st_ok : ∀ i, i < 17 → stlen.getD i 0 < 2147483648 ∧ ∀ j, j < stlen.getD i 0 → narrow .char (.int ((stbyt.getD i []).getD j 0)) = .int ((stbyt.getD i []).getD j 0) ∧ (((stbyt.getD i []).getD j 0 &&& 255).toUInt32 % 65536).toInt32 = (stbyt.getD i []).getD j 0 := by decide +kernel
theorem ct_str_charAt {l : Launch} {g : Gt} (G : Gok g) {r : Option Nat} {i v : Int32} {w : cH} (hF : chr w r i = some v) : tg w r = some 111 ∧ Mx l yJ5_charAt (ws_ yJ5_charAt cJ5_charAt 2 (some .char)) rm_str g [va_rf r, .int i] w (.returned (some (.int v))) w 0 0 := by
  unfold chr at hF
  cases hq : cV w r with
  | none => rw [hq] at hF; cases hF
  | some q =>
    rw [hq] at hF
    obtain ⟨rfl, hc⟩ := cV_some hq
    obtain ⟨a, e⟩ := q
    dsimp only at hF hc
    by_cases h : e.1 = 111 ∧ ¬ (i < 0 ∨ e.2.1 ≤ i.toNatClampNeg)
    · rw [if_pos h] at hF
      have hv := vI_some hF
      have ht : tg w (some a) = some 111 := by unfold tg; rw [hq]; exact congrArg some h.1
      refine ⟨ht, mk_ct cJ5_charAt 2 (some .char) "java/lang/String" (by decide +kernel) rfl (lg_le ⟨cr _, rfl, trivial⟩ (Nat.le_of_ble_eq_true rfl)) (av_ok ⟨cr _, rfl, trivial⟩) G (fun x B hl hR hin hh => ?_)⟩
      show J g x _ _ 0 0 w 0 0 0 [some (va_rf (some a)), some (.int i)] []
      refine j_rep fun ⟨H, hH⟩ => ?_
      obtain ⟨k9, hk9, ha, hl9, hb9⟩ := txt_of hH hc h.1
      obtain ⟨adV, hS⟩ := G.2.2.2.2.1
      obtain ⟨-, s2, s3, s4⟩ := hS.1 k9 hk9
      rw [← ha] at s2 s3
      have hlt : i.toNatClampNeg < e.2.1 := Nat.not_le.mp fun q => h.2 (Or.inr q)
      have hv2 : (fun j => Value.int ((stbyt.getD k9 []).getD j 0)) i.toNatClampNeg = .int v := (hb9 _ hlt).symm.trans (Option.some.inj hv)
      have ok := (st_ok k9 hk9).2 i.toNatClampNeg (by rw [← hl9]; exact hlt)
      rw [show (stbyt.getD k9 []).getD i.toNatClampNeg 0 = v from Value.int.inj hv2] at ok
      refine j_aload_n (a := some a) B dJ5_charAt_0 rfl ?_
      refine j_rStr (st2 := [.int 1]) B [] [] (cstr_isLatin1 q1099) dJ5_charAt_1 hl hR (ct_isL G ht s2) rfl rfl rfl rfl trivial (Nat.le_of_ble_eq_true rfl) ?_
      refine j_if_eq (tgt := 16) (A := ()) (B9 := ()) (out := ()) (ic := inferInstance) B dJ5_charAt_4 (by decide) rfl (fun h _ => absurd h (by decide)) (fun _ _ => ?_)
      refine j_aload_n (a := some a) B dJ5_charAt_7 rfl ?_
      refine j_tf B s3 q1931 dJ5_charAt_8 ?_
      refine j_iload_n B dJ5_charAt_11 rfl ?_
      refine j_rS (st2 := [.int v]) B [va_rf (some (adV k9)), .int i] [] cs_J5_495 dJ5_charAt_12 hl hR (ct_ch6 G s4 (st_ok k9 hk9).1 (by rw [← hl9]; exact h.2) hv2 ok.1 ok.2) rfl rfl rfl rfl trivial (Nat.le_of_ble_eq_true rfl) ?_
      exact j_nret B rfl ok.1 (Or.inl rfl) dJ5_charAt_15 rfl (by decide) (by decide)
    · rw [if_neg h] at hF; cases hF
theorem ct_str_length {l : Launch} {g : Gt} (G : Gok g) {r : Option Nat} {v : Int32} {w : cH} (hF : sln w r = some v) : tg w r = some 111 ∧ Mx l yJ5_length (ws_ yJ5_length cJ5_length 1 (some .int)) rm_str g [va_rf r] w (.returned (some (.int v))) w 0 0 := by
  unfold sln at hF
  cases hq : cV w r with
  | none => rw [hq] at hF; cases hF
  | some q =>
    rw [hq] at hF
    obtain ⟨rfl, hc⟩ := cV_some hq
    obtain ⟨a, e⟩ := q
    dsimp only at hF hc
    by_cases h : e.1 = 111
    · rw [if_pos h] at hF
      have ht : tg w (some a) = some 111 := by unfold tg; rw [hq]; exact congrArg some h
      refine ⟨ht, mk_ct cJ5_length 1 (some .int) "java/lang/String" (by decide +kernel) rfl (lg_le ⟨cr _, trivial⟩ (Nat.le_of_ble_eq_true rfl)) (av_ok ⟨cr _, trivial⟩) G (fun x B hl hR hin hh => ?_)⟩
      show J g x _ _ 0 0 w 0 0 0 [some (va_rf (some a))] []
      refine j_rep fun ⟨H, hH⟩ => ?_
      obtain ⟨k9, hk9, ha, hl9, hb9⟩ := txt_of hH hc h
      obtain ⟨adV, hS⟩ := G.2.2.2.2.1
      obtain ⟨-, s2, s3, s4⟩ := hS.1 k9 hk9
      rw [← ha] at s2 s3
      refine j_aload_n (a := some a) B dJ5_length_0 rfl ?_
      refine j_tf B s3 q1931 dJ5_length_1 ?_
      refine j_tlen B s4 dJ5_length_4 ?_
      refine j_aload_n (a := some a) B dJ5_length_5 rfl ?_
      refine j_rStr (st2 := [.int 0, .int (Int32.ofNat (stlen.getD k9 0))]) B [] [.int (Int32.ofNat (stlen.getD k9 0))] (cstr_coder q1815) dJ5_length_6 hl hR (ct_coder G ht s2) rfl rfl rfl rfl ⟨rfl, trivial⟩ (Nat.le_of_ble_eq_true rfl) ?_
      refine j_ishr B dJ5_length_9 ?_
      have e1 : Int32.ofNat (stlen.getD k9 0) >>> ((0 : Int32) &&& 31) = v := by
        rw [← hl9, ← Option.some.inj hF]
        exact (show ∀ z : Int32, z >>> ((0 : Int32) &&& 31) = z from fun z => by rw [show ((0 : Int32) &&& 31) = 0 by decide]; simp) _
      rw [e1]
      exact j_lIp B rfl dJ5_length_10 rfl (by decide) (by decide)
    · rw [if_neg h] at hF; cases hF
end JR
