/-! THE k-LAYER (own): memory as a map from addresses to (tag, values); a method's contract kM over it; the walk predicate kX; one row an instruction. -/
set_option maxRecDepth 100000
abbrev Mem : Type := Nat → Option (Nat × List Value)
def mset (m : Mem) (a : Nat) (o : Nat × List Value) : Mem := fun q => if q = a then some o else m q
theorem mset_self (m : Mem) (a : Nat) (o : Nat × List Value) : mset m a o a = some o := by simp [mset]
theorem mset_ne {m : Mem} {a b : Nat} {o : Nat × List Value} (h : b ≠ a) : mset m a o b = m b := by simp [mset, h]
/-- an int by its number -/
abbrev kI (z : Int) : Value := .int (Int32.ofInt z)
def bz (b : Bool) : Int := if b = true then 1 else 0
theorem bz_t : bz true = 1 := rfl
theorem bz_f : bz false = 0 := rfl
theorem bz_0 {b : Bool} : bz b = 0 ↔ b = false := by cases b <;> simp [bz]
theorem bz_1 {b : Bool} : bz b = 1 ↔ b = true := by cases b <;> simp [bz]
theorem bz_b (b : Bool) : 0 ≤ bz b ∧ bz b ≤ 1 := by cases b <;> simp [bz]
theorem bz_d {c : Prop} [Decidable c] : bz (decide c) = if c then 1 else 0 := by by_cases h : c <;> simp [bz, h]
/-- what stays fixed in a run: the law's start, its argument, the classes' numbers, their slots, the array classes, the constants' addresses -/
abbrev Gh : Type := State × Addr × (Nat → ClassId) × (Nat → Nat → Nat) × (Nat → ClassId) × (Nat → Nat)
def gS (G : Gh) : State := G.1
def gb (G : Gh) : Addr := G.2.1
def gC (G : Gh) : Nat → ClassId := G.2.2.1
def gF (G : Gh) : Nat → Nat → Nat := G.2.2.2.1
def gA (G : Gh) : Nat → ClassId := G.2.2.2.2.1
def gK (G : Gh) : Nat → Nat := G.2.2.2.2.2
abbrev gz (G : Gh) : Nat := (gS G).heap.size
def T00 : u_T := fun _ => ("", "", "", false)
/-- the classes whose objects the memory holds, by tag -/
def kcl : List vw_C := [(RX0, TX0, 7), (RX1, TX1, 4), (RX2, TX2, 2), (RX3, TX3, 2), (RX4, TX4, 21), (RX5, TX5, 7), (RX6, TX6, 5), (RX7, TX7, 4), (RX8, TX8, 4), (RX10, T00, 0), (RX11, T00, 0), (RX12, T00, 0), (RX13, TX13, 1), (RX14, TX14, 7), (RJ2, TJ2, 3), (RJ10, TJ10, 12), (RJ17, TJ17, 6), (RJ23, TJ23, 1), (RJ25, TJ25, 4), (RJ26, TJ26, 2), (RJ30, TJ30, 5), (RJ33, TJ33, 4), (RJ13, TJ13, 4), (RJ13, TJ13, 4), (RJ12, TJ12, 1), ("java/lang/Object", T00, 0)]
/-- the arrays' element types, by tag less 100 -/
def katy : List FieldType := [.int, .boolean, .byte, .object "java/lang/Object", .object "LabelPlacer$Key", .object "LabelPlacer$Box", .object "java/util/HashMap$Node", .byte, .object "java/lang/Object", .object "java/lang/Integer", .int]
/-- a tag of cells that may be written (they lie behind the law's start) -/
def kmut (t : Nat) : Bool := decide (t < 23) || (decide (100 ≤ t) && decide (t < 107))
/-- the constants that the run meets -/
def kcts : List Term := [.static "java/util/ArrayList" "DEFAULTCAPACITY_EMPTY_ELEMENTDATA" "[Ljava/lang/Object;", .static "java/util/HashSet" "PRESENT" "Ljava/lang/Object;", .static "java/lang/Integer$IntegerCache" "cache" "[Ljava/lang/Integer;", .string "LabelPlacer$Command" 13, .string "LabelPlacer$Command" 19, .string "LabelPlacer$Command" 21, .string "LabelPlacer$Command" 23, .string "LabelPlacer$Command" 25, .string "LabelPlacer$Command" 27]
def kct (i : Nat) : Option Term := if i < 256 then some (.elem (.static "java/lang/Integer$IntegerCache" "cache" "[Ljava/lang/Integer;") (.int (Int32.ofNat i))) else kcts[i - 256]?
/-- what the law's start gives -/
def kG (G : Gh) : Prop := (∀ w ∈ lw_tbl, w.before #[Value.ref (gb G)] (gS G) = true) ∧ (∀ (c : Nat) (q : vw_C), kcl[c]? = some q → u_Kn (gS G) q.1 q.2.1 q.2.2 (gC G c) (gF G c)) ∧ (∀ (t : Nat) (ty : FieldType), katy[t]? = some ty → ArrOfT (gS G) (gA G t) ty ∧ (t < 7 → va_RA (gS G) (gA G t) ty)) ∧ (∀ (i : Nat) (t : Term), kct i = some t → t.eval #[Value.ref (gb G)] (gS G) none [] (gS G) = some (.ref (gK G i))) ∧ (Jvm.Cond.and given_1 narrow_1).before #[Value.ref (gb G)] (gS G) = true
/-- the heap holds an object or an array -/
def kat (G : Gh) (o : Nat × List Value) (a : Nat) (H : Heap) : Prop :=
  (o.1 < 100 → ∃ r : vw_C, kcl[o.1]? = some r ∧ o.2.length = r.2.2 ∧ t_OB a (gC G o.1) r.2.2 (gF G o.1) H (vp_V o.2)) ∧ (¬ o.1 < 100 → H[a]? = some { cls := gA G (o.1 - 100), slots := o.2.toArray, vm := .none })
theorem kat.kept {G : Gh} {o : Nat × List Value} {a : Nat} {H H1 : Heap} (h : kat G o a H) (e : H1[a]? = H[a]?) : kat G o a H1 := by
  refine ⟨fun q => ?_, fun q => e.trans (h.2 q)⟩
  obtain ⟨r, h1, h2, h3⟩ := h.1 q
  exact ⟨r, h1, h2, h3.kept e⟩
theorem kat.lt {G : Gh} {o : Nat × List Value} {a : Nat} {H : Heap} (h : kat G o a H) : a < H.size := by
  by_cases q : o.1 < 100
  · obtain ⟨r, -, -, cell, h2, -⟩ := h.1 q
    exact (Array.getElem?_eq_some_iff.mp h2).1
  · exact (Array.getElem?_eq_some_iff.mp (h.2 q)).1
/-- the heap holds the memory; what may be written lies behind the start; the start's cells stand -/
def kRep (G : Gh) (m : Mem) (H : Heap) : Prop := (∀ (a : Nat) (o : Nat × List Value), m a = some o → kat G o a H ∧ (kmut o.1 = true → gz G ≤ a)) ∧ gz G ≤ H.size ∧ ∀ q : Nat, q < gz G → H[q]? = (gS G).heap[q]?
theorem kRep.set {G : Gh} {m : Mem} {H H1 : Heap} {a : Nat} {o o' : Nat × List Value} (h : kRep G m H) (ho : m a = some o) (hm : kmut o.1 = true) (ht : o'.1 = o.1) (hn : kat G o' a H1) (hz : H1.size = H.size) (hq : ∀ q : Nat, q ≠ a → H1[q]? = H[q]?) : kRep G (mset m a o') H1 := by
  have hza : gz G ≤ a := (h.1 a o ho).2 hm
  refine ⟨fun b p hb => ?_, by rw [hz]; exact h.2.1, fun q hq' => ?_⟩
  · by_cases e : b = a
    · subst e
      rw [mset_self] at hb
      cases hb
      exact ⟨hn, fun _ => hza⟩
    · rw [mset_ne e] at hb
      exact ⟨(h.1 b p hb).1.kept (hq b e), (h.1 b p hb).2⟩
  · rw [hq q (fun e => absurd (e ▸ hq') (Nat.not_lt.mpr hza))]
    exact h.2.2 q hq'
theorem kRep.new {G : Gh} {m : Mem} {H H1 : Heap} {o : Nat × List Value} (h : kRep G m H) (hz : H1.size = H.size + 1) (hq : ∀ q : Nat, q < H.size → H1[q]? = H[q]?) (hn : kat G o H.size H1) : m H.size = none ∧ kRep G (mset m H.size o) H1 := by
  have h0 : m H.size = none := by
    cases e : m H.size with
    | none => rfl
    | some p => exact absurd (h.1 _ p e).1.lt (Nat.lt_irrefl _)
  refine ⟨h0, fun b p hb => ?_, by rw [hz]; exact Nat.le_succ_of_le h.2.1, fun q hq' => (hq q (Nat.lt_of_lt_of_le hq' h.2.1)).trans (h.2.2 q hq')⟩
  by_cases e : b = H.size
  · subst e
    rw [mset_self] at hb
    cases hb
    exact ⟨hn, fun _ => h.2.1⟩
  · rw [mset_ne e] at hb
    exact ⟨(h.1 b p hb).1.kept (hq b (h.1 b p hb).1.lt), (h.1 b p hb).2⟩
/-- a method's end -/
def kQ (G : Gh) (Post : Option Value → Mem → Prop) : Array Value → State → Outcome → State → Prop := fun _ _ o t => ∃ (v : Option Value) (m' : Mem), o = .returned v ∧ Post v m' ∧ kRep G m' t.heap
/-- the locals as a list: what is known of each -/
def kpr : Nat → List (Option Value) → List (Nat × Value)
  | _, [] => []
  | i, none :: t => kpr (i + 1) t
  | i, some v :: t => (i, v) :: kpr (i + 1) t
theorem kpr_mem {L : List (Option Value)} : ∀ {i j : Nat} {v : Value}, (j, v) ∈ kpr i L → ∃ k, j = i + k ∧ L[k]? = some (some v) := by
  induction L with
  | nil => intro i j v h; cases h
  | cons x t ih =>
    intro i j v h
    cases x with
    | none =>
      obtain ⟨k, h1, h2⟩ := ih h
      exact ⟨k + 1, by omega, h2⟩
    | some w =>
      rcases List.mem_cons.mp h with e | h
      · cases e
        exact ⟨0, rfl, rfl⟩
      · obtain ⟨k, h1, h2⟩ := ih h
        exact ⟨k + 1, by omega, h2⟩
theorem kpr_of {L : List (Option Value)} : ∀ {i k : Nat} {v : Value}, L[k]? = some (some v) → (i + k, v) ∈ kpr i L := by
  induction L with
  | nil => intro i k v h; simp at h
  | cons x t ih =>
    intro i k v h
    cases k with
    | zero =>
      simp at h
      subst h
      exact List.mem_cons_self
    | succ k =>
      have h' : t[k]? = some (some v) := by simpa using h
      have h2 := ih (i := i + 1) h'
      have e : i + 1 + k = i + (k + 1) := by omega
      rw [e] at h2
      cases x with
      | none => exact h2
      | some w => exact List.mem_cons_of_mem _ h2
def kls (nL : Nat) (L : List (Option Value)) (ls : Array Slot) : Prop := lv_has ls nL (kpr 0 L) ∧ L.length = nL
theorem kls_at {nL : Nat} {L : List (Option Value)} {ls : Array Slot} (h : kls nL L ls) {i : Nat} {v : Value} (hi : L[i]? = some (some v)) : ls[i]? = some (.val v) := by
  have h1 := h.1.2.2 (0 + i, v) (kpr_of hi)
  rwa [Nat.zero_add] at h1
theorem lv_has_of {ls : Array Slot} {nL : Nat} {l l' : List (Nat × Value)} (h : lv_has ls nL l) (hs : ∀ q ∈ l', q ∈ l) : lv_has ls nL l' := ⟨h.1, h.2.1, fun q hq => h.2.2 q (hs q hq)⟩
/-- no long stands ahead of the place -/
def klo (L : List (Option Value)) : Nat → Bool
  | 0 => true
  | k + 1 => match L[k]? with
    | some (some v) => v.category == 1
    | _ => true
theorem kls_set1 {nL : Nat} {L : List (Option Value)} {ls' : Array Slot} {i : Nat} {v : Value} {o : Option Value} (hL : L.length = nL) (hi : L[i]? = some o) (hk : klo L i = true)
    (h : lv_has ls' nL ((i, v) :: (kpr 0 L).filter (fun q => !(q.1 == i) && !(q.1 + 1 == i && q.2.category == 2)))) : kls nL (L.set i (some v)) ls' := by
  refine ⟨lv_has_of h ?_, by rw [List.length_set]; exact hL⟩
  rintro ⟨j, w⟩ hq
  obtain ⟨k, h1, h2⟩ := kpr_mem hq
  rw [Nat.zero_add] at h1
  subst h1
  by_cases e : i = j
  · subst e
    have hlt : i < L.length := (List.getElem?_eq_some_iff.mp hi).1
    rw [List.getElem?_set_self hlt] at h2
    cases h2
    exact List.mem_cons_self
  · rw [List.getElem?_set_ne e] at h2
    refine List.mem_cons_of_mem _ (List.mem_filter.mpr ⟨by have := kpr_of (i := 0) h2; rwa [Nat.zero_add] at this, ?_⟩)
    have e' : (j == i) = false := by simp [Ne.symm e]
    have e2 : (j + 1 == i && w.category == 2) = false := by
      by_cases hj : j + 1 = i
      · subst hj
        have hc : w.category = 1 := by simpa [klo, h2] using hk
        simp [hc]
      · simp [hj]
    show (!(j == i) && !(j + 1 == i && w.category == 2)) = true
    rw [e', e2]
    rfl
theorem kls_set2 {nL : Nat} {L : List (Option Value)} {ls' : Array Slot} {i : Nat} {v : Value} {o : Option Value} (hL : L.length = nL) (hi : L[i]? = some o) (hk : klo L i = true)
    (h : lv_has ls' nL ((i, v) :: (kpr 0 L).filter (fun q => !(q.1 == i) && (!(q.1 == i + 1) && !(q.1 + 1 == i && q.2.category == 2))))) : kls nL ((L.set i (some v)).set (i + 1) none) ls' := by
  refine ⟨lv_has_of h ?_, by rw [List.length_set, List.length_set]; exact hL⟩
  rintro ⟨j, w⟩ hq
  obtain ⟨k, h1, h2⟩ := kpr_mem hq
  rw [Nat.zero_add] at h1
  subst h1
  by_cases e1 : i + 1 = j
  · subst e1
    rw [List.getElem?_set] at h2
    split at h2
    · split at h2 <;> cases h2
    · omega
  rw [List.getElem?_set_ne e1] at h2
  by_cases e : i = j
  · subst e
    have hlt : i < L.length := (List.getElem?_eq_some_iff.mp hi).1
    rw [List.getElem?_set_self hlt] at h2
    cases h2
    exact List.mem_cons_self
  · rw [List.getElem?_set_ne e] at h2
    refine List.mem_cons_of_mem _ (List.mem_filter.mpr ⟨by have := kpr_of (i := 0) h2; rwa [Nat.zero_add] at this, ?_⟩)
    have e' : (j == i) = false := by simp [Ne.symm e]
    have e'' : (j == i + 1) = false := by simp [Ne.symm e1]
    have e2 : (j + 1 == i && w.category == 2) = false := by
      by_cases hj : j + 1 = i
      · subst hj
        have hc : w.category = 1 := by simpa [klo, h2] using hk
        simp [hc]
      · simp [hj]
    show (!(j == i) && (!(j == i + 1) && !(j + 1 == i && w.category == 2))) = true
    rw [e', e'', e2]
    rfl
def kini : List Value → List (Option Value)
  | [] => []
  | v :: vs => if v.category = 2 then some v :: none :: kini vs else some v :: kini vs
theorem kpr_none : ∀ (n i : Nat), kpr i (List.replicate n none) = [] := by
  intro n
  induction n with
  | zero => intro i; rfl
  | succ n ih => intro i; exact ih (i + 1)
theorem kpr_ini (n : Nat) (vs : List Value) : ∀ i : Nat, kpr i (kini vs ++ List.replicate n none) = lv_args i vs := by
  induction vs with
  | nil => intro i; exact kpr_none n i
  | cons v vs ih =>
    intro i
    by_cases h : v.category = 2
    · simp only [kini, h, if_true, lv_args, List.cons_append, kpr, ih]
    · simp only [kini, h, if_false, lv_args, List.cons_append, kpr, ih]
theorem kini_len (vs : List Value) : (kini vs).length = (lg_sl vs).length := by
  induction vs with
  | nil => rfl
  | cons v vs ih =>
    by_cases h : v.category = 2
    · simp only [kini, h, if_true, lg_sl, List.flatMap_cons, List.length_cons, List.length_append, List.length_nil]
      have := ih
      simp only [lg_sl] at this
      omega
    · simp only [kini, h, if_false, lg_sl, List.flatMap_cons, List.length_cons, List.length_append, List.length_nil]
      have := ih
      simp only [lg_sl] at this
      omega
/-- what a walk stands in, in one -/
abbrev Kx := Program × Launch × Env × Room × State × MethodId × Array Value × List Frame × Method × Code × Gh × (Option Value → Mem → Prop) × Nat × Nat × Nat
/-- the walk: at pc, with the locals L, the stack st, the memory m, cells and slots made, it comes to the end that the contract says -/
def kX (κ : Kx) (m : Mem) (L : List (Option Value)) (cells slots pc : Nat) (st : List Value) : Prop := match κ with
  | (p, l, e, R, s, mm, args, below, meth, c, G, Post, mc, ms, nL) => ∀ (H : Heap) (locs : List Loc) (ls : Array Slot), kRep G m H → (∀ q ∈ locs, gz G ≤ q.base) → kls nL L ls → W p l e R s mm args below meth c H locs cells slots (MQ below (kQ G Post) args s mc ms (fun q => gz G ≤ q)) (F0 mm pc ls st)
def krm (lev mc ms : Nat) : Room := { frames := lev, cells := mc, slots := ms, locals := 60 * lev }
def kC (κ : Kx) (l : Launch) (G : Gh) (y : MethodName) (cc : ByteArray) (ret : Option FieldType) (nL lev mc ms : Nat) (Post : Option Value → Mem → Prop) : Prop := match κ with
  | (p, l', _, R, s, mm, args, _, meth, c, G', P', mc', ms', nL') => l' = l ∧ G' = G ∧ P' = Post ∧ mc' = mc ∧ ms' = ms ∧ nL' = nL ∧ R = krm lev mc ms ∧ p.tables.exec = Jvm.exec ∧ c.code = cc ∧ meth.sig.returnType = ret ∧ meth.locks = false ∧ c.maxLocals = nL ∧ s.vm.findClass y.cls = some mm.cls ∧ meth.name = y.name ∧ (∀ w ∈ lw_all, w.before args s = true) ∧ (gS G).WarmedH s.vm ∧ kG G
def kPc (G : Gh) (av : List Value) (m : Mem) : Array Value → State → Prop := fun a U => a = av.toArray ∧ kRep G m U.heap ∧ (gS G).WarmedH U.vm
theorem kPc_blind {G : Gh} {av : List Value} {m : Mem} : FrameBlind (kPc G av m) := fun _ _ _ _ q => ⟨q.1, q.2.1, q.2.2⟩
/-- a method's contract: called with av on the memory m it returns v with m', Post v m'; at most mc cells of ms slots are made; its level bounds the frames -/
def kM (l : Launch) (G : Gh) (y : MethodName) (b : ByteArray) (nL : Nat) (ret : Option FieldType) (lev mc ms : Nat) (av : List Value) (m : Mem) (Post : Option Value → Mem → Prop) : Prop := Met l y (ws_ y b nL ret) (krm lev mc ms) (kPc G av m) (kQ G Post) mc ms (fun q => gz G ≤ q)
theorem kM.of {l : Launch} {G : Gh} {y : MethodName} {b : ByteArray} {nL : Nat} {ret : Option FieldType} {lev mc ms : Nat} {av : List Value} {m : Mem} {Post : Option Value → Mem → Prop} (hG : kG G) (hy : plainName y.cls = true) (n0 : Nat) (hn : (kini av).length + n0 = nL) (h : ∀ κ : Kx, kC κ l G y b ret nL lev mc ms Post → kX κ m (kini av ++ List.replicate n0 none) 0 0 0 []) : kM l G y b nL ret lev mc ms av m Post := by
  refine Met.ofW (cc := b) (maxL := nL) (ret := ret) hy rfl ?_
  intro p e s mm args below meth c s₁ B hml hP
  obtain ⟨rfl, hR, hW⟩ := hP
  have hts : ∀ w ∈ lw_all, w.before av.toArray s = true := fun w hw => atoms_spec (ws := ws_ y b nL ret) B.pre w (List.mem_cons_of_mem _ hw)
  have hk := h (p, l, e, krm lev mc ms, s, mm, av.toArray, below, meth, c, G, Post, mc, ms, nL) ⟨rfl, rfl, rfl, rfl, rfl, rfl, rfl, B.exec, B.bytes, B.returns, B.notSynchronized, hml, findClass_of_methodNamed B.named, (name_of_methodNamed B.named B.method).1, hts, hW, hG⟩
  rw [lg_entry_eq]
  have hl0 : (lg_sl av).length ≤ nL := by rw [← kini_len]; omega
  have hl := lv_entry av hl0
  rw [← kpr_ini n0 av 0] at hl
  exact hk s.heap [] _ hR (fun _ h => by cases h) ⟨hl, by simp; omega⟩
theorem kM.post {l : Launch} {G : Gh} {y : MethodName} {b : ByteArray} {nL : Nat} {ret : Option FieldType} {lev mc ms : Nat} {av : List Value} {m : Mem} {P P' : Option Value → Mem → Prop} (h : kM l G y b nL ret lev mc ms av m P) (hp : ∀ v m', P v m' → P' v m') : kM l G y b nL ret lev mc ms av m P' := by
  intro p e ha hc hk s mm args below hf happ hPc hK
  obtain ⟨k, o, h1, h2, h3, ⟨⟨v, m', e1, e2, e3⟩, hF⟩⟩ := h p e ha hc hk s mm args below hf happ hPc hK
  exact ⟨k, o, h1, h2, h3, ⟨v, m', e1, hp v m' e2, e3⟩, hF⟩
/-- an answer, the memory as it was -/
def kP (r : Value) (m : Mem) : Option Value → Mem → Prop := fun v m' => v = some r ∧ m' = m
/-- an int answer -/
def kPi (f : Int → Mem → Prop) : Option Value → Mem → Prop := fun v m' => ∃ z : Int, v = some (kI z) ∧ f z m'
def kPr (f : Value → Mem → Prop) : Option Value → Mem → Prop := fun v m' => ∃ r : Value, v = some r ∧ f r m'
def kPv (f : Mem → Prop) : Option Value → Mem → Prop := fun v m' => v = none ∧ f m'
theorem kX.wide {κ : Kx} {m : Mem} {L : List (Option Value)} {c1 s1 c2 s2 pc : Nat} {st : List Value} (h1 : c1 ≤ c2) (h2 : s1 ≤ s2) (k : kX κ m L c2 s2 pc st) : kX κ m L c1 s1 pc st := by
  obtain ⟨p, l', e, R, s, mm, args, below, meth, c, G', P', mc', ms', nL'⟩ := κ
  intro H locs ls hR hloc hls
  exact W.widen h1 h2 (k H locs ls hR hloc hls)
theorem kX.eq {κ : Kx} {m : Mem} {L L' : List (Option Value)} {c s pc : Nat} {st st' : List Value} (k : kX κ m L' c s pc st') (h1 : L = L') (h2 : st = st') : kX κ m L c s pc st := by subst h1; subst h2; exact k
/-- fewer locals are known -/
theorem kX.less {κ : Kx} {m : Mem} {L L' : List (Option Value)} {c s pc : Nat} {st : List Value} (hl : L'.length = L.length) (hs : ∀ (i : Nat) (v : Value), L'[i]? = some (some v) → L[i]? = some (some v)) (k : kX κ m L' c s pc st) : kX κ m L c s pc st := by
  obtain ⟨p, l', e, R, s, mm, args, below, meth, c, G', P', mc', ms', nL'⟩ := κ
  intro H locs ls hR hloc hls
  refine k H locs ls hR hloc ⟨lv_has_of hls.1 ?_, by rw [hl]; exact hls.2⟩
  rintro ⟨j, w⟩ hq
  obtain ⟨i, h1, h2⟩ := kpr_mem hq
  subst h1
  exact kpr_of (hs i w h2)

theorem x_iconst {κ : Kx} {l : Launch} {G : Gh} {y : MethodName} {cc : ByteArray} {ret : Option FieldType} {nL lev mc ms : Nat} {Post : Option Value → Mem → Prop} (C : kC κ l G y cc ret nL lev mc ms Post) {m : Mem} {L : List (Option Value)} {cells slots pc : Nat} {st : List Value} (pc' : Nat) {n : Int} (hd : decode cc pc = .ok (.iconst n, 1)) (hp : pc + 1 = pc') (k : kX κ m L cells slots pc' (kI n :: st)) : kX κ m L cells slots pc (st) := by
  subst hp
  obtain ⟨p, l', e, R, s, mm, args, below, meth, c, G', P', mc', ms', nL'⟩ := κ
  obtain ⟨rfl, rfl, rfl, rfl, rfl, rfl, rfl, hx, hb, hr, hlk, hml, hown, hnm, hts, hW, hG⟩ := C
  intro H locs ls hR hloc hls
  exact lv_iconst hx hb hd rfl (k H locs ls hR hloc hls)
theorem x_bipush {κ : Kx} {l : Launch} {G : Gh} {y : MethodName} {cc : ByteArray} {ret : Option FieldType} {nL lev mc ms : Nat} {Post : Option Value → Mem → Prop} (C : kC κ l G y cc ret nL lev mc ms Post) {m : Mem} {L : List (Option Value)} {cells slots pc : Nat} {st : List Value} (pc' : Nat) {n : Int} (hd : decode cc pc = .ok (.bipush n, 2)) (hv : (Int8.ofInt n).toInt32 = Int32.ofInt n) (hp : pc + 2 = pc') (k : kX κ m L cells slots pc' (kI n :: st)) : kX κ m L cells slots pc (st) := by
  subst hp
  obtain ⟨p, l', e, R, s, mm, args, below, meth, c, G', P', mc', ms', nL'⟩ := κ
  obtain ⟨rfl, rfl, rfl, rfl, rfl, rfl, rfl, hx, hb, hr, hlk, hml, hown, hnm, hts, hW, hG⟩ := C
  intro H locs ls hR hloc hls
  exact lv_bipush hx hb hd hv (k H locs ls hR hloc hls)
theorem x_sipush {κ : Kx} {l : Launch} {G : Gh} {y : MethodName} {cc : ByteArray} {ret : Option FieldType} {nL lev mc ms : Nat} {Post : Option Value → Mem → Prop} (C : kC κ l G y cc ret nL lev mc ms Post) {m : Mem} {L : List (Option Value)} {cells slots pc : Nat} {st : List Value} (pc' : Nat) {n : Int} (hd : decode cc pc = .ok (.sipush n, 3)) (hv : (Int16.ofInt n).toInt32 = Int32.ofInt n) (hp : pc + 3 = pc') (k : kX κ m L cells slots pc' (kI n :: st)) : kX κ m L cells slots pc (st) := by
  subst hp
  obtain ⟨p, l', e, R, s, mm, args, below, meth, c, G', P', mc', ms', nL'⟩ := κ
  obtain ⟨rfl, rfl, rfl, rfl, rfl, rfl, rfl, hx, hb, hr, hlk, hml, hown, hnm, hts, hW, hG⟩ := C
  intro H locs ls hR hloc hls
  exact lv_sipush hx hb hd hv (k H locs ls hR hloc hls)
theorem x_null {κ : Kx} {l : Launch} {G : Gh} {y : MethodName} {cc : ByteArray} {ret : Option FieldType} {nL lev mc ms : Nat} {Post : Option Value → Mem → Prop} (C : kC κ l G y cc ret nL lev mc ms Post) {m : Mem} {L : List (Option Value)} {cells slots pc : Nat} {st : List Value} (pc' : Nat)  (hd : decode cc pc = .ok (.aconst_null, 1)) (hp : pc + 1 = pc') (k : kX κ m L cells slots pc' (.null :: st)) : kX κ m L cells slots pc (st) := by
  subst hp
  obtain ⟨p, l', e, R, s, mm, args, below, meth, c, G', P', mc', ms', nL'⟩ := κ
  obtain ⟨rfl, rfl, rfl, rfl, rfl, rfl, rfl, hx, hb, hr, hlk, hml, hown, hnm, hts, hW, hG⟩ := C
  intro H locs ls hR hloc hls
  exact lv_null hx hb hd (k H locs ls hR hloc hls)
theorem x_lconst {κ : Kx} {l : Launch} {G : Gh} {y : MethodName} {cc : ByteArray} {ret : Option FieldType} {nL lev mc ms : Nat} {Post : Option Value → Mem → Prop} (C : kC κ l G y cc ret nL lev mc ms Post) {m : Mem} {L : List (Option Value)} {cells slots pc : Nat} {st : List Value} (pc' : Nat) {n : Fin 2} (hd : decode cc pc = .ok (.lconst n, 1)) (hp : pc + 1 = pc') (k : kX κ m L cells slots pc' (.long (Int64.ofNat (n : Nat)) :: st)) : kX κ m L cells slots pc (st) := by
  subst hp
  obtain ⟨p, l', e, R, s, mm, args, below, meth, c, G', P', mc', ms', nL'⟩ := κ
  obtain ⟨rfl, rfl, rfl, rfl, rfl, rfl, rfl, hx, hb, hr, hlk, hml, hown, hnm, hts, hW, hG⟩ := C
  intro H locs ls hR hloc hls
  exact lv_lconst hx hb hd rfl (k H locs ls hR hloc hls)
theorem x_iload_n {κ : Kx} {l : Launch} {G : Gh} {y : MethodName} {cc : ByteArray} {ret : Option FieldType} {nL lev mc ms : Nat} {Post : Option Value → Mem → Prop} (C : kC κ l G y cc ret nL lev mc ms Post) {m : Mem} {L : List (Option Value)} {cells slots pc : Nat} {st : List Value} (pc' : Nat) {k' : Fin 4} {x : Int32} (hd : decode cc pc = .ok (.iload_n k', 1)) (hl : L[(k' : Nat)]? = some (some (.int x))) (hp : pc + 1 = pc') (k : kX κ m L cells slots pc' (.int x :: st)) : kX κ m L cells slots pc (st) := by
  subst hp
  obtain ⟨p, l', e, R, s, mm, args, below, meth, c, G', P', mc', ms', nL'⟩ := κ
  obtain ⟨rfl, rfl, rfl, rfl, rfl, rfl, rfl, hx, hb, hr, hlk, hml, hown, hnm, hts, hW, hG⟩ := C
  intro H locs ls hR hloc hls
  exact lv_iload_n hx hb hd rfl (kls_at hls hl) (k H locs ls hR hloc hls)
theorem x_iload {κ : Kx} {l : Launch} {G : Gh} {y : MethodName} {cc : ByteArray} {ret : Option FieldType} {nL lev mc ms : Nat} {Post : Option Value → Mem → Prop} (C : kC κ l G y cc ret nL lev mc ms Post) {m : Mem} {L : List (Option Value)} {cells slots pc : Nat} {st : List Value} (pc' : Nat) {i : Nat} {x : Int32} (hd : decode cc pc = .ok (.iload i, 2)) (hl : L[i]? = some (some (.int x))) (hp : pc + 2 = pc') (k : kX κ m L cells slots pc' (.int x :: st)) : kX κ m L cells slots pc (st) := by
  subst hp
  obtain ⟨p, l', e, R, s, mm, args, below, meth, c, G', P', mc', ms', nL'⟩ := κ
  obtain ⟨rfl, rfl, rfl, rfl, rfl, rfl, rfl, hx, hb, hr, hlk, hml, hown, hnm, hts, hW, hG⟩ := C
  intro H locs ls hR hloc hls
  exact lv_iload hx hb hd (kls_at hls hl) (k H locs ls hR hloc hls)
theorem x_lload_n {κ : Kx} {l : Launch} {G : Gh} {y : MethodName} {cc : ByteArray} {ret : Option FieldType} {nL lev mc ms : Nat} {Post : Option Value → Mem → Prop} (C : kC κ l G y cc ret nL lev mc ms Post) {m : Mem} {L : List (Option Value)} {cells slots pc : Nat} {st : List Value} (pc' : Nat) {k' : Fin 4} {x : Int64} (hd : decode cc pc = .ok (.lload_n k', 1)) (hl : L[(k' : Nat)]? = some (some (.long x))) (hp : pc + 1 = pc') (k : kX κ m L cells slots pc' (.long x :: st)) : kX κ m L cells slots pc (st) := by
  subst hp
  obtain ⟨p, l', e, R, s, mm, args, below, meth, c, G', P', mc', ms', nL'⟩ := κ
  obtain ⟨rfl, rfl, rfl, rfl, rfl, rfl, rfl, hx, hb, hr, hlk, hml, hown, hnm, hts, hW, hG⟩ := C
  intro H locs ls hR hloc hls
  exact lv_lload_n hx hb hd rfl (kls_at hls hl) (k H locs ls hR hloc hls)
theorem x_lload {κ : Kx} {l : Launch} {G : Gh} {y : MethodName} {cc : ByteArray} {ret : Option FieldType} {nL lev mc ms : Nat} {Post : Option Value → Mem → Prop} (C : kC κ l G y cc ret nL lev mc ms Post) {m : Mem} {L : List (Option Value)} {cells slots pc : Nat} {st : List Value} (pc' : Nat) {i : Nat} {x : Int64} (hd : decode cc pc = .ok (.lload i, 2)) (hl : L[i]? = some (some (.long x))) (hp : pc + 2 = pc') (k : kX κ m L cells slots pc' (.long x :: st)) : kX κ m L cells slots pc (st) := by
  subst hp
  obtain ⟨p, l', e, R, s, mm, args, below, meth, c, G', P', mc', ms', nL'⟩ := κ
  obtain ⟨rfl, rfl, rfl, rfl, rfl, rfl, rfl, hx, hb, hr, hlk, hml, hown, hnm, hts, hW, hG⟩ := C
  intro H locs ls hR hloc hls
  exact lv_lload hx hb hd (kls_at hls hl) (k H locs ls hR hloc hls)
/-- a reference or null -/
def krf : Value → Bool
  | .ref _ => true
  | .null => true
  | _ => false
theorem krf_or {v : Value} (h : krf v = true) : (∃ a, v = .ref a) ∨ v = .null := by
  cases v <;> first | exact Or.inl ⟨_, rfl⟩ | exact Or.inr rfl | (cases h)
theorem x_aload_n {κ : Kx} {l : Launch} {G : Gh} {y : MethodName} {cc : ByteArray} {ret : Option FieldType} {nL lev mc ms : Nat} {Post : Option Value → Mem → Prop} (C : kC κ l G y cc ret nL lev mc ms Post) {m : Mem} {L : List (Option Value)} {cells slots pc : Nat} {st : List Value} (pc' : Nat) {k' : Fin 4} {v : Value} (hd : decode cc pc = .ok (.aload_n k', 1)) (hl : L[(k' : Nat)]? = some (some v)) (hv : krf v = true) (hp : pc + 1 = pc') (k : kX κ m L cells slots pc' (v :: st)) : kX κ m L cells slots pc (st) := by
  subst hp
  obtain ⟨p, l', e, R, s, mm, args, below, meth, c, G', P', mc', ms', nL'⟩ := κ
  obtain ⟨rfl, rfl, rfl, rfl, rfl, rfl, rfl, hx, hb, hr, hlk, hml, hown, hnm, hts, hW, hG⟩ := C
  intro H locs ls hR hloc hls
  rcases krf_or hv with ⟨a, rfl⟩ | rfl
  · exact lv_aload_n hx hb hd rfl (kls_at hls hl) (k H locs ls hR hloc hls)
  · exact lv_aload_nN hx hb hd rfl (kls_at hls hl) (k H locs ls hR hloc hls)
theorem x_aload {κ : Kx} {l : Launch} {G : Gh} {y : MethodName} {cc : ByteArray} {ret : Option FieldType} {nL lev mc ms : Nat} {Post : Option Value → Mem → Prop} (C : kC κ l G y cc ret nL lev mc ms Post) {m : Mem} {L : List (Option Value)} {cells slots pc : Nat} {st : List Value} (pc' : Nat) {i : Nat} {v : Value} (hd : decode cc pc = .ok (.aload i, 2)) (hl : L[i]? = some (some v)) (hv : krf v = true) (hp : pc + 2 = pc') (k : kX κ m L cells slots pc' (v :: st)) : kX κ m L cells slots pc (st) := by
  subst hp
  obtain ⟨p, l', e, R, s, mm, args, below, meth, c, G', P', mc', ms', nL'⟩ := κ
  obtain ⟨rfl, rfl, rfl, rfl, rfl, rfl, rfl, hx, hb, hr, hlk, hml, hown, hnm, hts, hW, hG⟩ := C
  intro H locs ls hR hloc hls
  rcases krf_or hv with ⟨a, rfl⟩ | rfl
  · exact lv_aload hx hb hd (kls_at hls hl) (k H locs ls hR hloc hls)
  · exact lv_aloadN hx hb hd (kls_at hls hl) (k H locs ls hR hloc hls)
theorem x_istore_n {κ : Kx} {l : Launch} {G : Gh} {y : MethodName} {cc : ByteArray} {ret : Option FieldType} {nL lev mc ms : Nat} {Post : Option Value → Mem → Prop} (C : kC κ l G y cc ret nL lev mc ms Post) {m : Mem} {L : List (Option Value)} {cells slots pc : Nat} {st : List Value} (pc' : Nat) {k' : Fin 4} {x : Int32} (i : Nat) (hki : (k' : Nat) = i) (hd : decode cc pc = .ok (.istore_n k', 1)) {o : Option Value} (hi : L[i]? = some o) (hk : klo L i = true) (hp : pc + 1 = pc') (k : kX κ m (L.set i (some (.int x))) cells slots pc' st) : kX κ m L cells slots pc (.int x :: st) := by
  subst hp
  obtain ⟨p, l', e, R, s, mm, args, below, meth, c, G', P', mc', ms', nL'⟩ := κ
  obtain ⟨rfl, rfl, rfl, rfl, rfl, rfl, rfl, hx, hb, hr, hlk, hml, hown, hnm, hts, hW, hG⟩ := C
  intro H locs ls hR hloc hls
  have hlt : i < nL' := by rw [← hls.2]; exact (List.getElem?_eq_some_iff.mp hi).1
  exact lv_istore_n hx hb hd hki hls.1 hlt rfl (fun ls1 h1 => k H locs ls1 hR hloc (kls_set1 hls.2 hi hk h1))
theorem x_istore {κ : Kx} {l : Launch} {G : Gh} {y : MethodName} {cc : ByteArray} {ret : Option FieldType} {nL lev mc ms : Nat} {Post : Option Value → Mem → Prop} (C : kC κ l G y cc ret nL lev mc ms Post) {m : Mem} {L : List (Option Value)} {cells slots pc : Nat} {st : List Value} (pc' : Nat) {i : Nat} {x : Int32} (hd : decode cc pc = .ok (.istore i, 2)) {o : Option Value} (hi : L[i]? = some o) (hk : klo L i = true) (hp : pc + 2 = pc') (k : kX κ m (L.set i (some (.int x))) cells slots pc' st) : kX κ m L cells slots pc (.int x :: st) := by
  subst hp
  obtain ⟨p, l', e, R, s, mm, args, below, meth, c, G', P', mc', ms', nL'⟩ := κ
  obtain ⟨rfl, rfl, rfl, rfl, rfl, rfl, rfl, hx, hb, hr, hlk, hml, hown, hnm, hts, hW, hG⟩ := C
  intro H locs ls hR hloc hls
  have hlt : i < nL' := by rw [← hls.2]; exact (List.getElem?_eq_some_iff.mp hi).1
  exact lv_istore hx hb hd hls.1 hlt rfl (fun ls1 h1 => k H locs ls1 hR hloc (kls_set1 hls.2 hi hk h1))
theorem x_lstore_n {κ : Kx} {l : Launch} {G : Gh} {y : MethodName} {cc : ByteArray} {ret : Option FieldType} {nL lev mc ms : Nat} {Post : Option Value → Mem → Prop} (C : kC κ l G y cc ret nL lev mc ms Post) {m : Mem} {L : List (Option Value)} {cells slots pc : Nat} {st : List Value} (pc' : Nat) {k' : Fin 4} {x : Int64} (i : Nat) (hki : (k' : Nat) = i) (hd : decode cc pc = .ok (.lstore_n k', 1)) {o : Option Value} (hi : L[i]? = some o) (hk : klo L i = true) {o2 : Option Value} (hi2 : L[i + 1]? = some o2) (hp : pc + 1 = pc') (k : kX κ m ((L.set i (some (.long x))).set (i + 1) none) cells slots pc' st) : kX κ m L cells slots pc (.long x :: st) := by
  subst hp
  obtain ⟨p, l', e, R, s, mm, args, below, meth, c, G', P', mc', ms', nL'⟩ := κ
  obtain ⟨rfl, rfl, rfl, rfl, rfl, rfl, rfl, hx, hb, hr, hlk, hml, hown, hnm, hts, hW, hG⟩ := C
  intro H locs ls hR hloc hls
  have hlt : i + 1 < nL' := by rw [← hls.2]; exact (List.getElem?_eq_some_iff.mp hi2).1
  exact lv_lstore_n hx hb hd hki hls.1 hlt rfl (fun ls1 h1 => k H locs ls1 hR hloc (kls_set2 hls.2 hi hk h1))
theorem x_lstore {κ : Kx} {l : Launch} {G : Gh} {y : MethodName} {cc : ByteArray} {ret : Option FieldType} {nL lev mc ms : Nat} {Post : Option Value → Mem → Prop} (C : kC κ l G y cc ret nL lev mc ms Post) {m : Mem} {L : List (Option Value)} {cells slots pc : Nat} {st : List Value} (pc' : Nat) {i : Nat} {x : Int64} (hd : decode cc pc = .ok (.lstore i, 2)) {o : Option Value} (hi : L[i]? = some o) (hk : klo L i = true) {o2 : Option Value} (hi2 : L[i + 1]? = some o2) (hp : pc + 2 = pc') (k : kX κ m ((L.set i (some (.long x))).set (i + 1) none) cells slots pc' st) : kX κ m L cells slots pc (.long x :: st) := by
  subst hp
  obtain ⟨p, l', e, R, s, mm, args, below, meth, c, G', P', mc', ms', nL'⟩ := κ
  obtain ⟨rfl, rfl, rfl, rfl, rfl, rfl, rfl, hx, hb, hr, hlk, hml, hown, hnm, hts, hW, hG⟩ := C
  intro H locs ls hR hloc hls
  have hlt : i + 1 < nL' := by rw [← hls.2]; exact (List.getElem?_eq_some_iff.mp hi2).1
  exact lv_lstore hx hb hd hls.1 hlt rfl (fun ls1 h1 => k H locs ls1 hR hloc (kls_set2 hls.2 hi hk h1))
theorem x_astore_n {κ : Kx} {l : Launch} {G : Gh} {y : MethodName} {cc : ByteArray} {ret : Option FieldType} {nL lev mc ms : Nat} {Post : Option Value → Mem → Prop} (C : kC κ l G y cc ret nL lev mc ms Post) {m : Mem} {L : List (Option Value)} {cells slots pc : Nat} {st : List Value} (pc' : Nat) {k' : Fin 4} {v : Value} (i : Nat) (hki : (k' : Nat) = i) (hd : decode cc pc = .ok (.astore_n k', 1)) {o : Option Value} (hi : L[i]? = some o) (hk : klo L i = true) (hv : krf v = true) (hp : pc + 1 = pc') (k : kX κ m (L.set i (some (v))) cells slots pc' st) : kX κ m L cells slots pc (v :: st) := by
  subst hp
  obtain ⟨p, l', e, R, s, mm, args, below, meth, c, G', P', mc', ms', nL'⟩ := κ
  obtain ⟨rfl, rfl, rfl, rfl, rfl, rfl, rfl, hx, hb, hr, hlk, hml, hown, hnm, hts, hW, hG⟩ := C
  intro H locs ls hR hloc hls
  have hlt : i < nL' := by rw [← hls.2]; exact (List.getElem?_eq_some_iff.mp hi).1
  rcases krf_or hv with ⟨a, rfl⟩ | rfl
  · exact lv_astore_n hx hb hd hki hls.1 hlt rfl (fun ls1 h1 => k H locs ls1 hR hloc (kls_set1 hls.2 hi hk h1))
  · exact lv_astore_nN hx hb hd hki hls.1 hlt rfl (fun ls1 h1 => k H locs ls1 hR hloc (kls_set1 hls.2 hi hk h1))
theorem x_astore {κ : Kx} {l : Launch} {G : Gh} {y : MethodName} {cc : ByteArray} {ret : Option FieldType} {nL lev mc ms : Nat} {Post : Option Value → Mem → Prop} (C : kC κ l G y cc ret nL lev mc ms Post) {m : Mem} {L : List (Option Value)} {cells slots pc : Nat} {st : List Value} (pc' : Nat) {i : Nat} {v : Value} (hd : decode cc pc = .ok (.astore i, 2)) {o : Option Value} (hi : L[i]? = some o) (hk : klo L i = true) (hv : krf v = true) (hp : pc + 2 = pc') (k : kX κ m (L.set i (some (v))) cells slots pc' st) : kX κ m L cells slots pc (v :: st) := by
  subst hp
  obtain ⟨p, l', e, R, s, mm, args, below, meth, c, G', P', mc', ms', nL'⟩ := κ
  obtain ⟨rfl, rfl, rfl, rfl, rfl, rfl, rfl, hx, hb, hr, hlk, hml, hown, hnm, hts, hW, hG⟩ := C
  intro H locs ls hR hloc hls
  have hlt : i < nL' := by rw [← hls.2]; exact (List.getElem?_eq_some_iff.mp hi).1
  rcases krf_or hv with ⟨a, rfl⟩ | rfl
  · exact lv_astore hx hb hd hls.1 hlt rfl (fun ls1 h1 => k H locs ls1 hR hloc (kls_set1 hls.2 hi hk h1))
  · exact lv_astoreN hx hb hd hls.1 hlt rfl (fun ls1 h1 => k H locs ls1 hR hloc (kls_set1 hls.2 hi hk h1))
theorem x_iinc {κ : Kx} {l : Launch} {G : Gh} {y : MethodName} {cc : ByteArray} {ret : Option FieldType} {nL lev mc ms : Nat} {Post : Option Value → Mem → Prop} (C : kC κ l G y cc ret nL lev mc ms Post) {m : Mem} {L : List (Option Value)} {cells slots pc : Nat} {st : List Value} (pc' : Nat) {i : Nat} {n x : Int} (hd : decode cc pc = .ok (.iinc i n, 3)) (hi : L[i]? = some (some (kI x))) (hk : klo L i = true) (hp : pc + 3 = pc') (k : kX κ m (L.set i (some (kI (x + n)))) cells slots pc' st) : kX κ m L cells slots pc st := by
  subst hp
  obtain ⟨p, l', e, R, s, mm, args, below, meth, c, G', P', mc', ms', nL'⟩ := κ
  obtain ⟨rfl, rfl, rfl, rfl, rfl, rfl, rfl, hx, hb, hr, hlk, hml, hown, hnm, hts, hW, hG⟩ := C
  intro H locs ls hR hloc hls
  have hlt : i < nL' := by rw [← hls.2]; exact (List.getElem?_eq_some_iff.mp hi).1
  have hmem : (i, kI x) ∈ kpr 0 L := by have := kpr_of (i := 0) hi; rwa [Nat.zero_add] at this
  obtain ⟨j, hj⟩ := List.getElem?_of_mem hmem
  exact lv_iinc (k := j) hx hb hd hls.1 hj (by rw [Int32.ofInt_add]) hlt rfl (fun ls1 h1 => k H locs ls1 hR hloc (kls_set1 hls.2 hi hk h1))
theorem x_iadd {κ : Kx} {l : Launch} {G : Gh} {y : MethodName} {cc : ByteArray} {ret : Option FieldType} {nL lev mc ms : Nat} {Post : Option Value → Mem → Prop} (C : kC κ l G y cc ret nL lev mc ms Post) {m : Mem} {L : List (Option Value)} {cells slots pc : Nat} {st : List Value} (pc' : Nat) {x y' : Int} (hd : decode cc pc = .ok (.iadd, 1)) (hp : pc + 1 = pc') (k : kX κ m L cells slots pc' (kI (x + y') :: st)) : kX κ m L cells slots pc (kI y' :: kI x :: st) := by
  subst hp
  obtain ⟨p, l', e, R, s, mm, args, below, meth, c, G', P', mc', ms', nL'⟩ := κ
  obtain ⟨rfl, rfl, rfl, rfl, rfl, rfl, rfl, hx, hb, hr, hlk, hml, hown, hnm, hts, hW, hG⟩ := C
  intro H locs ls hR hloc hls
  have k1 := k H locs ls hR hloc hls
  rw [show kI (x + y') = Value.int (Int32.ofInt x + Int32.ofInt y') from congrArg Value.int (Int32.ofInt_add x y')] at k1
  exact lv_iadd hx hb hd k1
theorem x_isub {κ : Kx} {l : Launch} {G : Gh} {y : MethodName} {cc : ByteArray} {ret : Option FieldType} {nL lev mc ms : Nat} {Post : Option Value → Mem → Prop} (C : kC κ l G y cc ret nL lev mc ms Post) {m : Mem} {L : List (Option Value)} {cells slots pc : Nat} {st : List Value} (pc' : Nat) {x y' : Int} (hd : decode cc pc = .ok (.isub, 1)) (hp : pc + 1 = pc') (k : kX κ m L cells slots pc' (kI (x - y') :: st)) : kX κ m L cells slots pc (kI y' :: kI x :: st) := by
  subst hp
  obtain ⟨p, l', e, R, s, mm, args, below, meth, c, G', P', mc', ms', nL'⟩ := κ
  obtain ⟨rfl, rfl, rfl, rfl, rfl, rfl, rfl, hx, hb, hr, hlk, hml, hown, hnm, hts, hW, hG⟩ := C
  intro H locs ls hR hloc hls
  have k1 := k H locs ls hR hloc hls
  rw [show kI (x - y') = Value.int (Int32.ofInt x - Int32.ofInt y') from congrArg Value.int (Int32.ofInt_sub x y')] at k1
  exact lv_isub hx hb hd k1
theorem x_imul {κ : Kx} {l : Launch} {G : Gh} {y : MethodName} {cc : ByteArray} {ret : Option FieldType} {nL lev mc ms : Nat} {Post : Option Value → Mem → Prop} (C : kC κ l G y cc ret nL lev mc ms Post) {m : Mem} {L : List (Option Value)} {cells slots pc : Nat} {st : List Value} (pc' : Nat) {x y' : Int} (hd : decode cc pc = .ok (.imul, 1)) (hp : pc + 1 = pc') (k : kX κ m L cells slots pc' (kI (x * y') :: st)) : kX κ m L cells slots pc (kI y' :: kI x :: st) := by
  subst hp
  obtain ⟨p, l', e, R, s, mm, args, below, meth, c, G', P', mc', ms', nL'⟩ := κ
  obtain ⟨rfl, rfl, rfl, rfl, rfl, rfl, rfl, hx, hb, hr, hlk, hml, hown, hnm, hts, hW, hG⟩ := C
  intro H locs ls hR hloc hls
  have k1 := k H locs ls hR hloc hls
  rw [show kI (x * y') = Value.int (Int32.ofInt x * Int32.ofInt y') from congrArg Value.int (Int32.ofInt_mul x y')] at k1
  exact lv_imul hx hb hd k1
theorem x_ineg {κ : Kx} {l : Launch} {G : Gh} {y : MethodName} {cc : ByteArray} {ret : Option FieldType} {nL lev mc ms : Nat} {Post : Option Value → Mem → Prop} (C : kC κ l G y cc ret nL lev mc ms Post) {m : Mem} {L : List (Option Value)} {cells slots pc : Nat} {st : List Value} (pc' : Nat) {x : Int} (hd : decode cc pc = .ok (.ineg, 1)) (hp : pc + 1 = pc') (k : kX κ m L cells slots pc' (kI (-x) :: st)) : kX κ m L cells slots pc (kI x :: st) := by
  subst hp
  obtain ⟨p, l', e, R, s, mm, args, below, meth, c, G', P', mc', ms', nL'⟩ := κ
  obtain ⟨rfl, rfl, rfl, rfl, rfl, rfl, rfl, hx, hb, hr, hlk, hml, hown, hnm, hts, hW, hG⟩ := C
  intro H locs ls hR hloc hls
  have k1 := k H locs ls hR hloc hls
  rw [show kI (-x) = Value.int (-Int32.ofInt x) from congrArg Value.int (Int32.ofInt_neg x)] at k1
  exact lv_ineg hx hb hd k1
theorem x_dup {κ : Kx} {l : Launch} {G : Gh} {y : MethodName} {cc : ByteArray} {ret : Option FieldType} {nL lev mc ms : Nat} {Post : Option Value → Mem → Prop} (C : kC κ l G y cc ret nL lev mc ms Post) {m : Mem} {L : List (Option Value)} {cells slots pc : Nat} {st : List Value} (pc' : Nat) {v : Value} (hd : decode cc pc = .ok (.dup, 1)) (hv : v.category = 1) (hp : pc + 1 = pc') (k : kX κ m L cells slots pc' (v :: v :: st)) : kX κ m L cells slots pc (v :: st) := by
  subst hp
  obtain ⟨p, l', e, R, s, mm, args, below, meth, c, G', P', mc', ms', nL'⟩ := κ
  obtain ⟨rfl, rfl, rfl, rfl, rfl, rfl, rfl, hx, hb, hr, hlk, hml, hown, hnm, hts, hW, hG⟩ := C
  intro H locs ls hR hloc hls
  exact lv_dup hx hb hd hv (k H locs ls hR hloc hls)
theorem x_pop {κ : Kx} {l : Launch} {G : Gh} {y : MethodName} {cc : ByteArray} {ret : Option FieldType} {nL lev mc ms : Nat} {Post : Option Value → Mem → Prop} (C : kC κ l G y cc ret nL lev mc ms Post) {m : Mem} {L : List (Option Value)} {cells slots pc : Nat} {st : List Value} (pc' : Nat) {v : Value} (hd : decode cc pc = .ok (.pop, 1)) (hv : v.category = 1) (hp : pc + 1 = pc') (k : kX κ m L cells slots pc' (st)) : kX κ m L cells slots pc (v :: st) := by
  subst hp
  obtain ⟨p, l', e, R, s, mm, args, below, meth, c, G', P', mc', ms', nL'⟩ := κ
  obtain ⟨rfl, rfl, rfl, rfl, rfl, rfl, rfl, hx, hb, hr, hlk, hml, hown, hnm, hts, hW, hG⟩ := C
  intro H locs ls hR hloc hls
  exact lv_pop hx hb hd hv (k H locs ls hR hloc hls)
theorem x_dup_x1 {κ : Kx} {l : Launch} {G : Gh} {y : MethodName} {cc : ByteArray} {ret : Option FieldType} {nL lev mc ms : Nat} {Post : Option Value → Mem → Prop} (C : kC κ l G y cc ret nL lev mc ms Post) {m : Mem} {L : List (Option Value)} {cells slots pc : Nat} {st : List Value} (pc' : Nat) {v w : Value} (hd : decode cc pc = .ok (.dup_x1, 1)) (hv : v.category = 1) (hw : w.category = 1) (hp : pc + 1 = pc') (k : kX κ m L cells slots pc' (v :: w :: v :: st)) : kX κ m L cells slots pc (v :: w :: st) := by
  subst hp
  obtain ⟨p, l', e, R, s, mm, args, below, meth, c, G', P', mc', ms', nL'⟩ := κ
  obtain ⟨rfl, rfl, rfl, rfl, rfl, rfl, rfl, hx, hb, hr, hlk, hml, hown, hnm, hts, hW, hG⟩ := C
  intro H locs ls hR hloc hls
  exact lv_dup_x1 hx hb hd hv hw (k H locs ls hR hloc hls)
theorem x_dup_x2 {κ : Kx} {l : Launch} {G : Gh} {y : MethodName} {cc : ByteArray} {ret : Option FieldType} {nL lev mc ms : Nat} {Post : Option Value → Mem → Prop} (C : kC κ l G y cc ret nL lev mc ms Post) {m : Mem} {L : List (Option Value)} {cells slots pc : Nat} {st : List Value} (pc' : Nat) {v w u : Value} (hd : decode cc pc = .ok (.dup_x2, 1)) (hv : v.category = 1) (hw : w.category = 1) (hu : u.category = 1) (hp : pc + 1 = pc') (k : kX κ m L cells slots pc' (v :: w :: u :: v :: st)) : kX κ m L cells slots pc (v :: w :: u :: st) := by
  subst hp
  obtain ⟨p, l', e, R, s, mm, args, below, meth, c, G', P', mc', ms', nL'⟩ := κ
  obtain ⟨rfl, rfl, rfl, rfl, rfl, rfl, rfl, hx, hb, hr, hlk, hml, hown, hnm, hts, hW, hG⟩ := C
  intro H locs ls hR hloc hls
  exact lv_dup_x2 hx hb hd hv hw hu (k H locs ls hR hloc hls)
theorem x_dup2_11 {κ : Kx} {l : Launch} {G : Gh} {y : MethodName} {cc : ByteArray} {ret : Option FieldType} {nL lev mc ms : Nat} {Post : Option Value → Mem → Prop} (C : kC κ l G y cc ret nL lev mc ms Post) {m : Mem} {L : List (Option Value)} {cells slots pc : Nat} {st : List Value} (pc' : Nat) {v w : Value} (hd : decode cc pc = .ok (.dup2, 1)) (hv : v.category = 1) (hw : w.category = 1) (hp : pc + 1 = pc') (k : kX κ m L cells slots pc' (v :: w :: v :: w :: st)) : kX κ m L cells slots pc (v :: w :: st) := by
  subst hp
  obtain ⟨p, l', e, R, s, mm, args, below, meth, c, G', P', mc', ms', nL'⟩ := κ
  obtain ⟨rfl, rfl, rfl, rfl, rfl, rfl, rfl, hx, hb, hr, hlk, hml, hown, hnm, hts, hW, hG⟩ := C
  intro H locs ls hR hloc hls
  exact lv_dup2_11 hx hb hd hv hw (k H locs ls hR hloc hls)
theorem k_lt {x y : Int} (hx : -2147483648 ≤ x ∧ x ≤ 2147483647) (hy : -2147483648 ≤ y ∧ y ≤ 2147483647) : Int32.ofInt x < Int32.ofInt y ↔ x < y := by
  rw [Int32.lt_iff_toInt_lt, Int32.toInt_ofInt_of_le (by omega) (by omega), Int32.toInt_ofInt_of_le (by omega) (by omega)]
theorem k_le {x y : Int} (hx : -2147483648 ≤ x ∧ x ≤ 2147483647) (hy : -2147483648 ≤ y ∧ y ≤ 2147483647) : Int32.ofInt x ≤ Int32.ofInt y ↔ x ≤ y := by
  rw [Int32.le_iff_toInt_le, Int32.toInt_ofInt_of_le (by omega) (by omega), Int32.toInt_ofInt_of_le (by omega) (by omega)]
theorem k_eq {x y : Int} (hx : -2147483648 ≤ x ∧ x ≤ 2147483647) (hy : -2147483648 ≤ y ∧ y ≤ 2147483647) : Int32.ofInt x = Int32.ofInt y ↔ x = y := by
  rw [← Int32.toInt_inj, Int32.toInt_ofInt_of_le (by omega) (by omega), Int32.toInt_ofInt_of_le (by omega) (by omega)]
theorem k_toInt {x : Int} (hx : -2147483648 ≤ x ∧ x ≤ 2147483647) : (Int32.ofInt x).toInt = x := Int32.toInt_ofInt_of_le (by omega) (by omega)
theorem k_ex (v : Int32) : ∃ z : Int, v = Int32.ofInt z ∧ -2147483648 ≤ z ∧ z ≤ 2147483647 := ⟨v.toInt, (Int32.ofInt_toInt v).symm, by have := v.le_toInt; omega, by have := v.toInt_lt; omega⟩
theorem k_clamp {x : Int} (h0 : 0 ≤ x) (h1 : x ≤ 2147483647) : (Int32.ofInt x).toNatClampNeg = x.toNat := by
  show (Int32.ofInt x).toInt.toNat = _
  rw [k_toInt ⟨by omega, h1⟩]
theorem k_nneg {x : Int} (h0 : 0 ≤ x) (h1 : x ≤ 2147483647) : ¬ Int32.ofInt x < 0 := by
  rw [Int32.lt_iff_toInt_lt, k_toInt ⟨by omega, h1⟩, Int32.toInt_zero]
  omega
theorem k_0 : (0 : Int32) = Int32.ofInt 0 := by decide +kernel
theorem k_div {x y : Int} (h0 : 0 ≤ x) (h1 : x ≤ 2147483647) (h2 : 0 < y) (h3 : y ≤ 2147483647) : Int32.ofInt x / Int32.ofInt y = Int32.ofInt (x / y) := by
  have hq : 0 ≤ x / y := Int.ediv_nonneg h0 (by omega)
  have hq2 : x / y ≤ x := Int.ediv_le_self _ h0
  rw [← Int32.toInt_inj, Int32.toInt_div_of_ne_right, k_toInt ⟨by omega, h1⟩, k_toInt ⟨by omega, h3⟩, k_toInt ⟨by omega, by omega⟩, Int.tdiv_eq_ediv_of_nonneg h0]
  intro e
  have e2 := congrArg Int32.toInt e
  rw [k_toInt ⟨by omega, h3⟩] at e2
  have e3 : (-1 : Int32).toInt = -1 := by decide +kernel
  omega
theorem k_mod {x y : Int} (h0 : 0 ≤ x) (h1 : x ≤ 2147483647) (h2 : 0 < y) (h3 : y ≤ 2147483647) : Int32.ofInt x - Int32.ofInt x / Int32.ofInt y * Int32.ofInt y = Int32.ofInt (x % y) := by
  rw [k_div h0 h1 h2 h3, ← Int32.ofInt_mul, ← Int32.ofInt_sub]
  congr 1
  have := Int.emod_add_mul_ediv x y
  have e : x / y * y = y * (x / y) := Int.mul_comm _ _
  omega
theorem x_idiv {κ : Kx} {l : Launch} {G : Gh} {y : MethodName} {cc : ByteArray} {ret : Option FieldType} {nL lev mc ms : Nat} {Post : Option Value → Mem → Prop} (C : kC κ l G y cc ret nL lev mc ms Post) {m : Mem} {L : List (Option Value)} {cells slots pc : Nat} {st : List Value} (pc' : Nat) {x y' : Int} (hd : decode cc pc = .ok (.idiv, 1)) (hx0 : 0 ≤ x ∧ x ≤ 2147483647) (hy0 : 0 < y' ∧ y' ≤ 2147483647) (hp : pc + 1 = pc') (k : kX κ m L cells slots pc' (kI (x / y') :: st)) : kX κ m L cells slots pc (kI y' :: kI x :: st) := by
  subst hp
  obtain ⟨p, l', e, R, s, mm, args, below, meth, c, G', P', mc', ms', nL'⟩ := κ
  obtain ⟨rfl, rfl, rfl, rfl, rfl, rfl, rfl, hx, hb, hr, hlk, hml, hown, hnm, hts, hW, hG⟩ := C
  intro H locs ls hR hloc hls
  have hne : ¬ Int32.ofInt y' = 0 := by
    rw [k_0, k_eq ⟨by omega, by omega⟩ ⟨by omega, by omega⟩]
    omega
  have k1 := k H locs ls hR hloc hls
  rw [show kI (x / y') = Value.int (Int32.ofInt x / Int32.ofInt y') from congrArg Value.int (k_div hx0.1 hx0.2 hy0.1 hy0.2).symm] at k1
  exact lv_idiv hx hb hd hne k1
theorem x_irem {κ : Kx} {l : Launch} {G : Gh} {y : MethodName} {cc : ByteArray} {ret : Option FieldType} {nL lev mc ms : Nat} {Post : Option Value → Mem → Prop} (C : kC κ l G y cc ret nL lev mc ms Post) {m : Mem} {L : List (Option Value)} {cells slots pc : Nat} {st : List Value} (pc' : Nat) {x y' : Int} (hd : decode cc pc = .ok (.irem, 1)) (hx0 : 0 ≤ x ∧ x ≤ 2147483647) (hy0 : 0 < y' ∧ y' ≤ 2147483647) (hp : pc + 1 = pc') (k : kX κ m L cells slots pc' (kI (x % y') :: st)) : kX κ m L cells slots pc (kI y' :: kI x :: st) := by
  subst hp
  obtain ⟨p, l', e, R, s, mm, args, below, meth, c, G', P', mc', ms', nL'⟩ := κ
  obtain ⟨rfl, rfl, rfl, rfl, rfl, rfl, rfl, hx, hb, hr, hlk, hml, hown, hnm, hts, hW, hG⟩ := C
  intro H locs ls hR hloc hls
  have hne : ¬ Int32.ofInt y' = 0 := by
    rw [k_0, k_eq ⟨by omega, by omega⟩ ⟨by omega, by omega⟩]
    omega
  have k1 := k H locs ls hR hloc hls
  rw [show kI (x % y') = Value.int (Int32.ofInt x - Int32.ofInt x / Int32.ofInt y' * Int32.ofInt y') from congrArg Value.int (k_mod hx0.1 hx0.2 hy0.1 hy0.2).symm] at k1
  exact lv_irem hx hb hd hne k1
theorem x_icmp_eq {κ : Kx} {l : Launch} {G : Gh} {y : MethodName} {cc : ByteArray} {ret : Option FieldType} {nL lev mc ms : Nat} {Post : Option Value → Mem → Prop} (C : kC κ l G y cc ret nL lev mc ms Post) {m : Mem} {L : List (Option Value)} {cells slots pc : Nat} {st : List Value} (tgt pc' : Nat) {x y' off : Int} (hd : decode cc pc = .ok (.if_icmp .eq off, 3)) (hx0 : -2147483648 ≤ x ∧ x ≤ 2147483647) (hy0 : -2147483648 ≤ y' ∧ y' ≤ 2147483647) (ht : (pc : Int) + off = (tgt : Int)) (hp : pc + 3 = pc') (kt : x = y' → kX κ m L cells slots tgt st) (kf : ¬ x = y' → kX κ m L cells slots pc' st) : kX κ m L cells slots pc (kI y' :: kI x :: st) := by
  subst hp
  obtain ⟨p, l', e, R, s, mm, args, below, meth, c, G', P', mc', ms', nL'⟩ := κ
  obtain ⟨rfl, rfl, rfl, rfl, rfl, rfl, rfl, hx, hb, hr, hlk, hml, hown, hnm, hts, hW, hG⟩ := C
  intro H locs ls hR hloc hls
  have iff : Int32.ofInt x = Int32.ofInt y' ↔ x = y' := by
    exact (k_eq hx0 hy0)
  exact lv_icmp_eq hx hb hd ht (fun q => kt (iff.mp q) H locs ls hR hloc hls) (fun q => kf (fun z => q (iff.mpr z)) H locs ls hR hloc hls)
theorem x_if_eq {κ : Kx} {l : Launch} {G : Gh} {y : MethodName} {cc : ByteArray} {ret : Option FieldType} {nL lev mc ms : Nat} {Post : Option Value → Mem → Prop} (C : kC κ l G y cc ret nL lev mc ms Post) {m : Mem} {L : List (Option Value)} {cells slots pc : Nat} {st : List Value} (tgt pc' : Nat) {x off : Int} (hd : decode cc pc = .ok (.ifCond .eq off, 3)) (hx0 : -2147483648 ≤ x ∧ x ≤ 2147483647) (ht : (pc : Int) + off = (tgt : Int)) (hp : pc + 3 = pc') (kt : x = 0 → kX κ m L cells slots tgt st) (kf : ¬ x = 0 → kX κ m L cells slots pc' st) : kX κ m L cells slots pc (kI x :: st) := by
  subst hp
  obtain ⟨p, l', e, R, s, mm, args, below, meth, c, G', P', mc', ms', nL'⟩ := κ
  obtain ⟨rfl, rfl, rfl, rfl, rfl, rfl, rfl, hx, hb, hr, hlk, hml, hown, hnm, hts, hW, hG⟩ := C
  intro H locs ls hR hloc hls
  have iff : Int32.ofInt x = (0 : Int32) ↔ x = 0 := by
    rw [k_0]; exact k_eq hx0 ⟨by decide, by decide⟩
  exact lv_if_eq hx hb hd ht (fun q => kt (iff.mp q) H locs ls hR hloc hls) (fun q => kf (fun z => q (iff.mpr z)) H locs ls hR hloc hls)
theorem x_icmp_ne {κ : Kx} {l : Launch} {G : Gh} {y : MethodName} {cc : ByteArray} {ret : Option FieldType} {nL lev mc ms : Nat} {Post : Option Value → Mem → Prop} (C : kC κ l G y cc ret nL lev mc ms Post) {m : Mem} {L : List (Option Value)} {cells slots pc : Nat} {st : List Value} (tgt pc' : Nat) {x y' off : Int} (hd : decode cc pc = .ok (.if_icmp .ne off, 3)) (hx0 : -2147483648 ≤ x ∧ x ≤ 2147483647) (hy0 : -2147483648 ≤ y' ∧ y' ≤ 2147483647) (ht : (pc : Int) + off = (tgt : Int)) (hp : pc + 3 = pc') (kt : ¬ x = y' → kX κ m L cells slots tgt st) (kf : x = y' → kX κ m L cells slots pc' st) : kX κ m L cells slots pc (kI y' :: kI x :: st) := by
  subst hp
  obtain ⟨p, l', e, R, s, mm, args, below, meth, c, G', P', mc', ms', nL'⟩ := κ
  obtain ⟨rfl, rfl, rfl, rfl, rfl, rfl, rfl, hx, hb, hr, hlk, hml, hown, hnm, hts, hW, hG⟩ := C
  intro H locs ls hR hloc hls
  have iff : Int32.ofInt x = Int32.ofInt y' ↔ x = y' := by
    exact (k_eq hx0 hy0)
  exact lv_icmp_ne hx hb hd ht (fun q => kt (fun z => q (iff.mpr z)) H locs ls hR hloc hls) (fun q => kf (iff.mp q) H locs ls hR hloc hls)
theorem x_if_ne {κ : Kx} {l : Launch} {G : Gh} {y : MethodName} {cc : ByteArray} {ret : Option FieldType} {nL lev mc ms : Nat} {Post : Option Value → Mem → Prop} (C : kC κ l G y cc ret nL lev mc ms Post) {m : Mem} {L : List (Option Value)} {cells slots pc : Nat} {st : List Value} (tgt pc' : Nat) {x off : Int} (hd : decode cc pc = .ok (.ifCond .ne off, 3)) (hx0 : -2147483648 ≤ x ∧ x ≤ 2147483647) (ht : (pc : Int) + off = (tgt : Int)) (hp : pc + 3 = pc') (kt : ¬ x = 0 → kX κ m L cells slots tgt st) (kf : x = 0 → kX κ m L cells slots pc' st) : kX κ m L cells slots pc (kI x :: st) := by
  subst hp
  obtain ⟨p, l', e, R, s, mm, args, below, meth, c, G', P', mc', ms', nL'⟩ := κ
  obtain ⟨rfl, rfl, rfl, rfl, rfl, rfl, rfl, hx, hb, hr, hlk, hml, hown, hnm, hts, hW, hG⟩ := C
  intro H locs ls hR hloc hls
  have iff : Int32.ofInt x = (0 : Int32) ↔ x = 0 := by
    rw [k_0]; exact k_eq hx0 ⟨by decide, by decide⟩
  exact lv_if_ne hx hb hd ht (fun q => kt (fun z => q (iff.mpr z)) H locs ls hR hloc hls) (fun q => kf (iff.mp q) H locs ls hR hloc hls)
theorem x_icmp_lt {κ : Kx} {l : Launch} {G : Gh} {y : MethodName} {cc : ByteArray} {ret : Option FieldType} {nL lev mc ms : Nat} {Post : Option Value → Mem → Prop} (C : kC κ l G y cc ret nL lev mc ms Post) {m : Mem} {L : List (Option Value)} {cells slots pc : Nat} {st : List Value} (tgt pc' : Nat) {x y' off : Int} (hd : decode cc pc = .ok (.if_icmp .lt off, 3)) (hx0 : -2147483648 ≤ x ∧ x ≤ 2147483647) (hy0 : -2147483648 ≤ y' ∧ y' ≤ 2147483647) (ht : (pc : Int) + off = (tgt : Int)) (hp : pc + 3 = pc') (kt : x < y' → kX κ m L cells slots tgt st) (kf : ¬ x < y' → kX κ m L cells slots pc' st) : kX κ m L cells slots pc (kI y' :: kI x :: st) := by
  subst hp
  obtain ⟨p, l', e, R, s, mm, args, below, meth, c, G', P', mc', ms', nL'⟩ := κ
  obtain ⟨rfl, rfl, rfl, rfl, rfl, rfl, rfl, hx, hb, hr, hlk, hml, hown, hnm, hts, hW, hG⟩ := C
  intro H locs ls hR hloc hls
  have iff : Int32.ofInt x < Int32.ofInt y' ↔ x < y' := by
    exact (k_lt hx0 hy0)
  exact lv_icmp_lt hx hb hd ht (fun q => kt (iff.mp q) H locs ls hR hloc hls) (fun q => kf (fun z => q (iff.mpr z)) H locs ls hR hloc hls)
theorem x_if_lt {κ : Kx} {l : Launch} {G : Gh} {y : MethodName} {cc : ByteArray} {ret : Option FieldType} {nL lev mc ms : Nat} {Post : Option Value → Mem → Prop} (C : kC κ l G y cc ret nL lev mc ms Post) {m : Mem} {L : List (Option Value)} {cells slots pc : Nat} {st : List Value} (tgt pc' : Nat) {x off : Int} (hd : decode cc pc = .ok (.ifCond .lt off, 3)) (hx0 : -2147483648 ≤ x ∧ x ≤ 2147483647) (ht : (pc : Int) + off = (tgt : Int)) (hp : pc + 3 = pc') (kt : x < 0 → kX κ m L cells slots tgt st) (kf : ¬ x < 0 → kX κ m L cells slots pc' st) : kX κ m L cells slots pc (kI x :: st) := by
  subst hp
  obtain ⟨p, l', e, R, s, mm, args, below, meth, c, G', P', mc', ms', nL'⟩ := κ
  obtain ⟨rfl, rfl, rfl, rfl, rfl, rfl, rfl, hx, hb, hr, hlk, hml, hown, hnm, hts, hW, hG⟩ := C
  intro H locs ls hR hloc hls
  have iff : Int32.ofInt x < (0 : Int32) ↔ x < 0 := by
    rw [k_0]; exact k_lt hx0 ⟨by decide, by decide⟩
  exact lv_if_lt hx hb hd ht (fun q => kt (iff.mp q) H locs ls hR hloc hls) (fun q => kf (fun z => q (iff.mpr z)) H locs ls hR hloc hls)
theorem x_icmp_ge {κ : Kx} {l : Launch} {G : Gh} {y : MethodName} {cc : ByteArray} {ret : Option FieldType} {nL lev mc ms : Nat} {Post : Option Value → Mem → Prop} (C : kC κ l G y cc ret nL lev mc ms Post) {m : Mem} {L : List (Option Value)} {cells slots pc : Nat} {st : List Value} (tgt pc' : Nat) {x y' off : Int} (hd : decode cc pc = .ok (.if_icmp .ge off, 3)) (hx0 : -2147483648 ≤ x ∧ x ≤ 2147483647) (hy0 : -2147483648 ≤ y' ∧ y' ≤ 2147483647) (ht : (pc : Int) + off = (tgt : Int)) (hp : pc + 3 = pc') (kt : y' ≤ x → kX κ m L cells slots tgt st) (kf : ¬ y' ≤ x → kX κ m L cells slots pc' st) : kX κ m L cells slots pc (kI y' :: kI x :: st) := by
  subst hp
  obtain ⟨p, l', e, R, s, mm, args, below, meth, c, G', P', mc', ms', nL'⟩ := κ
  obtain ⟨rfl, rfl, rfl, rfl, rfl, rfl, rfl, hx, hb, hr, hlk, hml, hown, hnm, hts, hW, hG⟩ := C
  intro H locs ls hR hloc hls
  have iff : Int32.ofInt y' ≤ Int32.ofInt x ↔ y' ≤ x := by
    exact (k_le hy0 hx0)
  exact lv_icmp_ge hx hb hd ht (fun q => kt (iff.mp q) H locs ls hR hloc hls) (fun q => kf (fun z => q (iff.mpr z)) H locs ls hR hloc hls)
theorem x_if_ge {κ : Kx} {l : Launch} {G : Gh} {y : MethodName} {cc : ByteArray} {ret : Option FieldType} {nL lev mc ms : Nat} {Post : Option Value → Mem → Prop} (C : kC κ l G y cc ret nL lev mc ms Post) {m : Mem} {L : List (Option Value)} {cells slots pc : Nat} {st : List Value} (tgt pc' : Nat) {x off : Int} (hd : decode cc pc = .ok (.ifCond .ge off, 3)) (hx0 : -2147483648 ≤ x ∧ x ≤ 2147483647) (ht : (pc : Int) + off = (tgt : Int)) (hp : pc + 3 = pc') (kt : 0 ≤ x → kX κ m L cells slots tgt st) (kf : ¬ 0 ≤ x → kX κ m L cells slots pc' st) : kX κ m L cells slots pc (kI x :: st) := by
  subst hp
  obtain ⟨p, l', e, R, s, mm, args, below, meth, c, G', P', mc', ms', nL'⟩ := κ
  obtain ⟨rfl, rfl, rfl, rfl, rfl, rfl, rfl, hx, hb, hr, hlk, hml, hown, hnm, hts, hW, hG⟩ := C
  intro H locs ls hR hloc hls
  have iff : (0 : Int32) ≤ Int32.ofInt x ↔ 0 ≤ x := by
    rw [k_0]; exact k_le ⟨by decide, by decide⟩ hx0
  exact lv_if_ge hx hb hd ht (fun q => kt (iff.mp q) H locs ls hR hloc hls) (fun q => kf (fun z => q (iff.mpr z)) H locs ls hR hloc hls)
theorem x_icmp_gt {κ : Kx} {l : Launch} {G : Gh} {y : MethodName} {cc : ByteArray} {ret : Option FieldType} {nL lev mc ms : Nat} {Post : Option Value → Mem → Prop} (C : kC κ l G y cc ret nL lev mc ms Post) {m : Mem} {L : List (Option Value)} {cells slots pc : Nat} {st : List Value} (tgt pc' : Nat) {x y' off : Int} (hd : decode cc pc = .ok (.if_icmp .gt off, 3)) (hx0 : -2147483648 ≤ x ∧ x ≤ 2147483647) (hy0 : -2147483648 ≤ y' ∧ y' ≤ 2147483647) (ht : (pc : Int) + off = (tgt : Int)) (hp : pc + 3 = pc') (kt : y' < x → kX κ m L cells slots tgt st) (kf : ¬ y' < x → kX κ m L cells slots pc' st) : kX κ m L cells slots pc (kI y' :: kI x :: st) := by
  subst hp
  obtain ⟨p, l', e, R, s, mm, args, below, meth, c, G', P', mc', ms', nL'⟩ := κ
  obtain ⟨rfl, rfl, rfl, rfl, rfl, rfl, rfl, hx, hb, hr, hlk, hml, hown, hnm, hts, hW, hG⟩ := C
  intro H locs ls hR hloc hls
  have iff : Int32.ofInt y' < Int32.ofInt x ↔ y' < x := by
    exact (k_lt hy0 hx0)
  exact lv_icmp_gt hx hb hd ht (fun q => kt (iff.mp q) H locs ls hR hloc hls) (fun q => kf (fun z => q (iff.mpr z)) H locs ls hR hloc hls)
theorem x_if_gt {κ : Kx} {l : Launch} {G : Gh} {y : MethodName} {cc : ByteArray} {ret : Option FieldType} {nL lev mc ms : Nat} {Post : Option Value → Mem → Prop} (C : kC κ l G y cc ret nL lev mc ms Post) {m : Mem} {L : List (Option Value)} {cells slots pc : Nat} {st : List Value} (tgt pc' : Nat) {x off : Int} (hd : decode cc pc = .ok (.ifCond .gt off, 3)) (hx0 : -2147483648 ≤ x ∧ x ≤ 2147483647) (ht : (pc : Int) + off = (tgt : Int)) (hp : pc + 3 = pc') (kt : 0 < x → kX κ m L cells slots tgt st) (kf : ¬ 0 < x → kX κ m L cells slots pc' st) : kX κ m L cells slots pc (kI x :: st) := by
  subst hp
  obtain ⟨p, l', e, R, s, mm, args, below, meth, c, G', P', mc', ms', nL'⟩ := κ
  obtain ⟨rfl, rfl, rfl, rfl, rfl, rfl, rfl, hx, hb, hr, hlk, hml, hown, hnm, hts, hW, hG⟩ := C
  intro H locs ls hR hloc hls
  have iff : (0 : Int32) < Int32.ofInt x ↔ 0 < x := by
    rw [k_0]; exact k_lt ⟨by decide, by decide⟩ hx0
  exact lv_if_gt hx hb hd ht (fun q => kt (iff.mp q) H locs ls hR hloc hls) (fun q => kf (fun z => q (iff.mpr z)) H locs ls hR hloc hls)
theorem x_icmp_le {κ : Kx} {l : Launch} {G : Gh} {y : MethodName} {cc : ByteArray} {ret : Option FieldType} {nL lev mc ms : Nat} {Post : Option Value → Mem → Prop} (C : kC κ l G y cc ret nL lev mc ms Post) {m : Mem} {L : List (Option Value)} {cells slots pc : Nat} {st : List Value} (tgt pc' : Nat) {x y' off : Int} (hd : decode cc pc = .ok (.if_icmp .le off, 3)) (hx0 : -2147483648 ≤ x ∧ x ≤ 2147483647) (hy0 : -2147483648 ≤ y' ∧ y' ≤ 2147483647) (ht : (pc : Int) + off = (tgt : Int)) (hp : pc + 3 = pc') (kt : x ≤ y' → kX κ m L cells slots tgt st) (kf : ¬ x ≤ y' → kX κ m L cells slots pc' st) : kX κ m L cells slots pc (kI y' :: kI x :: st) := by
  subst hp
  obtain ⟨p, l', e, R, s, mm, args, below, meth, c, G', P', mc', ms', nL'⟩ := κ
  obtain ⟨rfl, rfl, rfl, rfl, rfl, rfl, rfl, hx, hb, hr, hlk, hml, hown, hnm, hts, hW, hG⟩ := C
  intro H locs ls hR hloc hls
  have iff : Int32.ofInt x ≤ Int32.ofInt y' ↔ x ≤ y' := by
    exact (k_le hx0 hy0)
  exact lv_icmp_le hx hb hd ht (fun q => kt (iff.mp q) H locs ls hR hloc hls) (fun q => kf (fun z => q (iff.mpr z)) H locs ls hR hloc hls)
theorem x_if_le {κ : Kx} {l : Launch} {G : Gh} {y : MethodName} {cc : ByteArray} {ret : Option FieldType} {nL lev mc ms : Nat} {Post : Option Value → Mem → Prop} (C : kC κ l G y cc ret nL lev mc ms Post) {m : Mem} {L : List (Option Value)} {cells slots pc : Nat} {st : List Value} (tgt pc' : Nat) {x off : Int} (hd : decode cc pc = .ok (.ifCond .le off, 3)) (hx0 : -2147483648 ≤ x ∧ x ≤ 2147483647) (ht : (pc : Int) + off = (tgt : Int)) (hp : pc + 3 = pc') (kt : x ≤ 0 → kX κ m L cells slots tgt st) (kf : ¬ x ≤ 0 → kX κ m L cells slots pc' st) : kX κ m L cells slots pc (kI x :: st) := by
  subst hp
  obtain ⟨p, l', e, R, s, mm, args, below, meth, c, G', P', mc', ms', nL'⟩ := κ
  obtain ⟨rfl, rfl, rfl, rfl, rfl, rfl, rfl, hx, hb, hr, hlk, hml, hown, hnm, hts, hW, hG⟩ := C
  intro H locs ls hR hloc hls
  have iff : Int32.ofInt x ≤ (0 : Int32) ↔ x ≤ 0 := by
    rw [k_0]; exact k_le hx0 ⟨by decide, by decide⟩
  exact lv_if_le hx hb hd ht (fun q => kt (iff.mp q) H locs ls hR hloc hls) (fun q => kf (fun z => q (iff.mpr z)) H locs ls hR hloc hls)
theorem x_ifb_eq {κ : Kx} {l : Launch} {G : Gh} {y : MethodName} {cc : ByteArray} {ret : Option FieldType} {nL lev mc ms : Nat} {Post : Option Value → Mem → Prop} (C : kC κ l G y cc ret nL lev mc ms Post) {m : Mem} {L : List (Option Value)} {cells slots pc : Nat} {st : List Value} (tgt pc' : Nat) {b : Bool} {off : Int} (hd : decode cc pc = .ok (.ifCond .eq off, 3)) (ht : (pc : Int) + off = (tgt : Int)) (hp : pc + 3 = pc') (kt : b = false → kX κ m L cells slots tgt st) (kf : b = true → kX κ m L cells slots pc' st) : kX κ m L cells slots pc (kI (bz b) :: st) :=
  x_if_eq C tgt pc' hd ⟨by have := bz_b b; omega, by have := bz_b b; omega⟩ ht hp (fun q => kt (bz_0.mp q)) (fun q => kf (by cases b; exact absurd rfl q; rfl))
theorem x_ifb_ne {κ : Kx} {l : Launch} {G : Gh} {y : MethodName} {cc : ByteArray} {ret : Option FieldType} {nL lev mc ms : Nat} {Post : Option Value → Mem → Prop} (C : kC κ l G y cc ret nL lev mc ms Post) {m : Mem} {L : List (Option Value)} {cells slots pc : Nat} {st : List Value} (tgt pc' : Nat) {b : Bool} {off : Int} (hd : decode cc pc = .ok (.ifCond .ne off, 3)) (ht : (pc : Int) + off = (tgt : Int)) (hp : pc + 3 = pc') (kt : b = true → kX κ m L cells slots tgt st) (kf : b = false → kX κ m L cells slots pc' st) : kX κ m L cells slots pc (kI (bz b) :: st) :=
  x_if_ne C tgt pc' hd ⟨by have := bz_b b; omega, by have := bz_b b; omega⟩ ht hp (fun q => kt (by cases b; exact absurd rfl q; rfl)) (fun q => kf (bz_0.mp q))
theorem x_ifd_eq {κ : Kx} {l : Launch} {G : Gh} {y : MethodName} {cc : ByteArray} {ret : Option FieldType} {nL lev mc ms : Nat} {Post : Option Value → Mem → Prop} (C : kC κ l G y cc ret nL lev mc ms Post) {m : Mem} {L : List (Option Value)} {cells slots pc : Nat} {st : List Value} (tgt pc' : Nat) {P : Prop} {dP : Decidable P} {off : Int} (hd : decode cc pc = .ok (.ifCond .eq off, 3)) (ht : (pc : Int) + off = (tgt : Int)) (hp : pc + 3 = pc') (kt : ¬ P → kX κ m L cells slots tgt st) (kf : P → kX κ m L cells slots pc' st) : kX κ m L cells slots pc (kI (bz (decide P)) :: st) :=
  x_ifb_eq C tgt pc' hd ht hp (fun q => kt (of_decide_eq_false q)) (fun q => kf (of_decide_eq_true q))
theorem x_ifd_ne {κ : Kx} {l : Launch} {G : Gh} {y : MethodName} {cc : ByteArray} {ret : Option FieldType} {nL lev mc ms : Nat} {Post : Option Value → Mem → Prop} (C : kC κ l G y cc ret nL lev mc ms Post) {m : Mem} {L : List (Option Value)} {cells slots pc : Nat} {st : List Value} (tgt pc' : Nat) {P : Prop} {dP : Decidable P} {off : Int} (hd : decode cc pc = .ok (.ifCond .ne off, 3)) (ht : (pc : Int) + off = (tgt : Int)) (hp : pc + 3 = pc') (kt : P → kX κ m L cells slots tgt st) (kf : ¬ P → kX κ m L cells slots pc' st) : kX κ m L cells slots pc (kI (bz (decide P)) :: st) :=
  x_ifb_ne C tgt pc' hd ht hp (fun q => kt (of_decide_eq_true q)) (fun q => kf (of_decide_eq_false q))
theorem x_goto {κ : Kx} {l : Launch} {G : Gh} {y : MethodName} {cc : ByteArray} {ret : Option FieldType} {nL lev mc ms : Nat} {Post : Option Value → Mem → Prop} (C : kC κ l G y cc ret nL lev mc ms Post) {m : Mem} {L : List (Option Value)} {cells slots pc : Nat} {st : List Value} (tgt : Nat) {off : Int} (hd : decode cc pc = .ok (.goto off, 3)) (ht : (pc : Int) + off = (tgt : Int)) (k : kX κ m L cells slots tgt st) : kX κ m L cells slots pc st := by
  obtain ⟨p, l', e, R, s, mm, args, below, meth, c, G', P', mc', ms', nL'⟩ := κ
  obtain ⟨rfl, rfl, rfl, rfl, rfl, rfl, rfl, hx, hb, hr, hlk, hml, hown, hnm, hts, hW, hG⟩ := C
  intro H locs ls hR hloc hls
  exact lv_goto hx hb hd ht (k H locs ls hR hloc hls)
theorem x_ifnull_r {κ : Kx} {l : Launch} {G : Gh} {y : MethodName} {cc : ByteArray} {ret : Option FieldType} {nL lev mc ms : Nat} {Post : Option Value → Mem → Prop} (C : kC κ l G y cc ret nL lev mc ms Post) {m : Mem} {L : List (Option Value)} {cells slots pc : Nat} {st : List Value} (pc' : Nat) {a : Nat} {off : Int} (hd : decode cc pc = .ok (.ifnull off, 3)) (hp : pc + 3 = pc') (k : kX κ m L cells slots pc' st) : kX κ m L cells slots pc (.ref a :: st) := by
  subst hp
  obtain ⟨p, l', e, R, s, mm, args, below, meth, c, G', P', mc', ms', nL'⟩ := κ
  obtain ⟨rfl, rfl, rfl, rfl, rfl, rfl, rfl, hx, hb, hr, hlk, hml, hown, hnm, hts, hW, hG⟩ := C
  intro H locs ls hR hloc hls
  exact lv_ifnull hx hb hd (k H locs ls hR hloc hls)
theorem x_ifnull_n {κ : Kx} {l : Launch} {G : Gh} {y : MethodName} {cc : ByteArray} {ret : Option FieldType} {nL lev mc ms : Nat} {Post : Option Value → Mem → Prop} (C : kC κ l G y cc ret nL lev mc ms Post) {m : Mem} {L : List (Option Value)} {cells slots pc : Nat} {st : List Value} (tgt : Nat) {off : Int} (hd : decode cc pc = .ok (.ifnull off, 3)) (ht : (pc : Int) + off = (tgt : Int)) (k : kX κ m L cells slots tgt st) : kX κ m L cells slots pc (.null :: st) := by
  obtain ⟨p, l', e, R, s, mm, args, below, meth, c, G', P', mc', ms', nL'⟩ := κ
  obtain ⟨rfl, rfl, rfl, rfl, rfl, rfl, rfl, hx, hb, hr, hlk, hml, hown, hnm, hts, hW, hG⟩ := C
  intro H locs ls hR hloc hls
  exact lv_ifnullN hx hb hd ht (k H locs ls hR hloc hls)
theorem x_ifnonnull_r {κ : Kx} {l : Launch} {G : Gh} {y : MethodName} {cc : ByteArray} {ret : Option FieldType} {nL lev mc ms : Nat} {Post : Option Value → Mem → Prop} (C : kC κ l G y cc ret nL lev mc ms Post) {m : Mem} {L : List (Option Value)} {cells slots pc : Nat} {st : List Value} (tgt : Nat) {a : Nat} {off : Int} (hd : decode cc pc = .ok (.ifnonnull off, 3)) (ht : (pc : Int) + off = (tgt : Int)) (k : kX κ m L cells slots tgt st) : kX κ m L cells slots pc (.ref a :: st) := by
  obtain ⟨p, l', e, R, s, mm, args, below, meth, c, G', P', mc', ms', nL'⟩ := κ
  obtain ⟨rfl, rfl, rfl, rfl, rfl, rfl, rfl, hx, hb, hr, hlk, hml, hown, hnm, hts, hW, hG⟩ := C
  intro H locs ls hR hloc hls
  exact lv_ifnonnull hx hb hd ht (k H locs ls hR hloc hls)
theorem x_ifnonnull_n {κ : Kx} {l : Launch} {G : Gh} {y : MethodName} {cc : ByteArray} {ret : Option FieldType} {nL lev mc ms : Nat} {Post : Option Value → Mem → Prop} (C : kC κ l G y cc ret nL lev mc ms Post) {m : Mem} {L : List (Option Value)} {cells slots pc : Nat} {st : List Value} (pc' : Nat) {off : Int} (hd : decode cc pc = .ok (.ifnonnull off, 3)) (hp : pc + 3 = pc') (k : kX κ m L cells slots pc' st) : kX κ m L cells slots pc (.null :: st) := by
  subst hp
  obtain ⟨p, l', e, R, s, mm, args, below, meth, c, G', P', mc', ms', nL'⟩ := κ
  obtain ⟨rfl, rfl, rfl, rfl, rfl, rfl, rfl, hx, hb, hr, hlk, hml, hown, hnm, hts, hW, hG⟩ := C
  intro H locs ls hR hloc hls
  exact lv_ifnonnullN hx hb hd (k H locs ls hR hloc hls)
theorem x_tableOut {κ : Kx} {l : Launch} {G : Gh} {y : MethodName} {cc : ByteArray} {ret : Option FieldType} {nL lev mc ms : Nat} {Post : Option Value → Mem → Prop} (C : kC κ l G y cc ret nL lev mc ms Post) {m : Mem} {L : List (Option Value)} {cells slots pc : Nat} {st : List Value} (tgt : Nat) {dflt lo hi : Int} {offs : Array Int} {len : Nat} {x : Int} (hd : decode cc pc = .ok (.tableswitch dflt lo hi offs, len)) (hx0 : -2147483648 ≤ x ∧ x ≤ 2147483647) (h : x < lo ∨ hi < x) (ht : (pc : Int) + dflt = (tgt : Int)) (k : kX κ m L cells slots tgt st) : kX κ m L cells slots pc (kI x :: st) := by
  obtain ⟨p, l', e, R, s, mm, args, below, meth, c, G', P', mc', ms', nL'⟩ := κ
  obtain ⟨rfl, rfl, rfl, rfl, rfl, rfl, rfl, hx, hb, hr, hlk, hml, hown, hnm, hts, hW, hG⟩ := C
  intro H locs ls hR hloc hls
  exact lv_tableOut hx hb hd (by rw [k_toInt hx0]; exact h) ht (k H locs ls hR hloc hls)
theorem x_tableIn {κ : Kx} {l : Launch} {G : Gh} {y : MethodName} {cc : ByteArray} {ret : Option FieldType} {nL lev mc ms : Nat} {Post : Option Value → Mem → Prop} (C : kC κ l G y cc ret nL lev mc ms Post) {m : Mem} {L : List (Option Value)} {cells slots pc : Nat} {st : List Value} (tgt : Nat) {dflt lo hi off : Int} {offs : Array Int} {len : Nat} {x : Int} (hd : decode cc pc = .ok (.tableswitch dflt lo hi offs, len)) (hx0 : -2147483648 ≤ x ∧ x ≤ 2147483647) (h1 : lo ≤ x) (h2 : x ≤ hi) (ho : offs[(x - lo).toNat]? = some off) (ht : (pc : Int) + off = (tgt : Int)) (k : kX κ m L cells slots tgt st) : kX κ m L cells slots pc (kI x :: st) := by
  obtain ⟨p, l', e, R, s, mm, args, below, meth, c, G', P', mc', ms', nL'⟩ := κ
  obtain ⟨rfl, rfl, rfl, rfl, rfl, rfl, rfl, hx, hb, hr, hlk, hml, hown, hnm, hts, hW, hG⟩ := C
  intro H locs ls hR hloc hls
  exact lv_tableIn hx hb hd (by rw [k_toInt hx0]; omega) (by rw [k_toInt hx0]; omega) (by rw [k_toInt hx0]; exact ho) ht (k H locs ls hR hloc hls)
theorem x_iret {κ : Kx} {l : Launch} {G : Gh} {y : MethodName} {cc : ByteArray} {ret : Option FieldType} {nL lev mc ms : Nat} {Post : Option Value → Mem → Prop} (C : kC κ l G y cc ret nL lev mc ms Post) {m : Mem} {L : List (Option Value)} {cells slots pc : Nat} {v : Int32} {ty : FieldType} (hd : decode cc pc = .ok (.ireturn, 1)) (hr0 : ret = some ty) (hn : narrow ty (.int v) = .int v) (hc : cells ≤ mc ∧ slots ≤ ms) (hp : Post (some (.int v)) m) : kX κ m L cells slots pc [.int v] := by
  obtain ⟨p, l', e, R, s, mm, args, below, meth, c, G', P', mc', ms', nL'⟩ := κ
  obtain ⟨rfl, rfl, rfl, rfl, rfl, rfl, rfl, hx, hb, hr, hlk, hml, hown, hnm, hts, hW, hG⟩ := C
  intro H locs ls hR hloc hls
  exact W.widen hc.1 hc.2 (W.zret hx hb (hr.trans hr0) hn (fun t ht _ => ⟨_, m, rfl, hp, by rw [ht]; exact hR⟩) hloc hd (hlocks := hlk))
theorem x_lret {κ : Kx} {l : Launch} {G : Gh} {y : MethodName} {cc : ByteArray} {ret : Option FieldType} {nL lev mc ms : Nat} {Post : Option Value → Mem → Prop} (C : kC κ l G y cc ret nL lev mc ms Post) {m : Mem} {L : List (Option Value)} {cells slots pc : Nat} {v : Int64} (hd : decode cc pc = .ok (.lreturn, 1)) (hr0 : ret = some .long) (hc : cells ≤ mc ∧ slots ≤ ms) (hp : Post (some (.long v)) m) : kX κ m L cells slots pc [.long v] := by
  obtain ⟨p, l', e, R, s, mm, args, below, meth, c, G', P', mc', ms', nL'⟩ := κ
  obtain ⟨rfl, rfl, rfl, rfl, rfl, rfl, rfl, hx, hb, hr, hlk, hml, hown, hnm, hts, hW, hG⟩ := C
  intro H locs ls hR hloc hls
  exact W.widen hc.1 hc.2 (W.lret hx hb (hr.trans hr0) (fun t ht _ => ⟨_, m, rfl, hp, by rw [ht]; exact hR⟩) hloc hd (hlocks := hlk))
theorem x_vret {κ : Kx} {l : Launch} {G : Gh} {y : MethodName} {cc : ByteArray} {ret : Option FieldType} {nL lev mc ms : Nat} {Post : Option Value → Mem → Prop} (C : kC κ l G y cc ret nL lev mc ms Post) {m : Mem} {L : List (Option Value)} {cells slots pc : Nat} (hd : decode cc pc = .ok (.return_, 1)) (hr0 : ret = none) (hc : cells ≤ mc ∧ slots ≤ ms) (hp : Post none m) : kX κ m L cells slots pc [] := by
  obtain ⟨p, l', e, R, s, mm, args, below, meth, c, G', P', mc', ms', nL'⟩ := κ
  obtain ⟨rfl, rfl, rfl, rfl, rfl, rfl, rfl, hx, hb, hr, hlk, hml, hown, hnm, hts, hW, hG⟩ := C
  intro H locs ls hR hloc hls
  exact W.widen hc.1 hc.2 (W.vret hx hb (hr.trans hr0) (fun t ht _ => ⟨_, m, rfl, hp, by rw [ht]; exact hR⟩) hloc hd (hlocks := hlk))
theorem x_aret {κ : Kx} {l : Launch} {G : Gh} {y : MethodName} {cc : ByteArray} {ret : Option FieldType} {nL lev mc ms : Nat} {Post : Option Value → Mem → Prop} (C : kC κ l G y cc ret nL lev mc ms Post) {m : Mem} {L : List (Option Value)} {cells slots pc : Nat} {v : Value} {rt : FieldType} (hd : decode cc pc = .ok (.areturn, 1)) (hr0 : ret = some rt) (hrt : (∃ n, rt = .object n) ∨ ∃ t, rt = .array t) (hv : krf v = true) (hc : cells ≤ mc ∧ slots ≤ ms) (hp : Post (some v) m) : kX κ m L cells slots pc [v] := by
  obtain ⟨p, l', e, R, s, mm, args, below, meth, c, G', P', mc', ms', nL'⟩ := κ
  obtain ⟨rfl, rfl, rfl, rfl, rfl, rfl, rfl, hx, hb, hr, hlk, hml, hown, hnm, hts, hW, hG⟩ := C
  intro H locs ls hR hloc hls
  exact W.widen hc.1 hc.2 (W.aret hx hb (hr.trans hr0) hrt (by rcases krf_or hv with ⟨a, rfl⟩ | rfl; exact Or.inr ⟨a, rfl⟩; exact Or.inl rfl) (fun t ht _ => ⟨_, m, rfl, hp, by rw [ht]; exact hR⟩) hloc hd (hlocks := hlk))
