/-! THE k-LAYER, second part: fields, arrays, new, calls. -/
set_option maxRecDepth 100000
theorem kcl_lt {c : Nat} {q : vw_C} (h : kcl[c]? = some q) : c < 100 := Nat.lt_of_lt_of_le (List.getElem?_eq_some_iff.mp h).1 (by decide)
/-- a class of the table: its fields, their types, what a new object holds -/
def kCl (ci : Nat) (R : String) (T : u_T) (N : Nat) (ty : Nat → FieldType) (df : List Value) : Prop := kcl[ci]? = some (R, T, N) ∧ (∀ w ∈ u_ws R T N, w ∈ lw_all) ∧ (∀ k, k < N → parseFieldDescriptor (T k).2.2.1 = some (ty k)) ∧ (∀ a, a < N → ∀ b, b < N → a ≠ b → (T a).2.1 ≠ (T b).2.1) ∧ df.length = N ∧ ∀ j, j < N → defaultValue (ty j) = vp_V df j
/-- a field by the entry of the class that names it: of the objects of tag ci the field k, its type, whether final, who declares it -/
def kF (own : String) (index ci k : Nat) (ft : FieldType) (fin : Bool) (O : String) : Prop := ∃ (R : String) (T : u_T) (N : Nat) (ty : Nat → FieldType) (df : List Value) (ref : String), kCl ci R T N ty df ∧ k < N ∧ ty k = ft ∧ (T k).2.2.2 = fin ∧ (T k).1 = O ∧ Cond.fieldLink own index ref (T k).2.1 (T k).2.2.1 ∈ lw_all ∧ (ref = (T k).1 ∨ Cond.sameField ref (T k).1 (T k).2.1 (T k).2.2.1 ∈ lw_all)
/-- the same through a nest mate's private name -/
def kFN (own : String) (index ci k : Nat) (ft : FieldType) (fin : Bool) : Prop := ∃ (R : String) (T : u_T) (N : Nat) (ty : Nat → FieldType) (df : List Value) (host : String), kCl ci R T N ty df ∧ k < N ∧ ty k = ft ∧ (T k).2.2.2 = fin ∧ Cond.fieldLinkNest own index (T k).1 (T k).2.1 (T k).2.2.1 host ∈ lw_tbl
theorem kK_of {G : Gh} {s : State} (hG : kG G) (hW : (gS G).WarmedH s.vm) : va_K (gC G, gF G) kcl [] s := ⟨fun c q hq => u_Kn_moved hW.alike (hG.2.1 c q hq), fun k q hq => by simp at hq⟩
theorem kP_of {G : Gh} {m : Mem} {H : Heap} {a ci : Nat} {vs : List Value} {q : vw_C} (hR : kRep G m H) (ho : m a = some (ci, vs)) (hc : kcl[ci]? = some q) : va_P (gC G, gF G) kcl [(a, .inr (ci, vs))] H := by
  intro k x hx
  have hk : k < 1 := (List.getElem?_eq_some_iff.mp hx).1
  rw [show k = 0 by omega] at hx
  cases hx
  obtain ⟨r, h1, -, h3⟩ := (hR.1 a _ ho).1.1 (kcl_lt hc)
  exact ⟨r, h1, h3⟩
theorem kArr {G : Gh} {s : State} (hG : kG G) (hW : (gS G).WarmedH s.vm) {t : Nat} {ty : FieldType} (ht : katy[t - 100]? = some ty) {vs : List Value} : s.isArrayOf { cls := gA G (t - 100), slots := vs.toArray, vm := .none } ty := by
  have h := arrOfT_moved hW.alike (hG.2.2.1 (t - 100) ty ht).1 0 (fun _ => .null)
  exact ⟨fun k hk => (by cases hk), h.2⟩
theorem k_sz {vs : List Value} {z : Int} {v : Value} (h0 : 0 ≤ z) (h1 : z ≤ 2147483647) (hv : vs[z.toNat]? = some v) : ¬ (Int32.ofInt z < 0 ∨ vs.toArray.size ≤ (Int32.ofInt z).toNatClampNeg) := by
  have hlt : z.toNat < vs.length := (List.getElem?_eq_some_iff.mp hv).1
  rintro (q | q)
  · exact k_nneg h0 h1 q
  · rw [k_clamp h0 h1] at q
    simp at q
    omega
theorem k_rd {vs : List Value} {z : Int} {v : Value} (h0 : 0 ≤ z) (h1 : z ≤ 2147483647) (hv : vs[z.toNat]? = some v) : vs.toArray[(Int32.ofInt z).toNatClampNeg]? = some v := by
  rw [k_clamp h0 h1]
  simpa using hv
theorem k_wr (cA : ClassId) (vs : List Value) {z : Int} (v : Value) (h0 : 0 ≤ z) (h1 : z ≤ 2147483647) : ({ cls := cA, slots := vs.toArray, vm := .none } : Cell).setSlot (Int32.ofInt z).toNatClampNeg v = { cls := cA, slots := (vs.set z.toNat v).toArray, vm := .none } := by
  rw [k_clamp h0 h1]
  simp [Cell.setSlot]
theorem kLoc {G : Gh} {locs : List Loc} {a i : Nat} (h : ∀ q ∈ locs, gz G ≤ q.base) (ha : gz G ≤ a) : ∀ q ∈ locs ++ [⟨a, i⟩], gz G ≤ q.base := by
  intro q hq
  rcases List.mem_append.mp hq with h1 | h1
  · exact h q h1
  · rw [List.mem_singleton.mp h1]
    exact ha
theorem x_getf {κ : Kx} {l : Launch} {G : Gh} {y : MethodName} {cc : ByteArray} {ret : Option FieldType} {nL lev mc ms : Nat} {Post : Option Value → Mem → Prop} (C : kC κ l G y cc ret nL lev mc ms Post) {m : Mem} {L : List (Option Value)} {cells slots pc : Nat} {st : List Value} (pc' : Nat) {index ci k0 a : Nat} {ft : FieldType} {fin : Bool} {O : String} {vs : List Value} {v : Value} (F : kF y.cls index ci k0 ft fin O) (ho : m a = some (ci, vs)) (hv : vs[k0]? = some v) (hd : decode cc pc = .ok (.getfield index, 3)) (hp : pc + 3 = pc') (k : kX κ m L cells slots pc' (v :: st)) : kX κ m L cells slots pc (.ref a :: st) := by
  subst hp
  obtain ⟨p, l', e, R, s, mm, args, below, meth, c, G', P', mc', ms', nL'⟩ := κ
  obtain ⟨rfl, rfl, rfl, rfl, rfl, rfl, rfl, hx, hb, hr, hlk, hml, hown, hnm, hts, hW, hG⟩ := C
  intro H locs ls hR hloc hls
  obtain ⟨R0, T, N, ty, df, ref, hCl, hk, hft, hfin, hO, hlink0, hsame0⟩ := F
  obtain ⟨hc, hin, hty, hnmm, hdl, hdf⟩ := hCl
  have hlink := hts _ hlink0
  have hsame : ∀ x, s.fieldFound? (T k0).1 (T k0).2.1 (T k0).2.2.1 = some x → s.fieldFound? ref (T k0).2.1 (T k0).2.2.1 = some x := by
    rcases hsame0 with h | h
    · rw [h]; exact fun _ h => h
    · exact fun x hx => u_same (hts _ h) x hx
  exact va_get (D := (gC G', gF G')) (ci := ci) (C := R0) (T := T) (N := N) hx hb hts hin hown (kK_of hG hW) (kP_of hR ho hc) 0 rfl hc k0 hk hlink hsame hv hd (k H locs ls hR hloc hls)
theorem x_putf {κ : Kx} {l : Launch} {G : Gh} {y : MethodName} {cc : ByteArray} {ret : Option FieldType} {nL lev mc ms : Nat} {Post : Option Value → Mem → Prop} (C : kC κ l G y cc ret nL lev mc ms Post) {m : Mem} {L : List (Option Value)} {cells slots pc : Nat} {st : List Value} (pc' : Nat) {index ci k0 a : Nat} {ft : FieldType} {O : String} {vs : List Value} {v : Value} (F : kF y.cls index ci k0 ft false O) (ho : m a = some (ci, vs)) (hmt : kmut ci = true) (hn : narrow ft v = v) (hfit : fits ft v = true) (hd : decode cc pc = .ok (.putfield index, 3)) (hp : pc + 3 = pc') (k : kX κ (mset m a (ci, vs.set k0 v)) L cells slots pc' st) : kX κ m L cells slots pc (v :: .ref a :: st) := by
  subst hp
  obtain ⟨p, l', e, R, s, mm, args, below, meth, c, G', P', mc', ms', nL'⟩ := κ
  obtain ⟨rfl, rfl, rfl, rfl, rfl, rfl, rfl, hx, hb, hr, hlk, hml, hown, hnm, hts, hW, hG⟩ := C
  intro H locs ls hR hloc hls
  obtain ⟨R0, T, N, ty, df, ref, hCl, hk, hft, hfin, hO, hlink0, hsame0⟩ := F
  obtain ⟨hc, hin, hty, hnmm, hdl, hdf⟩ := hCl
  have hlink := hts _ hlink0
  have hsame : ∀ x, s.fieldFound? (T k0).1 (T k0).2.1 (T k0).2.2.1 = some x → s.fieldFound? ref (T k0).2.1 (T k0).2.2.1 = some x := by
    rcases hsame0 with h | h
    · rw [h]; exact fun _ h => h
    · exact fun x hx => u_same (hts _ h) x hx
  have hK := kK_of (s := s) hG hW
  have hap := va_apart (own := y.cls) hts hin ty hty hnmm hK hc
  obtain ⟨r, h1, hlen, cell, q1, q2, q3, q4⟩ := (hR.1 a _ ho).1.1 (kcl_lt hc)
  have hr0 : r = (R0, T, N) := Option.some.inj (h1.symm.trans hc)
  subst hr0
  obtain ⟨hS, hfc, kC0, hkC, hkind⟩ := hK.1 ci _ hc
  obtain ⟨cf, kf, fi, f, hi, hsl⟩ := hS k0 hk
  have hlay := hts _ (hin _ (u_in_lay hk))
  unfold u_lay at hlay
  have hst := (u_facts hfc hkC (u_lays hts hin hk) hi).1
  have hlt : ci < 100 := kcl_lt hc
  rw [if_neg (by rw [hfin]; decide)] at hlay
  have h6 := u_store hfc hkC hkind hlay hi (hty k0 hk) (by rw [hft]; exact hn) (by rw [hft]; exact hfit)
  refine W.putK hx hb (f := f) ⟨hown, hlink, ⟨_, _, _, hsame _ hi⟩, hst⟩ (by rw [q2]; exact h6) q1 q3 (by rw [hsl]; exact k2_hasslot (q4 k0 hk)) rfl rfl hd fun H' e1 e2 e3 => ?_
  rw [hsl] at e1
  exact k H' _ ls (hR.set ho hmt rfl ⟨fun _ => ⟨_, hc, by rw [List.length_set]; exact hlen, t_OB.to (V := updV (vp_V vs) k0 v) ⟨_, e1, q2, q3, t_set q4 hap hk v⟩ (fun j _ => vp_updV_set (by rw [hlen]; exact hk) v j)⟩, fun q => absurd hlt q⟩ e2 e3) (kLoc hloc ((hR.1 a _ ho).2 hmt)) hls
theorem x_putfF {κ : Kx} {l : Launch} {G : Gh} {y : MethodName} {cc : ByteArray} {ret : Option FieldType} {nL lev mc ms : Nat} {Post : Option Value → Mem → Prop} (C : kC κ l G y cc ret nL lev mc ms Post) {m : Mem} {L : List (Option Value)} {cells slots pc : Nat} {st : List Value} (pc' : Nat) {index ci k0 a : Nat} {ft : FieldType} {vs : List Value} {v : Value} (F : kF y.cls index ci k0 ft true y.cls) (hin2 : y.name = "<init>") (ho : m a = some (ci, vs)) (hmt : kmut ci = true) (hn : narrow ft v = v) (hfit : fits ft v = true) (hd : decode cc pc = .ok (.putfield index, 3)) (hp : pc + 3 = pc') (k : kX κ (mset m a (ci, vs.set k0 v)) L cells slots pc' st) : kX κ m L cells slots pc (v :: .ref a :: st) := by
  subst hp
  obtain ⟨p, l', e, R, s, mm, args, below, meth, c, G', P', mc', ms', nL'⟩ := κ
  obtain ⟨rfl, rfl, rfl, rfl, rfl, rfl, rfl, hx, hb, hr, hlk, hml, hown, hnm, hts, hW, hG⟩ := C
  intro H locs ls hR hloc hls
  obtain ⟨R0, T, N, ty, df, ref, hCl, hk, hft, hfin, hO, hlink0, hsame0⟩ := F
  obtain ⟨hc, hin, hty, hnmm, hdl, hdf⟩ := hCl
  have hlink := hts _ hlink0
  have hsame : ∀ x, s.fieldFound? (T k0).1 (T k0).2.1 (T k0).2.2.1 = some x → s.fieldFound? ref (T k0).2.1 (T k0).2.2.1 = some x := by
    rcases hsame0 with h | h
    · rw [h]; exact fun _ h => h
    · exact fun x hx => u_same (hts _ h) x hx
  have hK := kK_of (s := s) hG hW
  have hap := va_apart (own := y.cls) hts hin ty hty hnmm hK hc
  obtain ⟨r, h1, hlen, cell, q1, q2, q3, q4⟩ := (hR.1 a _ ho).1.1 (kcl_lt hc)
  have hr0 : r = (R0, T, N) := Option.some.inj (h1.symm.trans hc)
  subst hr0
  obtain ⟨hS, hfc, kC0, hkC, hkind⟩ := hK.1 ci _ hc
  obtain ⟨cf, kf, fi, f, hi, hsl⟩ := hS k0 hk
  have hlay := hts _ (hin _ (u_in_lay hk))
  unfold u_lay at hlay
  have hst := (u_facts hfc hkC (u_lays hts hin hk) hi).1
  have hlt : ci < 100 := kcl_lt hc
  rw [if_pos hfin] at hlay
  have hcf : mm.cls = cf := by
    obtain ⟨_, _, c', _, _, _, -, -, hf', -, -, -, hown2, -⟩ := Cond.laysFinal_spec hlay
    have e1 : c' = cf := by have := hi.symm.trans hf'; simp at this; exact this.1.symm
    rw [hO] at hown2
    rw [← e1]; exact Option.some.inj (hown.symm.trans hown2)
  have h6 := u_fits hfc hkC hkind (Or.inr hlay) hi (hty k0 hk) (by rw [hft]; exact hn) (by rw [hft]; exact hfit)
  refine W.putFinK hx hb hown hlink (hsame _ hi) hst hcf (hnm.trans hin2) (by rw [q2]; exact h6) q1 q3 (by rw [hsl]; exact k2_hasslot (q4 k0 hk)) rfl rfl hd fun H' e1 e2 e3 => ?_
  rw [hsl] at e1
  exact k H' _ ls (hR.set ho hmt rfl ⟨fun _ => ⟨_, hc, by rw [List.length_set]; exact hlen, t_OB.to (V := updV (vp_V vs) k0 v) ⟨_, e1, q2, q3, t_set q4 hap hk v⟩ (fun j _ => vp_updV_set (by rw [hlen]; exact hk) v j)⟩, fun q => absurd hlt q⟩ e2 e3) (kLoc hloc ((hR.1 a _ ho).2 hmt)) hls
theorem x_getfN {κ : Kx} {l : Launch} {G : Gh} {y : MethodName} {cc : ByteArray} {ret : Option FieldType} {nL lev mc ms : Nat} {Post : Option Value → Mem → Prop} (C : kC κ l G y cc ret nL lev mc ms Post) {m : Mem} {L : List (Option Value)} {cells slots pc : Nat} {st : List Value} (pc' : Nat) {index ci k0 a : Nat} {ft : FieldType} {fin : Bool} {vs : List Value} {v : Value} (F : kFN y.cls index ci k0 ft fin) (ho : m a = some (ci, vs)) (hv : vs[k0]? = some v) (hd : decode cc pc = .ok (.getfield index, 3)) (hp : pc + 3 = pc') (k : kX κ m L cells slots pc' (v :: st)) : kX κ m L cells slots pc (.ref a :: st) := by
  subst hp
  obtain ⟨p, l', e, R, s, mm, args, below, meth, c, G', P', mc', ms', nL'⟩ := κ
  obtain ⟨rfl, rfl, rfl, rfl, rfl, rfl, rfl, hx, hb, hr, hlk, hml, hown, hnm, hts, hW, hG⟩ := C
  intro H locs ls hR hloc hls
  obtain ⟨R0, T, N, ty, df, host, hCl, hk, hft, hfin, hlink0⟩ := F
  obtain ⟨hc, hin, hty, hnmm, hdl, hdf⟩ := hCl
  have hlink : (Cond.fieldLinkNest y.cls index (T k0).1 (T k0).2.1 (T k0).2.2.1 host).before args s = true := va_Nw.use rfl (va_Nw.warmF hW (va_Nw.of rfl (hG.1 _ hlink0)))
  have hsame : ∀ x, s.fieldFound? (T k0).1 (T k0).2.1 (T k0).2.2.1 = some x → s.fieldFound? (T k0).1 (T k0).2.1 (T k0).2.2.1 = some x := fun _ h => h
  exact va_getN (D := (gC G', gF G')) (ci := ci) (C := R0) (T := T) (N := N) hx hb hts hin hown (kK_of hG hW) (kP_of hR ho hc) 0 rfl hc k0 hk hlink hsame hv hd (k H locs ls hR hloc hls)
theorem x_putfN {κ : Kx} {l : Launch} {G : Gh} {y : MethodName} {cc : ByteArray} {ret : Option FieldType} {nL lev mc ms : Nat} {Post : Option Value → Mem → Prop} (C : kC κ l G y cc ret nL lev mc ms Post) {m : Mem} {L : List (Option Value)} {cells slots pc : Nat} {st : List Value} (pc' : Nat) {index ci k0 a : Nat} {ft : FieldType} {vs : List Value} {v : Value} (F : kFN y.cls index ci k0 ft false) (ho : m a = some (ci, vs)) (hmt : kmut ci = true) (hn : narrow ft v = v) (hfit : fits ft v = true) (hd : decode cc pc = .ok (.putfield index, 3)) (hp : pc + 3 = pc') (k : kX κ (mset m a (ci, vs.set k0 v)) L cells slots pc' st) : kX κ m L cells slots pc (v :: .ref a :: st) := by
  subst hp
  obtain ⟨p, l', e, R, s, mm, args, below, meth, c, G', P', mc', ms', nL'⟩ := κ
  obtain ⟨rfl, rfl, rfl, rfl, rfl, rfl, rfl, hx, hb, hr, hlk, hml, hown, hnm, hts, hW, hG⟩ := C
  intro H locs ls hR hloc hls
  obtain ⟨R0, T, N, ty, df, host, hCl, hk, hft, hfin, hlink0⟩ := F
  obtain ⟨hc, hin, hty, hnmm, hdl, hdf⟩ := hCl
  have hlink : (Cond.fieldLinkNest y.cls index (T k0).1 (T k0).2.1 (T k0).2.2.1 host).before args s = true := va_Nw.use rfl (va_Nw.warmF hW (va_Nw.of rfl (hG.1 _ hlink0)))
  have hsame : ∀ x, s.fieldFound? (T k0).1 (T k0).2.1 (T k0).2.2.1 = some x → s.fieldFound? (T k0).1 (T k0).2.1 (T k0).2.2.1 = some x := fun _ h => h
  have hK := kK_of (s := s) hG hW
  have hap := va_apart (own := y.cls) hts hin ty hty hnmm hK hc
  obtain ⟨r, h1, hlen, cell, q1, q2, q3, q4⟩ := (hR.1 a _ ho).1.1 (kcl_lt hc)
  have hr0 : r = (R0, T, N) := Option.some.inj (h1.symm.trans hc)
  subst hr0
  obtain ⟨hS, hfc, kC0, hkC, hkind⟩ := hK.1 ci _ hc
  obtain ⟨cf, kf, fi, f, hi, hsl⟩ := hS k0 hk
  have hlay := hts _ (hin _ (u_in_lay hk))
  unfold u_lay at hlay
  have hst := (u_facts hfc hkC (u_lays hts hin hk) hi).1
  have hlt : ci < 100 := kcl_lt hc
  rw [if_neg (by rw [hfin]; decide)] at hlay
  have h6 := u_store hfc hkC hkind hlay hi (hty k0 hk) (by rw [hft]; exact hn) (by rw [hft]; exact hfit)
  refine va_WputK hx hb (f := f) hown hlink (hsame _ hi) hst (by rw [q2]; exact h6) q1 q3 (by rw [hsl]; exact k2_hasslot (q4 k0 hk)) rfl rfl hd fun H' e1 e2 e3 => ?_
  rw [hsl] at e1
  exact k H' _ ls (hR.set ho hmt rfl ⟨fun _ => ⟨_, hc, by rw [List.length_set]; exact hlen, t_OB.to (V := updV (vp_V vs) k0 v) ⟨_, e1, q2, q3, t_set q4 hap hk v⟩ (fun j _ => vp_updV_set (by rw [hlen]; exact hk) v j)⟩, fun q => absurd hlt q⟩ e2 e3) (kLoc hloc ((hR.1 a _ ho).2 hmt)) hls
theorem x_iald {κ : Kx} {l : Launch} {G : Gh} {y : MethodName} {cc : ByteArray} {ret : Option FieldType} {nL lev mc ms : Nat} {Post : Option Value → Mem → Prop} (C : kC κ l G y cc ret nL lev mc ms Post) {m : Mem} {L : List (Option Value)} {cells slots pc : Nat} {st : List Value} (pc' : Nat) {a t : Nat} {vs : List Value} {z : Int} {v : Value} (ho : m a = some (t, vs)) (h100 : ¬ t < 100) (ht : katy[t - 100]? = some .int) (h0 : 0 ≤ z) (h1 : z ≤ 2147483647) (hv : vs[z.toNat]? = some v) (hd : decode cc pc = .ok (.iaload, 1)) (hp : pc + 1 = pc') (k : kX κ m L cells slots pc' (v :: st)) : kX κ m L cells slots pc (kI z :: .ref a :: st) := by
  subst hp
  obtain ⟨p, l', e, R, s, mm, args, below, meth, c, G', P', mc', ms', nL'⟩ := κ
  obtain ⟨rfl, rfl, rfl, rfl, rfl, rfl, rfl, hx, hb, hr, hlk, hml, hown, hnm, hts, hW, hG⟩ := C
  intro H locs ls hR hloc hls
  exact W.iald hx hb ((hR.1 a _ ho).1.2 h100) (kArr hG hW ht) (fun q => by cases q) (k_sz h0 h1 hv) (k_rd h0 h1 hv) rfl rfl hd (k H locs ls hR hloc hls)
theorem x_bald {κ : Kx} {l : Launch} {G : Gh} {y : MethodName} {cc : ByteArray} {ret : Option FieldType} {nL lev mc ms : Nat} {Post : Option Value → Mem → Prop} (C : kC κ l G y cc ret nL lev mc ms Post) {m : Mem} {L : List (Option Value)} {cells slots pc : Nat} {st : List Value} (pc' : Nat) {a t : Nat} {vs : List Value} {z : Int} {v : Value} (ho : m a = some (t, vs)) (h100 : ¬ t < 100) (ht : katy[t - 100]? = some .byte) (h0 : 0 ≤ z) (h1 : z ≤ 2147483647) (hv : vs[z.toNat]? = some v) (hd : decode cc pc = .ok (.baload, 1)) (hp : pc + 1 = pc') (k : kX κ m L cells slots pc' (v :: st)) : kX κ m L cells slots pc (kI z :: .ref a :: st) := by
  subst hp
  obtain ⟨p, l', e, R, s, mm, args, below, meth, c, G', P', mc', ms', nL'⟩ := κ
  obtain ⟨rfl, rfl, rfl, rfl, rfl, rfl, rfl, hx, hb, hr, hlk, hml, hown, hnm, hts, hW, hG⟩ := C
  intro H locs ls hR hloc hls
  exact W.bald hx hb ((hR.1 a _ ho).1.2 h100) (kArr hG hW ht) (fun q => by cases q) (k_sz h0 h1 hv) (k_rd h0 h1 hv) rfl rfl hd (k H locs ls hR hloc hls)
theorem x_zald {κ : Kx} {l : Launch} {G : Gh} {y : MethodName} {cc : ByteArray} {ret : Option FieldType} {nL lev mc ms : Nat} {Post : Option Value → Mem → Prop} (C : kC κ l G y cc ret nL lev mc ms Post) {m : Mem} {L : List (Option Value)} {cells slots pc : Nat} {st : List Value} (pc' : Nat) {a t : Nat} {vs : List Value} {z : Int} {v : Value} (ho : m a = some (t, vs)) (h100 : ¬ t < 100) (ht : katy[t - 100]? = some .boolean) (h0 : 0 ≤ z) (h1 : z ≤ 2147483647) (hv : vs[z.toNat]? = some v) (hd : decode cc pc = .ok (.baload, 1)) (hp : pc + 1 = pc') (k : kX κ m L cells slots pc' (v :: st)) : kX κ m L cells slots pc (kI z :: .ref a :: st) := by
  subst hp
  obtain ⟨p, l', e, R, s, mm, args, below, meth, c, G', P', mc', ms', nL'⟩ := κ
  obtain ⟨rfl, rfl, rfl, rfl, rfl, rfl, rfl, hx, hb, hr, hlk, hml, hown, hnm, hts, hW, hG⟩ := C
  intro H locs ls hR hloc hls
  exact W.zald hx hb ((hR.1 a _ ho).1.2 h100) (kArr hG hW ht) (fun q => by cases q) (k_sz h0 h1 hv) (k_rd h0 h1 hv) rfl rfl hd (k H locs ls hR hloc hls)
theorem x_cald {κ : Kx} {l : Launch} {G : Gh} {y : MethodName} {cc : ByteArray} {ret : Option FieldType} {nL lev mc ms : Nat} {Post : Option Value → Mem → Prop} (C : kC κ l G y cc ret nL lev mc ms Post) {m : Mem} {L : List (Option Value)} {cells slots pc : Nat} {st : List Value} (pc' : Nat) {a t : Nat} {vs : List Value} {z : Int} {v : Value} (ho : m a = some (t, vs)) (h100 : ¬ t < 100) (ht : katy[t - 100]? = some .char) (h0 : 0 ≤ z) (h1 : z ≤ 2147483647) (hv : vs[z.toNat]? = some v) (hd : decode cc pc = .ok (.caload, 1)) (hp : pc + 1 = pc') (k : kX κ m L cells slots pc' (v :: st)) : kX κ m L cells slots pc (kI z :: .ref a :: st) := by
  subst hp
  obtain ⟨p, l', e, R, s, mm, args, below, meth, c, G', P', mc', ms', nL'⟩ := κ
  obtain ⟨rfl, rfl, rfl, rfl, rfl, rfl, rfl, hx, hb, hr, hlk, hml, hown, hnm, hts, hW, hG⟩ := C
  intro H locs ls hR hloc hls
  exact W.cald hx hb ((hR.1 a _ ho).1.2 h100) (kArr hG hW ht) (fun q => by cases q) (k_sz h0 h1 hv) (k_rd h0 h1 hv) rfl rfl hd (k H locs ls hR hloc hls)
theorem x_aald {κ : Kx} {l : Launch} {G : Gh} {y : MethodName} {cc : ByteArray} {ret : Option FieldType} {nL lev mc ms : Nat} {Post : Option Value → Mem → Prop} (C : kC κ l G y cc ret nL lev mc ms Post) {m : Mem} {L : List (Option Value)} {cells slots pc : Nat} {st : List Value} (pc' : Nat) {a t : Nat} {Cn : String} {vs : List Value} {z : Int} {v : Value} (ho : m a = some (t, vs)) (h100 : ¬ t < 100) (ht : katy[t - 100]? = some (.object Cn)) (h0 : 0 ≤ z) (h1 : z ≤ 2147483647) (hv : vs[z.toNat]? = some v) (hd : decode cc pc = .ok (.aaload, 1)) (hp : pc + 1 = pc') (k : kX κ m L cells slots pc' (v :: st)) : kX κ m L cells slots pc (kI z :: .ref a :: st) := by
  subst hp
  obtain ⟨p, l', e, R, s, mm, args, below, meth, c, G', P', mc', ms', nL'⟩ := κ
  obtain ⟨rfl, rfl, rfl, rfl, rfl, rfl, rfl, hx, hb, hr, hlk, hml, hown, hnm, hts, hW, hG⟩ := C
  intro H locs ls hR hloc hls
  exact W.aald hx hb ((hR.1 a _ ho).1.2 h100) (kArr hG hW ht) rfl (fun q => by cases q) (k_sz h0 h1 hv) (k_rd h0 h1 hv) rfl rfl hd (k H locs ls hR hloc hls)
theorem x_alen {κ : Kx} {l : Launch} {G : Gh} {y : MethodName} {cc : ByteArray} {ret : Option FieldType} {nL lev mc ms : Nat} {Post : Option Value → Mem → Prop} (C : kC κ l G y cc ret nL lev mc ms Post) {m : Mem} {L : List (Option Value)} {cells slots pc : Nat} {st : List Value} (pc' : Nat) {a t : Nat} {ty : FieldType} {vs : List Value} (ho : m a = some (t, vs)) (h100 : ¬ t < 100) (ht : katy[t - 100]? = some ty) (hd : decode cc pc = .ok (.arraylength, 1)) (hp : pc + 1 = pc') (k : kX κ m L cells slots pc' (kI (vs.length : Int) :: st)) : kX κ m L cells slots pc (.ref a :: st) := by
  subst hp
  obtain ⟨p, l', e, R, s, mm, args, below, meth, c, G', P', mc', ms', nL'⟩ := κ
  obtain ⟨rfl, rfl, rfl, rfl, rfl, rfl, rfl, hx, hb, hr, hlk, hml, hown, hnm, hts, hW, hG⟩ := C
  intro H locs ls hR hloc hls
  exact W.alen hx hb ((hR.1 a _ ho).1.2 h100) (kArr hG hW ht) (show vs.toArray.size.toInt32 = Int32.ofInt (vs.length : Int) by rw [Int32.ofInt_eq_ofNat]; simp) rfl rfl hd (k H locs ls hR hloc hls)
theorem x_iast {κ : Kx} {l : Launch} {G : Gh} {y : MethodName} {cc : ByteArray} {ret : Option FieldType} {nL lev mc ms : Nat} {Post : Option Value → Mem → Prop} (C : kC κ l G y cc ret nL lev mc ms Post) {m : Mem} {L : List (Option Value)} {cells slots pc : Nat} {st : List Value} (pc' : Nat) {a t : Nat} {vs : List Value} {z : Int} {x : Int32} {v0 : Value} (ho : m a = some (t, vs)) (h100 : ¬ t < 100) (ht : katy[t - 100]? = some .int) (hmt : kmut t = true) (h0 : 0 ≤ z) (h1 : z ≤ 2147483647) (hv : vs[z.toNat]? = some v0) (hd : decode cc pc = .ok (.iastore, 1)) (hp : pc + 1 = pc') (k : kX κ (mset m a (t, vs.set z.toNat (.int x))) L cells slots pc' st) : kX κ m L cells slots pc (.int x :: kI z :: .ref a :: st) := by
  subst hp
  obtain ⟨p, l', e, R, s, mm, args, below, meth, c, G', P', mc', ms', nL'⟩ := κ
  obtain ⟨rfl, rfl, rfl, rfl, rfl, rfl, rfl, hx, hb, hr, hlk, hml, hown, hnm, hts, hW, hG⟩ := C
  intro H locs ls hR hloc hls
  refine W.iast hx hb ((hR.1 a _ ho).1.2 h100) (kArr hG hW ht) (fun q => by cases q) (k_sz h0 h1 hv) rfl rfl hd fun H1 e1 z1 oq => ?_
  rw [k_wr _ _ _ h0 h1] at e1
  exact k H1 _ ls (hR.set ho hmt rfl ⟨fun q => absurd q h100, fun _ => e1⟩ z1 oq) (kLoc hloc ((hR.1 a _ ho).2 hmt)) hls
theorem x_bast {κ : Kx} {l : Launch} {G : Gh} {y : MethodName} {cc : ByteArray} {ret : Option FieldType} {nL lev mc ms : Nat} {Post : Option Value → Mem → Prop} (C : kC κ l G y cc ret nL lev mc ms Post) {m : Mem} {L : List (Option Value)} {cells slots pc : Nat} {st : List Value} (pc' : Nat) {a t : Nat} {vs : List Value} {z : Int} {x : Int32} {v0 : Value} (ho : m a = some (t, vs)) (h100 : ¬ t < 100) (ht : katy[t - 100]? = some .byte) (hmt : kmut t = true) (h0 : 0 ≤ z) (h1 : z ≤ 2147483647) (hv : vs[z.toNat]? = some v0) (hd : decode cc pc = .ok (.bastore, 1)) (hp : pc + 1 = pc') (k : kX κ (mset m a (t, vs.set z.toNat (narrow .byte (.int x)))) L cells slots pc' st) : kX κ m L cells slots pc (.int x :: kI z :: .ref a :: st) := by
  subst hp
  obtain ⟨p, l', e, R, s, mm, args, below, meth, c, G', P', mc', ms', nL'⟩ := κ
  obtain ⟨rfl, rfl, rfl, rfl, rfl, rfl, rfl, hx, hb, hr, hlk, hml, hown, hnm, hts, hW, hG⟩ := C
  intro H locs ls hR hloc hls
  refine W.bast hx hb ((hR.1 a _ ho).1.2 h100) (kArr hG hW ht) (fun q => by cases q) (k_sz h0 h1 hv) rfl rfl hd fun H1 e1 z1 oq => ?_
  rw [k_wr _ _ _ h0 h1] at e1
  exact k H1 _ ls (hR.set ho hmt rfl ⟨fun q => absurd q h100, fun _ => e1⟩ z1 oq) (kLoc hloc ((hR.1 a _ ho).2 hmt)) hls
theorem x_zast {κ : Kx} {l : Launch} {G : Gh} {y : MethodName} {cc : ByteArray} {ret : Option FieldType} {nL lev mc ms : Nat} {Post : Option Value → Mem → Prop} (C : kC κ l G y cc ret nL lev mc ms Post) {m : Mem} {L : List (Option Value)} {cells slots pc : Nat} {st : List Value} (pc' : Nat) {a t : Nat} {vs : List Value} {z : Int} {x : Int32} {v0 : Value} (ho : m a = some (t, vs)) (h100 : ¬ t < 100) (ht : katy[t - 100]? = some .boolean) (hmt : kmut t = true) (h0 : 0 ≤ z) (h1 : z ≤ 2147483647) (hv : vs[z.toNat]? = some v0) (hd : decode cc pc = .ok (.bastore, 1)) (hp : pc + 1 = pc') (k : kX κ (mset m a (t, vs.set z.toNat (narrow .boolean (.int x)))) L cells slots pc' st) : kX κ m L cells slots pc (.int x :: kI z :: .ref a :: st) := by
  subst hp
  obtain ⟨p, l', e, R, s, mm, args, below, meth, c, G', P', mc', ms', nL'⟩ := κ
  obtain ⟨rfl, rfl, rfl, rfl, rfl, rfl, rfl, hx, hb, hr, hlk, hml, hown, hnm, hts, hW, hG⟩ := C
  intro H locs ls hR hloc hls
  refine W.zast hx hb ((hR.1 a _ ho).1.2 h100) (kArr hG hW ht) (fun q => by cases q) (k_sz h0 h1 hv) rfl rfl hd fun H1 e1 z1 oq => ?_
  rw [k_wr _ _ _ h0 h1] at e1
  exact k H1 _ ls (hR.set ho hmt rfl ⟨fun q => absurd q h100, fun _ => e1⟩ z1 oq) (kLoc hloc ((hR.1 a _ ho).2 hmt)) hls
theorem x_cast {κ : Kx} {l : Launch} {G : Gh} {y : MethodName} {cc : ByteArray} {ret : Option FieldType} {nL lev mc ms : Nat} {Post : Option Value → Mem → Prop} (C : kC κ l G y cc ret nL lev mc ms Post) {m : Mem} {L : List (Option Value)} {cells slots pc : Nat} {st : List Value} (pc' : Nat) {a t : Nat} {vs : List Value} {z : Int} {x : Int32} {v0 : Value} (ho : m a = some (t, vs)) (h100 : ¬ t < 100) (ht : katy[t - 100]? = some .char) (hmt : kmut t = true) (h0 : 0 ≤ z) (h1 : z ≤ 2147483647) (hv : vs[z.toNat]? = some v0) (hd : decode cc pc = .ok (.castore, 1)) (hp : pc + 1 = pc') (k : kX κ (mset m a (t, vs.set z.toNat (narrow .char (.int x)))) L cells slots pc' st) : kX κ m L cells slots pc (.int x :: kI z :: .ref a :: st) := by
  subst hp
  obtain ⟨p, l', e, R, s, mm, args, below, meth, c, G', P', mc', ms', nL'⟩ := κ
  obtain ⟨rfl, rfl, rfl, rfl, rfl, rfl, rfl, hx, hb, hr, hlk, hml, hown, hnm, hts, hW, hG⟩ := C
  intro H locs ls hR hloc hls
  refine W.cast hx hb ((hR.1 a _ ho).1.2 h100) (kArr hG hW ht) (fun q => by cases q) (k_sz h0 h1 hv) rfl rfl hd fun H1 e1 z1 oq => ?_
  rw [k_wr _ _ _ h0 h1] at e1
  exact k H1 _ ls (hR.set ho hmt rfl ⟨fun q => absurd q h100, fun _ => e1⟩ z1 oq) (kLoc hloc ((hR.1 a _ ho).2 hmt)) hls
theorem x_aastN {κ : Kx} {l : Launch} {G : Gh} {y : MethodName} {cc : ByteArray} {ret : Option FieldType} {nL lev mc ms : Nat} {Post : Option Value → Mem → Prop} (C : kC κ l G y cc ret nL lev mc ms Post) {m : Mem} {L : List (Option Value)} {cells slots pc : Nat} {st : List Value} (pc' : Nat) {a t : Nat} {Cn : String} {vs : List Value} {z : Int} {v0 : Value} (ho : m a = some (t, vs)) (h100 : ¬ t < 100) (ht : katy[t - 100]? = some (.object Cn)) (hmt : kmut t = true) (h0 : 0 ≤ z) (h1 : z ≤ 2147483647) (hv : vs[z.toNat]? = some v0) (hd : decode cc pc = .ok (.aastore, 1)) (hp : pc + 1 = pc') (k : kX κ (mset m a (t, vs.set z.toNat .null)) L cells slots pc' st) : kX κ m L cells slots pc (.null :: kI z :: .ref a :: st) := by
  subst hp
  obtain ⟨p, l', e, R, s, mm, args, below, meth, c, G', P', mc', ms', nL'⟩ := κ
  obtain ⟨rfl, rfl, rfl, rfl, rfl, rfl, rfl, hx, hb, hr, hlk, hml, hown, hnm, hts, hW, hG⟩ := C
  intro H locs ls hR hloc hls
  refine va_WaastN (C := Cn) hx hb ((hR.1 a _ ho).1.2 h100) (kArr hG hW ht) (fun q => by cases q) (k_sz h0 h1 hv) rfl rfl hd fun H1 e1 z1 oq => ?_
  rw [k_wr _ _ _ h0 h1] at e1
  exact k H1 _ ls (hR.set ho hmt rfl ⟨fun q => absurd q h100, fun _ => e1⟩ z1 oq) (kLoc hloc ((hR.1 a _ ho).2 hmt)) hls
/-- what may be stored in an array of references: an object whose class is the component, or castable to it -/
def kAs (Cn Rn : String) : Prop := Rn = Cn ∨ Cond.castable Rn Cn ∈ lw_tbl
theorem x_aast {κ : Kx} {l : Launch} {G : Gh} {y : MethodName} {cc : ByteArray} {ret : Option FieldType} {nL lev mc ms : Nat} {Post : Option Value → Mem → Prop} (C : kC κ l G y cc ret nL lev mc ms Post) {m : Mem} {L : List (Option Value)} {cells slots pc : Nat} {st : List Value} (pc' : Nat) {a t b ci : Nat} {Cn : String} {q0 : vw_C} {vs ws : List Value} {z : Int} {v0 : Value} (ho : m a = some (t, vs)) (h100 : ¬ t < 100) (ht : katy[t - 100]? = some (.object Cn)) (h7 : t - 100 < 7) (hmt : kmut t = true) (h0 : 0 ≤ z) (h1 : z ≤ 2147483647) (hv : vs[z.toNat]? = some v0) (hb0 : m b = some (ci, ws)) (hci : kcl[ci]? = some q0) (hAs : kAs Cn q0.1) (hd : decode cc pc = .ok (.aastore, 1)) (hp : pc + 1 = pc') (k : kX κ (mset m a (t, vs.set z.toNat (.ref b))) L cells slots pc' st) : kX κ m L cells slots pc (.ref b :: kI z :: .ref a :: st) := by
  subst hp
  obtain ⟨p, l', e, R, s, mm, args, below, meth, c, G', P', mc', ms', nL'⟩ := κ
  obtain ⟨rfl, rfl, rfl, rfl, rfl, rfl, rfl, hx, hb, hr, hlk, hml, hown, hnm, hts, hW, hG⟩ := C
  intro H locs ls hR hloc hls
  obtain ⟨r, hr1, -, cellV, g1, g2, g3, -⟩ := (hR.1 b _ hb0).1.1 (kcl_lt hci)
  have hr0 : r = q0 := Option.some.inj (hr1.symm.trans hci)
  subst hr0
  have hK := kK_of (s := s) hG hW
  have hcls := (hK.1 ci r hci).2
  obtain ⟨kA, comp, k1, k2, k3, -⟩ := ((hG.2.2.1 (t - 100) _ ht).2 h7).moved hW.alike
  obtain ⟨kC0, hkC, hkd⟩ := hcls.2
  have hasg : s.vm.assignable cellV.cls comp = true ∧ ∃ kcomp, s.vm.classes[comp]? = some kcomp := by
    refine ⟨?_, by obtain ⟨kc, hkc, -⟩ := Vm.findClass_spec k3; exact ⟨kc, hkc⟩⟩
    rcases hAs with h | h
    · have hcomp : comp = gC G' ci := Option.some.inj (k3.symm.trans (by rw [← h]; exact hcls.1))
      rw [g2, hcomp]
      exact va_assign hcls
    · have hcn : va_Nw (.castable r.1 Cn) s := va_Nw.warmC hW (va_Nw.of rfl (hG.1 _ h))
      obtain ⟨c0, t0, f1, f2, f3⟩ := Cond.castable_spec (va_Nw.use (A := args) rfl hcn)
      cases hcls.1.symm.trans f1
      cases k3.symm.trans f2
      rw [g2]
      exact f3
  obtain ⟨hasg, kcomp, hkcomp⟩ := hasg
  refine W.aast hx hb ((hR.1 a _ ho).1.2 h100) (fun q h => by cases h) (fun h => by cases h) k1 k2 rfl hkcomp ⟨k_nneg h0 h1, Nat.not_le.mp fun q => k_sz h0 h1 hv (Or.inr q)⟩ g1 (fun q h => by rw [g3] at h; cases h) (by rw [g2]; exact hkC) hasg rfl rfl hd fun H1 e1 z1 oq => ?_
  rw [k_wr _ _ _ h0 h1] at e1
  exact k H1 _ ls (hR.set ho hmt rfl ⟨fun q => absurd q h100, fun _ => e1⟩ z1 oq) (kLoc hloc ((hR.1 a _ ho).2 hmt)) hls
/-- a class's entry for 'new' -/
def kN (own : String) (index ci N : Nat) (df : List Value) : Prop := ∃ (R : String) (T : u_T) (ty : Nat → FieldType), kCl ci R T N ty df ∧ Cond.classLink own index R ∈ lw_all ∧ Cond.instantiable R N ∈ lw_all ∧ Cond.initialized R ∈ lw_all
theorem x_new {κ : Kx} {l : Launch} {G : Gh} {y : MethodName} {cc : ByteArray} {ret : Option FieldType} {nL lev mc ms : Nat} {Post : Option Value → Mem → Prop} (C : kC κ l G y cc ret nL lev mc ms Post) {m : Mem} {L : List (Option Value)} {cells slots pc : Nat} {st : List Value} (pc' : Nat) {index ci N : Nat} {df : List Value} (F : kN y.cls index ci N df) (hd : decode cc pc = .ok (.new index, 3)) (hp : pc + 3 = pc') (hrm : cells + 1 ≤ mc ∧ slots + N ≤ ms) (k : ∀ a : Nat, m a = none → kX κ (mset m a (ci, df)) L (cells + 1) (slots + N) pc' (.ref a :: st)) : kX κ m L cells slots pc st := by
  subst hp
  obtain ⟨p, l', e, R, s, mm, args, below, meth, c, G', P', mc', ms', nL'⟩ := κ
  obtain ⟨rfl, rfl, rfl, rfl, rfl, rfl, rfl, hx, hb, hr, hlk, hml, hown, hnm, hts, hW, hG⟩ := C
  intro H locs ls hR hloc hls
  obtain ⟨R0, T, ty, ⟨hc, hin, hty, hnmm, hdl, hdf⟩, hl, hins, hini⟩ := F
  have hK := kK_of (s := s) hG hW
  have hKn := hK.1 ci _ hc
  refine W.newcK hx hb hown (hts _ hl) (hts _ hins) (hts _ hini) rfl hd hrm.1 hrm.2 hKn.2.1 rfl fun H1 kC0 hkC e1 z1 o1 => ?_
  have hlt : ci < 100 := kcl_lt hc
  obtain ⟨n0, hR1⟩ := hR.new (o := (ci, df)) z1 o1 ⟨fun _ => ⟨_, hc, hdl, (u_born ty hts hin hKn hkC e1 hty).to hdf⟩, fun q => absurd hlt q⟩
  exact k H.size n0 H1 locs ls hR1 hloc hls
theorem x_newa {κ : Kx} {l : Launch} {G : Gh} {y : MethodName} {cc : ByteArray} {ret : Option FieldType} {nL lev mc ms : Nat} {Post : Option Value → Mem → Prop} (C : kC κ l G y cc ret nL lev mc ms Post) {m : Mem} {L : List (Option Value)} {cells slots pc : Nat} {st : List Value} (pc' : Nat) {atype : ArrayType} {ty : FieldType} {t : Nat} {z : Int} (hty : newarray.typeOf atype = ty) (hta : katy[t - 100]? = some ty) (h100 : ¬ t < 100) (h7 : t - 100 < 3) (harr : Cond.arrayClass ty ∈ lw_all) (hd : decode cc pc = .ok (.newarray atype, 2)) (h0 : 0 ≤ z) (h1 : z ≤ 1000000) (hp : pc + 2 = pc') (hrm : cells + 1 ≤ mc ∧ slots + z.toNat ≤ ms) (k : ∀ a : Nat, m a = none → kX κ (mset m a (t, List.replicate z.toNat (defaultValue ty))) L (cells + 1) (slots + z.toNat) pc' (.ref a :: st)) : kX κ m L cells slots pc (kI z :: st) := by
  subst hp
  subst hty
  obtain ⟨p, l', e, R, s, mm, args, below, meth, c, G', P', mc', ms', nL'⟩ := κ
  obtain ⟨rfl, rfl, rfl, rfl, rfl, rfl, rfl, hx, hb, hr, hlk, hml, hown, hnm, hts, hW, hG⟩ := C
  intro H locs ls hR hloc hls
  have hcl : (Int32.ofInt z).toNatClampNeg = z.toNat := k_clamp h0 (by omega)
  have hby : z.toNat * componentBytes (newarray.typeOf atype) ≤ 536870912 := by
    have h8 : componentBytes (newarray.typeOf atype) ≤ 8 := by cases atype <;> decide
    have h9 : z.toNat * componentBytes (newarray.typeOf atype) ≤ 1000000 * 8 := Nat.mul_le_mul (by omega) h8
    omega
  refine va_newaK hx hb (hts _ harr) rfl hd rfl (k_nneg h0 (by omega)) hcl hby hrm.1 hrm.2 rfl fun H1 cA e1 z1 o1 hA hcA => ?_
  have hra := ((hG.2.2.1 (t - 100) _ hta).2 (by omega)).moved hW.alike
  have hc1 : cA = gA G' (t - 100) := by
    have : s.vm.findClass ("[" ++ (newarray.typeOf atype).toString) = some (gA G' (t - 100)) := by
      cases atype <;> exact hra
    exact Option.some.inj (hcA.symm.trans this)
  rw [← arrV_new, hc1] at e1
  obtain ⟨n0, hR1⟩ := hR.new (o := (t, List.replicate z.toNat (defaultValue (newarray.typeOf atype)))) z1 o1 ⟨fun q => absurd q h100, fun _ => by rw [e1]; simp⟩
  exact k H.size n0 H1 locs ls hR1 hloc hls
theorem x_anewa {κ : Kx} {l : Launch} {G : Gh} {y : MethodName} {cc : ByteArray} {ret : Option FieldType} {nL lev mc ms : Nat} {Post : Option Value → Mem → Prop} (C : kC κ l G y cc ret nL lev mc ms Post) {m : Mem} {L : List (Option Value)} {cells slots pc : Nat} {st : List Value} (pc' : Nat) {index t : Nat} {Cn : String} {z : Int} (hta : katy[t - 100]? = some (.object Cn)) (h100 : ¬ t < 100) (h7 : t - 100 < 7) (hl : Cond.classLink y.cls index Cn ∈ lw_all) (hov : Cond.arrayOver (.object Cn) ∈ lw_tbl) (hd : decode cc pc = .ok (.anewarray index, 3)) (h0 : 0 ≤ z) (h1 : z ≤ 1000000) (hp : pc + 3 = pc') (hrm : cells + 1 ≤ mc ∧ slots + z.toNat ≤ ms) (k : ∀ a : Nat, m a = none → kX κ (mset m a (t, List.replicate z.toNat .null)) L (cells + 1) (slots + z.toNat) pc' (.ref a :: st)) : kX κ m L cells slots pc (kI z :: st) := by
  subst hp
  obtain ⟨p, l', e, R, s, mm, args, below, meth, c, G', P', mc', ms', nL'⟩ := κ
  obtain ⟨rfl, rfl, rfl, rfl, rfl, rfl, rfl, hx, hb, hr, hlk, hml, hown, hnm, hts, hW, hG⟩ := C
  intro H locs ls hR hloc hls
  have hcl : (Int32.ofInt z).toNatClampNeg = z.toNat := k_clamp h0 (by omega)
  have hAO : va_AO Cn s := va_AO.moved hW.alike (va_AO.of (hG.1 _ hov))
  refine W.anew hx hb hown (hts _ hl) (va_AO.use hAO) rfl hd rfl (k_nneg h0 (by omega)) (by rw [hcl]; omega) hrm.1 (by rw [hcl]; exact hrm.2) fun cA kA comp f1 f2 f3 f4 => ?_
  rw [hcl]
  obtain ⟨kA', comp', k1, k2, k3, k4⟩ := ((hG.2.2.1 (t - 100) _ hta).2 h7).moved hW.alike
  have hc1 : cA = gA G' (t - 100) := Option.some.inj (f1.symm.trans k4)
  subst hc1
  obtain ⟨n0, hR1⟩ := hR.new (H1 := H.push { cls := gA G' (t - 100), slots := Array.replicate z.toNat .null, vm := .none }) (o := (t, List.replicate z.toNat .null)) (by simp) (fun q hq => by rw [Array.getElem?_push, if_neg (Nat.ne_of_lt hq)]) ⟨fun q => absurd q h100, fun _ => by rw [Array.getElem?_push_size]; simp⟩
  exact k H.size n0 _ locs ls hR1 hloc hls
theorem x_objInit {κ : Kx} {l : Launch} {G : Gh} {y : MethodName} {cc : ByteArray} {ret : Option FieldType} {nL lev mc ms : Nat} {Post : Option Value → Mem → Prop} (C : kC κ l G y cc ret nL lev mc ms Post) {m : Mem} {L : List (Option Value)} {cells slots pc : Nat} {st : List Value} (pc' : Nat) {index a : Nat} (hl : Cond.methodLink y.cls index Lib.objectInit ∈ lw_all) (hi : Cond.instanceMethod Lib.objectInit ∈ lw_all) (hcd : Cond.code Lib.objectInit ⟨#[0xb1]⟩ 1 none ∈ lw_all) (hd : decode cc pc = .ok (.invokespecial index, 3)) (hp : pc + 3 = pc') (hlev : 1 ≤ lev) (hst : (st.map fun v => v.category).sum ≤ 8) (k : kX κ m L cells slots pc' st) : kX κ m L cells slots pc (.ref a :: st) := by
  subst hp
  obtain ⟨p, l', e, R, s, mm, args, below, meth, c, G', P', mc', ms', nL'⟩ := κ
  obtain ⟨rfl, rfl, rfl, rfl, rfl, rfl, rfl, hx, hb, hr, hlk, hml, hown, hnm, hts, hW, hG⟩ := C
  intro H locs ls hR hloc hls
  exact W.objInit hx hb hown (hts _ hl) (hts _ hi) (hts _ hcd) rfl (by rw [hml]; exact hls.1.1) rfl hd hlev (by show 2 * 0 + _ + 12 ≤ 60 * lev; omega) (k H locs ls hR hloc hls)
/-- a call's place in the tables: through an object whose class is Cn -/
def kcV (own : String) (index : Nat) (Cn : String) (y : MethodName) (b : ByteArray) (nL : Nat) (ret : Option FieldType) (n : Nat) : Prop := GoodIn lw_all (wsV own index Cn y (ws_ y b nL ret)) ∧ y.cls = Cn ∧ y.cls ≠ "java/lang/invoke/MethodHandle" ∧ y.cls ≠ "java/lang/invoke/VarHandle" ∧ (parseMethodDescriptor y.desc).map (fun d => d.parameters.length) = some n
def kcS (own : String) (index : Nat) (y : MethodName) (b : ByteArray) (nL : Nat) (ret : Option FieldType) (n : Nat) : Prop := GoodIn lw_all (va_wsS own index y (ws_ y b nL ret)) ∧ y.cls ≠ "java/lang/invoke/MethodHandle" ∧ y.cls ≠ "java/lang/invoke/VarHandle" ∧ (parseMethodDescriptor y.desc).map (fun d => d.parameters.length) = some n
def kcI (own : String) (index : Nat) (y : MethodName) (b : ByteArray) (nL : Nat) (n : Nat) : Prop := Cond.code y b nL none ∈ lw_all ∧ Cond.initialized y.cls ∈ lw_all ∧ Cond.methodLink own index y ∈ lw_all ∧ Cond.instanceMethod y ∈ lw_all ∧ y.name = "<init>" ∧ y.cls ≠ "java/lang/invoke/MethodHandle" ∧ y.cls ≠ "java/lang/invoke/VarHandle" ∧ (parseMethodDescriptor y.desc).map (fun d => d.parameters.length) = some n
abbrev kps (v : Option Value) (st : List Value) : List Value := match v with
  | none => st
  | some r => r :: st
theorem kP_k {r : Value} {m : Mem} {F : Option Value → Mem → Prop} (h : F (some r) m) : ∀ v m1, kP r m v m1 → F v m1 := by rintro v m1 ⟨rfl, rfl⟩; exact h
theorem kPi_k {f : Int → Mem → Prop} {F : Option Value → Mem → Prop} (h : ∀ z m1, f z m1 → F (some (kI z)) m1) : ∀ v m1, kPi f v m1 → F v m1 := by rintro v m1 ⟨z, rfl, hz⟩; exact h z m1 hz
theorem kPr_k {f : Value → Mem → Prop} {F : Option Value → Mem → Prop} (h : ∀ r m1, f r m1 → F (some r) m1) : ∀ v m1, kPr f v m1 → F v m1 := by rintro v m1 ⟨z, rfl, hz⟩; exact h z m1 hz
theorem kPv_k {f : Mem → Prop} {F : Option Value → Mem → Prop} (h : ∀ m1, f m1 → F none m1) : ∀ v m1, kPv f v m1 → F v m1 := by rintro v m1 ⟨rfl, hz⟩; exact h m1 hz
section KRUN
variable {p : Program} {l : Launch} {e : Env} {R : Room} {s : State} {mm : MethodId} {args : Array Value} {below : List Frame} {meth : Method} {c : Code} {H : Heap} {locs : List Loc} {cells slots mc' ms' : Nat} {Q : State → Prop} {pc : Nat} {ls : Array Slot} {rest st0 : List Value} {G : Gh} {P' : Option Value → Mem → Prop} {a : Array Value}
theorem k_back (hr : va_Run p l e R s mm args below meth c H locs cells slots mc' ms' (F0 mm pc ls st0) rest (kQ G P' a) (fun q => gz G ≤ q)) (hloc : ∀ q ∈ locs, gz G ≤ q.base)
    (kk : ∀ (v : Option Value) (m1 : Mem) (H1 : Heap) (locs1 : List Loc), P' v m1 → kRep G m1 H1 → (∀ q ∈ locs1, gz G ≤ q.base) → W p l e R s mm args below meth c H1 locs1 (cells + mc') (slots + ms') Q (F0 mm (pc + 3) ls (v.toList ++ rest))) : W p l e R s mm args below meth c H locs cells slots Q (F0 mm pc ls st0) := by
  intro T hT X
  obtain ⟨v, st₀, t, T', L, h0, X', hL, e1, e2, ⟨v2, m1, hv, hp, hR1⟩, st⟩ := hr T hT X
  cases hv
  obtain ⟨t2, a1, b1⟩ := kk v m1 T'.heap (locs ++ L) hp (by rw [e1]; exact hR1) (fun q hq => by
    rcases List.mem_append.mp hq with h | h
    · exact hloc q h
    · exact hL q h) T' rfl X'
  exact ⟨t2, st t2 a1, b1⟩
end KRUN
theorem x_callV0 {κ : Kx} {l : Launch} {G : Gh} {y : MethodName} {cc : ByteArray} {ret : Option FieldType} {nL lev mc ms : Nat} {Post : Option Value → Mem → Prop} (C : kC κ l G y cc ret nL lev mc ms Post) {m : Mem} {L : List (Option Value)} {cells slots pc : Nat} {st : List Value} (pc' : Nat) {y2 : MethodName} {b2 : ByteArray} {nL2 lev2 mc2 ms2 : Nat} {ret2 : Option FieldType} {P2 : Option Value → Mem → Prop} {index o ci : Nat} {Cn : String} {T0 : u_T} {N0 : Nat} {vs : List Value} (hM : kM l G y2 b2 nL2 ret2 lev2 mc2 ms2 [.ref o] m P2) (hc : kcV y.cls index Cn y2 b2 nL2 ret2 0) (ho : m o = some (ci, vs)) (hci : kcl[ci]? = some (Cn, T0, N0)) (hd : decode cc pc = .ok (.invokevirtual index, 3)) (hp : pc + 3 = pc') (hlev : lev2 < lev) (hnl : nL2 ≤ 41) (hrm : cells + mc2 ≤ mc ∧ slots + ms2 ≤ ms) (hst : (st.map fun v => v.category).sum ≤ 8) (k : ∀ (v : Option Value) (m1 : Mem), P2 v m1 → kX κ m1 L (cells + mc2) (slots + ms2) pc' (kps v st)) : kX κ m L cells slots pc (.ref o :: st) := by
  subst hp
  obtain ⟨p, l', e, R, s, mm, args, below, meth, c, G', P', mc', ms', nL'⟩ := κ
  obtain ⟨rfl, rfl, rfl, rfl, rfl, rfl, rfl, hx, hb, hr, hlk, hml, hown, hnm, hts, hW, hG⟩ := C
  intro H locs ls hR hloc hls
  refine k_back (va_runV (As := []) (rest := st) ⟨hx, hb, hml, hown, hts⟩ hM (cwV 0 hts hc.1 rfl rfl rfl hc.2 ⟨by show lev2 + 1 ≤ lev; omega, by show 8 + (nL2 + 11) + 60 * lev2 ≤ 60 * lev; omega⟩) ⟨kPc_blind, va_recv (kK_of hG hW) (kP_of hR ho hci) (ci := ci) (q0 := 0) hci rfl, fun U hU hW2 => ⟨rfl, by rw [hU]; exact hR, hW.trans hW2⟩⟩ rfl rfl hls.1.1 rfl (lv_room hst) hd hrm) hloc fun v m1 H1 locs1 hp hR1 hl1 => ?_
  cases v <;> exact k _ m1 hp H1 locs1 ls hR1 hl1 hls
theorem x_callS0 {κ : Kx} {l : Launch} {G : Gh} {y : MethodName} {cc : ByteArray} {ret : Option FieldType} {nL lev mc ms : Nat} {Post : Option Value → Mem → Prop} (C : kC κ l G y cc ret nL lev mc ms Post) {m : Mem} {L : List (Option Value)} {cells slots pc : Nat} {st : List Value} (pc' : Nat) {y2 : MethodName} {b2 : ByteArray} {nL2 lev2 mc2 ms2 : Nat} {ret2 : Option FieldType} {P2 : Option Value → Mem → Prop} {index : Nat} (hM : kM l G y2 b2 nL2 ret2 lev2 mc2 ms2 [] m P2) (hc : kcS y.cls index y2 b2 nL2 ret2 0) (hd : decode cc pc = .ok (.invokestatic index, 3)) (hp : pc + 3 = pc') (hlev : lev2 < lev) (hnl : nL2 ≤ 41) (hrm : cells + mc2 ≤ mc ∧ slots + ms2 ≤ ms) (hst : (st.map fun v => v.category).sum ≤ 8) (k : ∀ (v : Option Value) (m1 : Mem), P2 v m1 → kX κ m1 L (cells + mc2) (slots + ms2) pc' (kps v st)) : kX κ m L cells slots pc (st) := by
  subst hp
  obtain ⟨p, l', e, R, s, mm, args, below, meth, c, G', P', mc', ms', nL'⟩ := κ
  obtain ⟨rfl, rfl, rfl, rfl, rfl, rfl, rfl, hx, hb, hr, hlk, hml, hown, hnm, hts, hW, hG⟩ := C
  intro H locs ls hR hloc hls
  refine k_back (va_runS (As := []) (rest := st) ⟨hx, hb, hml, hown, hts⟩ hM (va_cwS 0 hts hc.1 rfl rfl rfl hc.2 ⟨by show lev2 + 1 ≤ lev; omega, by show 8 + (nL2 + 11) + 60 * lev2 ≤ 60 * lev; omega⟩) ⟨kPc_blind, fun U hU hW2 => ⟨rfl, by rw [hU]; exact hR, hW.trans hW2⟩⟩ rfl rfl hls.1.1 rfl (lv_room hst) hd hrm) hloc fun v m1 H1 locs1 hp hR1 hl1 => ?_
  cases v <;> exact k _ m1 hp H1 locs1 ls hR1 hl1 hls
theorem x_callI0 {κ : Kx} {l : Launch} {G : Gh} {y : MethodName} {cc : ByteArray} {ret : Option FieldType} {nL lev mc ms : Nat} {Post : Option Value → Mem → Prop} (C : kC κ l G y cc ret nL lev mc ms Post) {m : Mem} {L : List (Option Value)} {cells slots pc : Nat} {st : List Value} (pc' : Nat) {y2 : MethodName} {b2 : ByteArray} {nL2 lev2 mc2 ms2 : Nat} {P2 : Option Value → Mem → Prop} {index o : Nat} (hM : kM l G y2 b2 nL2 none lev2 mc2 ms2 [.ref o] m P2) (hc : kcI y.cls index y2 b2 nL2 0) (hd : decode cc pc = .ok (.invokespecial index, 3)) (hp : pc + 3 = pc') (hlev : lev2 < lev) (hnl : nL2 ≤ 41) (hrm : cells + mc2 ≤ mc ∧ slots + ms2 ≤ ms) (hst : (st.map fun v => v.category).sum ≤ 8) (k : ∀ (v : Option Value) (m1 : Mem), P2 v m1 → kX κ m1 L (cells + mc2) (slots + ms2) pc' (kps v st)) : kX κ m L cells slots pc (.ref o :: st) := by
  subst hp
  obtain ⟨p, l', e, R, s, mm, args, below, meth, c, G', P', mc', ms', nL'⟩ := κ
  obtain ⟨rfl, rfl, rfl, rfl, rfl, rfl, rfl, hx, hb, hr, hlk, hml, hown, hnm, hts, hW, hG⟩ := C
  intro H locs ls hR hloc hls
  refine k_back (va_runI (As := []) (rest := st) ⟨hx, hb, hml, hown, hts⟩ hM (cwI 0 hts (lw_meth hc.1) rfl rfl rfl (hts _ hc.2.1) (hts _ hc.2.2.1) (hts _ hc.2.2.2.1) hc.2.2.2.2.1 hc.2.2.2.2.2 ⟨by show lev2 + 1 ≤ lev; omega, by show 8 + (nL2 + 11) + 60 * lev2 ≤ 60 * lev; omega⟩) ⟨kPc_blind, fun U hU hW2 => ⟨rfl, by rw [hU]; exact hR, hW.trans hW2⟩⟩ rfl rfl hls.1.1 rfl (lv_room hst) hd hrm) hloc fun v m1 H1 locs1 hp hR1 hl1 => ?_
  cases v <;> exact k _ m1 hp H1 locs1 ls hR1 hl1 hls
theorem x_callV1 {κ : Kx} {l : Launch} {G : Gh} {y : MethodName} {cc : ByteArray} {ret : Option FieldType} {nL lev mc ms : Nat} {Post : Option Value → Mem → Prop} (C : kC κ l G y cc ret nL lev mc ms Post) {m : Mem} {L : List (Option Value)} {cells slots pc : Nat} {st : List Value} (pc' : Nat) {y2 : MethodName} {b2 : ByteArray} {nL2 lev2 mc2 ms2 : Nat} {ret2 : Option FieldType} {P2 : Option Value → Mem → Prop} {index o ci : Nat} {Cn : String} {T0 : u_T} {N0 : Nat} {vs : List Value} {v1 : Value} (hM : kM l G y2 b2 nL2 ret2 lev2 mc2 ms2 [.ref o, v1] m P2) (hc : kcV y.cls index Cn y2 b2 nL2 ret2 1) (ho : m o = some (ci, vs)) (hci : kcl[ci]? = some (Cn, T0, N0)) (hd : decode cc pc = .ok (.invokevirtual index, 3)) (hp : pc + 3 = pc') (hlev : lev2 < lev) (hnl : nL2 ≤ 41) (hrm : cells + mc2 ≤ mc ∧ slots + ms2 ≤ ms) (hst : (st.map fun v => v.category).sum ≤ 8) (k : ∀ (v : Option Value) (m1 : Mem), P2 v m1 → kX κ m1 L (cells + mc2) (slots + ms2) pc' (kps v st)) : kX κ m L cells slots pc (v1 :: .ref o :: st) := by
  subst hp
  obtain ⟨p, l', e, R, s, mm, args, below, meth, c, G', P', mc', ms', nL'⟩ := κ
  obtain ⟨rfl, rfl, rfl, rfl, rfl, rfl, rfl, hx, hb, hr, hlk, hml, hown, hnm, hts, hW, hG⟩ := C
  intro H locs ls hR hloc hls
  refine k_back (va_runV (As := [v1]) (rest := st) ⟨hx, hb, hml, hown, hts⟩ hM (cwV 1 hts hc.1 rfl rfl rfl hc.2 ⟨by show lev2 + 1 ≤ lev; omega, by show 8 + (nL2 + 11) + 60 * lev2 ≤ 60 * lev; omega⟩) ⟨kPc_blind, va_recv (kK_of hG hW) (kP_of hR ho hci) (ci := ci) (q0 := 0) hci rfl, fun U hU hW2 => ⟨rfl, by rw [hU]; exact hR, hW.trans hW2⟩⟩ rfl rfl hls.1.1 rfl (lv_room hst) hd hrm) hloc fun v m1 H1 locs1 hp hR1 hl1 => ?_
  cases v <;> exact k _ m1 hp H1 locs1 ls hR1 hl1 hls
theorem x_callS1 {κ : Kx} {l : Launch} {G : Gh} {y : MethodName} {cc : ByteArray} {ret : Option FieldType} {nL lev mc ms : Nat} {Post : Option Value → Mem → Prop} (C : kC κ l G y cc ret nL lev mc ms Post) {m : Mem} {L : List (Option Value)} {cells slots pc : Nat} {st : List Value} (pc' : Nat) {y2 : MethodName} {b2 : ByteArray} {nL2 lev2 mc2 ms2 : Nat} {ret2 : Option FieldType} {P2 : Option Value → Mem → Prop} {index : Nat} {v1 : Value} (hM : kM l G y2 b2 nL2 ret2 lev2 mc2 ms2 [v1] m P2) (hc : kcS y.cls index y2 b2 nL2 ret2 1) (hd : decode cc pc = .ok (.invokestatic index, 3)) (hp : pc + 3 = pc') (hlev : lev2 < lev) (hnl : nL2 ≤ 41) (hrm : cells + mc2 ≤ mc ∧ slots + ms2 ≤ ms) (hst : (st.map fun v => v.category).sum ≤ 8) (k : ∀ (v : Option Value) (m1 : Mem), P2 v m1 → kX κ m1 L (cells + mc2) (slots + ms2) pc' (kps v st)) : kX κ m L cells slots pc (v1 :: st) := by
  subst hp
  obtain ⟨p, l', e, R, s, mm, args, below, meth, c, G', P', mc', ms', nL'⟩ := κ
  obtain ⟨rfl, rfl, rfl, rfl, rfl, rfl, rfl, hx, hb, hr, hlk, hml, hown, hnm, hts, hW, hG⟩ := C
  intro H locs ls hR hloc hls
  refine k_back (va_runS (As := [v1]) (rest := st) ⟨hx, hb, hml, hown, hts⟩ hM (va_cwS 1 hts hc.1 rfl rfl rfl hc.2 ⟨by show lev2 + 1 ≤ lev; omega, by show 8 + (nL2 + 11) + 60 * lev2 ≤ 60 * lev; omega⟩) ⟨kPc_blind, fun U hU hW2 => ⟨rfl, by rw [hU]; exact hR, hW.trans hW2⟩⟩ rfl rfl hls.1.1 rfl (lv_room hst) hd hrm) hloc fun v m1 H1 locs1 hp hR1 hl1 => ?_
  cases v <;> exact k _ m1 hp H1 locs1 ls hR1 hl1 hls
theorem x_callI1 {κ : Kx} {l : Launch} {G : Gh} {y : MethodName} {cc : ByteArray} {ret : Option FieldType} {nL lev mc ms : Nat} {Post : Option Value → Mem → Prop} (C : kC κ l G y cc ret nL lev mc ms Post) {m : Mem} {L : List (Option Value)} {cells slots pc : Nat} {st : List Value} (pc' : Nat) {y2 : MethodName} {b2 : ByteArray} {nL2 lev2 mc2 ms2 : Nat} {P2 : Option Value → Mem → Prop} {index o : Nat} {v1 : Value} (hM : kM l G y2 b2 nL2 none lev2 mc2 ms2 [.ref o, v1] m P2) (hc : kcI y.cls index y2 b2 nL2 1) (hd : decode cc pc = .ok (.invokespecial index, 3)) (hp : pc + 3 = pc') (hlev : lev2 < lev) (hnl : nL2 ≤ 41) (hrm : cells + mc2 ≤ mc ∧ slots + ms2 ≤ ms) (hst : (st.map fun v => v.category).sum ≤ 8) (k : ∀ (v : Option Value) (m1 : Mem), P2 v m1 → kX κ m1 L (cells + mc2) (slots + ms2) pc' (kps v st)) : kX κ m L cells slots pc (v1 :: .ref o :: st) := by
  subst hp
  obtain ⟨p, l', e, R, s, mm, args, below, meth, c, G', P', mc', ms', nL'⟩ := κ
  obtain ⟨rfl, rfl, rfl, rfl, rfl, rfl, rfl, hx, hb, hr, hlk, hml, hown, hnm, hts, hW, hG⟩ := C
  intro H locs ls hR hloc hls
  refine k_back (va_runI (As := [v1]) (rest := st) ⟨hx, hb, hml, hown, hts⟩ hM (cwI 1 hts (lw_meth hc.1) rfl rfl rfl (hts _ hc.2.1) (hts _ hc.2.2.1) (hts _ hc.2.2.2.1) hc.2.2.2.2.1 hc.2.2.2.2.2 ⟨by show lev2 + 1 ≤ lev; omega, by show 8 + (nL2 + 11) + 60 * lev2 ≤ 60 * lev; omega⟩) ⟨kPc_blind, fun U hU hW2 => ⟨rfl, by rw [hU]; exact hR, hW.trans hW2⟩⟩ rfl rfl hls.1.1 rfl (lv_room hst) hd hrm) hloc fun v m1 H1 locs1 hp hR1 hl1 => ?_
  cases v <;> exact k _ m1 hp H1 locs1 ls hR1 hl1 hls
theorem x_callV2 {κ : Kx} {l : Launch} {G : Gh} {y : MethodName} {cc : ByteArray} {ret : Option FieldType} {nL lev mc ms : Nat} {Post : Option Value → Mem → Prop} (C : kC κ l G y cc ret nL lev mc ms Post) {m : Mem} {L : List (Option Value)} {cells slots pc : Nat} {st : List Value} (pc' : Nat) {y2 : MethodName} {b2 : ByteArray} {nL2 lev2 mc2 ms2 : Nat} {ret2 : Option FieldType} {P2 : Option Value → Mem → Prop} {index o ci : Nat} {Cn : String} {T0 : u_T} {N0 : Nat} {vs : List Value} {v1 v2 : Value} (hM : kM l G y2 b2 nL2 ret2 lev2 mc2 ms2 [.ref o, v1, v2] m P2) (hc : kcV y.cls index Cn y2 b2 nL2 ret2 2) (ho : m o = some (ci, vs)) (hci : kcl[ci]? = some (Cn, T0, N0)) (hd : decode cc pc = .ok (.invokevirtual index, 3)) (hp : pc + 3 = pc') (hlev : lev2 < lev) (hnl : nL2 ≤ 41) (hrm : cells + mc2 ≤ mc ∧ slots + ms2 ≤ ms) (hst : (st.map fun v => v.category).sum ≤ 8) (k : ∀ (v : Option Value) (m1 : Mem), P2 v m1 → kX κ m1 L (cells + mc2) (slots + ms2) pc' (kps v st)) : kX κ m L cells slots pc (v2 :: v1 :: .ref o :: st) := by
  subst hp
  obtain ⟨p, l', e, R, s, mm, args, below, meth, c, G', P', mc', ms', nL'⟩ := κ
  obtain ⟨rfl, rfl, rfl, rfl, rfl, rfl, rfl, hx, hb, hr, hlk, hml, hown, hnm, hts, hW, hG⟩ := C
  intro H locs ls hR hloc hls
  refine k_back (va_runV (As := [v1, v2]) (rest := st) ⟨hx, hb, hml, hown, hts⟩ hM (cwV 2 hts hc.1 rfl rfl rfl hc.2 ⟨by show lev2 + 1 ≤ lev; omega, by show 8 + (nL2 + 11) + 60 * lev2 ≤ 60 * lev; omega⟩) ⟨kPc_blind, va_recv (kK_of hG hW) (kP_of hR ho hci) (ci := ci) (q0 := 0) hci rfl, fun U hU hW2 => ⟨rfl, by rw [hU]; exact hR, hW.trans hW2⟩⟩ rfl rfl hls.1.1 rfl (lv_room hst) hd hrm) hloc fun v m1 H1 locs1 hp hR1 hl1 => ?_
  cases v <;> exact k _ m1 hp H1 locs1 ls hR1 hl1 hls
theorem x_callS2 {κ : Kx} {l : Launch} {G : Gh} {y : MethodName} {cc : ByteArray} {ret : Option FieldType} {nL lev mc ms : Nat} {Post : Option Value → Mem → Prop} (C : kC κ l G y cc ret nL lev mc ms Post) {m : Mem} {L : List (Option Value)} {cells slots pc : Nat} {st : List Value} (pc' : Nat) {y2 : MethodName} {b2 : ByteArray} {nL2 lev2 mc2 ms2 : Nat} {ret2 : Option FieldType} {P2 : Option Value → Mem → Prop} {index : Nat} {v1 v2 : Value} (hM : kM l G y2 b2 nL2 ret2 lev2 mc2 ms2 [v1, v2] m P2) (hc : kcS y.cls index y2 b2 nL2 ret2 2) (hd : decode cc pc = .ok (.invokestatic index, 3)) (hp : pc + 3 = pc') (hlev : lev2 < lev) (hnl : nL2 ≤ 41) (hrm : cells + mc2 ≤ mc ∧ slots + ms2 ≤ ms) (hst : (st.map fun v => v.category).sum ≤ 8) (k : ∀ (v : Option Value) (m1 : Mem), P2 v m1 → kX κ m1 L (cells + mc2) (slots + ms2) pc' (kps v st)) : kX κ m L cells slots pc (v2 :: v1 :: st) := by
  subst hp
  obtain ⟨p, l', e, R, s, mm, args, below, meth, c, G', P', mc', ms', nL'⟩ := κ
  obtain ⟨rfl, rfl, rfl, rfl, rfl, rfl, rfl, hx, hb, hr, hlk, hml, hown, hnm, hts, hW, hG⟩ := C
  intro H locs ls hR hloc hls
  refine k_back (va_runS (As := [v1, v2]) (rest := st) ⟨hx, hb, hml, hown, hts⟩ hM (va_cwS 2 hts hc.1 rfl rfl rfl hc.2 ⟨by show lev2 + 1 ≤ lev; omega, by show 8 + (nL2 + 11) + 60 * lev2 ≤ 60 * lev; omega⟩) ⟨kPc_blind, fun U hU hW2 => ⟨rfl, by rw [hU]; exact hR, hW.trans hW2⟩⟩ rfl rfl hls.1.1 rfl (lv_room hst) hd hrm) hloc fun v m1 H1 locs1 hp hR1 hl1 => ?_
  cases v <;> exact k _ m1 hp H1 locs1 ls hR1 hl1 hls
theorem x_callI2 {κ : Kx} {l : Launch} {G : Gh} {y : MethodName} {cc : ByteArray} {ret : Option FieldType} {nL lev mc ms : Nat} {Post : Option Value → Mem → Prop} (C : kC κ l G y cc ret nL lev mc ms Post) {m : Mem} {L : List (Option Value)} {cells slots pc : Nat} {st : List Value} (pc' : Nat) {y2 : MethodName} {b2 : ByteArray} {nL2 lev2 mc2 ms2 : Nat} {P2 : Option Value → Mem → Prop} {index o : Nat} {v1 v2 : Value} (hM : kM l G y2 b2 nL2 none lev2 mc2 ms2 [.ref o, v1, v2] m P2) (hc : kcI y.cls index y2 b2 nL2 2) (hd : decode cc pc = .ok (.invokespecial index, 3)) (hp : pc + 3 = pc') (hlev : lev2 < lev) (hnl : nL2 ≤ 41) (hrm : cells + mc2 ≤ mc ∧ slots + ms2 ≤ ms) (hst : (st.map fun v => v.category).sum ≤ 8) (k : ∀ (v : Option Value) (m1 : Mem), P2 v m1 → kX κ m1 L (cells + mc2) (slots + ms2) pc' (kps v st)) : kX κ m L cells slots pc (v2 :: v1 :: .ref o :: st) := by
  subst hp
  obtain ⟨p, l', e, R, s, mm, args, below, meth, c, G', P', mc', ms', nL'⟩ := κ
  obtain ⟨rfl, rfl, rfl, rfl, rfl, rfl, rfl, hx, hb, hr, hlk, hml, hown, hnm, hts, hW, hG⟩ := C
  intro H locs ls hR hloc hls
  refine k_back (va_runI (As := [v1, v2]) (rest := st) ⟨hx, hb, hml, hown, hts⟩ hM (cwI 2 hts (lw_meth hc.1) rfl rfl rfl (hts _ hc.2.1) (hts _ hc.2.2.1) (hts _ hc.2.2.2.1) hc.2.2.2.2.1 hc.2.2.2.2.2 ⟨by show lev2 + 1 ≤ lev; omega, by show 8 + (nL2 + 11) + 60 * lev2 ≤ 60 * lev; omega⟩) ⟨kPc_blind, fun U hU hW2 => ⟨rfl, by rw [hU]; exact hR, hW.trans hW2⟩⟩ rfl rfl hls.1.1 rfl (lv_room hst) hd hrm) hloc fun v m1 H1 locs1 hp hR1 hl1 => ?_
  cases v <;> exact k _ m1 hp H1 locs1 ls hR1 hl1 hls
theorem x_callV3 {κ : Kx} {l : Launch} {G : Gh} {y : MethodName} {cc : ByteArray} {ret : Option FieldType} {nL lev mc ms : Nat} {Post : Option Value → Mem → Prop} (C : kC κ l G y cc ret nL lev mc ms Post) {m : Mem} {L : List (Option Value)} {cells slots pc : Nat} {st : List Value} (pc' : Nat) {y2 : MethodName} {b2 : ByteArray} {nL2 lev2 mc2 ms2 : Nat} {ret2 : Option FieldType} {P2 : Option Value → Mem → Prop} {index o ci : Nat} {Cn : String} {T0 : u_T} {N0 : Nat} {vs : List Value} {v1 v2 v3 : Value} (hM : kM l G y2 b2 nL2 ret2 lev2 mc2 ms2 [.ref o, v1, v2, v3] m P2) (hc : kcV y.cls index Cn y2 b2 nL2 ret2 3) (ho : m o = some (ci, vs)) (hci : kcl[ci]? = some (Cn, T0, N0)) (hd : decode cc pc = .ok (.invokevirtual index, 3)) (hp : pc + 3 = pc') (hlev : lev2 < lev) (hnl : nL2 ≤ 41) (hrm : cells + mc2 ≤ mc ∧ slots + ms2 ≤ ms) (hst : (st.map fun v => v.category).sum ≤ 8) (k : ∀ (v : Option Value) (m1 : Mem), P2 v m1 → kX κ m1 L (cells + mc2) (slots + ms2) pc' (kps v st)) : kX κ m L cells slots pc (v3 :: v2 :: v1 :: .ref o :: st) := by
  subst hp
  obtain ⟨p, l', e, R, s, mm, args, below, meth, c, G', P', mc', ms', nL'⟩ := κ
  obtain ⟨rfl, rfl, rfl, rfl, rfl, rfl, rfl, hx, hb, hr, hlk, hml, hown, hnm, hts, hW, hG⟩ := C
  intro H locs ls hR hloc hls
  refine k_back (va_runV (As := [v1, v2, v3]) (rest := st) ⟨hx, hb, hml, hown, hts⟩ hM (cwV 3 hts hc.1 rfl rfl rfl hc.2 ⟨by show lev2 + 1 ≤ lev; omega, by show 8 + (nL2 + 11) + 60 * lev2 ≤ 60 * lev; omega⟩) ⟨kPc_blind, va_recv (kK_of hG hW) (kP_of hR ho hci) (ci := ci) (q0 := 0) hci rfl, fun U hU hW2 => ⟨rfl, by rw [hU]; exact hR, hW.trans hW2⟩⟩ rfl rfl hls.1.1 rfl (lv_room hst) hd hrm) hloc fun v m1 H1 locs1 hp hR1 hl1 => ?_
  cases v <;> exact k _ m1 hp H1 locs1 ls hR1 hl1 hls
theorem x_callS3 {κ : Kx} {l : Launch} {G : Gh} {y : MethodName} {cc : ByteArray} {ret : Option FieldType} {nL lev mc ms : Nat} {Post : Option Value → Mem → Prop} (C : kC κ l G y cc ret nL lev mc ms Post) {m : Mem} {L : List (Option Value)} {cells slots pc : Nat} {st : List Value} (pc' : Nat) {y2 : MethodName} {b2 : ByteArray} {nL2 lev2 mc2 ms2 : Nat} {ret2 : Option FieldType} {P2 : Option Value → Mem → Prop} {index : Nat} {v1 v2 v3 : Value} (hM : kM l G y2 b2 nL2 ret2 lev2 mc2 ms2 [v1, v2, v3] m P2) (hc : kcS y.cls index y2 b2 nL2 ret2 3) (hd : decode cc pc = .ok (.invokestatic index, 3)) (hp : pc + 3 = pc') (hlev : lev2 < lev) (hnl : nL2 ≤ 41) (hrm : cells + mc2 ≤ mc ∧ slots + ms2 ≤ ms) (hst : (st.map fun v => v.category).sum ≤ 8) (k : ∀ (v : Option Value) (m1 : Mem), P2 v m1 → kX κ m1 L (cells + mc2) (slots + ms2) pc' (kps v st)) : kX κ m L cells slots pc (v3 :: v2 :: v1 :: st) := by
  subst hp
  obtain ⟨p, l', e, R, s, mm, args, below, meth, c, G', P', mc', ms', nL'⟩ := κ
  obtain ⟨rfl, rfl, rfl, rfl, rfl, rfl, rfl, hx, hb, hr, hlk, hml, hown, hnm, hts, hW, hG⟩ := C
  intro H locs ls hR hloc hls
  refine k_back (va_runS (As := [v1, v2, v3]) (rest := st) ⟨hx, hb, hml, hown, hts⟩ hM (va_cwS 3 hts hc.1 rfl rfl rfl hc.2 ⟨by show lev2 + 1 ≤ lev; omega, by show 8 + (nL2 + 11) + 60 * lev2 ≤ 60 * lev; omega⟩) ⟨kPc_blind, fun U hU hW2 => ⟨rfl, by rw [hU]; exact hR, hW.trans hW2⟩⟩ rfl rfl hls.1.1 rfl (lv_room hst) hd hrm) hloc fun v m1 H1 locs1 hp hR1 hl1 => ?_
  cases v <;> exact k _ m1 hp H1 locs1 ls hR1 hl1 hls
theorem x_callI3 {κ : Kx} {l : Launch} {G : Gh} {y : MethodName} {cc : ByteArray} {ret : Option FieldType} {nL lev mc ms : Nat} {Post : Option Value → Mem → Prop} (C : kC κ l G y cc ret nL lev mc ms Post) {m : Mem} {L : List (Option Value)} {cells slots pc : Nat} {st : List Value} (pc' : Nat) {y2 : MethodName} {b2 : ByteArray} {nL2 lev2 mc2 ms2 : Nat} {P2 : Option Value → Mem → Prop} {index o : Nat} {v1 v2 v3 : Value} (hM : kM l G y2 b2 nL2 none lev2 mc2 ms2 [.ref o, v1, v2, v3] m P2) (hc : kcI y.cls index y2 b2 nL2 3) (hd : decode cc pc = .ok (.invokespecial index, 3)) (hp : pc + 3 = pc') (hlev : lev2 < lev) (hnl : nL2 ≤ 41) (hrm : cells + mc2 ≤ mc ∧ slots + ms2 ≤ ms) (hst : (st.map fun v => v.category).sum ≤ 8) (k : ∀ (v : Option Value) (m1 : Mem), P2 v m1 → kX κ m1 L (cells + mc2) (slots + ms2) pc' (kps v st)) : kX κ m L cells slots pc (v3 :: v2 :: v1 :: .ref o :: st) := by
  subst hp
  obtain ⟨p, l', e, R, s, mm, args, below, meth, c, G', P', mc', ms', nL'⟩ := κ
  obtain ⟨rfl, rfl, rfl, rfl, rfl, rfl, rfl, hx, hb, hr, hlk, hml, hown, hnm, hts, hW, hG⟩ := C
  intro H locs ls hR hloc hls
  refine k_back (va_runI (As := [v1, v2, v3]) (rest := st) ⟨hx, hb, hml, hown, hts⟩ hM (cwI 3 hts (lw_meth hc.1) rfl rfl rfl (hts _ hc.2.1) (hts _ hc.2.2.1) (hts _ hc.2.2.2.1) hc.2.2.2.2.1 hc.2.2.2.2.2 ⟨by show lev2 + 1 ≤ lev; omega, by show 8 + (nL2 + 11) + 60 * lev2 ≤ 60 * lev; omega⟩) ⟨kPc_blind, fun U hU hW2 => ⟨rfl, by rw [hU]; exact hR, hW.trans hW2⟩⟩ rfl rfl hls.1.1 rfl (lv_room hst) hd hrm) hloc fun v m1 H1 locs1 hp hR1 hl1 => ?_
  cases v <;> exact k _ m1 hp H1 locs1 ls hR1 hl1 hls
theorem x_callV4 {κ : Kx} {l : Launch} {G : Gh} {y : MethodName} {cc : ByteArray} {ret : Option FieldType} {nL lev mc ms : Nat} {Post : Option Value → Mem → Prop} (C : kC κ l G y cc ret nL lev mc ms Post) {m : Mem} {L : List (Option Value)} {cells slots pc : Nat} {st : List Value} (pc' : Nat) {y2 : MethodName} {b2 : ByteArray} {nL2 lev2 mc2 ms2 : Nat} {ret2 : Option FieldType} {P2 : Option Value → Mem → Prop} {index o ci : Nat} {Cn : String} {T0 : u_T} {N0 : Nat} {vs : List Value} {v1 v2 v3 v4 : Value} (hM : kM l G y2 b2 nL2 ret2 lev2 mc2 ms2 [.ref o, v1, v2, v3, v4] m P2) (hc : kcV y.cls index Cn y2 b2 nL2 ret2 4) (ho : m o = some (ci, vs)) (hci : kcl[ci]? = some (Cn, T0, N0)) (hd : decode cc pc = .ok (.invokevirtual index, 3)) (hp : pc + 3 = pc') (hlev : lev2 < lev) (hnl : nL2 ≤ 41) (hrm : cells + mc2 ≤ mc ∧ slots + ms2 ≤ ms) (hst : (st.map fun v => v.category).sum ≤ 8) (k : ∀ (v : Option Value) (m1 : Mem), P2 v m1 → kX κ m1 L (cells + mc2) (slots + ms2) pc' (kps v st)) : kX κ m L cells slots pc (v4 :: v3 :: v2 :: v1 :: .ref o :: st) := by
  subst hp
  obtain ⟨p, l', e, R, s, mm, args, below, meth, c, G', P', mc', ms', nL'⟩ := κ
  obtain ⟨rfl, rfl, rfl, rfl, rfl, rfl, rfl, hx, hb, hr, hlk, hml, hown, hnm, hts, hW, hG⟩ := C
  intro H locs ls hR hloc hls
  refine k_back (va_runV (As := [v1, v2, v3, v4]) (rest := st) ⟨hx, hb, hml, hown, hts⟩ hM (cwV 4 hts hc.1 rfl rfl rfl hc.2 ⟨by show lev2 + 1 ≤ lev; omega, by show 8 + (nL2 + 11) + 60 * lev2 ≤ 60 * lev; omega⟩) ⟨kPc_blind, va_recv (kK_of hG hW) (kP_of hR ho hci) (ci := ci) (q0 := 0) hci rfl, fun U hU hW2 => ⟨rfl, by rw [hU]; exact hR, hW.trans hW2⟩⟩ rfl rfl hls.1.1 rfl (lv_room hst) hd hrm) hloc fun v m1 H1 locs1 hp hR1 hl1 => ?_
  cases v <;> exact k _ m1 hp H1 locs1 ls hR1 hl1 hls
theorem x_callS4 {κ : Kx} {l : Launch} {G : Gh} {y : MethodName} {cc : ByteArray} {ret : Option FieldType} {nL lev mc ms : Nat} {Post : Option Value → Mem → Prop} (C : kC κ l G y cc ret nL lev mc ms Post) {m : Mem} {L : List (Option Value)} {cells slots pc : Nat} {st : List Value} (pc' : Nat) {y2 : MethodName} {b2 : ByteArray} {nL2 lev2 mc2 ms2 : Nat} {ret2 : Option FieldType} {P2 : Option Value → Mem → Prop} {index : Nat} {v1 v2 v3 v4 : Value} (hM : kM l G y2 b2 nL2 ret2 lev2 mc2 ms2 [v1, v2, v3, v4] m P2) (hc : kcS y.cls index y2 b2 nL2 ret2 4) (hd : decode cc pc = .ok (.invokestatic index, 3)) (hp : pc + 3 = pc') (hlev : lev2 < lev) (hnl : nL2 ≤ 41) (hrm : cells + mc2 ≤ mc ∧ slots + ms2 ≤ ms) (hst : (st.map fun v => v.category).sum ≤ 8) (k : ∀ (v : Option Value) (m1 : Mem), P2 v m1 → kX κ m1 L (cells + mc2) (slots + ms2) pc' (kps v st)) : kX κ m L cells slots pc (v4 :: v3 :: v2 :: v1 :: st) := by
  subst hp
  obtain ⟨p, l', e, R, s, mm, args, below, meth, c, G', P', mc', ms', nL'⟩ := κ
  obtain ⟨rfl, rfl, rfl, rfl, rfl, rfl, rfl, hx, hb, hr, hlk, hml, hown, hnm, hts, hW, hG⟩ := C
  intro H locs ls hR hloc hls
  refine k_back (va_runS (As := [v1, v2, v3, v4]) (rest := st) ⟨hx, hb, hml, hown, hts⟩ hM (va_cwS 4 hts hc.1 rfl rfl rfl hc.2 ⟨by show lev2 + 1 ≤ lev; omega, by show 8 + (nL2 + 11) + 60 * lev2 ≤ 60 * lev; omega⟩) ⟨kPc_blind, fun U hU hW2 => ⟨rfl, by rw [hU]; exact hR, hW.trans hW2⟩⟩ rfl rfl hls.1.1 rfl (lv_room hst) hd hrm) hloc fun v m1 H1 locs1 hp hR1 hl1 => ?_
  cases v <;> exact k _ m1 hp H1 locs1 ls hR1 hl1 hls
theorem x_callI4 {κ : Kx} {l : Launch} {G : Gh} {y : MethodName} {cc : ByteArray} {ret : Option FieldType} {nL lev mc ms : Nat} {Post : Option Value → Mem → Prop} (C : kC κ l G y cc ret nL lev mc ms Post) {m : Mem} {L : List (Option Value)} {cells slots pc : Nat} {st : List Value} (pc' : Nat) {y2 : MethodName} {b2 : ByteArray} {nL2 lev2 mc2 ms2 : Nat} {P2 : Option Value → Mem → Prop} {index o : Nat} {v1 v2 v3 v4 : Value} (hM : kM l G y2 b2 nL2 none lev2 mc2 ms2 [.ref o, v1, v2, v3, v4] m P2) (hc : kcI y.cls index y2 b2 nL2 4) (hd : decode cc pc = .ok (.invokespecial index, 3)) (hp : pc + 3 = pc') (hlev : lev2 < lev) (hnl : nL2 ≤ 41) (hrm : cells + mc2 ≤ mc ∧ slots + ms2 ≤ ms) (hst : (st.map fun v => v.category).sum ≤ 8) (k : ∀ (v : Option Value) (m1 : Mem), P2 v m1 → kX κ m1 L (cells + mc2) (slots + ms2) pc' (kps v st)) : kX κ m L cells slots pc (v4 :: v3 :: v2 :: v1 :: .ref o :: st) := by
  subst hp
  obtain ⟨p, l', e, R, s, mm, args, below, meth, c, G', P', mc', ms', nL'⟩ := κ
  obtain ⟨rfl, rfl, rfl, rfl, rfl, rfl, rfl, hx, hb, hr, hlk, hml, hown, hnm, hts, hW, hG⟩ := C
  intro H locs ls hR hloc hls
  refine k_back (va_runI (As := [v1, v2, v3, v4]) (rest := st) ⟨hx, hb, hml, hown, hts⟩ hM (cwI 4 hts (lw_meth hc.1) rfl rfl rfl (hts _ hc.2.1) (hts _ hc.2.2.1) (hts _ hc.2.2.2.1) hc.2.2.2.2.1 hc.2.2.2.2.2 ⟨by show lev2 + 1 ≤ lev; omega, by show 8 + (nL2 + 11) + 60 * lev2 ≤ 60 * lev; omega⟩) ⟨kPc_blind, fun U hU hW2 => ⟨rfl, by rw [hU]; exact hR, hW.trans hW2⟩⟩ rfl rfl hls.1.1 rfl (lv_room hst) hd hrm) hloc fun v m1 H1 locs1 hp hR1 hl1 => ?_
  cases v <;> exact k _ m1 hp H1 locs1 ls hR1 hl1 hls
theorem x_callV5 {κ : Kx} {l : Launch} {G : Gh} {y : MethodName} {cc : ByteArray} {ret : Option FieldType} {nL lev mc ms : Nat} {Post : Option Value → Mem → Prop} (C : kC κ l G y cc ret nL lev mc ms Post) {m : Mem} {L : List (Option Value)} {cells slots pc : Nat} {st : List Value} (pc' : Nat) {y2 : MethodName} {b2 : ByteArray} {nL2 lev2 mc2 ms2 : Nat} {ret2 : Option FieldType} {P2 : Option Value → Mem → Prop} {index o ci : Nat} {Cn : String} {T0 : u_T} {N0 : Nat} {vs : List Value} {v1 v2 v3 v4 v5 : Value} (hM : kM l G y2 b2 nL2 ret2 lev2 mc2 ms2 [.ref o, v1, v2, v3, v4, v5] m P2) (hc : kcV y.cls index Cn y2 b2 nL2 ret2 5) (ho : m o = some (ci, vs)) (hci : kcl[ci]? = some (Cn, T0, N0)) (hd : decode cc pc = .ok (.invokevirtual index, 3)) (hp : pc + 3 = pc') (hlev : lev2 < lev) (hnl : nL2 ≤ 41) (hrm : cells + mc2 ≤ mc ∧ slots + ms2 ≤ ms) (hst : (st.map fun v => v.category).sum ≤ 8) (k : ∀ (v : Option Value) (m1 : Mem), P2 v m1 → kX κ m1 L (cells + mc2) (slots + ms2) pc' (kps v st)) : kX κ m L cells slots pc (v5 :: v4 :: v3 :: v2 :: v1 :: .ref o :: st) := by
  subst hp
  obtain ⟨p, l', e, R, s, mm, args, below, meth, c, G', P', mc', ms', nL'⟩ := κ
  obtain ⟨rfl, rfl, rfl, rfl, rfl, rfl, rfl, hx, hb, hr, hlk, hml, hown, hnm, hts, hW, hG⟩ := C
  intro H locs ls hR hloc hls
  refine k_back (va_runV (As := [v1, v2, v3, v4, v5]) (rest := st) ⟨hx, hb, hml, hown, hts⟩ hM (cwV 5 hts hc.1 rfl rfl rfl hc.2 ⟨by show lev2 + 1 ≤ lev; omega, by show 8 + (nL2 + 11) + 60 * lev2 ≤ 60 * lev; omega⟩) ⟨kPc_blind, va_recv (kK_of hG hW) (kP_of hR ho hci) (ci := ci) (q0 := 0) hci rfl, fun U hU hW2 => ⟨rfl, by rw [hU]; exact hR, hW.trans hW2⟩⟩ rfl rfl hls.1.1 rfl (lv_room hst) hd hrm) hloc fun v m1 H1 locs1 hp hR1 hl1 => ?_
  cases v <;> exact k _ m1 hp H1 locs1 ls hR1 hl1 hls
theorem x_callS5 {κ : Kx} {l : Launch} {G : Gh} {y : MethodName} {cc : ByteArray} {ret : Option FieldType} {nL lev mc ms : Nat} {Post : Option Value → Mem → Prop} (C : kC κ l G y cc ret nL lev mc ms Post) {m : Mem} {L : List (Option Value)} {cells slots pc : Nat} {st : List Value} (pc' : Nat) {y2 : MethodName} {b2 : ByteArray} {nL2 lev2 mc2 ms2 : Nat} {ret2 : Option FieldType} {P2 : Option Value → Mem → Prop} {index : Nat} {v1 v2 v3 v4 v5 : Value} (hM : kM l G y2 b2 nL2 ret2 lev2 mc2 ms2 [v1, v2, v3, v4, v5] m P2) (hc : kcS y.cls index y2 b2 nL2 ret2 5) (hd : decode cc pc = .ok (.invokestatic index, 3)) (hp : pc + 3 = pc') (hlev : lev2 < lev) (hnl : nL2 ≤ 41) (hrm : cells + mc2 ≤ mc ∧ slots + ms2 ≤ ms) (hst : (st.map fun v => v.category).sum ≤ 8) (k : ∀ (v : Option Value) (m1 : Mem), P2 v m1 → kX κ m1 L (cells + mc2) (slots + ms2) pc' (kps v st)) : kX κ m L cells slots pc (v5 :: v4 :: v3 :: v2 :: v1 :: st) := by
  subst hp
  obtain ⟨p, l', e, R, s, mm, args, below, meth, c, G', P', mc', ms', nL'⟩ := κ
  obtain ⟨rfl, rfl, rfl, rfl, rfl, rfl, rfl, hx, hb, hr, hlk, hml, hown, hnm, hts, hW, hG⟩ := C
  intro H locs ls hR hloc hls
  refine k_back (va_runS (As := [v1, v2, v3, v4, v5]) (rest := st) ⟨hx, hb, hml, hown, hts⟩ hM (va_cwS 5 hts hc.1 rfl rfl rfl hc.2 ⟨by show lev2 + 1 ≤ lev; omega, by show 8 + (nL2 + 11) + 60 * lev2 ≤ 60 * lev; omega⟩) ⟨kPc_blind, fun U hU hW2 => ⟨rfl, by rw [hU]; exact hR, hW.trans hW2⟩⟩ rfl rfl hls.1.1 rfl (lv_room hst) hd hrm) hloc fun v m1 H1 locs1 hp hR1 hl1 => ?_
  cases v <;> exact k _ m1 hp H1 locs1 ls hR1 hl1 hls
theorem x_callI5 {κ : Kx} {l : Launch} {G : Gh} {y : MethodName} {cc : ByteArray} {ret : Option FieldType} {nL lev mc ms : Nat} {Post : Option Value → Mem → Prop} (C : kC κ l G y cc ret nL lev mc ms Post) {m : Mem} {L : List (Option Value)} {cells slots pc : Nat} {st : List Value} (pc' : Nat) {y2 : MethodName} {b2 : ByteArray} {nL2 lev2 mc2 ms2 : Nat} {P2 : Option Value → Mem → Prop} {index o : Nat} {v1 v2 v3 v4 v5 : Value} (hM : kM l G y2 b2 nL2 none lev2 mc2 ms2 [.ref o, v1, v2, v3, v4, v5] m P2) (hc : kcI y.cls index y2 b2 nL2 5) (hd : decode cc pc = .ok (.invokespecial index, 3)) (hp : pc + 3 = pc') (hlev : lev2 < lev) (hnl : nL2 ≤ 41) (hrm : cells + mc2 ≤ mc ∧ slots + ms2 ≤ ms) (hst : (st.map fun v => v.category).sum ≤ 8) (k : ∀ (v : Option Value) (m1 : Mem), P2 v m1 → kX κ m1 L (cells + mc2) (slots + ms2) pc' (kps v st)) : kX κ m L cells slots pc (v5 :: v4 :: v3 :: v2 :: v1 :: .ref o :: st) := by
  subst hp
  obtain ⟨p, l', e, R, s, mm, args, below, meth, c, G', P', mc', ms', nL'⟩ := κ
  obtain ⟨rfl, rfl, rfl, rfl, rfl, rfl, rfl, hx, hb, hr, hlk, hml, hown, hnm, hts, hW, hG⟩ := C
  intro H locs ls hR hloc hls
  refine k_back (va_runI (As := [v1, v2, v3, v4, v5]) (rest := st) ⟨hx, hb, hml, hown, hts⟩ hM (cwI 5 hts (lw_meth hc.1) rfl rfl rfl (hts _ hc.2.1) (hts _ hc.2.2.1) (hts _ hc.2.2.2.1) hc.2.2.2.2.1 hc.2.2.2.2.2 ⟨by show lev2 + 1 ≤ lev; omega, by show 8 + (nL2 + 11) + 60 * lev2 ≤ 60 * lev; omega⟩) ⟨kPc_blind, fun U hU hW2 => ⟨rfl, by rw [hU]; exact hR, hW.trans hW2⟩⟩ rfl rfl hls.1.1 rfl (lv_room hst) hd hrm) hloc fun v m1 H1 locs1 hp hR1 hl1 => ?_
  cases v <;> exact k _ m1 hp H1 locs1 ls hR1 hl1 hls
theorem x_callV6 {κ : Kx} {l : Launch} {G : Gh} {y : MethodName} {cc : ByteArray} {ret : Option FieldType} {nL lev mc ms : Nat} {Post : Option Value → Mem → Prop} (C : kC κ l G y cc ret nL lev mc ms Post) {m : Mem} {L : List (Option Value)} {cells slots pc : Nat} {st : List Value} (pc' : Nat) {y2 : MethodName} {b2 : ByteArray} {nL2 lev2 mc2 ms2 : Nat} {ret2 : Option FieldType} {P2 : Option Value → Mem → Prop} {index o ci : Nat} {Cn : String} {T0 : u_T} {N0 : Nat} {vs : List Value} {v1 v2 v3 v4 v5 v6 : Value} (hM : kM l G y2 b2 nL2 ret2 lev2 mc2 ms2 [.ref o, v1, v2, v3, v4, v5, v6] m P2) (hc : kcV y.cls index Cn y2 b2 nL2 ret2 6) (ho : m o = some (ci, vs)) (hci : kcl[ci]? = some (Cn, T0, N0)) (hd : decode cc pc = .ok (.invokevirtual index, 3)) (hp : pc + 3 = pc') (hlev : lev2 < lev) (hnl : nL2 ≤ 41) (hrm : cells + mc2 ≤ mc ∧ slots + ms2 ≤ ms) (hst : (st.map fun v => v.category).sum ≤ 8) (k : ∀ (v : Option Value) (m1 : Mem), P2 v m1 → kX κ m1 L (cells + mc2) (slots + ms2) pc' (kps v st)) : kX κ m L cells slots pc (v6 :: v5 :: v4 :: v3 :: v2 :: v1 :: .ref o :: st) := by
  subst hp
  obtain ⟨p, l', e, R, s, mm, args, below, meth, c, G', P', mc', ms', nL'⟩ := κ
  obtain ⟨rfl, rfl, rfl, rfl, rfl, rfl, rfl, hx, hb, hr, hlk, hml, hown, hnm, hts, hW, hG⟩ := C
  intro H locs ls hR hloc hls
  refine k_back (va_runV (As := [v1, v2, v3, v4, v5, v6]) (rest := st) ⟨hx, hb, hml, hown, hts⟩ hM (cwV 6 hts hc.1 rfl rfl rfl hc.2 ⟨by show lev2 + 1 ≤ lev; omega, by show 8 + (nL2 + 11) + 60 * lev2 ≤ 60 * lev; omega⟩) ⟨kPc_blind, va_recv (kK_of hG hW) (kP_of hR ho hci) (ci := ci) (q0 := 0) hci rfl, fun U hU hW2 => ⟨rfl, by rw [hU]; exact hR, hW.trans hW2⟩⟩ rfl rfl hls.1.1 rfl (lv_room hst) hd hrm) hloc fun v m1 H1 locs1 hp hR1 hl1 => ?_
  cases v <;> exact k _ m1 hp H1 locs1 ls hR1 hl1 hls
theorem x_callS6 {κ : Kx} {l : Launch} {G : Gh} {y : MethodName} {cc : ByteArray} {ret : Option FieldType} {nL lev mc ms : Nat} {Post : Option Value → Mem → Prop} (C : kC κ l G y cc ret nL lev mc ms Post) {m : Mem} {L : List (Option Value)} {cells slots pc : Nat} {st : List Value} (pc' : Nat) {y2 : MethodName} {b2 : ByteArray} {nL2 lev2 mc2 ms2 : Nat} {ret2 : Option FieldType} {P2 : Option Value → Mem → Prop} {index : Nat} {v1 v2 v3 v4 v5 v6 : Value} (hM : kM l G y2 b2 nL2 ret2 lev2 mc2 ms2 [v1, v2, v3, v4, v5, v6] m P2) (hc : kcS y.cls index y2 b2 nL2 ret2 6) (hd : decode cc pc = .ok (.invokestatic index, 3)) (hp : pc + 3 = pc') (hlev : lev2 < lev) (hnl : nL2 ≤ 41) (hrm : cells + mc2 ≤ mc ∧ slots + ms2 ≤ ms) (hst : (st.map fun v => v.category).sum ≤ 8) (k : ∀ (v : Option Value) (m1 : Mem), P2 v m1 → kX κ m1 L (cells + mc2) (slots + ms2) pc' (kps v st)) : kX κ m L cells slots pc (v6 :: v5 :: v4 :: v3 :: v2 :: v1 :: st) := by
  subst hp
  obtain ⟨p, l', e, R, s, mm, args, below, meth, c, G', P', mc', ms', nL'⟩ := κ
  obtain ⟨rfl, rfl, rfl, rfl, rfl, rfl, rfl, hx, hb, hr, hlk, hml, hown, hnm, hts, hW, hG⟩ := C
  intro H locs ls hR hloc hls
  refine k_back (va_runS (As := [v1, v2, v3, v4, v5, v6]) (rest := st) ⟨hx, hb, hml, hown, hts⟩ hM (va_cwS 6 hts hc.1 rfl rfl rfl hc.2 ⟨by show lev2 + 1 ≤ lev; omega, by show 8 + (nL2 + 11) + 60 * lev2 ≤ 60 * lev; omega⟩) ⟨kPc_blind, fun U hU hW2 => ⟨rfl, by rw [hU]; exact hR, hW.trans hW2⟩⟩ rfl rfl hls.1.1 rfl (lv_room hst) hd hrm) hloc fun v m1 H1 locs1 hp hR1 hl1 => ?_
  cases v <;> exact k _ m1 hp H1 locs1 ls hR1 hl1 hls
theorem x_callV7 {κ : Kx} {l : Launch} {G : Gh} {y : MethodName} {cc : ByteArray} {ret : Option FieldType} {nL lev mc ms : Nat} {Post : Option Value → Mem → Prop} (C : kC κ l G y cc ret nL lev mc ms Post) {m : Mem} {L : List (Option Value)} {cells slots pc : Nat} {st : List Value} (pc' : Nat) {y2 : MethodName} {b2 : ByteArray} {nL2 lev2 mc2 ms2 : Nat} {ret2 : Option FieldType} {P2 : Option Value → Mem → Prop} {index o ci : Nat} {Cn : String} {T0 : u_T} {N0 : Nat} {vs : List Value} {v1 v2 v3 v4 v5 v6 v7 : Value} (hM : kM l G y2 b2 nL2 ret2 lev2 mc2 ms2 [.ref o, v1, v2, v3, v4, v5, v6, v7] m P2) (hc : kcV y.cls index Cn y2 b2 nL2 ret2 7) (ho : m o = some (ci, vs)) (hci : kcl[ci]? = some (Cn, T0, N0)) (hd : decode cc pc = .ok (.invokevirtual index, 3)) (hp : pc + 3 = pc') (hlev : lev2 < lev) (hnl : nL2 ≤ 41) (hrm : cells + mc2 ≤ mc ∧ slots + ms2 ≤ ms) (hst : (st.map fun v => v.category).sum ≤ 8) (k : ∀ (v : Option Value) (m1 : Mem), P2 v m1 → kX κ m1 L (cells + mc2) (slots + ms2) pc' (kps v st)) : kX κ m L cells slots pc (v7 :: v6 :: v5 :: v4 :: v3 :: v2 :: v1 :: .ref o :: st) := by
  subst hp
  obtain ⟨p, l', e, R, s, mm, args, below, meth, c, G', P', mc', ms', nL'⟩ := κ
  obtain ⟨rfl, rfl, rfl, rfl, rfl, rfl, rfl, hx, hb, hr, hlk, hml, hown, hnm, hts, hW, hG⟩ := C
  intro H locs ls hR hloc hls
  refine k_back (va_runV (As := [v1, v2, v3, v4, v5, v6, v7]) (rest := st) ⟨hx, hb, hml, hown, hts⟩ hM (cwV 7 hts hc.1 rfl rfl rfl hc.2 ⟨by show lev2 + 1 ≤ lev; omega, by show 8 + (nL2 + 11) + 60 * lev2 ≤ 60 * lev; omega⟩) ⟨kPc_blind, va_recv (kK_of hG hW) (kP_of hR ho hci) (ci := ci) (q0 := 0) hci rfl, fun U hU hW2 => ⟨rfl, by rw [hU]; exact hR, hW.trans hW2⟩⟩ rfl rfl hls.1.1 rfl (lv_room hst) hd hrm) hloc fun v m1 H1 locs1 hp hR1 hl1 => ?_
  cases v <;> exact k _ m1 hp H1 locs1 ls hR1 hl1 hls
theorem x_callS7 {κ : Kx} {l : Launch} {G : Gh} {y : MethodName} {cc : ByteArray} {ret : Option FieldType} {nL lev mc ms : Nat} {Post : Option Value → Mem → Prop} (C : kC κ l G y cc ret nL lev mc ms Post) {m : Mem} {L : List (Option Value)} {cells slots pc : Nat} {st : List Value} (pc' : Nat) {y2 : MethodName} {b2 : ByteArray} {nL2 lev2 mc2 ms2 : Nat} {ret2 : Option FieldType} {P2 : Option Value → Mem → Prop} {index : Nat} {v1 v2 v3 v4 v5 v6 v7 : Value} (hM : kM l G y2 b2 nL2 ret2 lev2 mc2 ms2 [v1, v2, v3, v4, v5, v6, v7] m P2) (hc : kcS y.cls index y2 b2 nL2 ret2 7) (hd : decode cc pc = .ok (.invokestatic index, 3)) (hp : pc + 3 = pc') (hlev : lev2 < lev) (hnl : nL2 ≤ 41) (hrm : cells + mc2 ≤ mc ∧ slots + ms2 ≤ ms) (hst : (st.map fun v => v.category).sum ≤ 8) (k : ∀ (v : Option Value) (m1 : Mem), P2 v m1 → kX κ m1 L (cells + mc2) (slots + ms2) pc' (kps v st)) : kX κ m L cells slots pc (v7 :: v6 :: v5 :: v4 :: v3 :: v2 :: v1 :: st) := by
  subst hp
  obtain ⟨p, l', e, R, s, mm, args, below, meth, c, G', P', mc', ms', nL'⟩ := κ
  obtain ⟨rfl, rfl, rfl, rfl, rfl, rfl, rfl, hx, hb, hr, hlk, hml, hown, hnm, hts, hW, hG⟩ := C
  intro H locs ls hR hloc hls
  refine k_back (va_runS (As := [v1, v2, v3, v4, v5, v6, v7]) (rest := st) ⟨hx, hb, hml, hown, hts⟩ hM (va_cwS 7 hts hc.1 rfl rfl rfl hc.2 ⟨by show lev2 + 1 ≤ lev; omega, by show 8 + (nL2 + 11) + 60 * lev2 ≤ 60 * lev; omega⟩) ⟨kPc_blind, fun U hU hW2 => ⟨rfl, by rw [hU]; exact hR, hW.trans hW2⟩⟩ rfl rfl hls.1.1 rfl (lv_room hst) hd hrm) hloc fun v m1 H1 locs1 hp hR1 hl1 => ?_
  cases v <;> exact k _ m1 hp H1 locs1 ls hR1 hl1 hls
/-- an array's contents by a function -/
def kfn (n : Nat) (f : Int → Value) : List Value := (List.range n).map (fun k : Nat => f (k : Int))
theorem kfn_len (n : Nat) (f : Int → Value) : (kfn n f).length = n := by simp [kfn]
theorem kfn_get {n : Nat} {f : Int → Value} {z : Int} (h0 : 0 ≤ z) (h1 : z < n) : (kfn n f)[z.toNat]? = some (f z) := by
  have h2 : z.toNat < n := by omega
  simp only [kfn, List.getElem?_map, List.getElem?_range h2, Option.map_some]
  rw [Int.toNat_of_nonneg h0]
def upz {α : Type} (f : Int → α) (z : Int) (v : α) : Int → α := fun j => if j = z then v else f j
theorem upz_s {α : Type} (f : Int → α) (z : Int) (v : α) : upz f z v z = v := by simp [upz]
theorem upz_n {α : Type} {f : Int → α} {z j : Int} {v : α} (h : j ≠ z) : upz f z v j = f j := by simp [upz, h]
theorem kfn_set {n : Nat} {f : Int → Value} {z : Int} {v : Value} (h0 : 0 ≤ z) : (kfn n f).set z.toNat v = kfn n (upz f z v) := by
  apply List.ext_getElem?
  intro i
  simp only [kfn, List.getElem?_set, List.getElem?_map, List.length_map, List.length_range]
  by_cases h : z.toNat = i
  · subst h
    by_cases hn : z.toNat < n
    · simp [hn, upz, Int.toNat_of_nonneg h0]
    · simp [hn]
  · rw [if_neg h]
    by_cases hn : i < n
    · have e : (i : Int) ≠ z := by omega
      simp [List.getElem?_range hn, upz, e]
    · simp [hn]
theorem kfn_ext {n : Nat} {f g : Int → Value} (h : ∀ z : Int, 0 ≤ z → z < n → f z = g z) : kfn n f = kfn n g := by
  apply List.ext_getElem?
  intro i
  simp only [kfn, List.getElem?_map]
  by_cases hn : i < n
  · simp [List.getElem?_range hn, h i (by omega) (by omega)]
  · simp [hn]
theorem kfn_rep {n : Nat} (v : Value) : List.replicate n v = kfn n (fun _ => v) := by
  apply List.ext_getElem?
  intro i
  simp only [kfn, List.getElem?_map, List.getElem?_replicate]
  by_cases hn : i < n
  · simp [hn]
  · simp [hn]
/-- an int array's contents by a function -/
def kfI (n : Nat) (g : Int → Int) : List Value := kfn n (fun z => kI (g z))
theorem kfI_len (n : Nat) (g : Int → Int) : (kfI n g).length = n := kfn_len _ _
theorem kfI_get {n : Nat} {g : Int → Int} {z : Int} (h0 : 0 ≤ z) (h1 : z < n) : (kfI n g)[z.toNat]? = some (kI (g z)) := kfn_get h0 h1
theorem kfI_set {n : Nat} {g : Int → Int} {z x : Int} (h0 : 0 ≤ z) : (kfI n g).set z.toNat (kI x) = kfI n (upz g z x) := by
  refine (kfn_set h0).trans (congrArg (kfn n) ?_)
  funext j
  by_cases h : j = z <;> simp [upz, h]
theorem kfI_rep (n : Nat) (x : Int) : List.replicate n (kI x) = kfI n (fun _ => x) := kfn_rep _
/-- what is outside F stays -/
def kfr (F : Nat → Prop) (m m' : Mem) : Prop := ∀ (q : Nat) (o : Nat × List Value), m q = some o → ¬ F q → m' q = some o
theorem kfr.rf {F : Nat → Prop} {m : Mem} : kfr F m m := fun _ _ h _ => h
theorem kfr.tr {F : Nat → Prop} {m1 m2 m3 : Mem} (h1 : kfr F m1 m2) (h2 : kfr F m2 m3) : kfr F m1 m3 := fun q o h hn => h2 q o (h1 q o h hn) hn
theorem kfr.st {F : Nat → Prop} {m m1 : Mem} {a : Nat} {o : Nat × List Value} (h : kfr F m m1) (ha : F a) : kfr F m (mset m1 a o) := fun q p hq hn => by
  have hne : q ≠ a := fun e => hn (e ▸ ha)
  rw [mset_ne hne]
  exact h q p hq hn
theorem kfr.nw {F : Nat → Prop} {m m1 : Mem} {a : Nat} {o : Nat × List Value} (h : kfr F m m1) (ha : m1 a = none) : kfr F m (mset m1 a o) := fun q p hq hn => by
  have h1 := h q p hq hn
  have hne : q ≠ a := fun e => by rw [e, ha] at h1; cases h1
  rw [mset_ne hne]
  exact h1
theorem kfr.wk {F F' : Nat → Prop} {m m1 : Mem} (h : kfr F m m1) (hs : ∀ q, F q → F' q) : kfr F' m m1 := fun q p hq hn => h q p hq (fun z => hn (hs q z))
/-- longs -/
abbrev kL (z : Int) : Value := .long (Int64.ofInt z)
theorem kL_toInt {x : Int} (hx : -9223372036854775808 ≤ x ∧ x ≤ 9223372036854775807) : (Int64.ofInt x).toInt = x := Int64.toInt_ofInt_of_le (by omega) (by omega)
theorem kL_lt {x y : Int} (hx : -9223372036854775808 ≤ x ∧ x ≤ 9223372036854775807) (hy : -9223372036854775808 ≤ y ∧ y ≤ 9223372036854775807) : Int64.ofInt x < Int64.ofInt y ↔ x < y := by
  rw [Int64.lt_iff_toInt_lt, kL_toInt hx, kL_toInt hy]
theorem narrow_bz (b : Bool) : narrow .boolean (kI (bz b)) = kI (bz b) := by cases b <;> rfl
theorem k_i2l {x : Int} (hx : -2147483648 ≤ x ∧ x ≤ 2147483647) : (Int32.ofInt x).toInt64 = Int64.ofInt x := by
  have h1 : Int32.minValue.toInt = -2147483648 := by decide +kernel
  have h2 : Int32.maxValue.toInt = 2147483647 := by decide +kernel
  exact Int32.toInt64_ofInt (by omega) (by omega)
theorem x_i2l {κ : Kx} {l : Launch} {G : Gh} {y : MethodName} {cc : ByteArray} {ret : Option FieldType} {nL lev mc ms : Nat} {Post : Option Value → Mem → Prop} (C : kC κ l G y cc ret nL lev mc ms Post) {m : Mem} {L : List (Option Value)} {cells slots pc : Nat} {st : List Value} (pc' : Nat) {x : Int} (hd : decode cc pc = .ok (.i2l, 1)) (hx0 : -2147483648 ≤ x ∧ x ≤ 2147483647) (hp : pc + 1 = pc') (k : kX κ m L cells slots pc' (kL x :: st)) : kX κ m L cells slots pc (kI x :: st) := by
  subst hp
  obtain ⟨p, l', e, R, s, mm, args, below, meth, c, G', P', mc', ms', nL'⟩ := κ
  obtain ⟨rfl, rfl, rfl, rfl, rfl, rfl, rfl, hx, hb, hr, hlk, hml, hown, hnm, hts, hW, hG⟩ := C
  intro H locs ls hR hloc hls
  exact lv_i2l hx hb hd (k_i2l hx0) (k H locs ls hR hloc hls)
theorem x_ladd {κ : Kx} {l : Launch} {G : Gh} {y : MethodName} {cc : ByteArray} {ret : Option FieldType} {nL lev mc ms : Nat} {Post : Option Value → Mem → Prop} (C : kC κ l G y cc ret nL lev mc ms Post) {m : Mem} {L : List (Option Value)} {cells slots pc : Nat} {st : List Value} (pc' : Nat) {x y' : Int} (hd : decode cc pc = .ok (.ladd, 1)) (hp : pc + 1 = pc') (k : kX κ m L cells slots pc' (kL (x + y') :: st)) : kX κ m L cells slots pc (kL y' :: kL x :: st) := by
  subst hp
  obtain ⟨p, l', e, R, s, mm, args, below, meth, c, G', P', mc', ms', nL'⟩ := κ
  obtain ⟨rfl, rfl, rfl, rfl, rfl, rfl, rfl, hx, hb, hr, hlk, hml, hown, hnm, hts, hW, hG⟩ := C
  intro H locs ls hR hloc hls
  have k1 := k H locs ls hR hloc hls
  rw [show kL (x + y') = Value.long (Int64.ofInt x + Int64.ofInt y') from congrArg Value.long (Int64.ofInt_add x y')] at k1
  exact lv_ladd hx hb hd k1
theorem x_lconst0 {κ : Kx} {l : Launch} {G : Gh} {y : MethodName} {cc : ByteArray} {ret : Option FieldType} {nL lev mc ms : Nat} {Post : Option Value → Mem → Prop} (C : kC κ l G y cc ret nL lev mc ms Post) {m : Mem} {L : List (Option Value)} {cells slots pc : Nat} {st : List Value} (pc' : Nat)  (hd : decode cc pc = .ok (.lconst 0, 1)) (hp : pc + 1 = pc') (k : kX κ m L cells slots pc' (kL 0 :: st)) : kX κ m L cells slots pc (st) := by
  subst hp
  obtain ⟨p, l', e, R, s, mm, args, below, meth, c, G', P', mc', ms', nL'⟩ := κ
  obtain ⟨rfl, rfl, rfl, rfl, rfl, rfl, rfl, hx, hb, hr, hlk, hml, hown, hnm, hts, hW, hG⟩ := C
  intro H locs ls hR hloc hls
  exact lv_lconst hx hb hd rfl (k H locs ls hR hloc hls)
theorem x_lconst1 {κ : Kx} {l : Launch} {G : Gh} {y : MethodName} {cc : ByteArray} {ret : Option FieldType} {nL lev mc ms : Nat} {Post : Option Value → Mem → Prop} (C : kC κ l G y cc ret nL lev mc ms Post) {m : Mem} {L : List (Option Value)} {cells slots pc : Nat} {st : List Value} (pc' : Nat)  (hd : decode cc pc = .ok (.lconst 1, 1)) (hp : pc + 1 = pc') (k : kX κ m L cells slots pc' (kL 1 :: st)) : kX κ m L cells slots pc (st) := by
  subst hp
  obtain ⟨p, l', e, R, s, mm, args, below, meth, c, G', P', mc', ms', nL'⟩ := κ
  obtain ⟨rfl, rfl, rfl, rfl, rfl, rfl, rfl, hx, hb, hr, hlk, hml, hown, hnm, hts, hW, hG⟩ := C
  intro H locs ls hR hloc hls
  exact lv_lconst hx hb hd rfl (k H locs ls hR hloc hls)
theorem x_lcmp_lt {κ : Kx} {l : Launch} {G : Gh} {y : MethodName} {cc : ByteArray} {ret : Option FieldType} {nL lev mc ms : Nat} {Post : Option Value → Mem → Prop} (C : kC κ l G y cc ret nL lev mc ms Post) {m : Mem} {L : List (Option Value)} {cells slots pc : Nat} {st : List Value} (tgt pc1 pc' : Nat) {x y' off : Int} (hd0 : decode cc pc = .ok (.lcmp, 1)) (hd : decode cc pc1 = .ok (.ifCond .lt off, 3)) (hx0 : -9223372036854775808 ≤ x ∧ x ≤ 9223372036854775807) (hy0 : -9223372036854775808 ≤ y' ∧ y' ≤ 9223372036854775807) (hp1 : pc + 1 = pc1) (ht : (pc1 : Int) + off = (tgt : Int)) (hp : pc1 + 3 = pc') (kt : x < y' → kX κ m L cells slots tgt st) (kf : ¬ x < y' → kX κ m L cells slots pc' st) : kX κ m L cells slots pc (kL y' :: kL x :: st) := by
  subst hp1
  subst hp
  obtain ⟨p, l', e, R, s, mm, args, below, meth, c, G', P', mc', ms', nL'⟩ := κ
  obtain ⟨rfl, rfl, rfl, rfl, rfl, rfl, rfl, hx, hb, hr, hlk, hml, hown, hnm, hts, hW, hG⟩ := C
  intro H locs ls hR hloc hls
  have l1 := kL_lt hx0 hy0
  have l2 := kL_lt hy0 hx0
  refine W.lcmp hx hb hd0 ?_
  have e0 : lg_cmp (Int64.ofInt x) (Int64.ofInt y') < 0 ↔ x < y' := by
    rw [lg_cmp_lt]; exact l1
  exact lv_if_lt hx hb hd ht (fun q => kt (e0.mp q) H locs ls hR hloc hls) (fun q => kf (fun w => q (e0.mpr w)) H locs ls hR hloc hls)
theorem x_lcmp_ge {κ : Kx} {l : Launch} {G : Gh} {y : MethodName} {cc : ByteArray} {ret : Option FieldType} {nL lev mc ms : Nat} {Post : Option Value → Mem → Prop} (C : kC κ l G y cc ret nL lev mc ms Post) {m : Mem} {L : List (Option Value)} {cells slots pc : Nat} {st : List Value} (tgt pc1 pc' : Nat) {x y' off : Int} (hd0 : decode cc pc = .ok (.lcmp, 1)) (hd : decode cc pc1 = .ok (.ifCond .ge off, 3)) (hx0 : -9223372036854775808 ≤ x ∧ x ≤ 9223372036854775807) (hy0 : -9223372036854775808 ≤ y' ∧ y' ≤ 9223372036854775807) (hp1 : pc + 1 = pc1) (ht : (pc1 : Int) + off = (tgt : Int)) (hp : pc1 + 3 = pc') (kt : y' ≤ x → kX κ m L cells slots tgt st) (kf : ¬ y' ≤ x → kX κ m L cells slots pc' st) : kX κ m L cells slots pc (kL y' :: kL x :: st) := by
  subst hp1
  subst hp
  obtain ⟨p, l', e, R, s, mm, args, below, meth, c, G', P', mc', ms', nL'⟩ := κ
  obtain ⟨rfl, rfl, rfl, rfl, rfl, rfl, rfl, hx, hb, hr, hlk, hml, hown, hnm, hts, hW, hG⟩ := C
  intro H locs ls hR hloc hls
  have l1 := kL_lt hx0 hy0
  have l2 := kL_lt hy0 hx0
  refine W.lcmp hx hb hd0 ?_
  have e0 : 0 ≤ lg_cmp (Int64.ofInt x) (Int64.ofInt y') ↔ y' ≤ x := by
    rw [lg_cmp_ge, Int64.le_iff_toInt_le, kL_toInt hx0, kL_toInt hy0]
  exact lv_if_ge hx hb hd ht (fun q => kt (e0.mp q) H locs ls hR hloc hls) (fun q => kf (fun w => q (e0.mpr w)) H locs ls hR hloc hls)
theorem x_lcmp_gt {κ : Kx} {l : Launch} {G : Gh} {y : MethodName} {cc : ByteArray} {ret : Option FieldType} {nL lev mc ms : Nat} {Post : Option Value → Mem → Prop} (C : kC κ l G y cc ret nL lev mc ms Post) {m : Mem} {L : List (Option Value)} {cells slots pc : Nat} {st : List Value} (tgt pc1 pc' : Nat) {x y' off : Int} (hd0 : decode cc pc = .ok (.lcmp, 1)) (hd : decode cc pc1 = .ok (.ifCond .gt off, 3)) (hx0 : -9223372036854775808 ≤ x ∧ x ≤ 9223372036854775807) (hy0 : -9223372036854775808 ≤ y' ∧ y' ≤ 9223372036854775807) (hp1 : pc + 1 = pc1) (ht : (pc1 : Int) + off = (tgt : Int)) (hp : pc1 + 3 = pc') (kt : y' < x → kX κ m L cells slots tgt st) (kf : ¬ y' < x → kX κ m L cells slots pc' st) : kX κ m L cells slots pc (kL y' :: kL x :: st) := by
  subst hp1
  subst hp
  obtain ⟨p, l', e, R, s, mm, args, below, meth, c, G', P', mc', ms', nL'⟩ := κ
  obtain ⟨rfl, rfl, rfl, rfl, rfl, rfl, rfl, hx, hb, hr, hlk, hml, hown, hnm, hts, hW, hG⟩ := C
  intro H locs ls hR hloc hls
  have l1 := kL_lt hx0 hy0
  have l2 := kL_lt hy0 hx0
  refine W.lcmp hx hb hd0 ?_
  have e0 : 0 < lg_cmp (Int64.ofInt x) (Int64.ofInt y') ↔ y' < x := by
    rw [lg_cmp_gt]; exact l2
  exact lv_if_gt hx hb hd ht (fun q => kt (e0.mp q) H locs ls hR hloc hls) (fun q => kf (fun w => q (e0.mpr w)) H locs ls hR hloc hls)
theorem x_lcmp_le {κ : Kx} {l : Launch} {G : Gh} {y : MethodName} {cc : ByteArray} {ret : Option FieldType} {nL lev mc ms : Nat} {Post : Option Value → Mem → Prop} (C : kC κ l G y cc ret nL lev mc ms Post) {m : Mem} {L : List (Option Value)} {cells slots pc : Nat} {st : List Value} (tgt pc1 pc' : Nat) {x y' off : Int} (hd0 : decode cc pc = .ok (.lcmp, 1)) (hd : decode cc pc1 = .ok (.ifCond .le off, 3)) (hx0 : -9223372036854775808 ≤ x ∧ x ≤ 9223372036854775807) (hy0 : -9223372036854775808 ≤ y' ∧ y' ≤ 9223372036854775807) (hp1 : pc + 1 = pc1) (ht : (pc1 : Int) + off = (tgt : Int)) (hp : pc1 + 3 = pc') (kt : x ≤ y' → kX κ m L cells slots tgt st) (kf : ¬ x ≤ y' → kX κ m L cells slots pc' st) : kX κ m L cells slots pc (kL y' :: kL x :: st) := by
  subst hp1
  subst hp
  obtain ⟨p, l', e, R, s, mm, args, below, meth, c, G', P', mc', ms', nL'⟩ := κ
  obtain ⟨rfl, rfl, rfl, rfl, rfl, rfl, rfl, hx, hb, hr, hlk, hml, hown, hnm, hts, hW, hG⟩ := C
  intro H locs ls hR hloc hls
  have l1 := kL_lt hx0 hy0
  have l2 := kL_lt hy0 hx0
  refine W.lcmp hx hb hd0 ?_
  have e0 : lg_cmp (Int64.ofInt x) (Int64.ofInt y') ≤ 0 ↔ x ≤ y' := by
    rw [lg_cmp_le, Int64.le_iff_toInt_le, kL_toInt hx0, kL_toInt hy0]
  exact lv_if_le hx hb hd ht (fun q => kt (e0.mp q) H locs ls hR hloc hls) (fun q => kf (fun w => q (e0.mpr w)) H locs ls hR hloc hls)
theorem x_lcmp_eq {κ : Kx} {l : Launch} {G : Gh} {y : MethodName} {cc : ByteArray} {ret : Option FieldType} {nL lev mc ms : Nat} {Post : Option Value → Mem → Prop} (C : kC κ l G y cc ret nL lev mc ms Post) {m : Mem} {L : List (Option Value)} {cells slots pc : Nat} {st : List Value} (tgt pc1 pc' : Nat) {x y' off : Int} (hd0 : decode cc pc = .ok (.lcmp, 1)) (hd : decode cc pc1 = .ok (.ifCond .eq off, 3)) (hx0 : -9223372036854775808 ≤ x ∧ x ≤ 9223372036854775807) (hy0 : -9223372036854775808 ≤ y' ∧ y' ≤ 9223372036854775807) (hp1 : pc + 1 = pc1) (ht : (pc1 : Int) + off = (tgt : Int)) (hp : pc1 + 3 = pc') (kt : x = y' → kX κ m L cells slots tgt st) (kf : ¬ x = y' → kX κ m L cells slots pc' st) : kX κ m L cells slots pc (kL y' :: kL x :: st) := by
  subst hp1
  subst hp
  obtain ⟨p, l', e, R, s, mm, args, below, meth, c, G', P', mc', ms', nL'⟩ := κ
  obtain ⟨rfl, rfl, rfl, rfl, rfl, rfl, rfl, hx, hb, hr, hlk, hml, hown, hnm, hts, hW, hG⟩ := C
  intro H locs ls hR hloc hls
  have l1 := kL_lt hx0 hy0
  have l2 := kL_lt hy0 hx0
  refine W.lcmp hx hb hd0 ?_
  have e0 : lg_cmp (Int64.ofInt x) (Int64.ofInt y') = 0 ↔ x = y' := by
    rw [lg_cmp_eq, ← Int64.toInt_inj, kL_toInt hx0, kL_toInt hy0]
  exact lv_if_eq hx hb hd ht (fun q => kt (e0.mp q) H locs ls hR hloc hls) (fun q => kf (fun w => q (e0.mpr w)) H locs ls hR hloc hls)
theorem x_lcmp_ne {κ : Kx} {l : Launch} {G : Gh} {y : MethodName} {cc : ByteArray} {ret : Option FieldType} {nL lev mc ms : Nat} {Post : Option Value → Mem → Prop} (C : kC κ l G y cc ret nL lev mc ms Post) {m : Mem} {L : List (Option Value)} {cells slots pc : Nat} {st : List Value} (tgt pc1 pc' : Nat) {x y' off : Int} (hd0 : decode cc pc = .ok (.lcmp, 1)) (hd : decode cc pc1 = .ok (.ifCond .ne off, 3)) (hx0 : -9223372036854775808 ≤ x ∧ x ≤ 9223372036854775807) (hy0 : -9223372036854775808 ≤ y' ∧ y' ≤ 9223372036854775807) (hp1 : pc + 1 = pc1) (ht : (pc1 : Int) + off = (tgt : Int)) (hp : pc1 + 3 = pc') (kt : ¬ x = y' → kX κ m L cells slots tgt st) (kf : x = y' → kX κ m L cells slots pc' st) : kX κ m L cells slots pc (kL y' :: kL x :: st) := by
  subst hp1
  subst hp
  obtain ⟨p, l', e, R, s, mm, args, below, meth, c, G', P', mc', ms', nL'⟩ := κ
  obtain ⟨rfl, rfl, rfl, rfl, rfl, rfl, rfl, hx, hb, hr, hlk, hml, hown, hnm, hts, hW, hG⟩ := C
  intro H locs ls hR hloc hls
  have l1 := kL_lt hx0 hy0
  have l2 := kL_lt hy0 hx0
  refine W.lcmp hx hb hd0 ?_
  have e0 : lg_cmp (Int64.ofInt x) (Int64.ofInt y') = 0 ↔ x = y' := by
    rw [lg_cmp_eq, ← Int64.toInt_inj, kL_toInt hx0, kL_toInt hy0]
  exact lv_if_ne hx hb hd ht (fun q => kt (fun w => q (e0.mpr w)) H locs ls hR hloc hls) (fun q => kf (e0.mp q) H locs ls hR hloc hls)
theorem kI_nI {x : Int} (h : 0 ≤ x) : Int32.ofInt x = nI x.toNat := by
  show _ = Int32.ofNat x.toNat
  rw [← Int32.ofInt_eq_ofNat, Int.toNat_of_nonneg h]
theorem k_sh31 : ∀ n, n < 32 → ((nI n &&& 31).toBitVec.smod 32).toNat = n := by decide +kernel
theorem k_ush31 : ∀ n, n < 32 → (((nI n).toUInt32 &&& Int32.toUInt32 31).toBitVec % 32).toNat = n := by decide +kernel
theorem k_nI (n : Nat) : nI n = Int32.ofInt (n : Int) := by
  show Int32.ofNat n = _
  rw [Int32.ofInt_eq_ofNat]
theorem k_pow {x : Int} (k : Nat) (h : 0 ≤ x) : ((x.toNat / 2 ^ k : Nat) : Int) = x / 2 ^ k := by
  rw [Int.natCast_ediv, Int.toNat_of_nonneg h]
  simp
theorem k_shr {x y : Int} (hx : 0 ≤ x ∧ x ≤ 2147483647) (hy : 0 ≤ y ∧ y ≤ 31) : Int32.ofInt x >>> (Int32.ofInt y &&& 31) = Int32.ofInt (x / 2 ^ y.toNat) := by
  rw [kI_nI hx.1, kI_nI hy.1, pk_shrN (by omega) _ y.toNat (k_sh31 _ (by omega)), k_nI, k_pow _ hx.1]
theorem k_ushr {x y : Int} (hx : 0 ≤ x ∧ x ≤ 2147483647) (hy : 0 ≤ y ∧ y ≤ 31) : ((Int32.ofInt x).toUInt32 >>> ((Int32.ofInt y).toUInt32 &&& Int32.toUInt32 31)).toInt32 = Int32.ofInt (x / 2 ^ y.toNat) := by
  rw [kI_nI hx.1, kI_nI hy.1, pk_ushrN (by omega) _ y.toNat (k_ush31 _ (by omega)), k_nI, k_pow _ hx.1]
theorem k_and {x y : Int} (hx : 0 ≤ x ∧ x ≤ 2147483647) (hy : 0 ≤ y ∧ y ≤ 2147483647) : Int32.ofInt x &&& Int32.ofInt y = Int32.ofInt ((x.toNat &&& y.toNat : Nat) : Int) := by
  rw [kI_nI hx.1, kI_nI hy.1, ← k_nI]
  apply Int32.toBitVec_inj.1
  show BitVec.ofNat 32 _ &&& BitVec.ofNat 32 _ = BitVec.ofNat 32 (_ &&& _)
  apply BitVec.eq_of_getLsbD_eq
  intro i hi
  simp [hi]
theorem k_and1 {x : Int} (hx : 0 ≤ x ∧ x ≤ 2147483647) : Int32.ofInt x &&& Int32.ofInt 1 = Int32.ofInt (x % 2) := by
  rw [k_and hx ⟨by decide, by decide⟩]
  congr 1
  have : (1 : Int).toNat = 1 := rfl
  rw [this, Nat.and_one_is_mod]
  omega
theorem x_ishr {κ : Kx} {l : Launch} {G : Gh} {y : MethodName} {cc : ByteArray} {ret : Option FieldType} {nL lev mc ms : Nat} {Post : Option Value → Mem → Prop} (C : kC κ l G y cc ret nL lev mc ms Post) {m : Mem} {L : List (Option Value)} {cells slots pc : Nat} {st : List Value} (pc' : Nat) {x y' : Int} (hd : decode cc pc = .ok (.ishr, 1)) (hx0 : 0 ≤ x ∧ x ≤ 2147483647) (hy0 : 0 ≤ y' ∧ y' ≤ 31) (hp : pc + 1 = pc') (k : kX κ m L cells slots pc' (kI (x / 2 ^ y'.toNat) :: st)) : kX κ m L cells slots pc (kI y' :: kI x :: st) := by
  subst hp
  obtain ⟨p, l', e, R, s, mm, args, below, meth, c, G', P', mc', ms', nL'⟩ := κ
  obtain ⟨rfl, rfl, rfl, rfl, rfl, rfl, rfl, hx, hb, hr, hlk, hml, hown, hnm, hts, hW, hG⟩ := C
  intro H locs ls hR hloc hls
  have k1 := k H locs ls hR hloc hls
  rw [show kI (x / 2 ^ y'.toNat) = Value.int (Int32.ofInt x >>> (Int32.ofInt y' &&& 31)) from congrArg Value.int (k_shr hx0 hy0).symm] at k1
  exact lv_ishr hx hb hd k1
theorem x_iand {κ : Kx} {l : Launch} {G : Gh} {y : MethodName} {cc : ByteArray} {ret : Option FieldType} {nL lev mc ms : Nat} {Post : Option Value → Mem → Prop} (C : kC κ l G y cc ret nL lev mc ms Post) {m : Mem} {L : List (Option Value)} {cells slots pc : Nat} {st : List Value} (pc' : Nat) {x y' : Int} (hd : decode cc pc = .ok (.iand, 1)) (hx0 : 0 ≤ x ∧ x ≤ 2147483647) (hy0 : 0 ≤ y' ∧ y' ≤ 2147483647) (hp : pc + 1 = pc') (k : kX κ m L cells slots pc' (kI ((x.toNat &&& y'.toNat : Nat) : Int) :: st)) : kX κ m L cells slots pc (kI y' :: kI x :: st) := by
  subst hp
  obtain ⟨p, l', e, R, s, mm, args, below, meth, c, G', P', mc', ms', nL'⟩ := κ
  obtain ⟨rfl, rfl, rfl, rfl, rfl, rfl, rfl, hx, hb, hr, hlk, hml, hown, hnm, hts, hW, hG⟩ := C
  intro H locs ls hR hloc hls
  have k1 := k H locs ls hR hloc hls
  rw [show kI ((x.toNat &&& y'.toNat : Nat) : Int) = Value.int (Int32.ofInt x &&& Int32.ofInt y') from congrArg Value.int (k_and hx0 hy0).symm] at k1
  exact lv_iand hx hb hd k1
theorem x_iand1 {κ : Kx} {l : Launch} {G : Gh} {y : MethodName} {cc : ByteArray} {ret : Option FieldType} {nL lev mc ms : Nat} {Post : Option Value → Mem → Prop} (C : kC κ l G y cc ret nL lev mc ms Post) {m : Mem} {L : List (Option Value)} {cells slots pc : Nat} {st : List Value} (pc' : Nat) {x : Int} (hd : decode cc pc = .ok (.iand, 1)) (hx0 : 0 ≤ x ∧ x ≤ 2147483647) (hp : pc + 1 = pc') (k : kX κ m L cells slots pc' (kI (x % 2) :: st)) : kX κ m L cells slots pc (kI 1 :: kI x :: st) := by
  subst hp
  obtain ⟨p, l', e, R, s, mm, args, below, meth, c, G', P', mc', ms', nL'⟩ := κ
  obtain ⟨rfl, rfl, rfl, rfl, rfl, rfl, rfl, hx, hb, hr, hlk, hml, hown, hnm, hts, hW, hG⟩ := C
  intro H locs ls hR hloc hls
  have k1 := k H locs ls hR hloc hls
  rw [show kI (x % 2) = Value.int (Int32.ofInt x &&& Int32.ofInt 1) from congrArg Value.int (k_and1 hx0).symm] at k1
  exact lv_iand hx hb hd k1
theorem x_iadd0 {κ : Kx} {l : Launch} {G : Gh} {y : MethodName} {cc : ByteArray} {ret : Option FieldType} {nL lev mc ms : Nat} {Post : Option Value → Mem → Prop} (C : kC κ l G y cc ret nL lev mc ms Post) {m : Mem} {L : List (Option Value)} {cells slots pc : Nat} {st : List Value} (pc' : Nat) {y' : Int} (hd : decode cc pc = .ok (.iadd, 1)) (hp : pc + 1 = pc') (k : kX κ m L cells slots pc' (kI y' :: st)) : kX κ m L cells slots pc (kI y' :: kI 0 :: st) := by
  subst hp
  obtain ⟨p, l', e, R, s, mm, args, below, meth, c, G', P', mc', ms', nL'⟩ := κ
  obtain ⟨rfl, rfl, rfl, rfl, rfl, rfl, rfl, hx, hb, hr, hlk, hml, hown, hnm, hts, hW, hG⟩ := C
  intro H locs ls hR hloc hls
  have k1 := k H locs ls hR hloc hls
  rw [show kI y' = Value.int (Int32.ofInt 0 + Int32.ofInt y') from congrArg Value.int (by rw [← Int32.ofInt_add, Int.zero_add])] at k1
  exact lv_iadd hx hb hd k1
theorem x_zastb {κ : Kx} {l : Launch} {G : Gh} {y : MethodName} {cc : ByteArray} {ret : Option FieldType} {nL lev mc ms : Nat} {Post : Option Value → Mem → Prop} (C : kC κ l G y cc ret nL lev mc ms Post) {m : Mem} {L : List (Option Value)} {cells slots pc : Nat} {st : List Value} (pc' : Nat) {a t : Nat} {vs : List Value} {z : Int} {bb : Bool} {v0 : Value} (ho : m a = some (t, vs)) (h100 : ¬ t < 100) (ht : katy[t - 100]? = some .boolean) (hmt : kmut t = true) (h0 : 0 ≤ z) (h1 : z ≤ 2147483647) (hv : vs[z.toNat]? = some v0) (hd : decode cc pc = .ok (.bastore, 1)) (hp : pc + 1 = pc') (k : kX κ (mset m a (t, vs.set z.toNat (kI (bz bb)))) L cells slots pc' st) : kX κ m L cells slots pc (kI (bz bb) :: kI z :: .ref a :: st) :=
  x_zast C pc' ho h100 ht hmt h0 h1 hv hd hp (by rw [narrow_bz]; exact k)
theorem x_ldc {κ : Kx} {l : Launch} {G : Gh} {y : MethodName} {cc : ByteArray} {ret : Option FieldType} {nL lev mc ms : Nat} {Post : Option Value → Mem → Prop} (C : kC κ l G y cc ret nL lev mc ms Post) {m : Mem} {L : List (Option Value)} {cells slots pc : Nat} {st : List Value} (pc' : Nat) {index : Nat} {v : Int32} {x : Int} (hq : Cond.constant y.cls index v ∈ lw_all) (hv : v = Int32.ofInt x) (hd : decode cc pc = .ok (.ldc index, 2)) (hp : pc + 2 = pc') (k : kX κ m L cells slots pc' (kI x :: st)) : kX κ m L cells slots pc st := by
  subst hp
  subst hv
  obtain ⟨p, l', e, R, s, mm, args, below, meth, c, G', P', mc', ms', nL'⟩ := κ
  obtain ⟨rfl, rfl, rfl, rfl, rfl, rfl, rfl, hx, hb, hr, hlk, hml, hown, hnm, hts, hW, hG⟩ := C
  intro H locs ls hR hloc hls
  exact lv_ldc hx hb hown (hts _ hq) hd (k H locs ls hR hloc hls)
theorem x_ldc2 {κ : Kx} {l : Launch} {G : Gh} {y : MethodName} {cc : ByteArray} {ret : Option FieldType} {nL lev mc ms : Nat} {Post : Option Value → Mem → Prop} (C : kC κ l G y cc ret nL lev mc ms Post) {m : Mem} {L : List (Option Value)} {cells slots pc : Nat} {st : List Value} (pc' : Nat) {index : Nat} {v : Int64} {x : Int} (hq : Cond.constantLong y.cls index v ∈ lw_all) (hv : v = Int64.ofInt x) (hd : decode cc pc = .ok (.ldc2_w index, 3)) (hp : pc + 3 = pc') (k : kX κ m L cells slots pc' (kL x :: st)) : kX κ m L cells slots pc st := by
  subst hp
  subst hv
  obtain ⟨p, l', e, R, s, mm, args, below, meth, c, G', P', mc', ms', nL'⟩ := κ
  obtain ⟨rfl, rfl, rfl, rfl, rfl, rfl, rfl, hx, hb, hr, hlk, hml, hown, hnm, hts, hW, hG⟩ := C
  intro H locs ls hR hloc hls
  exact lv_ldc2 hx hb hown (hts _ hq) hd (k H locs ls hR hloc hls)
theorem kP_t {P : Prop} [Decidable P] {m : Mem} (h : P) : kP (kI (bz (decide P))) m (some (kI 1)) m := by simp [kP, bz, h]
theorem kP_f {P : Prop} [Decidable P] {m : Mem} (h : ¬ P) : kP (kI (bz (decide P))) m (some (kI 0)) m := by simp [kP, bz, h]
theorem kP_e {z z' : Int} {m : Mem} (h : z = z') : kP (kI z) m (some (kI z')) m := by rw [h]; exact ⟨rfl, rfl⟩
