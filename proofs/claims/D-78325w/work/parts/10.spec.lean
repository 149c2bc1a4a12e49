/-! THE PLAIN LAW'S WORDS: what both sides compute, in plain functions (no program in sight). f: the points' numbers (x at p, y at 20 + p, width 40, height 60, priority 80, sides 100, shown 120), n points, w the window (left, bottom, width, height). -/
abbrev Wn : Type := Int × Int × Int × Int
/-- a loop from 0 to n - 1 -/
def pFN {α : Type} (s : α) (g : Int → α → α) : Nat → α
  | 0 => s
  | k + 1 => g (k : Int) (pFN s g k)
def pF {α : Type} (s : α) (g : Int → α → α) (n : Int) : α := pFN s g n.toNat
theorem pF_0 {α : Type} (s : α) (g : Int → α → α) : pF s g 0 = s := rfl
theorem pF_s {α : Type} (s : α) (g : Int → α → α) {i : Int} (h : 0 ≤ i) : pF s g (i + 1) = g i (pF s g i) := by
  have e : (i + 1).toNat = i.toNat + 1 := by omega
  unfold pF
  rw [e]
  show g ((i.toNat : Nat) : Int) _ = _
  rw [Int.toNat_of_nonneg h]
theorem pF_neg {α : Type} (s : α) (g : Int → α → α) {i : Int} (h : i ≤ 0) : pF s g i = s := by
  have e : i.toNat = 0 := by omega
  unfold pF
  rw [e]
  rfl
/-- an invariant of a loop -/
theorem pF_inv {α : Type} {s : α} {g : Int → α → α} {n : Int} (P : Int → α → Prop) (h0 : P 0 s) (hs : ∀ i a, 0 ≤ i → i < n → P i a → P (i + 1) (g i a)) (hn : 0 ≤ n) : P n (pF s g n) := by
  have key : ∀ k : Nat, (k : Int) ≤ n → P k (pF s g k) := by
    intro k
    induction k with
    | zero => intro _; exact h0
    | succ k ih =>
      intro hk
      have e : ((k + 1 : Nat) : Int) = (k : Int) + 1 := by omega
      rw [e, pF_s _ _ (by omega)]
      exact hs k _ (by omega) (by omega) (ih (by omega))
  have := key n.toNat (by omega)
  rwa [Int.toNat_of_nonneg hn] at this
theorem pF_ext {α : Type} {s : α} {g g' : Int → α → α} {n : Int} (h : ∀ i a, 0 ≤ i → i < n → g i a = g' i a) : pF s g n = pF s g' n := by
  by_cases hn : 0 ≤ n
  · have := pF_inv (s := s) (g := g) (n := n) (fun i a => a = pF s g' i) rfl (fun i a h0 h1 e => by rw [pF_s _ _ h0, e, h i _ h0 h1]) hn
    exact this
  · rw [pF_neg _ _ (by omega), pF_neg _ _ (by omega)]
def pAll (P : Int → Bool) (n : Int) : Bool := pF true (fun q b => b && P q) n
def pCnt (P : Int → Bool) (n : Int) : Int := pF 0 (fun q c => c + bz (P q)) n
theorem pAll_s (P : Int → Bool) {i : Int} (h : 0 ≤ i) : pAll P (i + 1) = (pAll P i && P i) := pF_s _ _ h
theorem pCnt_s (P : Int → Bool) {i : Int} (h : 0 ≤ i) : pCnt P (i + 1) = pCnt P i + bz (P i) := pF_s _ _ h
theorem pAll_iff {P : Int → Bool} {n : Int} : pAll P n = true ↔ ∀ q, 0 ≤ q → q < n → P q = true := by
  by_cases hn : 0 ≤ n
  · refine pF_inv (s := true) (g := fun q b => b && P q) (n := n) (fun i b => b = true ↔ ∀ q, 0 ≤ q → q < i → P q = true) ⟨fun _ q h1 h2 => absurd h1 (by omega), fun _ => rfl⟩ (fun i b h0 h1 ih => ?_) hn
    rw [Bool.and_eq_true, ih]
    constructor
    · rintro ⟨h2, h3⟩ q h4 h5
      by_cases e : q = i
      · rw [e]; exact h3
      · exact h2 q h4 (by omega)
    · intro h2
      exact ⟨fun q h3 h4 => h2 q h3 (by omega), h2 i h0 (by omega)⟩
  · have : pAll P n = true := pF_neg _ _ (by omega)
    rw [this]
    constructor
    · intro _ q h1 h2; omega
    · intro _; rfl
theorem pAll_stop {P : Int → Bool} {i n : Int} (h : pAll P i = false) (hi : i ≤ n) : pAll P n = false := by
  cases e : pAll P n with
  | false => rfl
  | true =>
    have : pAll P i = true := pAll_iff.mpr (fun q h1 h2 => pAll_iff.mp e q h1 (by omega))
    rw [h] at this
    cases this
theorem pCnt_b {P : Int → Bool} {n : Int} (hn : 0 ≤ n) : 0 ≤ pCnt P n ∧ pCnt P n ≤ n := by
  refine pF_inv (s := 0) (g := fun q c => c + bz (P q)) (n := n) (fun i c => 0 ≤ c ∧ c ≤ i) ⟨by omega, by omega⟩ (fun i c h0 h1 h => ?_) hn
  have := bz_b (P i)
  omega
theorem pCnt_ext {P P' : Int → Bool} {n : Int} (h : ∀ i, 0 ≤ i → i < n → P i = P' i) : pCnt P n = pCnt P' n := pF_ext (fun i a h0 h1 => by rw [h i h0 h1])
theorem pAll_ext {P P' : Int → Bool} {n : Int} (h : ∀ i, 0 ≤ i → i < n → P i = P' i) : pAll P n = pAll P' n := pF_ext (fun i a h0 h1 => by rw [h i h0 h1])
/-- a point's numbers in their bounds -/
abbrev WFp (f : Int → Int) (p : Int) : Prop := 0 ≤ f p ∧ f p ≤ 199 ∧ 0 ≤ f (20 + p) ∧ f (20 + p) ≤ 199 ∧ 1 ≤ f (40 + p) ∧ f (40 + p) ≤ 20 ∧ 1 ≤ f (60 + p) ∧ f (60 + p) ≤ 6 ∧ 1 ≤ f (80 + p) ∧ f (80 + p) ≤ 9 ∧ 1 ≤ f (100 + p) ∧ f (100 + p) ≤ 255 ∧ -1 ≤ f (120 + p) ∧ f (120 + p) ≤ 7
abbrev WFw (w : Wn) : Prop := 10 ≤ w.2.2.1 ∧ w.2.2.1 ≤ 100 ∧ 10 ≤ w.2.2.2 ∧ w.2.2.2 ≤ 100 ∧ 0 ≤ w.1 ∧ w.1 ≤ 200 - w.2.2.1 ∧ 0 ≤ w.2.1 ∧ w.2.1 ≤ 200 - w.2.2.2
def WF (f : Int → Int) (n : Int) (w : Wn) : Prop := 0 ≤ n ∧ n ≤ 20 ∧ (∀ p, 0 ≤ p → p < n → WFp f p) ∧ WFw w
theorem WF.n {f : Int → Int} {n : Int} {w : Wn} (h : WF f n w) : 0 ≤ n ∧ n ≤ 20 := ⟨h.1, h.2.1⟩
theorem WF.p {f : Int → Int} {n : Int} {w : Wn} (h : WF f n w) {p : Int} (h0 : 0 ≤ p) (h1 : p < n) : WFp f p := h.2.2.1 p h0 h1
theorem WF.w {f : Int → Int} {n : Int} {w : Wn} (h : WF f n w) : WFw w := h.2.2.2
def pVis (f : Int → Int) (w : Wn) (p : Int) : Bool := decide (w.1 ≤ f p ∧ f p ≤ w.1 + w.2.2.1 - 1) && decide (w.2.1 ≤ f (20 + p) ∧ f (20 + p) ≤ w.2.1 + w.2.2.2 - 1)
def pL (f : Int → Int) (p s : Int) : Int := if 5 < s then f p - (f (40 + p) - 1) / 2 else if s % 2 = 0 then f p + 1 else f p - f (40 + p)
def pB (f : Int → Int) (p s : Int) : Int := if s = 4 ∨ s = 5 then f (20 + p) - (f (60 + p) - 1) / 2 else if s = 0 ∨ s = 1 ∨ s = 6 then f (20 + p) + 1 else f (20 + p) - f (60 + p)
theorem pL_b {f : Int → Int} {p s : Int} (h : WFp f p) : -20 ≤ pL f p s ∧ pL f p s ≤ 200 := by
  unfold pL
  split
  · omega
  · split <;> omega
theorem pB_b {f : Int → Int} {p s : Int} (h : WFp f p) : -20 ≤ pB f p s ∧ pB f p s ≤ 200 := by
  unfold pB
  split
  · omega
  · split <;> omega
def pCov (f : Int → Int) (p s x y : Int) : Bool := decide (pL f p s ≤ x ∧ x ≤ pL f p s + f (40 + p) - 1) && decide (pB f p s ≤ y ∧ y ≤ pB f p s + f (60 + p) - 1)
/-- the side is allowed, the label within the window -/
def pBit (f : Int → Int) (p s : Int) : Bool := decide (f (100 + p) / 2 ^ s.toNat % 2 = 1)
def pIn (f : Int → Int) (w : Wn) (p s : Int) : Bool := decide (w.1 ≤ pL f p s ∧ w.2.1 ≤ pB f p s ∧ pL f p s + f (40 + p) ≤ w.1 + w.2.2.1 ∧ pB f p s + f (60 + p) ≤ w.2.1 + w.2.2.2)
def pFree (f : Int → Int) (p s : Int) (n : Int) : Bool := pAll (fun q => !pCov f p s (f q) (f (20 + q))) n
/-- a side of a point is a place -/
def pPl (f : Int → Int) (n : Int) (w : Wn) (p s : Int) : Bool := pVis f w p && pBit f p s && pIn f w p s && pFree f p s n
/-- two labels have a cell in common -/
def pMt (f : Int → Int) (p s q t : Int) : Bool := decide (pL f p s < pL f q t + f (40 + q) ∧ pL f q t < pL f p s + f (40 + p)) && decide (pB f p s < pB f q t + f (60 + q) ∧ pB f q t < pB f p s + f (60 + p))
/-- the shown label of q clashes with the label of p on s -/
def pCl (f : Int → Int) (p s q : Int) : Bool := decide (q ≠ p) && decide (f (120 + q) ≠ -1) && pMt f p s q (f (120 + q))
def pCs (f : Int → Int) (n : Int) (p s : Int) : Int := pCnt (pCl f p s) n
/-- the labels of points that are at no place any more disappear -/
def pSetN (f : Int → Int) (n : Int) (w : Wn) (i : Int) : Int → Int := fun j => if 120 ≤ j ∧ j < 120 + i then (if f j ≠ -1 ∧ pPl f n w (j - 120) (f j) = true then f j else -1) else f j
def pSet (f : Int → Int) (n : Int) (w : Wn) : Int → Int := pSetN f n w n
theorem pSetN_0 (f : Int → Int) (n : Int) (w : Wn) : pSetN f n w 0 = f := by
  funext j
  unfold pSetN
  rw [if_neg (by omega)]
theorem pSetN_ge {f : Int → Int} {n : Int} {w : Wn} {i j : Int} (h : j < 120 ∨ 120 + i ≤ j) : pSetN f n w i j = f j := by
  unfold pSetN
  rw [if_neg (by omega)]
theorem pSetN_s {f : Int → Int} {n : Int} {w : Wn} {i v : Int} (h : 0 ≤ i) (hv : v = if f (120 + i) ≠ -1 ∧ pPl f n w i (f (120 + i)) = true then f (120 + i) else -1) : upz (pSetN f n w i) (120 + i) v = pSetN f n w (i + 1) := by
  funext j
  unfold upz
  by_cases e : j = 120 + i
  · subst e
    rw [if_pos rfl]
    unfold pSetN
    rw [if_pos (by omega), hv, show 120 + i - 120 = i by omega]
  · rw [if_neg e]
    unfold pSetN
    by_cases h2 : 120 ≤ j ∧ j < 120 + i
    · have h3 : 120 ≤ j ∧ j < 120 + (i + 1) := by omega
      rw [if_pos h2, if_pos h3]
    · have h3 : ¬ (120 ≤ j ∧ j < 120 + (i + 1)) := by omega
      rw [if_neg h2, if_neg h3]
/-- the reference's place array is right -/
def PlOK (a6 f : Int → Int) (n : Int) (w : Wn) : Prop := ∀ k, 0 ≤ k → k < 8 * n → a6 k = bz (pPl f n w (k / 8) (k % 8))
theorem PlOK.at {a6 f : Int → Int} {n : Int} {w : Wn} (h : PlOK a6 f n w) {p s : Int} (hp : 0 ≤ p ∧ p < n) (hs : 0 ≤ s ∧ s < 8) : a6 (8 * p + s) = bz (pPl f n w p s) := by
  have e := h (8 * p + s) (by omega) (by omega)
  rw [show (8 * p + s) / 8 = p by omega, show (8 * p + s) % 8 = s by omega] at e
  exact e
/-- the points in their order: by priority, the greatest first, then by number -/
def pOrdI (f : Int → Int) (pr : Int) (k : Int) : List Int := pF [] (fun p l => if f (80 + p) = pr then l ++ [p] else l) k
def pOrdO (f : Int → Int) (n : Int) : Nat → List Int
  | 0 => []
  | j + 1 => pOrdO f n j ++ pOrdI f (9 - (j : Int)) n
def pOrd (f : Int → Int) (n : Int) : List Int := pOrdO f n 9
theorem pOrdI_s (f : Int → Int) (pr : Int) {k : Int} (h : 0 ≤ k) : pOrdI f pr (k + 1) = if f (80 + k) = pr then pOrdI f pr k ++ [k] else pOrdI f pr k := pF_s _ _ h
theorem pOrdI_len (f : Int → Int) (pr : Int) {k : Int} (h : 0 ≤ k) : ((pOrdI f pr k).length : Int) = pCnt (fun p => decide (f (80 + p) = pr)) k := by
  refine pF_inv (s := []) (g := fun p l => if f (80 + p) = pr then l ++ [p] else l) (n := k) (fun i l => (l.length : Int) = pCnt (fun p => decide (f (80 + p) = pr)) i) rfl (fun i l h0 h1 ih => ?_) h
  rw [pCnt_s _ h0, ← ih]
  by_cases e : f (80 + i) = pr
  · simp [e, bz]
  · simp [e, bz]
theorem pOrdI_mono (f : Int → Int) (pr : Int) {k n : Int} (h0 : 0 ≤ k) (h : k ≤ n) : (pOrdI f pr k).length ≤ (pOrdI f pr n).length := by
  have := pF_inv (s := pOrdI f pr k) (g := fun p l => if f (80 + (p + k)) = pr then l ++ [p + k] else l) (n := n - k) (fun i l => l = pOrdI f pr (k + i) ∧ (pOrdI f pr k).length ≤ l.length) ⟨by rw [Int.add_zero], Nat.le_refl _⟩ (fun i l h1 h2 ih => by
    obtain ⟨rfl, ih2⟩ := ih
    have e : k + (i + 1) = (k + i) + 1 := by omega
    rw [e, pOrdI_s _ _ (by omega), show i + k = k + i by omega]
    refine ⟨rfl, ?_⟩
    split
    · rw [List.length_append]; omega
    · exact ih2) (by omega)
  rw [this.1, show k + (n - k) = n by omega] at this
  exact this.2
theorem pOrdO_mono (f : Int → Int) (n : Int) {j k : Nat} (h : j ≤ k) : (pOrdO f n j).length ≤ (pOrdO f n k).length := by
  induction k with
  | zero =>
    have : j = 0 := by omega
    subst this
    exact Nat.le_refl _
  | succ k ih =>
    by_cases e : j = k + 1
    · subst e; exact Nat.le_refl _
    · have := ih (by omega)
      show _ ≤ (pOrdO f n k ++ pOrdI f (9 - (k : Int)) n).length
      rw [List.length_append]
      omega
theorem pOrd_len {f : Int → Int} {n : Int} (h : 0 ≤ n) (hp : ∀ p, 0 ≤ p → p < n → 1 ≤ f (80 + p) ∧ f (80 + p) ≤ 9) : ((pOrd f n).length : Int) = n := by
  have e : ((pOrd f n).length : Int) = pCnt (fun p => decide (f (80 + p) = 9)) n + pCnt (fun p => decide (f (80 + p) = 8)) n + pCnt (fun p => decide (f (80 + p) = 7)) n + pCnt (fun p => decide (f (80 + p) = 6)) n + pCnt (fun p => decide (f (80 + p) = 5)) n + pCnt (fun p => decide (f (80 + p) = 4)) n + pCnt (fun p => decide (f (80 + p) = 3)) n + pCnt (fun p => decide (f (80 + p) = 2)) n + pCnt (fun p => decide (f (80 + p) = 1)) n := by
    simp only [pOrd, pOrdO, List.length_append, Int.natCast_add, pOrdI_len _ _ h, List.length_nil]
    simp
  rw [e]
  refine pF_inv (s := ()) (g := fun _ _ => ()) (n := n) (fun i _ => i ≤ n → pCnt (fun p => decide (f (80 + p) = 9)) i + pCnt (fun p => decide (f (80 + p) = 8)) i + pCnt (fun p => decide (f (80 + p) = 7)) i + pCnt (fun p => decide (f (80 + p) = 6)) i + pCnt (fun p => decide (f (80 + p) = 5)) i + pCnt (fun p => decide (f (80 + p) = 4)) i + pCnt (fun p => decide (f (80 + p) = 3)) i + pCnt (fun p => decide (f (80 + p) = 2)) i + pCnt (fun p => decide (f (80 + p) = 1)) i = i) (fun _ => rfl) (fun i _ h0 h1 ih hi => ?_) h (Int.le_refl _)
  have ih := ih (by omega)
  simp only [pCnt_s _ h0]
  obtain ⟨b1, b2⟩ := hp i h0 h1
  have hc : f (80 + i) = 1 ∨ f (80 + i) = 2 ∨ f (80 + i) = 3 ∨ f (80 + i) = 4 ∨ f (80 + i) = 5 ∨ f (80 + i) = 6 ∨ f (80 + i) = 7 ∨ f (80 + i) = 8 ∨ f (80 + i) = 9 := by omega
  rcases hc with c | c | c | c | c | c | c | c | c <;> simp only [c] <;> simp [bz] <;> omega
theorem p_sh {x : Int} (k : Nat) (h : 0 ≤ x) : 0 ≤ x / 2 ^ k ∧ x / 2 ^ k ≤ x := by
  have e := k_pow k h
  have h2 : x.toNat / 2 ^ k ≤ x.toNat := Nat.div_le_self _ _
  rw [← e]
  exact ⟨Int.natCast_nonneg _, Int.le_trans (Int.ofNat_le.mpr h2) (by omega)⟩
/-- the number of the last point whose shown label clashes -/
def pCg (f : Int → Int) (n : Int) (p s : Int) : Int := pF (-1) (fun q r => if pCl f p s q = true then q else r) n
def pSh (f : Int → Int) (n : Int) : Int := pCnt (fun p => decide (f (120 + p) ≠ -1)) n
def pProp (what v : Int) : Bool := if what = 2 then decide (1 ≤ v ∧ v ≤ 20) else if what = 3 then decide (1 ≤ v ∧ v ≤ 6) else if what = 4 then decide (1 ≤ v ∧ v ≤ 9) else if what = 5 then decide (1 ≤ v ∧ v ≤ 255) else false
/-- a point at a place; none: -1 -/
def pAt (f : Int → Int) (x y : Int) (n : Int) : Int := pF (-1) (fun p r => if r = -1 ∧ f p = x ∧ f (20 + p) = y then p else r) n
theorem pAt_s (f : Int → Int) (x y : Int) {i : Int} (h : 0 ≤ i) : pAt f x y (i + 1) = if pAt f x y i = -1 ∧ f i = x ∧ f (20 + i) = y then i else pAt f x y i := pF_s _ _ h
theorem pAt_stop {f : Int → Int} {x y i : Int} (h0 : 0 ≤ i) (h : pAt f x y (i + 1) = i) {n : Int} (hn : i < n) : pAt f x y n = i := by
  have key : ∀ k : Nat, pAt f x y (i + 1 + k) = i := by
    intro k
    induction k with
    | zero => rw [show i + 1 + ((0 : Nat) : Int) = i + 1 by omega]; exact h
    | succ k ih =>
      have e : i + 1 + ((k + 1 : Nat) : Int) = (i + 1 + k) + 1 := by omega
      rw [e, pAt_s _ _ _ (by omega), ih, if_neg (by omega)]
  have := key (n - (i + 1)).toNat
  rwa [show i + 1 + ((n - (i + 1)).toNat : Int) = n by omega] at this
theorem pOrdO_sub {f : Int → Int} {n : Int} {j : Nat} (hj : j < 9) {k : Int} (h0 : 0 ≤ k) (hk : k < n) (h : f (80 + k) = 9 - (j : Int)) (hn : 0 ≤ n) (hp : ∀ p, 0 ≤ p → p < n → 1 ≤ f (80 + p) ∧ f (80 + p) ≤ 9) : ((pOrdO f n j ++ pOrdI f (9 - (j : Int)) k).length : Int) < n := by
  have h1 : (pOrdI f (9 - (j : Int)) (k + 1)).length = (pOrdI f (9 - (j : Int)) k).length + 1 := by
    rw [pOrdI_s _ _ h0, if_pos h, List.length_append]
    rfl
  have h2 := pOrdI_mono f (9 - (j : Int)) (k := k + 1) (n := n) (by omega) (by omega)
  have h3 := pOrdO_mono f n (j := j + 1) (k := 9) (by omega)
  have h4 : (pOrdO f n (j + 1)).length = (pOrdO f n j).length + (pOrdI f (9 - (j : Int)) n).length := by
    show (pOrdO f n j ++ pOrdI f (9 - (j : Int)) n).length = _
    rw [List.length_append]
  have h5 := pOrd_len hn hp
  unfold pOrd at h5
  rw [List.length_append]
  omega
/-- an array holds a list from its start on -/
def ArL (a : Int → Int) (l : List Int) : Prop := ∀ j : Nat, j < l.length → l[j]? = some (a j)
theorem ArL.put {a : Int → Int} {l : List Int} (h : ArL a l) (v : Int) : ArL (upz a (l.length : Int) v) (l ++ [v]) := by
  intro j hj
  by_cases e : j = l.length
  · subst e
    rw [upz_s, List.getElem?_append_right (Nat.le_refl _), Nat.sub_self]
    rfl
  · rw [List.length_append] at hj
    have h1 : j < l.length := by
      have : [v].length = 1 := rfl
      omega
    rw [upz_n (by omega), List.getElem?_append_left h1]
    exact h j h1
/-- the first below n; none: -1 -/
def pFst (P : Int → Bool) (n : Int) : Int := pF (-1) (fun q r => if r = -1 ∧ P q = true then q else r) n
theorem pFst_s (P : Int → Bool) {i : Int} (h : 0 ≤ i) : pFst P (i + 1) = if pFst P i = -1 ∧ P i = true then i else pFst P i := pF_s _ _ h
theorem pFst_stop {P : Int → Bool} {i : Int} (h0 : 0 ≤ i) (h : pFst P i = -1) (hp : P i = true) {n : Int} (hn : i < n) : pFst P n = i := by
  have key : ∀ k : Nat, pFst P (i + 1 + k) = i := by
    intro k
    induction k with
    | zero => rw [show i + 1 + ((0 : Nat) : Int) = i + 1 by omega, pFst_s _ h0, if_pos ⟨h, hp⟩]
    | succ k ih =>
      have e : i + 1 + ((k + 1 : Nat) : Int) = (i + 1 + k) + 1 := by omega
      rw [e, pFst_s _ (by omega), ih, if_neg (by omega)]
  have := key (n - (i + 1)).toNat
  rwa [show i + 1 + ((n - (i + 1)).toNat : Int) = n by omega] at this
theorem pFst_no {P : Int → Bool} {i : Int} (h0 : 0 ≤ i) (h : pFst P i = -1) (hp : P i = false) : pFst P (i + 1) = -1 := by
  rw [pFst_s _ h0, if_neg (by rw [hp]; simp)]
  exact h
theorem pFst_b {P : Int → Bool} {n : Int} (hn : 0 ≤ n) : pFst P n = -1 ∨ (0 ≤ pFst P n ∧ pFst P n < n ∧ P (pFst P n) = true) := by
  refine pF_inv (s := -1) (g := fun q r => if r = -1 ∧ P q = true then q else r) (n := n) (fun i r => r = -1 ∨ (0 ≤ r ∧ r < i ∧ P r = true)) (Or.inl rfl) (fun i r h0 h1 h => ?_) hn
  by_cases c : r = -1 ∧ P i = true
  · rw [if_pos c]
    exact Or.inr ⟨h0, by omega, c.2⟩
  · rw [if_neg c]
    rcases h with h | ⟨a, b, c⟩
    · exact Or.inl h
    · exact Or.inr ⟨a, by omega, c⟩
theorem pFst_ext {P P' : Int → Bool} {n : Int} (h : ∀ i, 0 ≤ i → i < n → P i = P' i) : pFst P n = pFst P' n := pF_ext (fun i a h0 h1 => by rw [h i h0 h1])
def pOf (f : Int → Int) (n : Int) (w : Wn) (p : Int) : Int := pCnt (fun s => pPl f n w p s) 8
def pPart (f : Int → Int) (n : Int) (w : Wn) (p wh : Int) : Int := if wh = 6 then bz (pVis f w p) else if wh = 7 then f (120 + p) else if wh = 8 then pOf f n w p else f (20 * wh + p)
def pPoint (f : Int → Int) (n : Int) (w : Wn) (p wh : Int) : Int := if (0 ≤ p ∧ p < n) ∧ 0 ≤ wh ∧ wh ≤ 8 then pPart f n w p wh else -2
def pVs (f : Int → Int) (n : Int) (w : Wn) : Int := pCnt (fun p => pVis f w p) n
def pMsP (f : Int → Int) (n : Int) (w : Wn) (p s k : Int) : Bool := decide (k / 8 ≠ p) && pPl f n w (k / 8) (k % 8) && pMt f p s (k / 8) (k % 8)
def pMs (f : Int → Int) (n : Int) (w : Wn) (p s : Int) : Int := pCnt (pMsP f n w p s) (8 * n)
def pPP (f : Int → Int) (n : Int) (w : Wn) (p s wh : Int) : Int := if wh = 0 then bz (pPl f n w p s) else if wh = 1 then pL f p s else if wh = 2 then pB f p s else if wh = 3 then (if pPl f n w p s = true then pMs f n w p s else 0) else (if pPl f n w p s = true then pCs f n p s else 0)
def pPlace (f : Int → Int) (n : Int) (w : Wn) (p s wh : Int) : Int := if (0 ≤ p ∧ p < n) ∧ (0 ≤ s ∧ s ≤ 7) ∧ 0 ≤ wh ∧ wh ≤ 4 then pPP f n w p s wh else -2
def pClash (f : Int → Int) (n : Int) (w : Wn) (p s q t : Int) : Int := if ((0 ≤ p ∧ p < n) ∧ (0 ≤ s ∧ s ≤ 7) ∧ (0 ≤ q ∧ q < n) ∧ (0 ≤ t ∧ t ≤ 7)) ∧ p ≠ q then (if pPl f n w p s = true ∧ pPl f n w q t = true then bz (pMt f p s q t) else -3) else -2
def pLabP (f : Int → Int) (x y p : Int) : Bool := decide (f (120 + p) ≠ -1) && pCov f p (f (120 + p)) x y
def pLabelAt (f : Int → Int) (n : Int) (x y : Int) : Int := if (0 ≤ x ∧ x ≤ 199) ∧ 0 ≤ y ∧ y ≤ 199 then pFst (pLabP f x y) n else -2
def pWants (f : Int → Int) (w : Wn) (p : Int) : Bool := decide (f (120 + p) = -1) && pVis f w p
def pStrQ (f : Int → Int) (p s q : Int) : Bool := !pCl f p s q || decide (f (80 + q) < f (80 + p))
def pStr (f : Int → Int) (n : Int) (w : Wn) (p s : Int) : Bool := pPl f n w p s && pAll (pStrQ f p s) n
def pSg (f : Int → Int) (n : Int) (w : Wn) (p : Int) : Int := pFst (fun s => pWants f w p && pStr f n w p s) 8
def pPlaces (f : Int → Int) (n : Int) (w : Wn) : Int := pF 0 (fun p c => c + pOf f n w p) n
def pPairN (f : Int → Int) (n : Int) (w : Wn) (k : Int) : Int := pF 0 (fun k c => c + if pPl f n w (k / 8) (k % 8) = true then pMs f n w (k / 8) (k % 8) else 0) k
def pPairs (f : Int → Int) (n : Int) (w : Wn) : Int := pPairN f n w (8 * n) / 2
def pPrio (f : Int → Int) (n : Int) : Int := pF 0 (fun p c => c + if f (120 + p) ≠ -1 then f (80 + p) else 0) n
def pPushing (f : Int → Int) (n : Int) (w : Wn) : Int := pCnt (fun p => decide (pSg f n w p ≠ -1)) n
def pNum (f : Int → Int) (n : Int) (w : Wn) (ld tl wh : Int) : Int := if wh = 0 then n else if wh = 1 then pVs f n w else if wh = 2 then pPlaces f n w else if wh = 3 then pPairs f n w else if wh = 4 then pSh f n else if wh = 5 then pPrio f n else if wh = 6 then w.1 else if wh = 7 then w.2.1 else if wh = 8 then w.2.2.1 else if wh = 9 then w.2.2.2 else if wh = 10 then ld else if wh = 11 then tl else pPushing f n w
def pCount (f : Int → Int) (n : Int) (w : Wn) (ld tl wh : Int) : Int := if 0 ≤ wh ∧ wh ≤ 12 then pNum f n w ld tl wh else -2
theorem pPairN_b (f : Int → Int) (n : Int) (w : Wn) {k : Int} (h0 : 0 ≤ k) (hk : k ≤ 160) (hn : n ≤ 20) (h0n : 0 ≤ n) : 0 ≤ pPairN f n w k ∧ pPairN f n w k ≤ 160 * k := by
  refine pF_inv (s := 0) (g := fun k c => c + if pPl f n w (k / 8) (k % 8) = true then pMs f n w (k / 8) (k % 8) else 0) (n := k) (fun i c => 0 ≤ c ∧ c ≤ 160 * i) ⟨by omega, by omega⟩ (fun i c h1 h2 h => ?_) h0
  have hb : 0 ≤ pMs f n w (i / 8) (i % 8) ∧ pMs f n w (i / 8) (i % 8) ≤ 8 * n := pCnt_b (by omega)
  split <;> omega
