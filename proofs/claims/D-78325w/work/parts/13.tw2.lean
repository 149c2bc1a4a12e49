/-! THE REFERENCE, loops: finds, findsAll, clashes, clashing, settles, shown, orders, isProperty, pointAt. -/
set_option maxRecDepth 100000
set_option maxHeartbeats 1000000
theorem ct_X4_finds {l : Launch} {G : Gh} (hG : kG G) {m : Mem} {b : Nat} {ad : Nat → Nat} {n : Int} {w : Wn} {ld tl at' ft lt : Int} {a0 a6 a7 a8 a9 a10 a12 a13 a17 a19 : Int → Int} {hh : Int64} (hT : TR m b ad n w ld tl at' ft lt a0 a6 a7 a8 a9 a10 a12 a13 a17 a19 hh) (hW : WF a0 n w) {p s : Int} (hp : 0 ≤ p ∧ p < n) (hs : 0 ≤ s ∧ s < 8) : kM l G yX4_finds cX4_finds 7 (Option.some FieldType.boolean) 3 0 0 [.ref b, kI p, kI s] m (kP (kI (bz (pPl a0 n w p s))) m) := by
  refine kM.of hG (by decide +kernel) 4 rfl fun κ C => ?_
  have hn := hW.n
  have hw := hW.w
  have hf := hW.p hp.1 hp.2
  have hl := pL_b (s := s) hf
  have hb := pB_b (s := s) hf
  obtain ⟨is0, his⟩ : ∃ x : Bool, x = (pVis a0 w p && pBit a0 p s && pIn a0 w p s) := ⟨_, rfl⟩
  have fin : ∀ i : Int, (i = n ∨ (i ≤ n ∧ (is0 && pFree a0 p s i) = false)) → pPl a0 n w p s = (is0 && pFree a0 p s i) := by
    intro i hi
    unfold pPl
    rw [← his]
    rcases hi with rfl | ⟨h1, h2⟩
    · rfl
    · rw [h2]
      cases is0 with
      | false => rfl
      | true => exact pAll_stop (by simpa [pFree] using h2) h1
  have loop : ∀ (k : Nat) (i : Int), 0 ≤ i → i ≤ n → (n - i).toNat < k → kX κ m [some (.ref b), some (kI p), some (kI s), some (kI (pL a0 p s)), some (kI (pB a0 p s)), some (kI (bz (is0 && pFree a0 p s i))), some (kI i)] 0 0 126 [] := by
    intro k
    induction k with
    | zero => intro i h0 h1 h2; omega
    | succ k ih =>
      intro i h0 h1 h2
      have hs1 : pFree a0 p s (i + 1) = (pFree a0 p s i && !pCov a0 p s (a0 i) (a0 (20 + i))) := pAll_s _ h0
      have nxt : ∀ bb : Bool, bb = (is0 && pFree a0 p s (i + 1)) → i < n → kX κ m [some (.ref b), some (kI p), some (kI s), some (kI (pL a0 p s)), some (kI (pB a0 p s)), some (kI (bz bb)), some (kI (i + 1))] 0 0 126 [] := by
        intro bb hbb hi
        rw [hbb]
        exact ih (i + 1) (by omega) (by omega) (by omega)
      refine x_iload C 128 dX4_finds_126 rfl rfl ?_
      refine x_aload_n C 129 dX4_finds_128 rfl rfl rfl ?_
      refine x_getf C 132 f_X4_48_4 hT.o rfl dX4_finds_129 rfl ?_
      refine x_icmp_ge C 181 135 dX4_finds_132 (by omega) (by omega) (by decide) rfl (fun h132 => ?_) (fun h132 => ?_)
      ·
        exact x_iload C 183 dX4_finds_181 rfl rfl (x_iret C dX4_finds_183 rfl (narrow_bz _) ⟨by omega, by omega⟩ (kP_e (congrArg bz (fin i (by first | exact Or.inl (by omega) | exact Or.inr ⟨by omega, by assumption⟩)))))
      ·
        refine x_iload C 137 dX4_finds_135 rfl rfl ?_
        refine x_ifb_eq C 181 140 dX4_finds_137 (by decide) rfl (fun h137 => ?_) (fun h137 => ?_)
        ·
          exact x_iload C 183 dX4_finds_181 rfl rfl (x_iret C dX4_finds_183 rfl (narrow_bz _) ⟨by omega, by omega⟩ (kP_e (congrArg bz (fin i (by first | exact Or.inl (by omega) | exact Or.inr ⟨by omega, by assumption⟩)))))
        ·
          have hfi := hW.p h0 (by omega)
          refine x_aload_n C 141 dX4_finds_140 rfl rfl rfl ?_
          refine x_iload_n C 142 dX4_finds_141 rfl rfl ?_
          refine x_iload_n C 143 dX4_finds_142 rfl rfl ?_
          refine x_aload_n C 144 dX4_finds_143 rfl rfl rfl ?_
          refine x_getf C 147 f_X4_7_4 hT.o rfl dX4_finds_144 rfl ?_
          refine x_iconst C 148 dX4_finds_147 rfl ?_
          refine x_iload C 150 dX4_finds_148 rfl rfl ?_
          refine x_iadd0 C 151 dX4_finds_150 rfl ?_
          refine x_iald C 152 hT.a0 (by decide) rfl (by omega) (by omega) (kfI_get (by omega) (by omega)) dX4_finds_151 rfl ?_
          refine x_aload_n C 153 dX4_finds_152 rfl rfl rfl ?_
          refine x_getf C 156 f_X4_7_4 hT.o rfl dX4_finds_153 rfl ?_
          refine x_bipush C 158 dX4_finds_156 (by decide) rfl ?_
          refine x_iload C 160 dX4_finds_158 rfl rfl ?_
          refine x_iadd C 161 dX4_finds_160 rfl ?_
          refine x_iald C 162 hT.a0 (by decide) rfl (by omega) (by omega) (kfI_get (by omega) (by omega)) dX4_finds_161 rfl ?_
          refine x_callV4 C 165 (ct_X4_covers hG hT (by omega) (by omega) (by assumption) (by omega) (by omega)) v_X4_72 hT.o rfl dX4_finds_162 rfl (by decide) (by decide) (by omega) (Nat.le_of_ble_eq_true rfl) (kP_k ?_)
          refine x_ifb_ne C 172 168 dX4_finds_165 (by decide) rfl (fun h165 => ?_) (fun h165 => ?_)
          ·
            refine x_iconst C 173 dX4_finds_172 rfl ?_
            refine x_istore C 175 dX4_finds_173 rfl rfl rfl ?_
            refine x_iinc C 178 dX4_finds_175 rfl rfl rfl ?_
            refine x_goto C 126 dX4_finds_178 (by decide) ?_
            first | exact nxt false (by rw [hs1]; simp_all) (by omega) | exact nxt true (by rw [hs1]; simp_all) (by omega)
          ·
            refine x_iconst C 169 dX4_finds_168 rfl ?_
            refine x_goto C 173 dX4_finds_169 (by decide) ?_
            refine x_istore C 175 dX4_finds_173 rfl rfl rfl ?_
            refine x_iinc C 178 dX4_finds_175 rfl rfl rfl ?_
            refine x_goto C 126 dX4_finds_178 (by decide) ?_
            first | exact nxt false (by rw [hs1]; simp_all) (by omega) | exact nxt true (by rw [hs1]; simp_all) (by omega)
  have c121 : ∀ bb : Bool, ∀ o5 : Option Value, bb = is0 → kX κ m [some (.ref b), some (kI p), some (kI s), some (kI (pL a0 p s)), some (kI (pB a0 p s)), o5, none] 0 0 121 [kI (bz bb)] := by
    intro bb o5 hbb
    have e : bb = (is0 && pFree a0 p s 0) := by rw [hbb]; simp [pFree, pAll, pF_0]
    rw [e]
    refine x_istore C 123 dX4_finds_121 rfl rfl rfl ?_
    refine x_iconst C 124 dX4_finds_123 rfl ?_
    refine x_istore C 126 dX4_finds_124 rfl rfl rfl ?_
    exact loop ((n - 0).toNat + 1) 0 (by omega) (by omega) (by omega)
  have c45 : ∀ bb : Bool, bb = (pVis a0 w p && pBit a0 p s) → kX κ m [some (.ref b), some (kI p), some (kI s), some (kI (pL a0 p s)), some (kI (pB a0 p s)), none, none] 0 0 45 [kI (bz bb)] := by
    intro bb hbb
    refine x_istore C 47 dX4_finds_45 rfl rfl rfl ?_
    refine x_iload C 49 dX4_finds_47 rfl rfl ?_
    refine x_ifb_eq C 120 52 dX4_finds_49 (by decide) rfl (fun h49 => ?_) (fun h49 => ?_)
    ·
      refine x_iconst C 121 dX4_finds_120 rfl ?_
      first | exact c121 false _ (by rw [his, ← hbb, h49]; rfl) | exact c121 true _ (by rw [his, ← hbb, h49]; exact (decide_eq_true (by omega)).symm) | exact c121 false _ (by rw [his, ← hbb, h49]; exact (decide_eq_false (by omega)).symm)
    ·
      refine x_iload_n C 53 dX4_finds_52 rfl rfl ?_
      refine x_aload_n C 54 dX4_finds_53 rfl rfl rfl ?_
      refine x_getf C 57 f_X4_55_4 hT.o rfl dX4_finds_54 rfl ?_
      refine x_icmp_lt C 120 60 dX4_finds_57 (by omega) (by omega) (by decide) rfl (fun h57 => ?_) (fun h57 => ?_)
      ·
        refine x_iconst C 121 dX4_finds_120 rfl ?_
        first | exact c121 false _ (by rw [his, ← hbb, h49]; rfl) | exact c121 true _ (by rw [his, ← hbb, h49]; exact (decide_eq_true (by omega)).symm) | exact c121 false _ (by rw [his, ← hbb, h49]; exact (decide_eq_false (by omega)).symm)
      ·
        refine x_iload C 62 dX4_finds_60 rfl rfl ?_
        refine x_aload_n C 63 dX4_finds_62 rfl rfl rfl ?_
        refine x_getf C 66 f_X4_58_4 hT.o rfl dX4_finds_63 rfl ?_
        refine x_icmp_lt C 120 69 dX4_finds_66 (by omega) (by omega) (by decide) rfl (fun h66 => ?_) (fun h66 => ?_)
        ·
          refine x_iconst C 121 dX4_finds_120 rfl ?_
          first | exact c121 false _ (by rw [his, ← hbb, h49]; rfl) | exact c121 true _ (by rw [his, ← hbb, h49]; exact (decide_eq_true (by omega)).symm) | exact c121 false _ (by rw [his, ← hbb, h49]; exact (decide_eq_false (by omega)).symm)
        ·
          refine x_iload_n C 70 dX4_finds_69 rfl rfl ?_
          refine x_aload_n C 71 dX4_finds_70 rfl rfl rfl ?_
          refine x_getf C 74 f_X4_7_4 hT.o rfl dX4_finds_71 rfl ?_
          refine x_bipush C 76 dX4_finds_74 (by decide) rfl ?_
          refine x_iload_n C 77 dX4_finds_76 rfl rfl ?_
          refine x_iadd C 78 dX4_finds_77 rfl ?_
          refine x_iald C 79 hT.a0 (by decide) rfl (by omega) (by omega) (kfI_get (by omega) (by omega)) dX4_finds_78 rfl ?_
          refine x_iadd C 80 dX4_finds_79 rfl ?_
          refine x_aload_n C 81 dX4_finds_80 rfl rfl rfl ?_
          refine x_getf C 84 f_X4_55_4 hT.o rfl dX4_finds_81 rfl ?_
          refine x_aload_n C 85 dX4_finds_84 rfl rfl rfl ?_
          refine x_getf C 88 f_X4_13_4 hT.o rfl dX4_finds_85 rfl ?_
          refine x_iadd C 89 dX4_finds_88 rfl ?_
          refine x_icmp_gt C 120 92 dX4_finds_89 (by omega) (by omega) (by decide) rfl (fun h89 => ?_) (fun h89 => ?_)
          ·
            refine x_iconst C 121 dX4_finds_120 rfl ?_
            first | exact c121 false _ (by rw [his, ← hbb, h49]; rfl) | exact c121 true _ (by rw [his, ← hbb, h49]; exact (decide_eq_true (by omega)).symm) | exact c121 false _ (by rw [his, ← hbb, h49]; exact (decide_eq_false (by omega)).symm)
          ·
            refine x_iload C 94 dX4_finds_92 rfl rfl ?_
            refine x_aload_n C 95 dX4_finds_94 rfl rfl rfl ?_
            refine x_getf C 98 f_X4_7_4 hT.o rfl dX4_finds_95 rfl ?_
            refine x_bipush C 100 dX4_finds_98 (by decide) rfl ?_
            refine x_iload_n C 101 dX4_finds_100 rfl rfl ?_
            refine x_iadd C 102 dX4_finds_101 rfl ?_
            refine x_iald C 103 hT.a0 (by decide) rfl (by omega) (by omega) (kfI_get (by omega) (by omega)) dX4_finds_102 rfl ?_
            refine x_iadd C 104 dX4_finds_103 rfl ?_
            refine x_aload_n C 105 dX4_finds_104 rfl rfl rfl ?_
            refine x_getf C 108 f_X4_58_4 hT.o rfl dX4_finds_105 rfl ?_
            refine x_aload_n C 109 dX4_finds_108 rfl rfl rfl ?_
            refine x_getf C 112 f_X4_17_4 hT.o rfl dX4_finds_109 rfl ?_
            refine x_iadd C 113 dX4_finds_112 rfl ?_
            refine x_icmp_gt C 120 116 dX4_finds_113 (by omega) (by omega) (by decide) rfl (fun h113 => ?_) (fun h113 => ?_)
            ·
              refine x_iconst C 121 dX4_finds_120 rfl ?_
              first | exact c121 false _ (by rw [his, ← hbb, h49]; rfl) | exact c121 true _ (by rw [his, ← hbb, h49]; exact (decide_eq_true (by omega)).symm) | exact c121 false _ (by rw [his, ← hbb, h49]; exact (decide_eq_false (by omega)).symm)
            ·
              refine x_iconst C 117 dX4_finds_116 rfl ?_
              refine x_goto C 121 dX4_finds_117 (by decide) ?_
              first | exact c121 false _ (by rw [his, ← hbb, h49]; rfl) | exact c121 true _ (by rw [his, ← hbb, h49]; exact (decide_eq_true (by omega)).symm) | exact c121 false _ (by rw [his, ← hbb, h49]; exact (decide_eq_false (by omega)).symm)
  refine x_aload_n C 1 dX4_finds_0 rfl rfl rfl ?_
  refine x_iload_n C 2 dX4_finds_1 rfl rfl ?_
  refine x_iload_n C 3 dX4_finds_2 rfl rfl ?_
  refine x_callV2 C 6 (ct_X4_left hG hT (by omega) (by omega) (by assumption)) v_X4_61 hT.o rfl dX4_finds_3 rfl (by decide) (by decide) (by omega) (Nat.le_of_ble_eq_true rfl) (kP_k ?_)
  refine x_istore_n C 7 3 rfl dX4_finds_6 rfl rfl rfl ?_
  refine x_aload_n C 8 dX4_finds_7 rfl rfl rfl ?_
  refine x_iload_n C 9 dX4_finds_8 rfl rfl ?_
  refine x_iload_n C 10 dX4_finds_9 rfl rfl ?_
  refine x_callV2 C 13 (ct_X4_bottom hG hT (by omega) (by omega) (by assumption)) v_X4_65 hT.o rfl dX4_finds_10 rfl (by decide) (by decide) (by omega) (Nat.le_of_ble_eq_true rfl) (kP_k ?_)
  refine x_istore C 15 dX4_finds_13 rfl rfl rfl ?_
  refine x_aload_n C 16 dX4_finds_15 rfl rfl rfl ?_
  refine x_iload_n C 17 dX4_finds_16 rfl rfl ?_
  refine x_callV1 C 20 (ct_X4_isVisible hG hT hw (by omega) (by assumption)) v_X4_68 hT.o rfl dX4_finds_17 rfl (by decide) (by decide) (by omega) (Nat.le_of_ble_eq_true rfl) (kP_k ?_)
  refine x_ifb_eq C 44 23 dX4_finds_20 (by decide) rfl (fun h20 => ?_) (fun h20 => ?_)
  ·
    refine x_iconst C 45 dX4_finds_44 rfl ?_
    first | exact c45 true (by simp only [pBit, *, Bool.false_and, Bool.and_false, Bool.true_and, Bool.and_true, bz_t, bz_f]; simp; try omega) | exact c45 false (by simp only [pBit, *, Bool.false_and, Bool.and_false, Bool.true_and, Bool.and_true, bz_t, bz_f]; try simp; try omega)
  ·
    refine x_aload_n C 24 dX4_finds_23 rfl rfl rfl ?_
    refine x_getf C 27 f_X4_7_4 hT.o rfl dX4_finds_24 rfl ?_
    refine x_bipush C 29 dX4_finds_27 (by decide) rfl ?_
    refine x_iload_n C 30 dX4_finds_29 rfl rfl ?_
    refine x_iadd C 31 dX4_finds_30 rfl ?_
    refine x_iald C 32 hT.a0 (by decide) rfl (by omega) (by omega) (kfI_get (by omega) (by omega)) dX4_finds_31 rfl ?_
    refine x_iload_n C 33 dX4_finds_32 rfl rfl ?_
    refine x_ishr C 34 dX4_finds_33 (by omega) (by omega) rfl ?_
    have hbit := p_sh (x := a0 (100 + p)) s.toNat (by omega)
    refine x_iconst C 35 dX4_finds_34 rfl ?_
    refine x_iand1 C 36 dX4_finds_35 (by omega) rfl ?_
    refine x_iconst C 37 dX4_finds_36 rfl ?_
    refine x_icmp_ne C 44 40 dX4_finds_37 (by omega) (by omega) (by decide) rfl (fun h37 => ?_) (fun h37 => ?_)
    ·
      refine x_iconst C 45 dX4_finds_44 rfl ?_
      first | exact c45 true (by simp only [pBit, *, Bool.false_and, Bool.and_false, Bool.true_and, Bool.and_true, bz_t, bz_f]; simp; try omega) | exact c45 false (by simp only [pBit, *, Bool.false_and, Bool.and_false, Bool.true_and, Bool.and_true, bz_t, bz_f]; try simp; try omega)
    ·
      refine x_iconst C 41 dX4_finds_40 rfl ?_
      refine x_goto C 45 dX4_finds_41 (by decide) ?_
      first | exact c45 true (by simp only [pBit, *, Bool.false_and, Bool.and_false, Bool.true_and, Bool.and_true, bz_t, bz_f]; simp; try omega) | exact c45 false (by simp only [pBit, *, Bool.false_and, Bool.and_false, Bool.true_and, Bool.and_true, bz_t, bz_f]; try simp; try omega)
theorem ct_X4_findsAll {l : Launch} {G : Gh} (hG : kG G) {m : Mem} {b : Nat} {ad : Nat → Nat} {n : Int} {w : Wn} {ld tl at' ft lt : Int} {a0 a6 a7 a8 a9 a10 a12 a13 a17 a19 : Int → Int} {hh : Int64} (hT : TR m b ad n w ld tl at' ft lt a0 a6 a7 a8 a9 a10 a12 a13 a17 a19 hh) (hW : WF a0 n w) : kM l G yX4_findsAll cX4_findsAll 2 (Option.none : Option FieldType) 4 0 0 [.ref b] m (kPv fun m' => ∃ a6', TR m' b ad n w ld tl at' ft lt a0 a6' a7 a8 a9 a10 a12 a13 a17 a19 hh ∧ PlOK a6' a0 n w ∧ kfr (TF b ad) m m') := by
  refine kM.of hG (by decide +kernel) 1 rfl fun κ C => ?_
  have hn := hW.n
  have loop : ∀ (k : Nat) (i : Int) (m1 : Mem) (a6' : Int → Int), TR m1 b ad n w ld tl at' ft lt a0 a6' a7 a8 a9 a10 a12 a13 a17 a19 hh → kfr (TF b ad) m m1 → (∀ j, 0 ≤ j → j < i → a6' j = bz (pPl a0 n w (j / 8) (j % 8))) → 0 ≤ i → i ≤ 8 * n → (8 * n - i).toNat < k → kX κ m1 [some (.ref b), some (kI i)] 0 0 2 [] := by
    intro k
    induction k with
    | zero => intros; omega
    | succ k ih =>
      intro i m1 a6' hT hF hj h0 h1 h2
      refine x_iload_n C 3 dX4_findsAll_2 rfl rfl ?_
      refine x_bipush C 5 dX4_findsAll_3 (by decide) rfl ?_
      refine x_aload_n C 6 dX4_findsAll_5 rfl rfl rfl ?_
      refine x_getf C 9 f_X4_48_4 hT.o rfl dX4_findsAll_6 rfl ?_
      refine x_imul C 10 dX4_findsAll_9 rfl ?_
      refine x_icmp_ge C 37 13 dX4_findsAll_10 (by omega) (by omega) (by decide) rfl (fun h10 => ?_) (fun h10 => ?_)
      ·
        refine x_vret C dX4_findsAll_37 rfl ⟨by omega, by omega⟩ ?_
        exact ⟨rfl, a6', hT, fun k h3 h4 => hj k h3 (by omega), hF⟩
      ·
        refine x_aload_n C 14 dX4_findsAll_13 rfl rfl rfl ?_
        refine x_getf C 17 f_X4_20_4 hT.o rfl dX4_findsAll_14 rfl ?_
        refine x_iload_n C 18 dX4_findsAll_17 rfl rfl ?_
        refine x_aload_n C 19 dX4_findsAll_18 rfl rfl rfl ?_
        refine x_iload_n C 20 dX4_findsAll_19 rfl rfl ?_
        refine x_bipush C 22 dX4_findsAll_20 (by decide) rfl ?_
        refine x_idiv C 23 dX4_findsAll_22 (by omega) (by omega) rfl ?_
        refine x_iload_n C 24 dX4_findsAll_23 rfl rfl ?_
        refine x_bipush C 26 dX4_findsAll_24 (by decide) rfl ?_
        refine x_irem C 27 dX4_findsAll_26 (by omega) (by omega) rfl ?_
        refine x_callV2 C 30 (ct_X4_finds hG hT hW (by omega) (by omega)) v_X4_76 hT.o rfl dX4_findsAll_27 rfl (by decide) (by decide) (by omega) (Nat.le_of_ble_eq_true rfl) (kP_k ?_)
        refine x_zastb C 31 hT.a6 (by decide) rfl rfl (by omega) (by omega) (kfI_get (by omega) (by omega)) dX4_findsAll_30 rfl ?_
        refine x_iinc C 34 dX4_findsAll_31 rfl rfl rfl ?_
        refine x_goto C 2 dX4_findsAll_34 (by decide) ?_
        refine ih (i + 1) _ _ (hT.s6 h0) (hF.st TF.a6) (fun j h3 h4 => ?_) (by omega) (by omega) (by omega)
        by_cases e : j = i
        · rw [e, upz_s]
        · rw [upz_n e]; exact hj j h3 (by omega)
  refine x_iconst C 1 dX4_findsAll_0 rfl ?_
  refine x_istore_n C 2 1 rfl dX4_findsAll_1 rfl rfl rfl ?_
  exact loop ((8 * n - 0).toNat + 1) 0 m a6 hT kfr.rf (fun j h3 h4 => absurd h4 (by omega)) (by omega) (by omega) (by omega)
theorem ct_X4_clashes {l : Launch} {G : Gh} (hG : kG G) {m : Mem} {b : Nat} {ad : Nat → Nat} {n : Int} {w : Wn} {ld tl at' ft lt : Int} {a0 a6 a7 a8 a9 a10 a12 a13 a17 a19 : Int → Int} {hh : Int64} (hT : TR m b ad n w ld tl at' ft lt a0 a6 a7 a8 a9 a10 a12 a13 a17 a19 hh) (hW : WF a0 n w) {p s : Int} (hp : 0 ≤ p ∧ p < n) (hs : 0 ≤ s ∧ s < 8) : kM l G yX4_clashes cX4_clashes 6 (Option.some FieldType.int) 3 0 0 [.ref b, kI p, kI s, kI (-1)] m (kP (kI (pCs a0 n p s)) m) := by
  refine kM.of hG (by decide +kernel) 2 rfl fun κ C => ?_
  have hn := hW.n
  have hf := hW.p hp.1 hp.2
  have loop : ∀ (k : Nat) (i : Int), 0 ≤ i → i ≤ n → (n - i).toNat < k → kX κ m [some (.ref b), some (kI p), some (kI s), some (kI (-1)), some (kI (pCnt (pCl a0 p s) i)), some (kI i)] 0 0 6 [] := by
    intro k
    induction k with
    | zero => intro i h0 h1 h2; omega
    | succ k ih =>
      intro i h0 h1 h2
      refine x_iload C 8 dX4_clashes_6 rfl rfl ?_
      refine x_aload_n C 9 dX4_clashes_8 rfl rfl rfl ?_
      refine x_getf C 12 f_X4_48_4 hT.o rfl dX4_clashes_9 rfl ?_
      refine x_icmp_ge C 78 15 dX4_clashes_12 (by omega) (by omega) (by decide) rfl (fun h12 => ?_) (fun h12 => ?_)
      ·
        refine x_iload C 80 dX4_clashes_78 rfl rfl ?_
        refine x_iret C dX4_clashes_80 rfl rfl ⟨by omega, by omega⟩ ?_
        exact kP_e (by rw [show i = n by omega]; rfl)
      ·
        have hfi := hW.p h0 (by omega)
        refine x_iload C 17 dX4_clashes_15 rfl rfl ?_
        refine x_iload C 19 dX4_clashes_17 rfl rfl ?_
        refine x_iload_n C 20 dX4_clashes_19 rfl rfl ?_
        refine x_icmp_eq C 68 23 dX4_clashes_20 (by omega) (by omega) (by decide) rfl (fun h20 => ?_) (fun h20 => ?_)
        ·
          refine x_iconst C 69 dX4_clashes_68 rfl ?_
          refine x_iadd C 70 dX4_clashes_69 rfl ?_
          refine x_istore C 72 dX4_clashes_70 rfl rfl rfl ?_
          refine x_iinc C 75 dX4_clashes_72 rfl rfl rfl ?_
          refine x_goto C 6 dX4_clashes_75 (by decide) ?_
          refine kX.eq (ih (i + 1) (by omega) (by omega) (by omega)) ?_ rfl
          rw [pCnt_s _ h0]
          first | (exfalso; omega) | simp [pCl, *, bz]
        ·
          refine x_iload C 25 dX4_clashes_23 rfl rfl ?_
          refine x_iload_n C 26 dX4_clashes_25 rfl rfl ?_
          refine x_icmp_eq C 68 29 dX4_clashes_26 (by omega) (by omega) (by decide) rfl (fun h26 => ?_) (fun h26 => ?_)
          ·
            refine x_iconst C 69 dX4_clashes_68 rfl ?_
            refine x_iadd C 70 dX4_clashes_69 rfl ?_
            refine x_istore C 72 dX4_clashes_70 rfl rfl rfl ?_
            refine x_iinc C 75 dX4_clashes_72 rfl rfl rfl ?_
            refine x_goto C 6 dX4_clashes_75 (by decide) ?_
            refine kX.eq (ih (i + 1) (by omega) (by omega) (by omega)) ?_ rfl
            rw [pCnt_s _ h0]
            first | (exfalso; omega) | simp [pCl, *, bz]
          ·
            refine x_aload_n C 30 dX4_clashes_29 rfl rfl rfl ?_
            refine x_getf C 33 f_X4_7_4 hT.o rfl dX4_clashes_30 rfl ?_
            refine x_bipush C 35 dX4_clashes_33 (by decide) rfl ?_
            refine x_iload C 37 dX4_clashes_35 rfl rfl ?_
            refine x_iadd C 38 dX4_clashes_37 rfl ?_
            refine x_iald C 39 hT.a0 (by decide) rfl (by omega) (by omega) (kfI_get (by omega) (by omega)) dX4_clashes_38 rfl ?_
            refine x_iconst C 40 dX4_clashes_39 rfl ?_
            refine x_icmp_eq C 68 43 dX4_clashes_40 (by omega) (by omega) (by decide) rfl (fun h40 => ?_) (fun h40 => ?_)
            ·
              refine x_iconst C 69 dX4_clashes_68 rfl ?_
              refine x_iadd C 70 dX4_clashes_69 rfl ?_
              refine x_istore C 72 dX4_clashes_70 rfl rfl rfl ?_
              refine x_iinc C 75 dX4_clashes_72 rfl rfl rfl ?_
              refine x_goto C 6 dX4_clashes_75 (by decide) ?_
              refine kX.eq (ih (i + 1) (by omega) (by omega) (by omega)) ?_ rfl
              rw [pCnt_s _ h0]
              first | (exfalso; omega) | simp [pCl, *, bz]
            ·
              refine x_aload_n C 44 dX4_clashes_43 rfl rfl rfl ?_
              refine x_iload_n C 45 dX4_clashes_44 rfl rfl ?_
              refine x_iload_n C 46 dX4_clashes_45 rfl rfl ?_
              refine x_iload C 48 dX4_clashes_46 rfl rfl ?_
              refine x_aload_n C 49 dX4_clashes_48 rfl rfl rfl ?_
              refine x_getf C 52 f_X4_7_4 hT.o rfl dX4_clashes_49 rfl ?_
              refine x_bipush C 54 dX4_clashes_52 (by decide) rfl ?_
              refine x_iload C 56 dX4_clashes_54 rfl rfl ?_
              refine x_iadd C 57 dX4_clashes_56 rfl ?_
              refine x_iald C 58 hT.a0 (by decide) rfl (by omega) (by omega) (kfI_get (by omega) (by omega)) dX4_clashes_57 rfl ?_
              refine x_callV4 C 61 (ct_X4_meet hG hT (by omega) (by omega) (by omega) (by omega) (by assumption) (by assumption)) v_X4_80 hT.o rfl dX4_clashes_58 rfl (by decide) (by decide) (by omega) (Nat.le_of_ble_eq_true rfl) (kP_k ?_)
              refine x_ifb_eq C 68 64 dX4_clashes_61 (by decide) rfl (fun h61 => ?_) (fun h61 => ?_)
              ·
                refine x_iconst C 69 dX4_clashes_68 rfl ?_
                refine x_iadd C 70 dX4_clashes_69 rfl ?_
                refine x_istore C 72 dX4_clashes_70 rfl rfl rfl ?_
                refine x_iinc C 75 dX4_clashes_72 rfl rfl rfl ?_
                refine x_goto C 6 dX4_clashes_75 (by decide) ?_
                refine kX.eq (ih (i + 1) (by omega) (by omega) (by omega)) ?_ rfl
                rw [pCnt_s _ h0]
                first | (exfalso; omega) | simp [pCl, *, bz]
              ·
                refine x_iconst C 65 dX4_clashes_64 rfl ?_
                refine x_goto C 69 dX4_clashes_65 (by decide) ?_
                refine x_iadd C 70 dX4_clashes_69 rfl ?_
                refine x_istore C 72 dX4_clashes_70 rfl rfl rfl ?_
                refine x_iinc C 75 dX4_clashes_72 rfl rfl rfl ?_
                refine x_goto C 6 dX4_clashes_75 (by decide) ?_
                refine kX.eq (ih (i + 1) (by omega) (by omega) (by omega)) ?_ rfl
                rw [pCnt_s _ h0]
                first | (exfalso; omega) | simp [pCl, *, bz]
  refine x_iconst C 1 dX4_clashes_0 rfl ?_
  refine x_istore C 3 dX4_clashes_1 rfl rfl rfl ?_
  refine x_iconst C 4 dX4_clashes_3 rfl ?_
  refine x_istore C 6 dX4_clashes_4 rfl rfl rfl ?_
  exact loop ((n - 0).toNat + 1) 0 (by omega) (by omega) (by omega)
