/-! THE REFERENCE, loops: clashing, settles, shown, orders, isProperty, pointAt. -/
set_option maxRecDepth 100000
set_option maxHeartbeats 1000000
theorem ct_X4_clashing {l : Launch} {G : Gh} (hG : kG G) {m : Mem} {b : Nat} {ad : Nat → Nat} {n : Int} {w : Wn} {ld tl at' ft lt : Int} {a0 a6 a7 a8 a9 a10 a12 a13 a17 a19 : Int → Int} {hh : Int64} (hT : TR m b ad n w ld tl at' ft lt a0 a6 a7 a8 a9 a10 a12 a13 a17 a19 hh) (hW : WF a0 n w) {p s : Int} (hp : 0 ≤ p ∧ p < n) (hs : 0 ≤ s ∧ s < 8) : kM l G yX4_clashing cX4_clashing 5 (Option.some FieldType.int) 3 0 0 [.ref b, kI p, kI s] m (kP (kI (pCg a0 n p s)) m) := by
  refine kM.of hG (by decide +kernel) 2 rfl fun κ C => ?_
  have hn := hW.n
  have hf := hW.p hp.1 hp.2
  have loop : ∀ (k : Nat) (i : Int), 0 ≤ i → i ≤ n → (n - i).toNat < k → kX κ m [some (.ref b), some (kI p), some (kI s), some (kI (pF (-1) (fun q r => if pCl a0 p s q = true then q else r) i)), some (kI i)] 0 0 5 [] := by
    intro k
    induction k with
    | zero => intro i h0 h1 h2; omega
    | succ k ih =>
      intro i h0 h1 h2
      refine x_iload C 7 dX4_clashing_5 rfl rfl ?_
      refine x_aload_n C 8 dX4_clashing_7 rfl rfl rfl ?_
      refine x_getf C 11 f_X4_48_4 hT.o rfl dX4_clashing_8 rfl ?_
      refine x_icmp_ge C 68 14 dX4_clashing_11 (by omega) (by omega) (by decide) rfl (fun h11 => ?_) (fun h11 => ?_)
      ·
        refine x_iload_n C 69 dX4_clashing_68 rfl rfl ?_
        refine x_iret C dX4_clashing_69 rfl rfl ⟨by omega, by omega⟩ ?_
        exact kP_e (by rw [show i = n by omega]; rfl)
      ·
        have hfi := hW.p h0 (by omega)
        refine x_iload C 16 dX4_clashing_14 rfl rfl ?_
        refine x_iload_n C 17 dX4_clashing_16 rfl rfl ?_
        refine x_icmp_eq C 60 20 dX4_clashing_17 (by omega) (by omega) (by decide) rfl (fun h17 => ?_) (fun h17 => ?_)
        ·
          refine x_iload_n C 61 dX4_clashing_60 rfl rfl ?_
          refine x_istore_n C 62 3 rfl dX4_clashing_61 rfl rfl rfl ?_
          refine x_iinc C 65 dX4_clashing_62 rfl rfl rfl ?_
          refine x_goto C 5 dX4_clashing_65 (by decide) ?_
          refine kX.eq (ih (i + 1) (by omega) (by omega) (by omega)) ?_ rfl
          rw [pF_s _ _ h0]
          first | (simp [pCl, *]; done) | (simp [pCl, *]; rfl)
        ·
          refine x_aload_n C 21 dX4_clashing_20 rfl rfl rfl ?_
          refine x_getf C 24 f_X4_7_4 hT.o rfl dX4_clashing_21 rfl ?_
          refine x_bipush C 26 dX4_clashing_24 (by decide) rfl ?_
          refine x_iload C 28 dX4_clashing_26 rfl rfl ?_
          refine x_iadd C 29 dX4_clashing_28 rfl ?_
          refine x_iald C 30 hT.a0 (by decide) rfl (by omega) (by omega) (kfI_get (by omega) (by omega)) dX4_clashing_29 rfl ?_
          refine x_iconst C 31 dX4_clashing_30 rfl ?_
          refine x_icmp_eq C 60 34 dX4_clashing_31 (by omega) (by omega) (by decide) rfl (fun h31 => ?_) (fun h31 => ?_)
          ·
            refine x_iload_n C 61 dX4_clashing_60 rfl rfl ?_
            refine x_istore_n C 62 3 rfl dX4_clashing_61 rfl rfl rfl ?_
            refine x_iinc C 65 dX4_clashing_62 rfl rfl rfl ?_
            refine x_goto C 5 dX4_clashing_65 (by decide) ?_
            refine kX.eq (ih (i + 1) (by omega) (by omega) (by omega)) ?_ rfl
            rw [pF_s _ _ h0]
            first | (simp [pCl, *]; done) | (simp [pCl, *]; rfl)
          ·
            refine x_aload_n C 35 dX4_clashing_34 rfl rfl rfl ?_
            refine x_iload_n C 36 dX4_clashing_35 rfl rfl ?_
            refine x_iload_n C 37 dX4_clashing_36 rfl rfl ?_
            refine x_iload C 39 dX4_clashing_37 rfl rfl ?_
            refine x_aload_n C 40 dX4_clashing_39 rfl rfl rfl ?_
            refine x_getf C 43 f_X4_7_4 hT.o rfl dX4_clashing_40 rfl ?_
            refine x_bipush C 45 dX4_clashing_43 (by decide) rfl ?_
            refine x_iload C 47 dX4_clashing_45 rfl rfl ?_
            refine x_iadd C 48 dX4_clashing_47 rfl ?_
            refine x_iald C 49 hT.a0 (by decide) rfl (by omega) (by omega) (kfI_get (by omega) (by omega)) dX4_clashing_48 rfl ?_
            refine x_callV4 C 52 (ct_X4_meet hG hT (by omega) (by omega) (by omega) (by omega) (by assumption) (by assumption)) v_X4_80 hT.o rfl dX4_clashing_49 rfl (by decide) (by decide) (by omega) (Nat.le_of_ble_eq_true rfl) (kP_k ?_)
            refine x_ifb_eq C 60 55 dX4_clashing_52 (by decide) rfl (fun h52 => ?_) (fun h52 => ?_)
            ·
              refine x_iload_n C 61 dX4_clashing_60 rfl rfl ?_
              refine x_istore_n C 62 3 rfl dX4_clashing_61 rfl rfl rfl ?_
              refine x_iinc C 65 dX4_clashing_62 rfl rfl rfl ?_
              refine x_goto C 5 dX4_clashing_65 (by decide) ?_
              refine kX.eq (ih (i + 1) (by omega) (by omega) (by omega)) ?_ rfl
              rw [pF_s _ _ h0]
              first | (simp [pCl, *]; done) | (simp [pCl, *]; rfl)
            ·
              refine x_iload C 57 dX4_clashing_55 rfl rfl ?_
              refine x_goto C 61 dX4_clashing_57 (by decide) ?_
              refine x_istore_n C 62 3 rfl dX4_clashing_61 rfl rfl rfl ?_
              refine x_iinc C 65 dX4_clashing_62 rfl rfl rfl ?_
              refine x_goto C 5 dX4_clashing_65 (by decide) ?_
              refine kX.eq (ih (i + 1) (by omega) (by omega) (by omega)) ?_ rfl
              rw [pF_s _ _ h0]
              first | (simp [pCl, *]; done) | (simp [pCl, *]; rfl)
  refine x_iconst C 1 dX4_clashing_0 rfl ?_
  refine x_istore_n C 2 3 rfl dX4_clashing_1 rfl rfl rfl ?_
  refine x_iconst C 3 dX4_clashing_2 rfl ?_
  refine x_istore C 5 dX4_clashing_3 rfl rfl rfl ?_
  exact loop ((n - 0).toNat + 1) 0 (by omega) (by omega) (by omega)
theorem ct_X4_settles {l : Launch} {G : Gh} (hG : kG G) {m : Mem} {b : Nat} {ad : Nat → Nat} {n : Int} {w : Wn} {ld tl at' ft lt : Int} {a0 a6 a7 a8 a9 a10 a12 a13 a17 a19 : Int → Int} {hh : Int64} (hT : TR m b ad n w ld tl at' ft lt a0 a6 a7 a8 a9 a10 a12 a13 a17 a19 hh) (hW : WF a0 n w) : kM l G yX4_settles cX4_settles 3 (Option.none : Option FieldType) 5 0 0 [.ref b] m (kPv fun m' => ∃ a6', TR m' b ad n w ld tl at' ft lt (pSet a0 n w) a6' a7 a8 a9 a10 a12 a13 a17 a19 hh ∧ PlOK a6' a0 n w ∧ kfr (TF b ad) m m') := by
  refine kM.of hG (by decide +kernel) 2 rfl fun κ C => ?_
  have hn := hW.n
  have loop : ∀ (k : Nat) (i : Int) (m1 : Mem) (a6' : Int → Int) (o2 : Option Value), klo [some (.ref b), some (kI i), o2] 1 = true → TR m1 b ad n w ld tl at' ft lt (pSetN a0 n w i) a6' a7 a8 a9 a10 a12 a13 a17 a19 hh → PlOK a6' a0 n w → kfr (TF b ad) m m1 → 0 ≤ i → i ≤ n → (n - i).toNat < k → kX κ m1 [some (.ref b), some (kI i), o2] 0 0 6 [] := by
    intro k
    induction k with
    | zero => intros; omega
    | succ k ih =>
      intro i m1 a6' o2 ho2 hT hPl hF h0 h1 h2
      have e0 : pSetN a0 n w i (120 + i) = a0 (120 + i) := pSetN_ge (by omega)
      have nxt : i < n → ∀ (v : Int) (o : Option Value), (v = if a0 (120 + i) ≠ -1 ∧ pPl a0 n w i (a0 (120 + i)) = true then a0 (120 + i) else -1) → kX κ (mset m1 (ad 0) (100, (kfI 140 (pSetN a0 n w i)).set (120 + i).toNat (kI v))) [some (.ref b), some (kI (i + 1)), o] 0 0 6 [] := by
        intro hi v o hv
        have h8 := hT.s0 (z := 120 + i) (v := v) (by omega)
        rw [pSetN_s h0 hv] at h8
        exact ih (i + 1) _ a6' o rfl h8 hPl (hF.st TF.a0) (by omega) (by omega) (by omega)
      have c54 : i < n → ∀ bb : Bool, bb = decide (a0 (120 + i) ≠ -1 ∧ pPl a0 n w i (a0 (120 + i)) = true) → kX κ m1 [some (.ref b), some (kI i), o2] 0 0 54 [kI (bz bb)] := by
        intro hi bb hbb
        have hfi := hW.p h0 hi
        refine x_istore_n C 55 2 rfl dX4_settles_54 rfl rfl rfl ?_
        refine x_aload_n C 56 dX4_settles_55 rfl rfl rfl ?_
        refine x_getf C 59 f_X4_7_4 hT.o rfl dX4_settles_56 rfl ?_
        refine x_bipush C 61 dX4_settles_59 (by decide) rfl ?_
        refine x_iload_n C 62 dX4_settles_61 rfl rfl ?_
        refine x_iadd C 63 dX4_settles_62 rfl ?_
        refine x_iload_n C 64 dX4_settles_63 rfl rfl ?_
        refine x_ifb_eq C 79 67 dX4_settles_64 (by decide) rfl (fun h64 => ?_) (fun h64 => ?_)
        ·
          refine x_iconst C 80 dX4_settles_79 rfl ?_
          refine x_iast C 81 hT.a0 (by decide) rfl rfl (by omega) (by omega) (kfI_get (by omega) (by omega)) dX4_settles_80 rfl ?_
          refine x_iinc C 84 dX4_settles_81 rfl rfl rfl ?_
          refine x_goto C 6 dX4_settles_84 (by decide) ?_
          first | exact nxt hi _ _ (by rw [e0, if_pos (of_decide_eq_true (hbb ▸ h64))]) | exact nxt hi _ _ (by rw [if_neg (of_decide_eq_false (hbb ▸ h64))])
        ·
          refine x_aload_n C 68 dX4_settles_67 rfl rfl rfl ?_
          refine x_getf C 71 f_X4_7_4 hT.o rfl dX4_settles_68 rfl ?_
          refine x_bipush C 73 dX4_settles_71 (by decide) rfl ?_
          refine x_iload_n C 74 dX4_settles_73 rfl rfl ?_
          refine x_iadd C 75 dX4_settles_74 rfl ?_
          refine x_iald C 76 hT.a0 (by decide) rfl (by omega) (by omega) (kfI_get (by omega) (by omega)) dX4_settles_75 rfl ?_
          refine x_goto C 80 dX4_settles_76 (by decide) ?_
          refine x_iast C 81 hT.a0 (by decide) rfl rfl (by omega) (by omega) (kfI_get (by omega) (by omega)) dX4_settles_80 rfl ?_
          refine x_iinc C 84 dX4_settles_81 rfl rfl rfl ?_
          refine x_goto C 6 dX4_settles_84 (by decide) ?_
          first | exact nxt hi _ _ (by rw [e0, if_pos (of_decide_eq_true (hbb ▸ h64))]) | exact nxt hi _ _ (by rw [if_neg (of_decide_eq_false (hbb ▸ h64))])
      refine x_iload_n C 7 dX4_settles_6 rfl rfl ?_
      refine x_aload_n C 8 dX4_settles_7 rfl rfl rfl ?_
      refine x_getf C 11 f_X4_48_4 hT.o rfl dX4_settles_8 rfl ?_
      refine x_icmp_ge C 87 14 dX4_settles_11 (by omega) (by omega) (by decide) rfl (fun h11 => ?_) (fun h11 => ?_)
      ·
        refine x_vret C dX4_settles_87 rfl ⟨by omega, by omega⟩ ?_
        exact ⟨rfl, a6', by rw [show i = n by omega] at hT; exact hT, hPl, hF⟩
      ·
        have hfi := hW.p h0 (by omega)
        refine x_aload_n C 15 dX4_settles_14 rfl rfl rfl ?_
        refine x_getf C 18 f_X4_7_4 hT.o rfl dX4_settles_15 rfl ?_
        refine x_bipush C 20 dX4_settles_18 (by decide) rfl ?_
        refine x_iload_n C 21 dX4_settles_20 rfl rfl ?_
        refine x_iadd C 22 dX4_settles_21 rfl ?_
        refine x_iald C 23 hT.a0 (by decide) rfl (by omega) (by omega) (kfI_get (by omega) (by omega)) dX4_settles_22 rfl ?_
        refine x_iconst C 24 dX4_settles_23 rfl ?_
        refine x_icmp_eq C 53 27 dX4_settles_24 (by omega) (by omega) (by decide) rfl (fun h24 => ?_) (fun h24 => ?_)
        ·
          refine x_iconst C 54 dX4_settles_53 rfl ?_
          rw [e0] at h24
          first | (refine c54 (by omega) true ?_; simp [h24, h46]; done) | (refine c54 (by omega) false ?_; simp [h24]; done) | (refine c54 (by omega) false ?_; simp [h46]; done)
        ·
          refine x_aload_n C 28 dX4_settles_27 rfl rfl rfl ?_
          refine x_getf C 31 f_X4_20_4 hT.o rfl dX4_settles_28 rfl ?_
          refine x_bipush C 33 dX4_settles_31 (by decide) rfl ?_
          refine x_iload_n C 34 dX4_settles_33 rfl rfl ?_
          refine x_imul C 35 dX4_settles_34 rfl ?_
          refine x_aload_n C 36 dX4_settles_35 rfl rfl rfl ?_
          refine x_getf C 39 f_X4_7_4 hT.o rfl dX4_settles_36 rfl ?_
          refine x_bipush C 41 dX4_settles_39 (by decide) rfl ?_
          refine x_iload_n C 42 dX4_settles_41 rfl rfl ?_
          refine x_iadd C 43 dX4_settles_42 rfl ?_
          refine x_iald C 44 hT.a0 (by decide) rfl (by omega) (by omega) (kfI_get (by omega) (by omega)) dX4_settles_43 rfl ?_
          refine x_iadd C 45 dX4_settles_44 rfl ?_
          refine x_zald C 46 hT.a6 (by decide) rfl (by omega) (by omega) (kfI_get (by omega) (by omega)) dX4_settles_45 rfl ?_
          rw [e0, hPl.at ⟨h0, by omega⟩ (by omega)]
          first | refine x_ifb_eq C 53 49 dX4_settles_46 (by decide) rfl (fun h46 => ?_) (fun h46 => ?_) | refine x_if_eq C 53 49 dX4_settles_46 (by omega) (by decide) rfl (fun h46 => ?_) (fun h46 => ?_)
          ·
            refine x_iconst C 54 dX4_settles_53 rfl ?_
            rw [e0] at h24
            first | (refine c54 (by omega) true ?_; simp [h24, h46]; done) | (refine c54 (by omega) false ?_; simp [h24]; done) | (refine c54 (by omega) false ?_; simp [h46]; done)
          ·
            refine x_iconst C 50 dX4_settles_49 rfl ?_
            refine x_goto C 54 dX4_settles_50 (by decide) ?_
            rw [e0] at h24
            first | (refine c54 (by omega) true ?_; simp [h24, h46]; done) | (refine c54 (by omega) false ?_; simp [h24]; done) | (refine c54 (by omega) false ?_; simp [h46]; done)
  refine x_aload_n C 1 dX4_settles_0 rfl rfl rfl ?_
  refine x_callV0 C 4 (ct_X4_findsAll hG hT hW) v_X4_83 hT.o rfl dX4_settles_1 rfl (by decide) (by decide) (by omega) (Nat.le_of_ble_eq_true rfl) (kPv_k fun m1 hq1 => ?_)
  obtain ⟨a6', hT, hPl, hF⟩ := hq1
  refine x_iconst C 5 dX4_settles_4 rfl ?_
  refine x_istore_n C 6 1 rfl dX4_settles_5 rfl rfl rfl ?_
  exact loop ((n - 0).toNat + 1) 0 _ a6' _ rfl (by rw [pSetN_0]; exact hT) hPl hF (by omega) (by omega) (by omega)
theorem ct_X4_shown {l : Launch} {G : Gh} (hG : kG G) {m : Mem} {b : Nat} {ad : Nat → Nat} {n : Int} {w : Wn} {ld tl at' ft lt : Int} {a0 a6 a7 a8 a9 a10 a12 a13 a17 a19 : Int → Int} {hh : Int64} (hT : TR m b ad n w ld tl at' ft lt a0 a6 a7 a8 a9 a10 a12 a13 a17 a19 hh) (hn : 0 ≤ n ∧ n ≤ 20) (hb : ∀ p, 0 ≤ p → p < n → -1 ≤ a0 (120 + p) ∧ a0 (120 + p) ≤ 7) : kM l G yX4_shown cX4_shown 3 (Option.some FieldType.int) 1 0 0 [.ref b] m (kP (kI (pSh a0 n)) m) := by
  refine kM.of hG (by decide +kernel) 2 rfl fun κ C => ?_
  have loop : ∀ (k : Nat) (i : Int), 0 ≤ i → i ≤ n → (n - i).toNat < k → kX κ m [some (.ref b), some (kI (pCnt (fun p => decide (a0 (120 + p) ≠ -1)) i)), some (kI i)] 0 0 4 [] := by
    intro k
    induction k with
    | zero => intro i h0 h1 h2; omega
    | succ k ih =>
      intro i h0 h1 h2
      refine x_iload_n C 5 dX4_shown_4 rfl rfl ?_
      refine x_aload_n C 6 dX4_shown_5 rfl rfl rfl ?_
      refine x_getf C 9 f_X4_48_4 hT.o rfl dX4_shown_6 rfl ?_
      refine x_icmp_ge C 39 12 dX4_shown_9 (by omega) (by omega) (by decide) rfl (fun h9 => ?_) (fun h9 => ?_)
      ·
        refine x_iload_n C 40 dX4_shown_39 rfl rfl ?_
        refine x_iret C dX4_shown_40 rfl rfl ⟨by omega, by omega⟩ ?_
        exact kP_e (by rw [show i = n by omega]; rfl)
      ·
        have hfi := hb i h0 (by omega)
        refine x_iload_n C 13 dX4_shown_12 rfl rfl ?_
        refine x_aload_n C 14 dX4_shown_13 rfl rfl rfl ?_
        refine x_getf C 17 f_X4_7_4 hT.o rfl dX4_shown_14 rfl ?_
        refine x_bipush C 19 dX4_shown_17 (by decide) rfl ?_
        refine x_iload_n C 20 dX4_shown_19 rfl rfl ?_
        refine x_iadd C 21 dX4_shown_20 rfl ?_
        refine x_iald C 22 hT.a0 (by decide) rfl (by omega) (by omega) (kfI_get (by omega) (by omega)) dX4_shown_21 rfl ?_
        refine x_iconst C 23 dX4_shown_22 rfl ?_
        refine x_icmp_eq C 30 26 dX4_shown_23 (by omega) (by omega) (by decide) rfl (fun h23 => ?_) (fun h23 => ?_)
        ·
          refine x_iconst C 31 dX4_shown_30 rfl ?_
          refine x_iadd C 32 dX4_shown_31 rfl ?_
          refine x_istore_n C 33 1 rfl dX4_shown_32 rfl rfl rfl ?_
          refine x_iinc C 36 dX4_shown_33 rfl rfl rfl ?_
          refine x_goto C 4 dX4_shown_36 (by decide) ?_
          refine kX.eq (ih (i + 1) (by omega) (by omega) (by omega)) ?_ rfl
          rw [pCnt_s _ h0]
          simp [*, bz]
        ·
          refine x_iconst C 27 dX4_shown_26 rfl ?_
          refine x_goto C 31 dX4_shown_27 (by decide) ?_
          refine x_iadd C 32 dX4_shown_31 rfl ?_
          refine x_istore_n C 33 1 rfl dX4_shown_32 rfl rfl rfl ?_
          refine x_iinc C 36 dX4_shown_33 rfl rfl rfl ?_
          refine x_goto C 4 dX4_shown_36 (by decide) ?_
          refine kX.eq (ih (i + 1) (by omega) (by omega) (by omega)) ?_ rfl
          rw [pCnt_s _ h0]
          simp [*, bz]
  refine x_iconst C 1 dX4_shown_0 rfl ?_
  refine x_istore_n C 2 1 rfl dX4_shown_1 rfl rfl rfl ?_
  refine x_iconst C 3 dX4_shown_2 rfl ?_
  refine x_istore_n C 4 2 rfl dX4_shown_3 rfl rfl rfl ?_
  exact loop ((n - 0).toNat + 1) 0 (by omega) (by omega) (by omega)
theorem ct_X4_orders {l : Launch} {G : Gh} (hG : kG G) {m : Mem} {b : Nat} {ad : Nat → Nat} {n : Int} {w : Wn} {ld tl at' ft lt : Int} {a0 a6 a7 a8 a9 a10 a12 a13 a17 a19 : Int → Int} {hh : Int64} (hT : TR m b ad n w ld tl at' ft lt a0 a6 a7 a8 a9 a10 a12 a13 a17 a19 hh) (hW : WF a0 n w) : kM l G yX4_orders cX4_orders 4 (Option.none : Option FieldType) 1 0 0 [.ref b] m (kPv fun m' => ∃ a7', TR m' b ad n w ld tl at' ft lt a0 a6 a7' a8 a9 a10 a12 a13 a17 a19 hh ∧ ArL a7' (pOrd a0 n) ∧ kfr (TF b ad) m m') := by
  refine kM.of hG (by decide +kernel) 3 rfl fun κ C => ?_
  have hn := hW.n
  have hpr : ∀ p, 0 ≤ p → p < n → 1 ≤ a0 (80 + p) ∧ a0 (80 + p) ≤ 9 := fun p h0 h1 => by have := hW.p h0 h1; omega
  have outer : ∀ (k j : Nat) (m1 : Mem) (a7' : Int → Int) (o3 : Option Value), klo [some (.ref b), some (kI ((pOrdO a0 n j).length : Int)), some (kI (9 - (j : Int))), o3] 2 = true → TR m1 b ad n w ld tl at' ft lt a0 a6 a7' a8 a9 a10 a12 a13 a17 a19 hh → kfr (TF b ad) m m1 → ArL a7' (pOrdO a0 n j) → j ≤ 9 → 9 - j < k → kX κ m1 [some (.ref b), some (kI ((pOrdO a0 n j).length : Int)), some (kI (9 - (j : Int))), o3] 0 0 5 [] := by
    intro k
    induction k with
    | zero => intros; omega
    | succ k ih =>
      intro j m1 a7' o3 ho3 hT hF hA hj hk
      have inner : ∀ (k2 : Nat) (i : Int) (m1 : Mem) (a7' : Int → Int), TR m1 b ad n w ld tl at' ft lt a0 a6 a7' a8 a9 a10 a12 a13 a17 a19 hh → kfr (TF b ad) m m1 → ArL a7' (pOrdO a0 n j ++ pOrdI a0 (9 - (j : Int)) i) → j < 9 → 0 ≤ i → i ≤ n → (n - i).toNat < k2 → kX κ m1 [some (.ref b), some (kI ((pOrdO a0 n j ++ pOrdI a0 (9 - (j : Int)) i).length : Int)), some (kI (9 - (j : Int))), some (kI i)] 0 0 11 [] := by
        intro k2
        induction k2 with
        | zero => intros; omega
        | succ k2 ih2 =>
          intro i m1 a7' hT hF hA hj9 h0 h1 h2
          refine x_iload_n C 12 dX4_orders_11 rfl rfl ?_
          refine x_aload_n C 13 dX4_orders_12 rfl rfl rfl ?_
          refine x_getf C 16 f_X4_48_4 hT.o rfl dX4_orders_13 rfl ?_
          refine x_icmp_ge C 48 19 dX4_orders_16 (by omega) (by omega) (by decide) rfl (fun h16 => ?_) (fun h16 => ?_)
          ·
            refine x_iinc C 51 dX4_orders_48 rfl rfl rfl ?_
            refine x_goto C 5 dX4_orders_51 (by decide) ?_
            rw [show i = n by omega] at hA ⊢
            exact kX.eq (ih (j + 1) _ _ (some (kI n)) rfl hT hF hA (by omega) (by omega)) (by rw [show 9 - ((j + 1 : Nat) : Int) = 9 - (j : Int) + -1 by omega]; rfl) rfl
          ·
            have hfi := hW.p h0 (by omega)
            refine x_aload_n C 20 dX4_orders_19 rfl rfl rfl ?_
            refine x_getf C 23 f_X4_7_4 hT.o rfl dX4_orders_20 rfl ?_
            refine x_bipush C 25 dX4_orders_23 (by decide) rfl ?_
            refine x_iload_n C 26 dX4_orders_25 rfl rfl ?_
            refine x_iadd C 27 dX4_orders_26 rfl ?_
            refine x_iald C 28 hT.a0 (by decide) rfl (by omega) (by omega) (kfI_get (by omega) (by omega)) dX4_orders_27 rfl ?_
            refine x_iload_n C 29 dX4_orders_28 rfl rfl ?_
            refine x_icmp_ne C 42 32 dX4_orders_29 (by omega) (by omega) (by decide) rfl (fun h29 => ?_) (fun h29 => ?_)
            ·
              refine x_iinc C 45 dX4_orders_42 rfl rfl rfl ?_
              refine x_goto C 11 dX4_orders_45 (by decide) ?_
              first | (have e := pOrdI_s a0 (9 - (j : Int)) h0; rw [if_neg h29] at e; rw [← e] at hA; exact kX.eq (ih2 (i + 1) _ _ hT hF hA hj9 (by omega) (by omega) (by omega)) (by rw [e]; rfl) rfl) | (have e := pOrdI_s a0 (9 - (j : Int)) h0; rw [if_pos h29] at e; refine kX.eq (ih2 (i + 1) _ _ (hT.s7 (by omega)) (hF.st TF.a7) (by rw [e, ← List.append_assoc]; exact hA.put i) hj9 (by omega) (by omega) (by omega)) (by rw [e, ← List.append_assoc, List.length_append (as := _ ++ _)]; rfl) rfl)
            ·
              have hlt := pOrdO_sub (f := a0) hj9 h0 (by omega) h29 hn.1 hpr
              refine x_aload_n C 33 dX4_orders_32 rfl rfl rfl ?_
              refine x_getf C 36 f_X4_24_4 hT.o rfl dX4_orders_33 rfl ?_
              refine x_iload_n C 37 dX4_orders_36 rfl rfl ?_
              refine x_iload_n C 38 dX4_orders_37 rfl rfl ?_
              refine x_iast C 39 hT.a7 (by decide) rfl rfl (by omega) (by omega) (kfI_get (by omega) (by omega)) dX4_orders_38 rfl ?_
              refine x_iinc C 42 dX4_orders_39 rfl rfl rfl ?_
              refine x_iinc C 45 dX4_orders_42 rfl rfl rfl ?_
              refine x_goto C 11 dX4_orders_45 (by decide) ?_
              first | (have e := pOrdI_s a0 (9 - (j : Int)) h0; rw [if_neg h29] at e; rw [← e] at hA; exact kX.eq (ih2 (i + 1) _ _ hT hF hA hj9 (by omega) (by omega) (by omega)) (by rw [e]; rfl) rfl) | (have e := pOrdI_s a0 (9 - (j : Int)) h0; rw [if_pos h29] at e; refine kX.eq (ih2 (i + 1) _ _ (hT.s7 (by omega)) (hF.st TF.a7) (by rw [e, ← List.append_assoc]; exact hA.put i) hj9 (by omega) (by omega) (by omega)) (by rw [e, ← List.append_assoc, List.length_append (as := _ ++ _)]; rfl) rfl)
      refine x_iload_n C 6 dX4_orders_5 rfl rfl ?_
      refine x_if_le C 54 9 dX4_orders_6 (by omega) (by decide) rfl (fun h6 => ?_) (fun h6 => ?_)
      ·
        refine x_vret C dX4_orders_54 rfl ⟨by omega, by omega⟩ ?_
        exact ⟨rfl, a7', hT, by rw [show j = 9 by omega] at hA; exact hA, hF⟩
      ·
        refine x_iconst C 10 dX4_orders_9 rfl ?_
        refine x_istore_n C 11 3 rfl dX4_orders_10 rfl rfl rfl ?_
        exact kX.eq (inner ((n - 0).toNat + 1) 0 _ _ hT hF (by rw [show pOrdI a0 (9 - (j : Int)) 0 = [] from rfl, List.append_nil]; exact hA) (by omega) (by omega) (by omega) (by omega)) (by rw [show pOrdI a0 (9 - (j : Int)) 0 = [] from rfl, List.append_nil]; rfl) rfl
  refine x_iconst C 1 dX4_orders_0 rfl ?_
  refine x_istore_n C 2 1 rfl dX4_orders_1 rfl rfl rfl ?_
  refine x_bipush C 4 dX4_orders_2 (by decide) rfl ?_
  refine x_istore_n C 5 2 rfl dX4_orders_4 rfl rfl rfl ?_
  exact outer 10 0 m a7 _ rfl hT kfr.rf (fun j hj => absurd hj (Nat.not_lt_zero j)) (by omega) (by omega)
theorem ct_X4_isProperty {l : Launch} {G : Gh} (hG : kG G) {m : Mem} {wh v : Int} (hw : -2147483648 ≤ wh ∧ wh ≤ 2147483647) (hv : -2147483648 ≤ v ∧ v ≤ 2147483647) : kM l G yX4_isProperty cX4_isProperty 2 (Option.some FieldType.boolean) 2 0 0 [kI wh, kI v] m (kP (kI (bz (pProp wh v))) m) := by
  refine kM.of hG (by decide +kernel) 0 rfl fun κ C => ?_
  refine x_iload_n C 1 dX4_isProperty_0 rfl rfl ?_
  by_cases h1_0 : wh = 2
  ·
    refine x_tableIn (off := 31) C 32 dX4_isProperty_1 (by omega) (by omega) (by omega) (by rw [h1_0]; rfl) (by decide) ?_
    refine x_iload_n C 33 dX4_isProperty_32 rfl rfl ?_
    refine x_i2l C 34 dX4_isProperty_33 (by first | omega | (have := bz_b _; omega)) rfl ?_
    refine x_lconst1 C 35 dX4_isProperty_34 rfl ?_
    refine x_ldc2 (x := 20) C 38 q2156 (by decide) dX4_isProperty_35 rfl ?_
    refine x_callS3 C 41 (ct_X4_in hG (by omega) (by omega) (by omega)) s_X4_51 dX4_isProperty_38 rfl (by decide) (by decide) (by omega) (Nat.le_of_ble_eq_true rfl) (kP_k ?_)
    exact x_iret C dX4_isProperty_41 rfl (narrow_bz _) ⟨by omega, by omega⟩ (kP_e (by simp [pProp, *]))
  by_cases h1_1 : wh = 3
  ·
    refine x_tableIn (off := 41) C 42 dX4_isProperty_1 (by omega) (by omega) (by omega) (by rw [h1_1]; rfl) (by decide) ?_
    refine x_iload_n C 43 dX4_isProperty_42 rfl rfl ?_
    refine x_i2l C 44 dX4_isProperty_43 (by first | omega | (have := bz_b _; omega)) rfl ?_
    refine x_lconst1 C 45 dX4_isProperty_44 rfl ?_
    refine x_ldc2 (x := 6) C 48 q2157 (by decide) dX4_isProperty_45 rfl ?_
    refine x_callS3 C 51 (ct_X4_in hG (by omega) (by omega) (by omega)) s_X4_51 dX4_isProperty_48 rfl (by decide) (by decide) (by omega) (Nat.le_of_ble_eq_true rfl) (kP_k ?_)
    exact x_iret C dX4_isProperty_51 rfl (narrow_bz _) ⟨by omega, by omega⟩ (kP_e (by simp [pProp, *]))
  by_cases h1_2 : wh = 4
  ·
    refine x_tableIn (off := 51) C 52 dX4_isProperty_1 (by omega) (by omega) (by omega) (by rw [h1_2]; rfl) (by decide) ?_
    refine x_iload_n C 53 dX4_isProperty_52 rfl rfl ?_
    refine x_i2l C 54 dX4_isProperty_53 (by first | omega | (have := bz_b _; omega)) rfl ?_
    refine x_lconst1 C 55 dX4_isProperty_54 rfl ?_
    refine x_ldc2 (x := 9) C 58 q2158 (by decide) dX4_isProperty_55 rfl ?_
    refine x_callS3 C 61 (ct_X4_in hG (by omega) (by omega) (by omega)) s_X4_51 dX4_isProperty_58 rfl (by decide) (by decide) (by omega) (Nat.le_of_ble_eq_true rfl) (kP_k ?_)
    exact x_iret C dX4_isProperty_61 rfl (narrow_bz _) ⟨by omega, by omega⟩ (kP_e (by simp [pProp, *]))
  by_cases h1_3 : wh = 5
  ·
    refine x_tableIn (off := 61) C 62 dX4_isProperty_1 (by omega) (by omega) (by omega) (by rw [h1_3]; rfl) (by decide) ?_
    refine x_iload_n C 63 dX4_isProperty_62 rfl rfl ?_
    refine x_i2l C 64 dX4_isProperty_63 (by first | omega | (have := bz_b _; omega)) rfl ?_
    refine x_lconst1 C 65 dX4_isProperty_64 rfl ?_
    refine x_ldc2 (x := 255) C 68 q2159 (by decide) dX4_isProperty_65 rfl ?_
    refine x_callS3 C 71 (ct_X4_in hG (by omega) (by omega) (by omega)) s_X4_51 dX4_isProperty_68 rfl (by decide) (by decide) (by omega) (Nat.le_of_ble_eq_true rfl) (kP_k ?_)
    exact x_iret C dX4_isProperty_71 rfl (narrow_bz _) ⟨by omega, by omega⟩ (kP_e (by simp [pProp, *]))
  refine x_tableOut C 72 dX4_isProperty_1 (by omega) (by omega) (by decide) ?_
  refine x_iconst C 73 dX4_isProperty_72 rfl ?_
  refine x_iret C dX4_isProperty_73 rfl rfl ⟨by omega, by omega⟩ ?_
  exact kP_e (by simp [pProp, *, bz])
theorem ct_X4_pointAt {l : Launch} {G : Gh} (hG : kG G) {m : Mem} {b : Nat} {ad : Nat → Nat} {n : Int} {w : Wn} {ld tl at' ft lt : Int} {a0 a6 a7 a8 a9 a10 a12 a13 a17 a19 : Int → Int} {hh : Int64} (hT : TR m b ad n w ld tl at' ft lt a0 a6 a7 a8 a9 a10 a12 a13 a17 a19 hh) (hn : 0 ≤ n ∧ n ≤ 20) (hb : ∀ p, 0 ≤ p → p < n → 0 ≤ a0 p ∧ a0 p ≤ 199 ∧ 0 ≤ a0 (20 + p) ∧ a0 (20 + p) ≤ 199) {x y : Int} (hx : -2147483648 ≤ x ∧ x ≤ 2147483647) (hy : -2147483648 ≤ y ∧ y ≤ 2147483647) : kM l G yX4_pointAt cX4_pointAt 4 (Option.some FieldType.int) 1 0 0 [.ref b, kI x, kI y] m (kP (kI (pAt a0 x y n)) m) := by
  refine kM.of hG (by decide +kernel) 1 rfl fun κ C => ?_
  have loop : ∀ (k : Nat) (i : Int), pAt a0 x y i = -1 → 0 ≤ i → i ≤ n → (n - i).toNat < k → kX κ m [some (.ref b), some (kI x), some (kI y), some (kI i)] 0 0 2 [] := by
    intro k
    induction k with
    | zero => intros; omega
    | succ k ih =>
      intro i hi h0 h1 h2
      have hs := pAt_s a0 x y h0
      refine x_iload_n C 3 dX4_pointAt_2 rfl rfl ?_
      refine x_aload_n C 4 dX4_pointAt_3 rfl rfl rfl ?_
      refine x_getf C 7 f_X4_48_4 hT.o rfl dX4_pointAt_4 rfl ?_
      refine x_icmp_ge C 43 10 dX4_pointAt_7 (by omega) (by omega) (by decide) rfl (fun h7 => ?_) (fun h7 => ?_)
      ·
        refine x_iconst C 44 dX4_pointAt_43 rfl ?_
        refine x_iret C dX4_pointAt_44 rfl rfl ⟨by omega, by omega⟩ ?_
        first | exact kP_e (pAt_stop h0 (by rw [hs, if_pos ⟨hi, h19, h32⟩]) (by omega)) | exact kP_e (by rw [show n = i by omega]; exact hi)
      ·
        have hfi := hb i h0 (by omega)
        refine x_aload_n C 11 dX4_pointAt_10 rfl rfl rfl ?_
        refine x_getf C 14 f_X4_7_4 hT.o rfl dX4_pointAt_11 rfl ?_
        refine x_iconst C 15 dX4_pointAt_14 rfl ?_
        refine x_iload_n C 16 dX4_pointAt_15 rfl rfl ?_
        refine x_iadd0 C 17 dX4_pointAt_16 rfl ?_
        refine x_iald C 18 hT.a0 (by decide) rfl (by omega) (by omega) (kfI_get (by omega) (by omega)) dX4_pointAt_17 rfl ?_
        refine x_iload_n C 19 dX4_pointAt_18 rfl rfl ?_
        refine x_icmp_ne C 37 22 dX4_pointAt_19 (by omega) (by omega) (by decide) rfl (fun h19 => ?_) (fun h19 => ?_)
        ·
          refine x_iinc C 40 dX4_pointAt_37 rfl rfl rfl ?_
          refine x_goto C 2 dX4_pointAt_40 (by decide) ?_
          exact ih (i + 1) (by rw [hs, if_neg (by omega)]; exact hi) (by omega) (by omega) (by omega)
        ·
          refine x_aload_n C 23 dX4_pointAt_22 rfl rfl rfl ?_
          refine x_getf C 26 f_X4_7_4 hT.o rfl dX4_pointAt_23 rfl ?_
          refine x_bipush C 28 dX4_pointAt_26 (by decide) rfl ?_
          refine x_iload_n C 29 dX4_pointAt_28 rfl rfl ?_
          refine x_iadd C 30 dX4_pointAt_29 rfl ?_
          refine x_iald C 31 hT.a0 (by decide) rfl (by omega) (by omega) (kfI_get (by omega) (by omega)) dX4_pointAt_30 rfl ?_
          refine x_iload_n C 32 dX4_pointAt_31 rfl rfl ?_
          refine x_icmp_ne C 37 35 dX4_pointAt_32 (by omega) (by omega) (by decide) rfl (fun h32 => ?_) (fun h32 => ?_)
          ·
            refine x_iinc C 40 dX4_pointAt_37 rfl rfl rfl ?_
            refine x_goto C 2 dX4_pointAt_40 (by decide) ?_
            exact ih (i + 1) (by rw [hs, if_neg (by omega)]; exact hi) (by omega) (by omega) (by omega)
          ·
            refine x_iload_n C 36 dX4_pointAt_35 rfl rfl ?_
            refine x_iret C dX4_pointAt_36 rfl rfl ⟨by omega, by omega⟩ ?_
            first | exact kP_e (pAt_stop h0 (by rw [hs, if_pos ⟨hi, h19, h32⟩]) (by omega)) | exact kP_e (by rw [show n = i by omega]; exact hi)
  refine x_iconst C 1 dX4_pointAt_0 rfl ?_
  refine x_istore_n C 2 3 rfl dX4_pointAt_1 rfl rfl rfl ?_
  exact loop ((n - 0).toNat + 1) 0 rfl (by omega) (by omega) (by omega)
