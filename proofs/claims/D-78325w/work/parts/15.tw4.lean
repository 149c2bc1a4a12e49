/-! THE REFERENCE, questions that stand on the place array. -/
set_option maxRecDepth 100000
set_option maxHeartbeats 1000000
theorem ct_X4_placesOf {l : Launch} {G : Gh} (hG : kG G) {m : Mem} {b : Nat} {ad : Nat → Nat} {n : Int} {w : Wn} {ld tl at' ft lt : Int} {a0 a6 a7 a8 a9 a10 a12 a13 a17 a19 : Int → Int} {hh : Int64} (hT : TR m b ad n w ld tl at' ft lt a0 a6 a7 a8 a9 a10 a12 a13 a17 a19 hh) (hW : WF a0 n w) (hPl : PlOK a6 a0 n w) {p : Int} (hp : 0 ≤ p ∧ p < n) : kM l G yX4_placesOf cX4_placesOf 4 (Option.some FieldType.int) 1 0 0 [.ref b, kI p] m (kP (kI (pOf a0 n w p)) m) := by
  refine kM.of hG (by decide +kernel) 2 rfl fun κ C => ?_
  have hn := hW.n
  have loop : ∀ (k : Nat) (i : Int), 0 ≤ i → i ≤ 8 → (8 - i).toNat < k → kX κ m [some (.ref b), some (kI p), some (kI (pCnt (fun s => pPl a0 n w p s) i)), some (kI i)] 0 0 4 [] := by
    intro k
    induction k with
    | zero => intro i h0 h1 h2; omega
    | succ k ih =>
      intro i h0 h1 h2
      refine x_iload_n C 5 dX4_placesOf_4 rfl rfl ?_
      refine x_bipush C 7 dX4_placesOf_5 (by decide) rfl ?_
      refine x_icmp_ge C 38 10 dX4_placesOf_7 (by omega) (by omega) (by decide) rfl (fun h7 => ?_) (fun h7 => ?_)
      ·
        refine x_iload_n C 39 dX4_placesOf_38 rfl rfl ?_
        refine x_iret C dX4_placesOf_39 rfl rfl ⟨by omega, by omega⟩ ?_
        exact kP_e (by rw [show i = 8 by omega]; rfl)
      ·
        refine x_iload_n C 11 dX4_placesOf_10 rfl rfl ?_
        refine x_aload_n C 12 dX4_placesOf_11 rfl rfl rfl ?_
        refine x_getf C 15 f_X4_20_4 hT.o rfl dX4_placesOf_12 rfl ?_
        refine x_bipush C 17 dX4_placesOf_15 (by decide) rfl ?_
        refine x_iload_n C 18 dX4_placesOf_17 rfl rfl ?_
        refine x_imul C 19 dX4_placesOf_18 rfl ?_
        refine x_iload_n C 20 dX4_placesOf_19 rfl rfl ?_
        refine x_iadd C 21 dX4_placesOf_20 rfl ?_
        refine x_zald C 22 hT.a6 (by decide) rfl (by omega) (by omega) (kfI_get (by omega) (by omega)) dX4_placesOf_21 rfl ?_
        rw [hPl.at hp (by omega)]
        first | refine x_ifb_eq C 29 25 dX4_placesOf_22 (by decide) rfl (fun h22 => ?_) (fun h22 => ?_) | refine x_if_eq C 29 25 dX4_placesOf_22 (by omega) (by decide) rfl (fun h22 => ?_) (fun h22 => ?_)
        ·
          refine x_iconst C 30 dX4_placesOf_29 rfl ?_
          refine x_iadd C 31 dX4_placesOf_30 rfl ?_
          refine x_istore_n C 32 2 rfl dX4_placesOf_31 rfl rfl rfl ?_
          refine x_iinc C 35 dX4_placesOf_32 rfl rfl rfl ?_
          refine x_goto C 4 dX4_placesOf_35 (by decide) ?_
          refine kX.eq (ih (i + 1) (by omega) (by omega) (by omega)) ?_ rfl
          rw [pCnt_s _ h0]
          simp [*, bz]
        ·
          refine x_iconst C 26 dX4_placesOf_25 rfl ?_
          refine x_goto C 30 dX4_placesOf_26 (by decide) ?_
          refine x_iadd C 31 dX4_placesOf_30 rfl ?_
          refine x_istore_n C 32 2 rfl dX4_placesOf_31 rfl rfl rfl ?_
          refine x_iinc C 35 dX4_placesOf_32 rfl rfl rfl ?_
          refine x_goto C 4 dX4_placesOf_35 (by decide) ?_
          refine kX.eq (ih (i + 1) (by omega) (by omega) (by omega)) ?_ rfl
          rw [pCnt_s _ h0]
          simp [*, bz]
  refine x_iconst C 1 dX4_placesOf_0 rfl ?_
  refine x_istore_n C 2 2 rfl dX4_placesOf_1 rfl rfl rfl ?_
  refine x_iconst C 3 dX4_placesOf_2 rfl ?_
  refine x_istore_n C 4 3 rfl dX4_placesOf_3 rfl rfl rfl ?_
  exact loop 9 0 (by omega) (by omega) (by omega)
theorem ct_X4_part {l : Launch} {G : Gh} (hG : kG G) {m : Mem} {b : Nat} {ad : Nat → Nat} {n : Int} {w : Wn} {ld tl at' ft lt : Int} {a0 a6 a7 a8 a9 a10 a12 a13 a17 a19 : Int → Int} {hh : Int64} (hT : TR m b ad n w ld tl at' ft lt a0 a6 a7 a8 a9 a10 a12 a13 a17 a19 hh) (hW : WF a0 n w) (hPl : PlOK a6 a0 n w) {p wh : Int} (hp : 0 ≤ p ∧ p < n) (hwh : 0 ≤ wh ∧ wh ≤ 8) : kM l G yX4_part cX4_part 3 (Option.some FieldType.int) 3 0 0 [.ref b, kI p, kI wh] m (kP (kI (pPart a0 n w p wh)) m) := by
  refine kM.of hG (by decide +kernel) 0 rfl fun κ C => ?_
  have hn := hW.n
  have hw := hW.w
  have hf := hW.p hp.1 hp.2
  refine x_iload_n C 1 dX4_part_0 rfl rfl ?_
  by_cases h1_0 : wh = 6
  ·
    refine x_tableIn (off := 27) C 28 dX4_part_1 (by omega) (by omega) (by omega) (by rw [h1_0]; rfl) (by decide) ?_
    refine x_aload_n C 29 dX4_part_28 rfl rfl rfl ?_
    refine x_iload_n C 30 dX4_part_29 rfl rfl ?_
    refine x_callV1 C 33 (ct_X4_isVisible hG hT hw (by omega) (by assumption)) v_X4_68 hT.o rfl dX4_part_30 rfl (by decide) (by decide) (by omega) (Nat.le_of_ble_eq_true rfl) (kP_k ?_)
    refine x_ifb_eq C 40 36 dX4_part_33 (by decide) rfl (fun h33 => ?_) (fun h33 => ?_)
    ·
      refine x_iconst C 41 dX4_part_40 rfl ?_
      refine x_iret C dX4_part_41 rfl rfl ⟨by omega, by omega⟩ ?_
      exact kP_e (by simp [pPart, bz, *])
    ·
      refine x_iconst C 37 dX4_part_36 rfl ?_
      refine x_goto C 41 dX4_part_37 (by decide) ?_
      refine x_iret C dX4_part_41 rfl rfl ⟨by omega, by omega⟩ ?_
      exact kP_e (by simp [pPart, bz, *])
  by_cases h1_1 : wh = 7
  ·
    refine x_tableIn (off := 41) C 42 dX4_part_1 (by omega) (by omega) (by omega) (by rw [h1_1]; rfl) (by decide) ?_
    refine x_aload_n C 43 dX4_part_42 rfl rfl rfl ?_
    refine x_getf C 46 f_X4_7_4 hT.o rfl dX4_part_43 rfl ?_
    refine x_bipush C 48 dX4_part_46 (by decide) rfl ?_
    refine x_iload_n C 49 dX4_part_48 rfl rfl ?_
    refine x_iadd C 50 dX4_part_49 rfl ?_
    refine x_iald C 51 hT.a0 (by decide) rfl (by omega) (by omega) (kfI_get (by omega) (by omega)) dX4_part_50 rfl ?_
    refine x_iret C dX4_part_51 rfl rfl ⟨by omega, by omega⟩ ?_
    exact kP_e (by simp [pPart, bz, *])
  by_cases h1_2 : wh = 8
  ·
    refine x_tableIn (off := 51) C 52 dX4_part_1 (by omega) (by omega) (by omega) (by rw [h1_2]; rfl) (by decide) ?_
    refine x_aload_n C 53 dX4_part_52 rfl rfl rfl ?_
    refine x_iload_n C 54 dX4_part_53 rfl rfl ?_
    refine x_callV1 C 57 (ct_X4_placesOf hG hT hW hPl (by omega)) v_X4_112 hT.o rfl dX4_part_54 rfl (by decide) (by decide) (by omega) (Nat.le_of_ble_eq_true rfl) (kP_k ?_)
    refine x_iret C dX4_part_57 rfl rfl ⟨by omega, by omega⟩ ?_
    exact kP_e (by simp [pPart, bz, *])
  refine x_tableOut C 58 dX4_part_1 (by omega) (by omega) (by decide) ?_
  refine x_aload_n C 59 dX4_part_58 rfl rfl rfl ?_
  refine x_getf C 62 f_X4_7_4 hT.o rfl dX4_part_59 rfl ?_
  refine x_bipush C 64 dX4_part_62 (by decide) rfl ?_
  refine x_iload_n C 65 dX4_part_64 rfl rfl ?_
  refine x_imul C 66 dX4_part_65 rfl ?_
  refine x_iload_n C 67 dX4_part_66 rfl rfl ?_
  refine x_iadd C 68 dX4_part_67 rfl ?_
  refine x_iald C 69 hT.a0 (by decide) rfl (by omega) (by omega) (kfI_get (by omega) (by omega)) dX4_part_68 rfl ?_
  refine x_iret C dX4_part_69 rfl rfl ⟨by omega, by omega⟩ ?_
  exact kP_e (by simp [pPart, bz, *])
theorem ct_X4_visible {l : Launch} {G : Gh} (hG : kG G) {m : Mem} {b : Nat} {ad : Nat → Nat} {n : Int} {w : Wn} {ld tl at' ft lt : Int} {a0 a6 a7 a8 a9 a10 a12 a13 a17 a19 : Int → Int} {hh : Int64} (hT : TR m b ad n w ld tl at' ft lt a0 a6 a7 a8 a9 a10 a12 a13 a17 a19 hh) (hW : WF a0 n w) : kM l G yX4_visible cX4_visible 3 (Option.some FieldType.int) 3 0 0 [.ref b] m (kP (kI (pVs a0 n w)) m) := by
  refine kM.of hG (by decide +kernel) 2 rfl fun κ C => ?_
  have hn := hW.n
  have hw := hW.w
  have loop : ∀ (k : Nat) (i : Int), 0 ≤ i → i ≤ n → (n - i).toNat < k → kX κ m [some (.ref b), some (kI (pCnt (fun p => pVis a0 w p) i)), some (kI i)] 0 0 4 [] := by
    intro k
    induction k with
    | zero => intro i h0 h1 h2; omega
    | succ k ih =>
      intro i h0 h1 h2
      refine x_iload_n C 5 dX4_visible_4 rfl rfl ?_
      refine x_aload_n C 6 dX4_visible_5 rfl rfl rfl ?_
      refine x_getf C 9 f_X4_48_4 hT.o rfl dX4_visible_6 rfl ?_
      refine x_icmp_ge C 34 12 dX4_visible_9 (by omega) (by omega) (by decide) rfl (fun h9 => ?_) (fun h9 => ?_)
      ·
        refine x_iload_n C 35 dX4_visible_34 rfl rfl ?_
        refine x_iret C dX4_visible_35 rfl rfl ⟨by omega, by omega⟩ ?_
        exact kP_e (by rw [show i = n by omega]; rfl)
      ·
        have hfi := hW.p h0 (by omega)
        refine x_iload_n C 13 dX4_visible_12 rfl rfl ?_
        refine x_aload_n C 14 dX4_visible_13 rfl rfl rfl ?_
        refine x_iload_n C 15 dX4_visible_14 rfl rfl ?_
        refine x_callV1 C 18 (ct_X4_isVisible hG hT hw (by omega) (by assumption)) v_X4_68 hT.o rfl dX4_visible_15 rfl (by decide) (by decide) (by omega) (Nat.le_of_ble_eq_true rfl) (kP_k ?_)
        refine x_ifb_eq C 25 21 dX4_visible_18 (by decide) rfl (fun h18 => ?_) (fun h18 => ?_)
        ·
          refine x_iconst C 26 dX4_visible_25 rfl ?_
          refine x_iadd C 27 dX4_visible_26 rfl ?_
          refine x_istore_n C 28 1 rfl dX4_visible_27 rfl rfl rfl ?_
          refine x_iinc C 31 dX4_visible_28 rfl rfl rfl ?_
          refine x_goto C 4 dX4_visible_31 (by decide) ?_
          refine kX.eq (ih (i + 1) (by omega) (by omega) (by omega)) ?_ rfl
          rw [pCnt_s _ h0]
          simp [*, bz]
        ·
          refine x_iconst C 22 dX4_visible_21 rfl ?_
          refine x_goto C 26 dX4_visible_22 (by decide) ?_
          refine x_iadd C 27 dX4_visible_26 rfl ?_
          refine x_istore_n C 28 1 rfl dX4_visible_27 rfl rfl rfl ?_
          refine x_iinc C 31 dX4_visible_28 rfl rfl rfl ?_
          refine x_goto C 4 dX4_visible_31 (by decide) ?_
          refine kX.eq (ih (i + 1) (by omega) (by omega) (by omega)) ?_ rfl
          rw [pCnt_s _ h0]
          simp [*, bz]
  refine x_iconst C 1 dX4_visible_0 rfl ?_
  refine x_istore_n C 2 1 rfl dX4_visible_1 rfl rfl rfl ?_
  refine x_iconst C 3 dX4_visible_2 rfl ?_
  refine x_istore_n C 4 2 rfl dX4_visible_3 rfl rfl rfl ?_
  exact loop ((n - 0).toNat + 1) 0 (by omega) (by omega) (by omega)
theorem ct_X4_meets {l : Launch} {G : Gh} (hG : kG G) {m : Mem} {b : Nat} {ad : Nat → Nat} {n : Int} {w : Wn} {ld tl at' ft lt : Int} {a0 a6 a7 a8 a9 a10 a12 a13 a17 a19 : Int → Int} {hh : Int64} (hT : TR m b ad n w ld tl at' ft lt a0 a6 a7 a8 a9 a10 a12 a13 a17 a19 hh) (hW : WF a0 n w) (hPl : PlOK a6 a0 n w) {p s : Int} (hp : 0 ≤ p ∧ p < n) (hs : 0 ≤ s ∧ s < 8) : kM l G yX4_meets cX4_meets 5 (Option.some FieldType.int) 3 0 0 [.ref b, kI p, kI s] m (kP (kI (pMs a0 n w p s)) m) := by
  refine kM.of hG (by decide +kernel) 2 rfl fun κ C => ?_
  have hn := hW.n
  have hf := hW.p hp.1 hp.2
  have loop : ∀ (k : Nat) (i : Int), 0 ≤ i → i ≤ 8 * n → (8 * n - i).toNat < k → kX κ m [some (.ref b), some (kI p), some (kI s), some (kI (pCnt (pMsP a0 n w p s) i)), some (kI i)] 0 0 5 [] := by
    intro k
    induction k with
    | zero => intro i h0 h1 h2; omega
    | succ k ih =>
      intro i h0 h1 h2
      refine x_iload C 7 dX4_meets_5 rfl rfl ?_
      refine x_bipush C 9 dX4_meets_7 (by decide) rfl ?_
      refine x_aload_n C 10 dX4_meets_9 rfl rfl rfl ?_
      refine x_getf C 13 f_X4_48_4 hT.o rfl dX4_meets_10 rfl ?_
      refine x_imul C 14 dX4_meets_13 rfl ?_
      refine x_icmp_ge C 69 17 dX4_meets_14 (by omega) (by omega) (by decide) rfl (fun h14 => ?_) (fun h14 => ?_)
      ·
        refine x_iload_n C 70 dX4_meets_69 rfl rfl ?_
        refine x_iret C dX4_meets_70 rfl rfl ⟨by omega, by omega⟩ ?_
        exact kP_e (by rw [show i = 8 * n by omega]; rfl)
      ·
        have hfi := hW.p (p := i / 8) (by omega) (by omega)
        refine x_iload_n C 18 dX4_meets_17 rfl rfl ?_
        refine x_iload C 20 dX4_meets_18 rfl rfl ?_
        refine x_bipush C 22 dX4_meets_20 (by decide) rfl ?_
        refine x_idiv C 23 dX4_meets_22 (by omega) (by omega) rfl ?_
        refine x_iload_n C 24 dX4_meets_23 rfl rfl ?_
        refine x_icmp_eq C 60 27 dX4_meets_24 (by omega) (by omega) (by decide) rfl (fun h24 => ?_) (fun h24 => ?_)
        ·
          refine x_iconst C 61 dX4_meets_60 rfl ?_
          refine x_iadd C 62 dX4_meets_61 rfl ?_
          refine x_istore_n C 63 3 rfl dX4_meets_62 rfl rfl rfl ?_
          refine x_iinc C 66 dX4_meets_63 rfl rfl rfl ?_
          refine x_goto C 5 dX4_meets_66 (by decide) ?_
          refine kX.eq (ih (i + 1) (by omega) (by omega) (by omega)) ?_ rfl
          rw [pCnt_s _ h0]
          simp [pMsP, *, bz]
        ·
          refine x_aload_n C 28 dX4_meets_27 rfl rfl rfl ?_
          refine x_getf C 31 f_X4_20_4 hT.o rfl dX4_meets_28 rfl ?_
          refine x_iload C 33 dX4_meets_31 rfl rfl ?_
          refine x_zald C 34 hT.a6 (by decide) rfl (by omega) (by omega) (kfI_get (by omega) (by omega)) dX4_meets_33 rfl ?_
          rw [hPl i h0 (by omega)]
          first | refine x_ifb_eq C 60 37 dX4_meets_34 (by decide) rfl (fun h34 => ?_) (fun h34 => ?_) | refine x_if_eq C 60 37 dX4_meets_34 (by omega) (by decide) rfl (fun h34 => ?_) (fun h34 => ?_)
          ·
            refine x_iconst C 61 dX4_meets_60 rfl ?_
            refine x_iadd C 62 dX4_meets_61 rfl ?_
            refine x_istore_n C 63 3 rfl dX4_meets_62 rfl rfl rfl ?_
            refine x_iinc C 66 dX4_meets_63 rfl rfl rfl ?_
            refine x_goto C 5 dX4_meets_66 (by decide) ?_
            refine kX.eq (ih (i + 1) (by omega) (by omega) (by omega)) ?_ rfl
            rw [pCnt_s _ h0]
            simp [pMsP, *, bz]
          ·
            refine x_aload_n C 38 dX4_meets_37 rfl rfl rfl ?_
            refine x_iload_n C 39 dX4_meets_38 rfl rfl ?_
            refine x_iload_n C 40 dX4_meets_39 rfl rfl ?_
            refine x_iload C 42 dX4_meets_40 rfl rfl ?_
            refine x_bipush C 44 dX4_meets_42 (by decide) rfl ?_
            refine x_idiv C 45 dX4_meets_44 (by omega) (by omega) rfl ?_
            refine x_iload C 47 dX4_meets_45 rfl rfl ?_
            refine x_bipush C 49 dX4_meets_47 (by decide) rfl ?_
            refine x_irem C 50 dX4_meets_49 (by omega) (by omega) rfl ?_
            refine x_callV4 C 53 (ct_X4_meet hG hT (by omega) (by omega) (by omega) (by omega) (by assumption) (by assumption)) v_X4_80 hT.o rfl dX4_meets_50 rfl (by decide) (by decide) (by omega) (Nat.le_of_ble_eq_true rfl) (kP_k ?_)
            refine x_ifb_eq C 60 56 dX4_meets_53 (by decide) rfl (fun h53 => ?_) (fun h53 => ?_)
            ·
              refine x_iconst C 61 dX4_meets_60 rfl ?_
              refine x_iadd C 62 dX4_meets_61 rfl ?_
              refine x_istore_n C 63 3 rfl dX4_meets_62 rfl rfl rfl ?_
              refine x_iinc C 66 dX4_meets_63 rfl rfl rfl ?_
              refine x_goto C 5 dX4_meets_66 (by decide) ?_
              refine kX.eq (ih (i + 1) (by omega) (by omega) (by omega)) ?_ rfl
              rw [pCnt_s _ h0]
              simp [pMsP, *, bz]
            ·
              refine x_iconst C 57 dX4_meets_56 rfl ?_
              refine x_goto C 61 dX4_meets_57 (by decide) ?_
              refine x_iadd C 62 dX4_meets_61 rfl ?_
              refine x_istore_n C 63 3 rfl dX4_meets_62 rfl rfl rfl ?_
              refine x_iinc C 66 dX4_meets_63 rfl rfl rfl ?_
              refine x_goto C 5 dX4_meets_66 (by decide) ?_
              refine kX.eq (ih (i + 1) (by omega) (by omega) (by omega)) ?_ rfl
              rw [pCnt_s _ h0]
              simp [pMsP, *, bz]
  refine x_iconst C 1 dX4_meets_0 rfl ?_
  refine x_istore_n C 2 3 rfl dX4_meets_1 rfl rfl rfl ?_
  refine x_iconst C 3 dX4_meets_2 rfl ?_
  refine x_istore C 5 dX4_meets_3 rfl rfl rfl ?_
  exact loop ((8 * n - 0).toNat + 1) 0 (by omega) (by omega) (by omega)
theorem ct_X4_placePart {l : Launch} {G : Gh} (hG : kG G) {m : Mem} {b : Nat} {ad : Nat → Nat} {n : Int} {w : Wn} {ld tl at' ft lt : Int} {a0 a6 a7 a8 a9 a10 a12 a13 a17 a19 : Int → Int} {hh : Int64} (hT : TR m b ad n w ld tl at' ft lt a0 a6 a7 a8 a9 a10 a12 a13 a17 a19 hh) (hW : WF a0 n w) (hPl : PlOK a6 a0 n w) {p s wh : Int} (hp : 0 ≤ p ∧ p < n) (hs : 0 ≤ s ∧ s < 8) (hwh : 0 ≤ wh ∧ wh ≤ 4) : kM l G yX4_placePart cX4_placePart 5 (Option.some FieldType.int) 4 0 0 [.ref b, kI p, kI s, kI wh] m (kP (kI (pPP a0 n w p s wh)) m) := by
  refine kM.of hG (by decide +kernel) 1 rfl fun κ C => ?_
  have hn := hW.n
  have hf := hW.p hp.1 hp.2
  refine x_aload_n C 1 dX4_placePart_0 rfl rfl rfl ?_
  refine x_getf C 4 f_X4_20_4 hT.o rfl dX4_placePart_1 rfl ?_
  refine x_bipush C 6 dX4_placePart_4 (by decide) rfl ?_
  refine x_iload_n C 7 dX4_placePart_6 rfl rfl ?_
  refine x_imul C 8 dX4_placePart_7 rfl ?_
  refine x_iload_n C 9 dX4_placePart_8 rfl rfl ?_
  refine x_iadd C 10 dX4_placePart_9 rfl ?_
  refine x_zald C 11 hT.a6 (by decide) rfl (by omega) (by omega) (kfI_get (by omega) (by omega)) dX4_placePart_10 rfl ?_
  rw [hPl.at hp hs]
  refine x_istore C 13 dX4_placePart_11 rfl rfl rfl ?_
  refine x_iload_n C 14 dX4_placePart_13 rfl rfl ?_
  by_cases h14_0 : wh = 0
  ·
    refine x_tableIn (off := 30) C 44 dX4_placePart_14 (by omega) (by omega) (by omega) (by rw [h14_0]; rfl) (by decide) ?_
    refine x_iload C 46 dX4_placePart_44 rfl rfl ?_
    first | refine x_ifb_eq C 53 49 dX4_placePart_46 (by decide) rfl (fun h46 => ?_) (fun h46 => ?_) | refine x_if_eq C 53 49 dX4_placePart_46 (by omega) (by decide) rfl (fun h46 => ?_) (fun h46 => ?_)
    ·
      refine x_iconst C 54 dX4_placePart_53 rfl ?_
      refine x_iret C dX4_placePart_54 rfl rfl ⟨by omega, by omega⟩ ?_
      exact kP_e (by simp [pPP, *, bz])
    ·
      refine x_iconst C 50 dX4_placePart_49 rfl ?_
      refine x_goto C 54 dX4_placePart_50 (by decide) ?_
      refine x_iret C dX4_placePart_54 rfl rfl ⟨by omega, by omega⟩ ?_
      exact kP_e (by simp [pPP, *, bz])
  by_cases h14_1 : wh = 1
  ·
    refine x_tableIn (off := 41) C 55 dX4_placePart_14 (by omega) (by omega) (by omega) (by rw [h14_1]; rfl) (by decide) ?_
    refine x_aload_n C 56 dX4_placePart_55 rfl rfl rfl ?_
    refine x_iload_n C 57 dX4_placePart_56 rfl rfl ?_
    refine x_iload_n C 58 dX4_placePart_57 rfl rfl ?_
    refine x_callV2 C 61 (ct_X4_left hG hT (by omega) (by omega) (by assumption)) v_X4_61 hT.o rfl dX4_placePart_58 rfl (by decide) (by decide) (by omega) (Nat.le_of_ble_eq_true rfl) (kP_k ?_)
    refine x_iret C dX4_placePart_61 rfl rfl ⟨by omega, by omega⟩ ?_
    exact kP_e (by simp [pPP, *, bz])
  by_cases h14_2 : wh = 2
  ·
    refine x_tableIn (off := 48) C 62 dX4_placePart_14 (by omega) (by omega) (by omega) (by rw [h14_2]; rfl) (by decide) ?_
    refine x_aload_n C 63 dX4_placePart_62 rfl rfl rfl ?_
    refine x_iload_n C 64 dX4_placePart_63 rfl rfl ?_
    refine x_iload_n C 65 dX4_placePart_64 rfl rfl ?_
    refine x_callV2 C 68 (ct_X4_bottom hG hT (by omega) (by omega) (by assumption)) v_X4_65 hT.o rfl dX4_placePart_65 rfl (by decide) (by decide) (by omega) (Nat.le_of_ble_eq_true rfl) (kP_k ?_)
    refine x_iret C dX4_placePart_68 rfl rfl ⟨by omega, by omega⟩ ?_
    exact kP_e (by simp [pPP, *, bz])
  by_cases h14_3 : wh = 3
  ·
    refine x_tableIn (off := 55) C 69 dX4_placePart_14 (by omega) (by omega) (by omega) (by rw [h14_3]; rfl) (by decide) ?_
    refine x_iload C 71 dX4_placePart_69 rfl rfl ?_
    first | refine x_ifb_eq C 83 74 dX4_placePart_71 (by decide) rfl (fun h71 => ?_) (fun h71 => ?_) | refine x_if_eq C 83 74 dX4_placePart_71 (by omega) (by decide) rfl (fun h71 => ?_) (fun h71 => ?_)
    ·
      refine x_iconst C 84 dX4_placePart_83 rfl ?_
      refine x_iret C dX4_placePart_84 rfl rfl ⟨by omega, by omega⟩ ?_
      exact kP_e (by simp [pPP, *, bz])
    ·
      refine x_aload_n C 75 dX4_placePart_74 rfl rfl rfl ?_
      refine x_iload_n C 76 dX4_placePart_75 rfl rfl ?_
      refine x_iload_n C 77 dX4_placePart_76 rfl rfl ?_
      refine x_callV2 C 80 (ct_X4_meets hG hT hW hPl (by omega) (by omega)) v_X4_135 hT.o rfl dX4_placePart_77 rfl (by decide) (by decide) (by omega) (Nat.le_of_ble_eq_true rfl) (kP_k ?_)
      refine x_goto C 84 dX4_placePart_80 (by decide) ?_
      refine x_iret C dX4_placePart_84 rfl rfl ⟨by omega, by omega⟩ ?_
      exact kP_e (by simp [pPP, *, bz])
  refine x_tableOut C 85 dX4_placePart_14 (by omega) (by omega) (by decide) ?_
  refine x_iload C 87 dX4_placePart_85 rfl rfl ?_
  first | refine x_ifb_eq C 100 90 dX4_placePart_87 (by decide) rfl (fun h87 => ?_) (fun h87 => ?_) | refine x_if_eq C 100 90 dX4_placePart_87 (by omega) (by decide) rfl (fun h87 => ?_) (fun h87 => ?_)
  ·
    refine x_iconst C 101 dX4_placePart_100 rfl ?_
    refine x_iret C dX4_placePart_101 rfl rfl ⟨by omega, by omega⟩ ?_
    exact kP_e (by simp [pPP, *, bz])
  ·
    refine x_aload_n C 91 dX4_placePart_90 rfl rfl rfl ?_
    refine x_iload_n C 92 dX4_placePart_91 rfl rfl ?_
    refine x_iload_n C 93 dX4_placePart_92 rfl rfl ?_
    refine x_iconst C 94 dX4_placePart_93 rfl ?_
    refine x_callV3 C 97 (ct_X4_clashes hG hT hW (by omega) (by omega)) v_X4_108 hT.o rfl dX4_placePart_94 rfl (by decide) (by decide) (by omega) (Nat.le_of_ble_eq_true rfl) (kP_k ?_)
    refine x_goto C 101 dX4_placePart_97 (by decide) ?_
    refine x_iret C dX4_placePart_101 rfl rfl ⟨by omega, by omega⟩ ?_
    exact kP_e (by simp [pPP, *, bz])
theorem ct_X4_isSide {l : Launch} {G : Gh} (hG : kG G) {m : Mem} {s : Int} (hs : -2147483648 ≤ s ∧ s ≤ 2147483647) : kM l G yX4_isSide cX4_isSide 1 (Option.some FieldType.boolean) 2 0 0 [kI s] m (kP (kI (bz (decide (0 ≤ s ∧ s ≤ 7)))) m) := by
  refine kM.of hG (by decide +kernel) 0 rfl fun κ C => ?_
  refine x_iload_n C 1 dX4_isSide_0 rfl rfl ?_
  refine x_i2l C 2 dX4_isSide_1 (by first | omega | (have := bz_b _; omega)) rfl ?_
  refine x_lconst0 C 3 dX4_isSide_2 rfl ?_
  refine x_ldc2 (x := 7) C 6 q2262 (by decide) dX4_isSide_3 rfl ?_
  refine x_callS3 C 9 (ct_X4_in hG (by omega) (by omega) (by omega)) s_X4_51 dX4_isSide_6 rfl (by decide) (by decide) (by omega) (Nat.le_of_ble_eq_true rfl) (kP_k ?_)
  exact x_iret C dX4_isSide_9 rfl (narrow_bz _) ⟨by omega, by omega⟩ (kP_e rfl)
theorem ct_X4_wants {l : Launch} {G : Gh} (hG : kG G) {m : Mem} {b : Nat} {ad : Nat → Nat} {n : Int} {w : Wn} {ld tl at' ft lt : Int} {a0 a6 a7 a8 a9 a10 a12 a13 a17 a19 : Int → Int} {hh : Int64} (hT : TR m b ad n w ld tl at' ft lt a0 a6 a7 a8 a9 a10 a12 a13 a17 a19 hh) (hw : WFw w) {p : Int} (hp : 0 ≤ p ∧ p < 20) (hf : WFp a0 p) : kM l G yX4_wants cX4_wants 2 (Option.some FieldType.boolean) 3 0 0 [.ref b, kI p] m (kP (kI (bz (pWants a0 w p))) m) := by
  refine kM.of hG (by decide +kernel) 0 rfl fun κ C => ?_
  refine x_aload_n C 1 dX4_wants_0 rfl rfl rfl ?_
  refine x_getf C 4 f_X4_7_4 hT.o rfl dX4_wants_1 rfl ?_
  refine x_bipush C 6 dX4_wants_4 (by decide) rfl ?_
  refine x_iload_n C 7 dX4_wants_6 rfl rfl ?_
  refine x_iadd C 8 dX4_wants_7 rfl ?_
  refine x_iald C 9 hT.a0 (by decide) rfl (by omega) (by omega) (kfI_get (by omega) (by omega)) dX4_wants_8 rfl ?_
  refine x_iconst C 10 dX4_wants_9 rfl ?_
  refine x_icmp_ne C 25 13 dX4_wants_10 (by omega) (by omega) (by decide) rfl (fun h10 => ?_) (fun h10 => ?_)
  ·
    refine x_iconst C 26 dX4_wants_25 rfl ?_
    refine x_iret C dX4_wants_26 rfl rfl ⟨by omega, by omega⟩ ?_
    exact kP_e (by simp [pWants, *, bz])
  ·
    refine x_aload_n C 14 dX4_wants_13 rfl rfl rfl ?_
    refine x_iload_n C 15 dX4_wants_14 rfl rfl ?_
    refine x_callV1 C 18 (ct_X4_isVisible hG hT hw (by omega) (by assumption)) v_X4_68 hT.o rfl dX4_wants_15 rfl (by decide) (by decide) (by omega) (Nat.le_of_ble_eq_true rfl) (kP_k ?_)
    refine x_ifb_eq C 25 21 dX4_wants_18 (by decide) rfl (fun h18 => ?_) (fun h18 => ?_)
    ·
      refine x_iconst C 26 dX4_wants_25 rfl ?_
      refine x_iret C dX4_wants_26 rfl rfl ⟨by omega, by omega⟩ ?_
      exact kP_e (by simp [pWants, *, bz])
    ·
      refine x_iconst C 22 dX4_wants_21 rfl ?_
      refine x_goto C 26 dX4_wants_22 (by decide) ?_
      refine x_iret C dX4_wants_26 rfl rfl ⟨by omega, by omega⟩ ?_
      exact kP_e (by simp [pWants, *, bz])
theorem ct_X4_isStronger {l : Launch} {G : Gh} (hG : kG G) {m : Mem} {b : Nat} {ad : Nat → Nat} {n : Int} {w : Wn} {ld tl at' ft lt : Int} {a0 a6 a7 a8 a9 a10 a12 a13 a17 a19 : Int → Int} {hh : Int64} (hT : TR m b ad n w ld tl at' ft lt a0 a6 a7 a8 a9 a10 a12 a13 a17 a19 hh) (hW : WF a0 n w) (hPl : PlOK a6 a0 n w) {p s : Int} (hp : 0 ≤ p ∧ p < n) (hs : 0 ≤ s ∧ s < 8) : kM l G yX4_isStronger cX4_isStronger 6 (Option.some FieldType.boolean) 3 0 0 [.ref b, kI p, kI s] m (kP (kI (bz (pStr a0 n w p s))) m) := by
  refine kM.of hG (by decide +kernel) 3 rfl fun κ C => ?_
  have hn := hW.n
  have hf := hW.p hp.1 hp.2
  have fin : ∀ i : Int, (i = n ∨ (i ≤ n ∧ (pPl a0 n w p s && pAll (pStrQ a0 p s) i) = false)) → pStr a0 n w p s = (pPl a0 n w p s && pAll (pStrQ a0 p s) i) := by
    intro i hi
    unfold pStr
    rcases hi with rfl | ⟨h1, h2⟩
    · rfl
    · rw [h2]
      cases h : pPl a0 n w p s with
      | false => rfl
      | true => exact pAll_stop (by simpa [h] using h2) h1
  have loop : ∀ (k : Nat) (i : Int) (o5 : Option Value), klo [some (.ref b), some (kI p), some (kI s), some (kI (bz (pPl a0 n w p s && pAll (pStrQ a0 p s) i))), some (kI i), o5] 3 = true → 0 ≤ i → i ≤ n → (n - i).toNat < k → kX κ m [some (.ref b), some (kI p), some (kI s), some (kI (bz (pPl a0 n w p s && pAll (pStrQ a0 p s) i))), some (kI i), o5] 0 0 15 [] := by
    intro k
    induction k with
    | zero => intros; omega
    | succ k ih =>
      intro i o5 ho5 h0 h1 h2
      have hs1 : pAll (pStrQ a0 p s) (i + 1) = (pAll (pStrQ a0 p s) i && pStrQ a0 p s i) := pAll_s _ h0
      have nxt : ∀ (bb : Bool) (o : Option Value), bb = (pPl a0 n w p s && pAll (pStrQ a0 p s) (i + 1)) → i < n → kX κ m [some (.ref b), some (kI p), some (kI s), some (kI (bz bb)), some (kI (i + 1)), o] 0 0 15 [] := by
        intro bb o hbb hi
        rw [hbb]
        exact ih (i + 1) _ rfl (by omega) (by omega) (by omega)
      have c74 : i < n → (pPl a0 n w p s && pAll (pStrQ a0 p s) i) = true → ∀ bb : Bool, bb = pCl a0 p s i → kX κ m [some (.ref b), some (kI p), some (kI s), some (kI (bz (pPl a0 n w p s && pAll (pStrQ a0 p s) i))), some (kI i), o5] 0 0 74 [kI (bz bb)] := by
        intro hi htr bb hbb
        have hfi := hW.p h0 hi
        refine x_istore C 76 dX4_isStronger_74 rfl rfl rfl ?_
        refine x_iload C 78 dX4_isStronger_76 rfl rfl ?_
        refine x_ifb_eq C 103 81 dX4_isStronger_78 (by decide) rfl (fun h78 => ?_) (fun h78 => ?_)
        ·
          refine x_iconst C 104 dX4_isStronger_103 rfl ?_
          refine x_goto C 108 dX4_isStronger_104 (by decide) ?_
          refine x_istore_n C 109 3 rfl dX4_isStronger_108 rfl rfl rfl ?_
          refine x_iinc C 112 dX4_isStronger_109 rfl rfl rfl ?_
          refine x_goto C 15 dX4_isStronger_112 (by decide) ?_
          first | (refine nxt true _ ?_ (by omega); rw [hs1, ← Bool.and_assoc, htr]; simp only [pStrQ, ← hbb, h78]; simp; done) | (refine nxt true _ ?_ (by omega); rw [hs1, ← Bool.and_assoc, htr]; simp only [pStrQ, ← hbb, h78]; simp; omega) | (refine nxt false _ ?_ (by omega); rw [hs1, ← Bool.and_assoc, htr]; simp only [pStrQ, ← hbb, h78]; simp; omega)
        ·
          refine x_aload_n C 82 dX4_isStronger_81 rfl rfl rfl ?_
          refine x_getf C 85 f_X4_7_4 hT.o rfl dX4_isStronger_82 rfl ?_
          refine x_bipush C 87 dX4_isStronger_85 (by decide) rfl ?_
          refine x_iload C 89 dX4_isStronger_87 rfl rfl ?_
          refine x_iadd C 90 dX4_isStronger_89 rfl ?_
          refine x_iald C 91 hT.a0 (by decide) rfl (by omega) (by omega) (kfI_get (by omega) (by omega)) dX4_isStronger_90 rfl ?_
          refine x_aload_n C 92 dX4_isStronger_91 rfl rfl rfl ?_
          refine x_getf C 95 f_X4_7_4 hT.o rfl dX4_isStronger_92 rfl ?_
          refine x_bipush C 97 dX4_isStronger_95 (by decide) rfl ?_
          refine x_iload_n C 98 dX4_isStronger_97 rfl rfl ?_
          refine x_iadd C 99 dX4_isStronger_98 rfl ?_
          refine x_iald C 100 hT.a0 (by decide) rfl (by omega) (by omega) (kfI_get (by omega) (by omega)) dX4_isStronger_99 rfl ?_
          refine x_icmp_ge C 107 103 dX4_isStronger_100 (by omega) (by omega) (by decide) rfl (fun h100 => ?_) (fun h100 => ?_)
          ·
            refine x_iconst C 108 dX4_isStronger_107 rfl ?_
            refine x_istore_n C 109 3 rfl dX4_isStronger_108 rfl rfl rfl ?_
            refine x_iinc C 112 dX4_isStronger_109 rfl rfl rfl ?_
            refine x_goto C 15 dX4_isStronger_112 (by decide) ?_
            first | (refine nxt true _ ?_ (by omega); rw [hs1, ← Bool.and_assoc, htr]; simp only [pStrQ, ← hbb, h78]; simp; done) | (refine nxt true _ ?_ (by omega); rw [hs1, ← Bool.and_assoc, htr]; simp only [pStrQ, ← hbb, h78]; simp; omega) | (refine nxt false _ ?_ (by omega); rw [hs1, ← Bool.and_assoc, htr]; simp only [pStrQ, ← hbb, h78]; simp; omega)
          ·
            refine x_iconst C 104 dX4_isStronger_103 rfl ?_
            refine x_goto C 108 dX4_isStronger_104 (by decide) ?_
            refine x_istore_n C 109 3 rfl dX4_isStronger_108 rfl rfl rfl ?_
            refine x_iinc C 112 dX4_isStronger_109 rfl rfl rfl ?_
            refine x_goto C 15 dX4_isStronger_112 (by decide) ?_
            first | (refine nxt true _ ?_ (by omega); rw [hs1, ← Bool.and_assoc, htr]; simp only [pStrQ, ← hbb, h78]; simp; done) | (refine nxt true _ ?_ (by omega); rw [hs1, ← Bool.and_assoc, htr]; simp only [pStrQ, ← hbb, h78]; simp; omega) | (refine nxt false _ ?_ (by omega); rw [hs1, ← Bool.and_assoc, htr]; simp only [pStrQ, ← hbb, h78]; simp; omega)
      refine x_iload C 17 dX4_isStronger_15 rfl rfl ?_
      refine x_aload_n C 18 dX4_isStronger_17 rfl rfl rfl ?_
      refine x_getf C 21 f_X4_48_4 hT.o rfl dX4_isStronger_18 rfl ?_
      refine x_icmp_ge C 115 24 dX4_isStronger_21 (by omega) (by omega) (by decide) rfl (fun h21 => ?_) (fun h21 => ?_)
      ·
        exact x_iload_n C 116 dX4_isStronger_115 rfl rfl (x_iret C dX4_isStronger_116 rfl (narrow_bz _) ⟨by omega, by omega⟩ (kP_e (congrArg bz (fin i (by first | exact Or.inl (by omega) | exact Or.inr ⟨by omega, by assumption⟩)))))
      ·
        refine x_iload_n C 25 dX4_isStronger_24 rfl rfl ?_
        refine x_ifb_eq C 115 28 dX4_isStronger_25 (by decide) rfl (fun h25 => ?_) (fun h25 => ?_)
        ·
          exact x_iload_n C 116 dX4_isStronger_115 rfl rfl (x_iret C dX4_isStronger_116 rfl (narrow_bz _) ⟨by omega, by omega⟩ (kP_e (congrArg bz (fin i (by first | exact Or.inl (by omega) | exact Or.inr ⟨by omega, by assumption⟩)))))
        ·
          have hfi := hW.p h0 (by omega)
          refine x_iload C 30 dX4_isStronger_28 rfl rfl ?_
          refine x_iload_n C 31 dX4_isStronger_30 rfl rfl ?_
          refine x_icmp_eq C 73 34 dX4_isStronger_31 (by omega) (by omega) (by decide) rfl (fun h31 => ?_) (fun h31 => ?_)
          ·
            refine x_iconst C 74 dX4_isStronger_73 rfl ?_
            first | (refine c74 (by omega) (by assumption) true ?_; simp [pCl, *]; done) | (refine c74 (by omega) (by assumption) false ?_; simp [pCl, *]; done)
          ·
            refine x_aload_n C 35 dX4_isStronger_34 rfl rfl rfl ?_
            refine x_getf C 38 f_X4_7_4 hT.o rfl dX4_isStronger_35 rfl ?_
            refine x_bipush C 40 dX4_isStronger_38 (by decide) rfl ?_
            refine x_iload C 42 dX4_isStronger_40 rfl rfl ?_
            refine x_iadd C 43 dX4_isStronger_42 rfl ?_
            refine x_iald C 44 hT.a0 (by decide) rfl (by omega) (by omega) (kfI_get (by omega) (by omega)) dX4_isStronger_43 rfl ?_
            refine x_iconst C 45 dX4_isStronger_44 rfl ?_
            refine x_icmp_eq C 73 48 dX4_isStronger_45 (by omega) (by omega) (by decide) rfl (fun h45 => ?_) (fun h45 => ?_)
            ·
              refine x_iconst C 74 dX4_isStronger_73 rfl ?_
              first | (refine c74 (by omega) (by assumption) true ?_; simp [pCl, *]; done) | (refine c74 (by omega) (by assumption) false ?_; simp [pCl, *]; done)
            ·
              refine x_aload_n C 49 dX4_isStronger_48 rfl rfl rfl ?_
              refine x_iload_n C 50 dX4_isStronger_49 rfl rfl ?_
              refine x_iload_n C 51 dX4_isStronger_50 rfl rfl ?_
              refine x_iload C 53 dX4_isStronger_51 rfl rfl ?_
              refine x_aload_n C 54 dX4_isStronger_53 rfl rfl rfl ?_
              refine x_getf C 57 f_X4_7_4 hT.o rfl dX4_isStronger_54 rfl ?_
              refine x_bipush C 59 dX4_isStronger_57 (by decide) rfl ?_
              refine x_iload C 61 dX4_isStronger_59 rfl rfl ?_
              refine x_iadd C 62 dX4_isStronger_61 rfl ?_
              refine x_iald C 63 hT.a0 (by decide) rfl (by omega) (by omega) (kfI_get (by omega) (by omega)) dX4_isStronger_62 rfl ?_
              refine x_callV4 C 66 (ct_X4_meet hG hT (by omega) (by omega) (by omega) (by omega) (by assumption) (by assumption)) v_X4_80 hT.o rfl dX4_isStronger_63 rfl (by decide) (by decide) (by omega) (Nat.le_of_ble_eq_true rfl) (kP_k ?_)
              refine x_ifb_eq C 73 69 dX4_isStronger_66 (by decide) rfl (fun h66 => ?_) (fun h66 => ?_)
              ·
                refine x_iconst C 74 dX4_isStronger_73 rfl ?_
                first | (refine c74 (by omega) (by assumption) true ?_; simp [pCl, *]; done) | (refine c74 (by omega) (by assumption) false ?_; simp [pCl, *]; done)
              ·
                refine x_iconst C 70 dX4_isStronger_69 rfl ?_
                refine x_goto C 74 dX4_isStronger_70 (by decide) ?_
                first | (refine c74 (by omega) (by assumption) true ?_; simp [pCl, *]; done) | (refine c74 (by omega) (by assumption) false ?_; simp [pCl, *]; done)
  refine x_aload_n C 1 dX4_isStronger_0 rfl rfl rfl ?_
  refine x_getf C 4 f_X4_20_4 hT.o rfl dX4_isStronger_1 rfl ?_
  refine x_bipush C 6 dX4_isStronger_4 (by decide) rfl ?_
  refine x_iload_n C 7 dX4_isStronger_6 rfl rfl ?_
  refine x_imul C 8 dX4_isStronger_7 rfl ?_
  refine x_iload_n C 9 dX4_isStronger_8 rfl rfl ?_
  refine x_iadd C 10 dX4_isStronger_9 rfl ?_
  refine x_zald C 11 hT.a6 (by decide) rfl (by omega) (by omega) (kfI_get (by omega) (by omega)) dX4_isStronger_10 rfl ?_
  rw [hPl.at hp hs]
  refine x_istore_n C 12 3 rfl dX4_isStronger_11 rfl rfl rfl ?_
  refine x_iconst C 13 dX4_isStronger_12 rfl ?_
  refine x_istore C 15 dX4_isStronger_13 rfl rfl rfl ?_
  exact kX.eq (loop ((n - 0).toNat + 1) 0 none rfl (by omega) (by omega) (by omega)) (by simp [pAll, pF_0]; rfl) rfl
theorem ct_X4_strongest {l : Launch} {G : Gh} (hG : kG G) {m : Mem} {b : Nat} {ad : Nat → Nat} {n : Int} {w : Wn} {ld tl at' ft lt : Int} {a0 a6 a7 a8 a9 a10 a12 a13 a17 a19 : Int → Int} {hh : Int64} (hT : TR m b ad n w ld tl at' ft lt a0 a6 a7 a8 a9 a10 a12 a13 a17 a19 hh) (hW : WF a0 n w) (hPl : PlOK a6 a0 n w) {p : Int} (hp : 0 ≤ p ∧ p < n) : kM l G yX4_strongest cX4_strongest 3 (Option.some FieldType.int) 4 0 0 [.ref b, kI p] m (kP (kI (pSg a0 n w p)) m) := by
  refine kM.of hG (by decide +kernel) 1 rfl fun κ C => ?_
  have hn := hW.n
  have hw := hW.w
  have hf := hW.p hp.1 hp.2
  have loop : ∀ (k : Nat) (i : Int), pFst (fun s => pWants a0 w p && pStr a0 n w p s) i = -1 → 0 ≤ i → i ≤ 8 → (8 - i).toNat < k → kX κ m [some (.ref b), some (kI p), some (kI i)] 0 0 2 [] := by
    intro k
    induction k with
    | zero => intros; omega
    | succ k ih =>
      intro i hi h0 h1 h2
      refine x_iload_n C 3 dX4_strongest_2 rfl rfl ?_
      refine x_bipush C 5 dX4_strongest_3 (by decide) rfl ?_
      refine x_icmp_ge C 33 8 dX4_strongest_5 (by omega) (by omega) (by decide) rfl (fun h5 => ?_) (fun h5 => ?_)
      ·
        refine x_iconst C 34 dX4_strongest_33 rfl ?_
        refine x_iret C dX4_strongest_34 rfl rfl ⟨by omega, by omega⟩ ?_
        first | exact kP_e (pFst_stop h0 hi (by simp [*]) (by omega)) | exact kP_e (by rw [show i = 8 by omega] at hi; exact hi)
      ·
        refine x_aload_n C 9 dX4_strongest_8 rfl rfl rfl ?_
        refine x_iload_n C 10 dX4_strongest_9 rfl rfl ?_
        refine x_callV1 C 13 (ct_X4_wants hG hT hw (by omega) (by assumption)) v_X4_151 hT.o rfl dX4_strongest_10 rfl (by decide) (by decide) (by omega) (Nat.le_of_ble_eq_true rfl) (kP_k ?_)
        refine x_ifb_eq C 27 16 dX4_strongest_13 (by decide) rfl (fun h13 => ?_) (fun h13 => ?_)
        ·
          refine x_iinc C 30 dX4_strongest_27 rfl rfl rfl ?_
          refine x_goto C 2 dX4_strongest_30 (by decide) ?_
          exact ih (i + 1) (pFst_no h0 hi (by simp [*])) (by omega) (by omega) (by omega)
        ·
          refine x_aload_n C 17 dX4_strongest_16 rfl rfl rfl ?_
          refine x_iload_n C 18 dX4_strongest_17 rfl rfl ?_
          refine x_iload_n C 19 dX4_strongest_18 rfl rfl ?_
          refine x_callV2 C 22 (ct_X4_isStronger hG hT hW hPl (by omega) (by omega)) v_X4_163 hT.o rfl dX4_strongest_19 rfl (by decide) (by decide) (by omega) (Nat.le_of_ble_eq_true rfl) (kP_k ?_)
          refine x_ifb_eq C 27 25 dX4_strongest_22 (by decide) rfl (fun h22 => ?_) (fun h22 => ?_)
          ·
            refine x_iinc C 30 dX4_strongest_27 rfl rfl rfl ?_
            refine x_goto C 2 dX4_strongest_30 (by decide) ?_
            exact ih (i + 1) (pFst_no h0 hi (by simp [*])) (by omega) (by omega) (by omega)
          ·
            refine x_iload_n C 26 dX4_strongest_25 rfl rfl ?_
            refine x_iret C dX4_strongest_26 rfl rfl ⟨by omega, by omega⟩ ?_
            first | exact kP_e (pFst_stop h0 hi (by simp [*]) (by omega)) | exact kP_e (by rw [show i = 8 by omega] at hi; exact hi)
  refine x_iconst C 1 dX4_strongest_0 rfl ?_
  refine x_istore_n C 2 2 rfl dX4_strongest_1 rfl rfl rfl ?_
  exact loop 9 0 rfl (by omega) (by omega) (by omega)
theorem ct_X4_places {l : Launch} {G : Gh} (hG : kG G) {m : Mem} {b : Nat} {ad : Nat → Nat} {n : Int} {w : Wn} {ld tl at' ft lt : Int} {a0 a6 a7 a8 a9 a10 a12 a13 a17 a19 : Int → Int} {hh : Int64} (hT : TR m b ad n w ld tl at' ft lt a0 a6 a7 a8 a9 a10 a12 a13 a17 a19 hh) (hW : WF a0 n w) (hPl : PlOK a6 a0 n w) : kM l G yX4_places cX4_places 3 (Option.some FieldType.int) 2 0 0 [.ref b] m (kP (kI (pPlaces a0 n w)) m) := by
  refine kM.of hG (by decide +kernel) 2 rfl fun κ C => ?_
  have hn := hW.n
  have loop : ∀ (k : Nat) (i : Int), 0 ≤ i → i ≤ n → (n - i).toNat < k → kX κ m [some (.ref b), some (kI (pF 0 (fun p c => c + pOf a0 n w p) i)), some (kI i)] 0 0 4 [] := by
    intro k
    induction k with
    | zero => intro i h0 h1 h2; omega
    | succ k ih =>
      intro i h0 h1 h2
      refine x_iload_n C 5 dX4_places_4 rfl rfl ?_
      refine x_aload_n C 6 dX4_places_5 rfl rfl rfl ?_
      refine x_getf C 9 f_X4_48_4 hT.o rfl dX4_places_6 rfl ?_
      refine x_icmp_ge C 26 12 dX4_places_9 (by omega) (by omega) (by decide) rfl (fun h9 => ?_) (fun h9 => ?_)
      ·
        refine x_iload_n C 27 dX4_places_26 rfl rfl ?_
        refine x_iret C dX4_places_27 rfl rfl ⟨by omega, by omega⟩ ?_
        exact kP_e (by rw [show i = n by omega]; rfl)
      ·
        refine x_iload_n C 13 dX4_places_12 rfl rfl ?_
        refine x_aload_n C 14 dX4_places_13 rfl rfl rfl ?_
        refine x_iload_n C 15 dX4_places_14 rfl rfl ?_
        refine x_callV1 C 18 (ct_X4_placesOf hG hT hW hPl (by omega)) v_X4_112 hT.o rfl dX4_places_15 rfl (by decide) (by decide) (by omega) (Nat.le_of_ble_eq_true rfl) (kP_k ?_)
        refine x_iadd C 19 dX4_places_18 rfl ?_
        refine x_istore_n C 20 1 rfl dX4_places_19 rfl rfl rfl ?_
        refine x_iinc C 23 dX4_places_20 rfl rfl rfl ?_
        refine x_goto C 4 dX4_places_23 (by decide) ?_
        refine kX.eq (ih (i + 1) (by omega) (by omega) (by omega)) ?_ rfl
        rw [pF_s _ _ h0]
        rfl
  refine x_iconst C 1 dX4_places_0 rfl ?_
  refine x_istore_n C 2 1 rfl dX4_places_1 rfl rfl rfl ?_
  refine x_iconst C 3 dX4_places_2 rfl ?_
  refine x_istore_n C 4 2 rfl dX4_places_3 rfl rfl rfl ?_
  exact loop ((n - 0).toNat + 1) 0 (by omega) (by omega) (by omega)
theorem ct_X4_pairs {l : Launch} {G : Gh} (hG : kG G) {m : Mem} {b : Nat} {ad : Nat → Nat} {n : Int} {w : Wn} {ld tl at' ft lt : Int} {a0 a6 a7 a8 a9 a10 a12 a13 a17 a19 : Int → Int} {hh : Int64} (hT : TR m b ad n w ld tl at' ft lt a0 a6 a7 a8 a9 a10 a12 a13 a17 a19 hh) (hW : WF a0 n w) (hPl : PlOK a6 a0 n w) : kM l G yX4_pairs cX4_pairs 3 (Option.some FieldType.int) 4 0 0 [.ref b] m (kP (kI (pPairs a0 n w)) m) := by
  refine kM.of hG (by decide +kernel) 2 rfl fun κ C => ?_
  have hn := hW.n
  have loop : ∀ (k : Nat) (i : Int), 0 ≤ i → i ≤ 8 * n → (8 * n - i).toNat < k → kX κ m [some (.ref b), some (kI (pPairN a0 n w i)), some (kI i)] 0 0 4 [] := by
    intro k
    induction k with
    | zero => intro i h0 h1 h2; omega
    | succ k ih =>
      intro i h0 h1 h2
      have hb := pPairN_b a0 n w h0 (by omega) hn.2 hn.1
      have hs1 : pPairN a0 n w (i + 1) = pPairN a0 n w i + if pPl a0 n w (i / 8) (i % 8) = true then pMs a0 n w (i / 8) (i % 8) else 0 := pF_s _ _ h0
      refine x_iload_n C 5 dX4_pairs_4 rfl rfl ?_
      refine x_bipush C 7 dX4_pairs_5 (by decide) rfl ?_
      refine x_aload_n C 8 dX4_pairs_7 rfl rfl rfl ?_
      refine x_getf C 11 f_X4_48_4 hT.o rfl dX4_pairs_8 rfl ?_
      refine x_imul C 12 dX4_pairs_11 rfl ?_
      refine x_icmp_ge C 49 15 dX4_pairs_12 (by omega) (by omega) (by decide) rfl (fun h12 => ?_) (fun h12 => ?_)
      ·
        refine x_iload_n C 50 dX4_pairs_49 rfl rfl ?_
        refine x_iconst C 51 dX4_pairs_50 rfl ?_
        refine x_idiv C 52 dX4_pairs_51 (by omega) (by omega) rfl ?_
        refine x_iret C dX4_pairs_52 rfl rfl ⟨by omega, by omega⟩ ?_
        exact kP_e (by rw [show i = 8 * n by omega]; rfl)
      ·
        refine x_iload_n C 16 dX4_pairs_15 rfl rfl ?_
        refine x_aload_n C 17 dX4_pairs_16 rfl rfl rfl ?_
        refine x_getf C 20 f_X4_20_4 hT.o rfl dX4_pairs_17 rfl ?_
        refine x_iload_n C 21 dX4_pairs_20 rfl rfl ?_
        refine x_zald C 22 hT.a6 (by decide) rfl (by omega) (by omega) (kfI_get (by omega) (by omega)) dX4_pairs_21 rfl ?_
        rw [hPl i h0 (by omega)]
        first | refine x_ifb_eq C 40 25 dX4_pairs_22 (by decide) rfl (fun h22 => ?_) (fun h22 => ?_) | refine x_if_eq C 40 25 dX4_pairs_22 (by omega) (by decide) rfl (fun h22 => ?_) (fun h22 => ?_)
        ·
          refine x_iconst C 41 dX4_pairs_40 rfl ?_
          refine x_iadd C 42 dX4_pairs_41 rfl ?_
          refine x_istore_n C 43 1 rfl dX4_pairs_42 rfl rfl rfl ?_
          refine x_iinc C 46 dX4_pairs_43 rfl rfl rfl ?_
          refine x_goto C 4 dX4_pairs_46 (by decide) ?_
          refine kX.eq (ih (i + 1) (by omega) (by omega) (by omega)) ?_ rfl
          rw [hs1]
          simp [*]
        ·
          refine x_aload_n C 26 dX4_pairs_25 rfl rfl rfl ?_
          refine x_iload_n C 27 dX4_pairs_26 rfl rfl ?_
          refine x_bipush C 29 dX4_pairs_27 (by decide) rfl ?_
          refine x_idiv C 30 dX4_pairs_29 (by omega) (by omega) rfl ?_
          refine x_iload_n C 31 dX4_pairs_30 rfl rfl ?_
          refine x_bipush C 33 dX4_pairs_31 (by decide) rfl ?_
          refine x_irem C 34 dX4_pairs_33 (by omega) (by omega) rfl ?_
          refine x_callV2 C 37 (ct_X4_meets hG hT hW hPl (by omega) (by omega)) v_X4_135 hT.o rfl dX4_pairs_34 rfl (by decide) (by decide) (by omega) (Nat.le_of_ble_eq_true rfl) (kP_k ?_)
          refine x_goto C 41 dX4_pairs_37 (by decide) ?_
          refine x_iadd C 42 dX4_pairs_41 rfl ?_
          refine x_istore_n C 43 1 rfl dX4_pairs_42 rfl rfl rfl ?_
          refine x_iinc C 46 dX4_pairs_43 rfl rfl rfl ?_
          refine x_goto C 4 dX4_pairs_46 (by decide) ?_
          refine kX.eq (ih (i + 1) (by omega) (by omega) (by omega)) ?_ rfl
          rw [hs1]
          simp [*]
  refine x_iconst C 1 dX4_pairs_0 rfl ?_
  refine x_istore_n C 2 1 rfl dX4_pairs_1 rfl rfl rfl ?_
  refine x_iconst C 3 dX4_pairs_2 rfl ?_
  refine x_istore_n C 4 2 rfl dX4_pairs_3 rfl rfl rfl ?_
  exact loop ((8 * n - 0).toNat + 1) 0 (by omega) (by omega) (by omega)
theorem ct_X4_priorities {l : Launch} {G : Gh} (hG : kG G) {m : Mem} {b : Nat} {ad : Nat → Nat} {n : Int} {w : Wn} {ld tl at' ft lt : Int} {a0 a6 a7 a8 a9 a10 a12 a13 a17 a19 : Int → Int} {hh : Int64} (hT : TR m b ad n w ld tl at' ft lt a0 a6 a7 a8 a9 a10 a12 a13 a17 a19 hh) (hW : WF a0 n w) : kM l G yX4_priorities cX4_priorities 3 (Option.some FieldType.int) 1 0 0 [.ref b] m (kP (kI (pPrio a0 n)) m) := by
  refine kM.of hG (by decide +kernel) 2 rfl fun κ C => ?_
  have hn := hW.n
  have loop : ∀ (k : Nat) (i : Int), 0 ≤ i → i ≤ n → (n - i).toNat < k → kX κ m [some (.ref b), some (kI (pF 0 (fun p c => c + if a0 (120 + p) ≠ -1 then a0 (80 + p) else 0) i)), some (kI i)] 0 0 4 [] := by
    intro k
    induction k with
    | zero => intro i h0 h1 h2; omega
    | succ k ih =>
      intro i h0 h1 h2
      refine x_iload_n C 5 dX4_priorities_4 rfl rfl ?_
      refine x_aload_n C 6 dX4_priorities_5 rfl rfl rfl ?_
      refine x_getf C 9 f_X4_48_4 hT.o rfl dX4_priorities_6 rfl ?_
      refine x_icmp_ge C 47 12 dX4_priorities_9 (by omega) (by omega) (by decide) rfl (fun h9 => ?_) (fun h9 => ?_)
      ·
        refine x_iload_n C 48 dX4_priorities_47 rfl rfl ?_
        refine x_iret C dX4_priorities_48 rfl rfl ⟨by omega, by omega⟩ ?_
        exact kP_e (by rw [show i = n by omega]; rfl)
      ·
        have hfi := hW.p h0 (by omega)
        refine x_iload_n C 13 dX4_priorities_12 rfl rfl ?_
        refine x_aload_n C 14 dX4_priorities_13 rfl rfl rfl ?_
        refine x_getf C 17 f_X4_7_4 hT.o rfl dX4_priorities_14 rfl ?_
        refine x_bipush C 19 dX4_priorities_17 (by decide) rfl ?_
        refine x_iload_n C 20 dX4_priorities_19 rfl rfl ?_
        refine x_iadd C 21 dX4_priorities_20 rfl ?_
        refine x_iald C 22 hT.a0 (by decide) rfl (by omega) (by omega) (kfI_get (by omega) (by omega)) dX4_priorities_21 rfl ?_
        refine x_iconst C 23 dX4_priorities_22 rfl ?_
        refine x_icmp_eq C 38 26 dX4_priorities_23 (by omega) (by omega) (by decide) rfl (fun h23 => ?_) (fun h23 => ?_)
        ·
          refine x_iconst C 39 dX4_priorities_38 rfl ?_
          refine x_iadd C 40 dX4_priorities_39 rfl ?_
          refine x_istore_n C 41 1 rfl dX4_priorities_40 rfl rfl rfl ?_
          refine x_iinc C 44 dX4_priorities_41 rfl rfl rfl ?_
          refine x_goto C 4 dX4_priorities_44 (by decide) ?_
          refine kX.eq (ih (i + 1) (by omega) (by omega) (by omega)) ?_ rfl
          rw [pF_s _ _ h0]
          simp [*]
        ·
          refine x_aload_n C 27 dX4_priorities_26 rfl rfl rfl ?_
          refine x_getf C 30 f_X4_7_4 hT.o rfl dX4_priorities_27 rfl ?_
          refine x_bipush C 32 dX4_priorities_30 (by decide) rfl ?_
          refine x_iload_n C 33 dX4_priorities_32 rfl rfl ?_
          refine x_iadd C 34 dX4_priorities_33 rfl ?_
          refine x_iald C 35 hT.a0 (by decide) rfl (by omega) (by omega) (kfI_get (by omega) (by omega)) dX4_priorities_34 rfl ?_
          refine x_goto C 39 dX4_priorities_35 (by decide) ?_
          refine x_iadd C 40 dX4_priorities_39 rfl ?_
          refine x_istore_n C 41 1 rfl dX4_priorities_40 rfl rfl rfl ?_
          refine x_iinc C 44 dX4_priorities_41 rfl rfl rfl ?_
          refine x_goto C 4 dX4_priorities_44 (by decide) ?_
          refine kX.eq (ih (i + 1) (by omega) (by omega) (by omega)) ?_ rfl
          rw [pF_s _ _ h0]
          simp [*]
  refine x_iconst C 1 dX4_priorities_0 rfl ?_
  refine x_istore_n C 2 1 rfl dX4_priorities_1 rfl rfl rfl ?_
  refine x_iconst C 3 dX4_priorities_2 rfl ?_
  refine x_istore_n C 4 2 rfl dX4_priorities_3 rfl rfl rfl ?_
  exact loop ((n - 0).toNat + 1) 0 (by omega) (by omega) (by omega)
theorem ct_X4_pushing {l : Launch} {G : Gh} (hG : kG G) {m : Mem} {b : Nat} {ad : Nat → Nat} {n : Int} {w : Wn} {ld tl at' ft lt : Int} {a0 a6 a7 a8 a9 a10 a12 a13 a17 a19 : Int → Int} {hh : Int64} (hT : TR m b ad n w ld tl at' ft lt a0 a6 a7 a8 a9 a10 a12 a13 a17 a19 hh) (hW : WF a0 n w) (hPl : PlOK a6 a0 n w) : kM l G yX4_pushing cX4_pushing 3 (Option.some FieldType.int) 5 0 0 [.ref b] m (kP (kI (pPushing a0 n w)) m) := by
  refine kM.of hG (by decide +kernel) 2 rfl fun κ C => ?_
  have hn := hW.n
  have loop : ∀ (k : Nat) (i : Int), 0 ≤ i → i ≤ n → (n - i).toNat < k → kX κ m [some (.ref b), some (kI (pCnt (fun p => decide (pSg a0 n w p ≠ -1)) i)), some (kI i)] 0 0 4 [] := by
    intro k
    induction k with
    | zero => intro i h0 h1 h2; omega
    | succ k ih =>
      intro i h0 h1 h2
      have hsg : pSg a0 n w i = -1 ∨ _ := pFst_b (by omega)
      have hsg : -1 ≤ pSg a0 n w i ∧ pSg a0 n w i ≤ 8 := by unfold pSg at hsg ⊢; omega
      refine x_iload_n C 5 dX4_pushing_4 rfl rfl ?_
      refine x_aload_n C 6 dX4_pushing_5 rfl rfl rfl ?_
      refine x_getf C 9 f_X4_48_4 hT.o rfl dX4_pushing_6 rfl ?_
      refine x_icmp_ge C 35 12 dX4_pushing_9 (by omega) (by omega) (by decide) rfl (fun h9 => ?_) (fun h9 => ?_)
      ·
        refine x_iload_n C 36 dX4_pushing_35 rfl rfl ?_
        refine x_iret C dX4_pushing_36 rfl rfl ⟨by omega, by omega⟩ ?_
        exact kP_e (by rw [show i = n by omega]; rfl)
      ·
        refine x_iload_n C 13 dX4_pushing_12 rfl rfl ?_
        refine x_aload_n C 14 dX4_pushing_13 rfl rfl rfl ?_
        refine x_iload_n C 15 dX4_pushing_14 rfl rfl ?_
        refine x_callV1 C 18 (ct_X4_strongest hG hT hW hPl (by omega)) v_X4_166 hT.o rfl dX4_pushing_15 rfl (by decide) (by decide) (by omega) (Nat.le_of_ble_eq_true rfl) (kP_k ?_)
        refine x_iconst C 19 dX4_pushing_18 rfl ?_
        refine x_icmp_eq C 26 22 dX4_pushing_19 (by omega) (by omega) (by decide) rfl (fun h19 => ?_) (fun h19 => ?_)
        ·
          refine x_iconst C 27 dX4_pushing_26 rfl ?_
          refine x_iadd C 28 dX4_pushing_27 rfl ?_
          refine x_istore_n C 29 1 rfl dX4_pushing_28 rfl rfl rfl ?_
          refine x_iinc C 32 dX4_pushing_29 rfl rfl rfl ?_
          refine x_goto C 4 dX4_pushing_32 (by decide) ?_
          refine kX.eq (ih (i + 1) (by omega) (by omega) (by omega)) ?_ rfl
          rw [pCnt_s _ h0]
          simp [*, bz]
        ·
          refine x_iconst C 23 dX4_pushing_22 rfl ?_
          refine x_goto C 27 dX4_pushing_23 (by decide) ?_
          refine x_iadd C 28 dX4_pushing_27 rfl ?_
          refine x_istore_n C 29 1 rfl dX4_pushing_28 rfl rfl rfl ?_
          refine x_iinc C 32 dX4_pushing_29 rfl rfl rfl ?_
          refine x_goto C 4 dX4_pushing_32 (by decide) ?_
          refine kX.eq (ih (i + 1) (by omega) (by omega) (by omega)) ?_ rfl
          rw [pCnt_s _ h0]
          simp [*, bz]
  refine x_iconst C 1 dX4_pushing_0 rfl ?_
  refine x_istore_n C 2 1 rfl dX4_pushing_1 rfl rfl rfl ?_
  refine x_iconst C 3 dX4_pushing_2 rfl ?_
  refine x_istore_n C 4 2 rfl dX4_pushing_3 rfl rfl rfl ?_
  exact loop ((n - 0).toNat + 1) 0 (by omega) (by omega) (by omega)
theorem ct_X4_number {l : Launch} {G : Gh} (hG : kG G) {m : Mem} {b : Nat} {ad : Nat → Nat} {n : Int} {w : Wn} {ld tl at' ft lt : Int} {a0 a6 a7 a8 a9 a10 a12 a13 a17 a19 : Int → Int} {hh : Int64} (hT : TR m b ad n w ld tl at' ft lt a0 a6 a7 a8 a9 a10 a12 a13 a17 a19 hh) (hW : WF a0 n w) (hPl : PlOK a6 a0 n w) {wh : Int} (hwh : 0 ≤ wh ∧ wh ≤ 12) : kM l G yX4_number cX4_number 2 (Option.some FieldType.int) 6 0 0 [.ref b, kI wh] m (kP (kI (pNum a0 n w ld tl wh)) m) := by
  refine kM.of hG (by decide +kernel) 0 rfl fun κ C => ?_
  have hn := hW.n
  have hsb : ∀ p, 0 ≤ p → p < n → -1 ≤ a0 (120 + p) ∧ a0 (120 + p) ≤ 7 := fun p h0 h1 => by have := hW.p h0 h1; omega
  refine x_iload_n C 1 dX4_number_0 rfl rfl ?_
  by_cases h1_0 : wh = 0
  ·
    refine x_tableIn (off := 63) C 64 dX4_number_1 (by omega) (by omega) (by omega) (by rw [h1_0]; rfl) (by decide) ?_
    refine x_aload_n C 65 dX4_number_64 rfl rfl rfl ?_
    refine x_getf C 68 f_X4_48_4 hT.o rfl dX4_number_65 rfl ?_
    refine x_iret C dX4_number_68 rfl rfl ⟨by omega, by omega⟩ ?_
    exact kP_e (by simp [pNum, *])
  by_cases h1_1 : wh = 1
  ·
    refine x_tableIn (off := 68) C 69 dX4_number_1 (by omega) (by omega) (by omega) (by rw [h1_1]; rfl) (by decide) ?_
    refine x_aload_n C 70 dX4_number_69 rfl rfl rfl ?_
    refine x_callV0 C 73 (ct_X4_visible hG hT hW) v_X4_125 hT.o rfl dX4_number_70 rfl (by decide) (by decide) (by omega) (Nat.le_of_ble_eq_true rfl) (kP_k ?_)
    refine x_iret C dX4_number_73 rfl rfl ⟨by omega, by omega⟩ ?_
    exact kP_e (by simp [pNum, *])
  by_cases h1_2 : wh = 2
  ·
    refine x_tableIn (off := 73) C 74 dX4_number_1 (by omega) (by omega) (by omega) (by rw [h1_2]; rfl) (by decide) ?_
    refine x_aload_n C 75 dX4_number_74 rfl rfl rfl ?_
    refine x_callV0 C 78 (ct_X4_places hG hT hW hPl) v_X4_255 hT.o rfl dX4_number_75 rfl (by decide) (by decide) (by omega) (Nat.le_of_ble_eq_true rfl) (kP_k ?_)
    refine x_iret C dX4_number_78 rfl rfl ⟨by omega, by omega⟩ ?_
    exact kP_e (by simp [pNum, *])
  by_cases h1_3 : wh = 3
  ·
    refine x_tableIn (off := 78) C 79 dX4_number_1 (by omega) (by omega) (by omega) (by rw [h1_3]; rfl) (by decide) ?_
    refine x_aload_n C 80 dX4_number_79 rfl rfl rfl ?_
    refine x_callV0 C 83 (ct_X4_pairs hG hT hW hPl) v_X4_258 hT.o rfl dX4_number_80 rfl (by decide) (by decide) (by omega) (Nat.le_of_ble_eq_true rfl) (kP_k ?_)
    refine x_iret C dX4_number_83 rfl rfl ⟨by omega, by omega⟩ ?_
    exact kP_e (by simp [pNum, *])
  by_cases h1_4 : wh = 4
  ·
    refine x_tableIn (off := 83) C 84 dX4_number_1 (by omega) (by omega) (by omega) (by rw [h1_4]; rfl) (by decide) ?_
    refine x_aload_n C 85 dX4_number_84 rfl rfl rfl ?_
    refine x_callV0 C 88 (ct_X4_shown hG hT (by omega) hsb) v_X4_129 hT.o rfl dX4_number_85 rfl (by decide) (by decide) (by omega) (Nat.le_of_ble_eq_true rfl) (kP_k ?_)
    refine x_iret C dX4_number_88 rfl rfl ⟨by omega, by omega⟩ ?_
    exact kP_e (by simp [pNum, *])
  by_cases h1_5 : wh = 5
  ·
    refine x_tableIn (off := 88) C 89 dX4_number_1 (by omega) (by omega) (by omega) (by rw [h1_5]; rfl) (by decide) ?_
    refine x_aload_n C 90 dX4_number_89 rfl rfl rfl ?_
    refine x_callV0 C 93 (ct_X4_priorities hG hT hW) v_X4_261 hT.o rfl dX4_number_90 rfl (by decide) (by decide) (by omega) (Nat.le_of_ble_eq_true rfl) (kP_k ?_)
    refine x_iret C dX4_number_93 rfl rfl ⟨by omega, by omega⟩ ?_
    exact kP_e (by simp [pNum, *])
  by_cases h1_6 : wh = 6
  ·
    refine x_tableIn (off := 93) C 94 dX4_number_1 (by omega) (by omega) (by omega) (by rw [h1_6]; rfl) (by decide) ?_
    refine x_aload_n C 95 dX4_number_94 rfl rfl rfl ?_
    refine x_getf C 98 f_X4_55_4 hT.o rfl dX4_number_95 rfl ?_
    refine x_iret C dX4_number_98 rfl rfl ⟨by omega, by omega⟩ ?_
    exact kP_e (by simp [pNum, *])
  by_cases h1_7 : wh = 7
  ·
    refine x_tableIn (off := 98) C 99 dX4_number_1 (by omega) (by omega) (by omega) (by rw [h1_7]; rfl) (by decide) ?_
    refine x_aload_n C 100 dX4_number_99 rfl rfl rfl ?_
    refine x_getf C 103 f_X4_58_4 hT.o rfl dX4_number_100 rfl ?_
    refine x_iret C dX4_number_103 rfl rfl ⟨by omega, by omega⟩ ?_
    exact kP_e (by simp [pNum, *])
  by_cases h1_8 : wh = 8
  ·
    refine x_tableIn (off := 103) C 104 dX4_number_1 (by omega) (by omega) (by omega) (by rw [h1_8]; rfl) (by decide) ?_
    refine x_aload_n C 105 dX4_number_104 rfl rfl rfl ?_
    refine x_getf C 108 f_X4_13_4 hT.o rfl dX4_number_105 rfl ?_
    refine x_iret C dX4_number_108 rfl rfl ⟨by omega, by omega⟩ ?_
    exact kP_e (by simp [pNum, *])
  by_cases h1_9 : wh = 9
  ·
    refine x_tableIn (off := 108) C 109 dX4_number_1 (by omega) (by omega) (by omega) (by rw [h1_9]; rfl) (by decide) ?_
    refine x_aload_n C 110 dX4_number_109 rfl rfl rfl ?_
    refine x_getf C 113 f_X4_17_4 hT.o rfl dX4_number_110 rfl ?_
    refine x_iret C dX4_number_113 rfl rfl ⟨by omega, by omega⟩ ?_
    exact kP_e (by simp [pNum, *])
  by_cases h1_10 : wh = 10
  ·
    refine x_tableIn (off := 113) C 114 dX4_number_1 (by omega) (by omega) (by omega) (by rw [h1_10]; rfl) (by decide) ?_
    refine x_aload_n C 115 dX4_number_114 rfl rfl rfl ?_
    refine x_getf C 118 f_X4_182_4 hT.o rfl dX4_number_115 rfl ?_
    refine x_iret C dX4_number_118 rfl rfl ⟨by omega, by omega⟩ ?_
    exact kP_e (by simp [pNum, *])
  by_cases h1_11 : wh = 11
  ·
    refine x_tableIn (off := 118) C 119 dX4_number_1 (by omega) (by omega) (by omega) (by rw [h1_11]; rfl) (by decide) ?_
    refine x_aload_n C 120 dX4_number_119 rfl rfl rfl ?_
    refine x_getf C 123 f_X4_189_4 hT.o rfl dX4_number_120 rfl ?_
    refine x_iret C dX4_number_123 rfl rfl ⟨by omega, by omega⟩ ?_
    exact kP_e (by simp [pNum, *])
  refine x_tableOut C 124 dX4_number_1 (by omega) (by omega) (by decide) ?_
  refine x_aload_n C 125 dX4_number_124 rfl rfl rfl ?_
  refine x_callV0 C 128 (ct_X4_pushing hG hT hW hPl) v_X4_264 hT.o rfl dX4_number_125 rfl (by decide) (by decide) (by omega) (Nat.le_of_ble_eq_true rfl) (kP_k ?_)
  refine x_iret C dX4_number_128 rfl rfl ⟨by omega, by omega⟩ ?_
  exact kP_e (by simp [pNum, *])
