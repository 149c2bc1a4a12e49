/-! THE REFERENCE, leaves: contracts of LabelPlacerModel's reading methods. -/
set_option maxRecDepth 100000
set_option maxHeartbeats 1000000
theorem ct_X4_in {l : Launch} {G : Gh} (hG : kG G) {m : Mem} {v a c : Int} (hv : -4611686018427387904 ≤ v ∧ v ≤ 4611686018427387904) (ha : -4611686018427387904 ≤ a ∧ a ≤ 4611686018427387904) (hc : -4611686018427387904 ≤ c ∧ c ≤ 4611686018427387904) : kM l G yX4_in cX4_in 6 (Option.some FieldType.boolean) 1 0 0 [kL v, kL a, kL c] m (kP (kI (bz (decide (a ≤ v ∧ v ≤ c)))) m) := by
  refine kM.of hG (by decide +kernel) 0 rfl fun κ C => ?_
  refine x_lload_n C 1 dX4_in_0 rfl rfl ?_
  refine x_lload_n C 2 dX4_in_1 rfl rfl ?_
  refine x_lcmp_lt C 17 3 6 dX4_in_2 dX4_in_3 (by omega) (by omega) rfl (by decide) rfl (fun h3 => ?_) (fun h3 => ?_)
  ·
    refine x_iconst C 18 dX4_in_17 rfl ?_
    refine x_iret C dX4_in_18 rfl rfl ⟨by omega, by omega⟩ ?_
    first | exact kP_t (by omega) | exact kP_f (by omega)
  ·
    refine x_lload_n C 7 dX4_in_6 rfl rfl ?_
    refine x_lload C 9 dX4_in_7 rfl rfl ?_
    refine x_lcmp_gt C 17 10 13 dX4_in_9 dX4_in_10 (by omega) (by omega) rfl (by decide) rfl (fun h10 => ?_) (fun h10 => ?_)
    ·
      refine x_iconst C 18 dX4_in_17 rfl ?_
      refine x_iret C dX4_in_18 rfl rfl ⟨by omega, by omega⟩ ?_
      first | exact kP_t (by omega) | exact kP_f (by omega)
    ·
      refine x_iconst C 14 dX4_in_13 rfl ?_
      refine x_goto C 18 dX4_in_14 (by decide) ?_
      refine x_iret C dX4_in_18 rfl rfl ⟨by omega, by omega⟩ ?_
      first | exact kP_t (by omega) | exact kP_f (by omega)
theorem ct_X4_isPoint {l : Launch} {G : Gh} (hG : kG G) {m : Mem} {b : Nat} {ad : Nat → Nat} {n : Int} {w : Wn} {ld tl at' ft lt : Int} {a0 a6 a7 a8 a9 a10 a12 a13 a17 a19 : Int → Int} {hh : Int64} (hT : TR m b ad n w ld tl at' ft lt a0 a6 a7 a8 a9 a10 a12 a13 a17 a19 hh) (hn : 0 ≤ n ∧ n ≤ 20) {p : Int} (hp : -2147483648 ≤ p ∧ p ≤ 2147483647) : kM l G yX4_isPoint cX4_isPoint 2 (Option.some FieldType.boolean) 2 0 0 [.ref b, kI p] m (kP (kI (bz (decide (0 ≤ p ∧ p < n)))) m) := by
  refine kM.of hG (by decide +kernel) 0 rfl fun κ C => ?_
  refine x_iload_n C 1 dX4_isPoint_0 rfl rfl ?_
  refine x_i2l C 2 dX4_isPoint_1 (by first | omega | (have := bz_b _; omega)) rfl ?_
  refine x_lconst0 C 3 dX4_isPoint_2 rfl ?_
  refine x_aload_n C 4 dX4_isPoint_3 rfl rfl rfl ?_
  refine x_getf C 7 f_X4_48_4 hT.o rfl dX4_isPoint_4 rfl ?_
  refine x_iconst C 8 dX4_isPoint_7 rfl ?_
  refine x_isub C 9 dX4_isPoint_8 rfl ?_
  refine x_i2l C 10 dX4_isPoint_9 (by first | omega | (have := bz_b _; omega)) rfl ?_
  refine x_callS3 C 13 (ct_X4_in hG (by omega) (by omega) (by omega)) s_X4_51 dX4_isPoint_10 rfl (by decide) (by decide) (by omega) (Nat.le_of_ble_eq_true rfl) (kP_k ?_)
  refine x_iret C dX4_isPoint_13 rfl (narrow_bz _) ⟨by omega, by omega⟩ (kP_e ?_)
  exact congrArg bz (decide_eq_decide.mpr (by omega))
theorem ct_X4_isVisible {l : Launch} {G : Gh} (hG : kG G) {m : Mem} {b : Nat} {ad : Nat → Nat} {n : Int} {w : Wn} {ld tl at' ft lt : Int} {a0 a6 a7 a8 a9 a10 a12 a13 a17 a19 : Int → Int} {hh : Int64} (hT : TR m b ad n w ld tl at' ft lt a0 a6 a7 a8 a9 a10 a12 a13 a17 a19 hh) (hw : WFw w) {p : Int} (hp : 0 ≤ p ∧ p < 20) (hf : WFp a0 p) : kM l G yX4_isVisible cX4_isVisible 2 (Option.some FieldType.boolean) 2 0 0 [.ref b, kI p] m (kP (kI (bz (pVis a0 w p))) m) := by
  refine kM.of hG (by decide +kernel) 0 rfl fun κ C => ?_
  refine x_aload_n C 1 dX4_isVisible_0 rfl rfl rfl ?_
  refine x_getf C 4 f_X4_7_4 hT.o rfl dX4_isVisible_1 rfl ?_
  refine x_iconst C 5 dX4_isVisible_4 rfl ?_
  refine x_iload_n C 6 dX4_isVisible_5 rfl rfl ?_
  refine x_iadd0 C 7 dX4_isVisible_6 rfl ?_
  refine x_iald C 8 hT.a0 (by decide) rfl (by omega) (by omega) (kfI_get (by omega) (by omega)) dX4_isVisible_7 rfl ?_
  refine x_i2l C 9 dX4_isVisible_8 (by first | omega | (have := bz_b _; omega)) rfl ?_
  refine x_aload_n C 10 dX4_isVisible_9 rfl rfl rfl ?_
  refine x_getf C 13 f_X4_55_4 hT.o rfl dX4_isVisible_10 rfl ?_
  refine x_i2l C 14 dX4_isVisible_13 (by first | omega | (have := bz_b _; omega)) rfl ?_
  refine x_aload_n C 15 dX4_isVisible_14 rfl rfl rfl ?_
  refine x_getf C 18 f_X4_55_4 hT.o rfl dX4_isVisible_15 rfl ?_
  refine x_aload_n C 19 dX4_isVisible_18 rfl rfl rfl ?_
  refine x_getf C 22 f_X4_13_4 hT.o rfl dX4_isVisible_19 rfl ?_
  refine x_iadd C 23 dX4_isVisible_22 rfl ?_
  refine x_iconst C 24 dX4_isVisible_23 rfl ?_
  refine x_isub C 25 dX4_isVisible_24 rfl ?_
  refine x_i2l C 26 dX4_isVisible_25 (by first | omega | (have := bz_b _; omega)) rfl ?_
  refine x_callS3 C 29 (ct_X4_in hG (by omega) (by omega) (by omega)) s_X4_51 dX4_isVisible_26 rfl (by decide) (by decide) (by omega) (Nat.le_of_ble_eq_true rfl) (kP_k ?_)
  refine x_ifd_eq C 69 32 dX4_isVisible_29 (by decide) rfl (fun h29 => ?_) (fun h29 => ?_)
  ·
    refine x_iconst C 70 dX4_isVisible_69 rfl ?_
    refine x_iret C dX4_isVisible_70 rfl rfl ⟨by omega, by omega⟩ ?_
    first | exact kP_e (by rw [show pVis a0 w p = true from by simp [pVis]; omega]; rfl) | exact kP_e (by rw [show pVis a0 w p = false from by simp [pVis]; omega]; rfl)
  ·
    refine x_aload_n C 33 dX4_isVisible_32 rfl rfl rfl ?_
    refine x_getf C 36 f_X4_7_4 hT.o rfl dX4_isVisible_33 rfl ?_
    refine x_bipush C 38 dX4_isVisible_36 (by decide) rfl ?_
    refine x_iload_n C 39 dX4_isVisible_38 rfl rfl ?_
    refine x_iadd C 40 dX4_isVisible_39 rfl ?_
    refine x_iald C 41 hT.a0 (by decide) rfl (by omega) (by omega) (kfI_get (by omega) (by omega)) dX4_isVisible_40 rfl ?_
    refine x_i2l C 42 dX4_isVisible_41 (by first | omega | (have := bz_b _; omega)) rfl ?_
    refine x_aload_n C 43 dX4_isVisible_42 rfl rfl rfl ?_
    refine x_getf C 46 f_X4_58_4 hT.o rfl dX4_isVisible_43 rfl ?_
    refine x_i2l C 47 dX4_isVisible_46 (by first | omega | (have := bz_b _; omega)) rfl ?_
    refine x_aload_n C 48 dX4_isVisible_47 rfl rfl rfl ?_
    refine x_getf C 51 f_X4_58_4 hT.o rfl dX4_isVisible_48 rfl ?_
    refine x_aload_n C 52 dX4_isVisible_51 rfl rfl rfl ?_
    refine x_getf C 55 f_X4_17_4 hT.o rfl dX4_isVisible_52 rfl ?_
    refine x_iadd C 56 dX4_isVisible_55 rfl ?_
    refine x_iconst C 57 dX4_isVisible_56 rfl ?_
    refine x_isub C 58 dX4_isVisible_57 rfl ?_
    refine x_i2l C 59 dX4_isVisible_58 (by first | omega | (have := bz_b _; omega)) rfl ?_
    refine x_callS3 C 62 (ct_X4_in hG (by omega) (by omega) (by omega)) s_X4_51 dX4_isVisible_59 rfl (by decide) (by decide) (by omega) (Nat.le_of_ble_eq_true rfl) (kP_k ?_)
    refine x_ifd_eq C 69 65 dX4_isVisible_62 (by decide) rfl (fun h62 => ?_) (fun h62 => ?_)
    ·
      refine x_iconst C 70 dX4_isVisible_69 rfl ?_
      refine x_iret C dX4_isVisible_70 rfl rfl ⟨by omega, by omega⟩ ?_
      first | exact kP_e (by rw [show pVis a0 w p = true from by simp [pVis]; omega]; rfl) | exact kP_e (by rw [show pVis a0 w p = false from by simp [pVis]; omega]; rfl)
    ·
      refine x_iconst C 66 dX4_isVisible_65 rfl ?_
      refine x_goto C 70 dX4_isVisible_66 (by decide) ?_
      refine x_iret C dX4_isVisible_70 rfl rfl ⟨by omega, by omega⟩ ?_
      first | exact kP_e (by rw [show pVis a0 w p = true from by simp [pVis]; omega]; rfl) | exact kP_e (by rw [show pVis a0 w p = false from by simp [pVis]; omega]; rfl)
theorem ct_X4_left {l : Launch} {G : Gh} (hG : kG G) {m : Mem} {b : Nat} {ad : Nat → Nat} {n : Int} {w : Wn} {ld tl at' ft lt : Int} {a0 a6 a7 a8 a9 a10 a12 a13 a17 a19 : Int → Int} {hh : Int64} (hT : TR m b ad n w ld tl at' ft lt a0 a6 a7 a8 a9 a10 a12 a13 a17 a19 hh) {p s : Int} (hp : 0 ≤ p ∧ p < 20) (hs : 0 ≤ s ∧ s < 8) (hf : WFp a0 p) : kM l G yX4_left cX4_left 4 (Option.some FieldType.int) 1 0 0 [.ref b, kI p, kI s] m (kP (kI (pL a0 p s)) m) := by
  refine kM.of hG (by decide +kernel) 1 rfl fun κ C => ?_
  refine x_aload_n C 1 dX4_left_0 rfl rfl rfl ?_
  refine x_getf C 4 f_X4_7_4 hT.o rfl dX4_left_1 rfl ?_
  refine x_iconst C 5 dX4_left_4 rfl ?_
  refine x_iload_n C 6 dX4_left_5 rfl rfl ?_
  refine x_iadd0 C 7 dX4_left_6 rfl ?_
  refine x_iald C 8 hT.a0 (by decide) rfl (by omega) (by omega) (kfI_get (by omega) (by omega)) dX4_left_7 rfl ?_
  refine x_istore_n C 9 3 rfl dX4_left_8 rfl rfl rfl ?_
  refine x_iload_n C 10 dX4_left_9 rfl rfl ?_
  refine x_iconst C 11 dX4_left_10 rfl ?_
  refine x_icmp_le C 32 14 dX4_left_11 (by omega) (by omega) (by decide) rfl (fun h11 => ?_) (fun h11 => ?_)
  ·
    refine x_iload_n C 33 dX4_left_32 rfl rfl ?_
    refine x_iconst C 34 dX4_left_33 rfl ?_
    refine x_irem C 35 dX4_left_34 (by omega) (by omega) rfl ?_
    refine x_if_ne C 44 38 dX4_left_35 (by omega) (by decide) rfl (fun h35 => ?_) (fun h35 => ?_)
    ·
      refine x_iload_n C 45 dX4_left_44 rfl rfl ?_
      refine x_aload_n C 46 dX4_left_45 rfl rfl rfl ?_
      refine x_getf C 49 f_X4_7_4 hT.o rfl dX4_left_46 rfl ?_
      refine x_bipush C 51 dX4_left_49 (by decide) rfl ?_
      refine x_iload_n C 52 dX4_left_51 rfl rfl ?_
      refine x_iadd C 53 dX4_left_52 rfl ?_
      refine x_iald C 54 hT.a0 (by decide) rfl (by omega) (by omega) (kfI_get (by omega) (by omega)) dX4_left_53 rfl ?_
      refine x_isub C 55 dX4_left_54 rfl ?_
      refine x_iret C dX4_left_55 rfl rfl ⟨by omega, by omega⟩ ?_
      exact kP_e (by unfold pL; repeat' split <;> omega)
    ·
      refine x_iload_n C 39 dX4_left_38 rfl rfl ?_
      refine x_iconst C 40 dX4_left_39 rfl ?_
      refine x_iadd C 41 dX4_left_40 rfl ?_
      refine x_goto C 55 dX4_left_41 (by decide) ?_
      refine x_iret C dX4_left_55 rfl rfl ⟨by omega, by omega⟩ ?_
      exact kP_e (by unfold pL; repeat' split <;> omega)
  ·
    refine x_iload_n C 15 dX4_left_14 rfl rfl ?_
    refine x_aload_n C 16 dX4_left_15 rfl rfl rfl ?_
    refine x_getf C 19 f_X4_7_4 hT.o rfl dX4_left_16 rfl ?_
    refine x_bipush C 21 dX4_left_19 (by decide) rfl ?_
    refine x_iload_n C 22 dX4_left_21 rfl rfl ?_
    refine x_iadd C 23 dX4_left_22 rfl ?_
    refine x_iald C 24 hT.a0 (by decide) rfl (by omega) (by omega) (kfI_get (by omega) (by omega)) dX4_left_23 rfl ?_
    refine x_iconst C 25 dX4_left_24 rfl ?_
    refine x_isub C 26 dX4_left_25 rfl ?_
    refine x_iconst C 27 dX4_left_26 rfl ?_
    refine x_idiv C 28 dX4_left_27 (by omega) (by omega) rfl ?_
    refine x_isub C 29 dX4_left_28 rfl ?_
    refine x_goto C 55 dX4_left_29 (by decide) ?_
    refine x_iret C dX4_left_55 rfl rfl ⟨by omega, by omega⟩ ?_
    exact kP_e (by unfold pL; repeat' split <;> omega)
theorem ct_X4_bottom {l : Launch} {G : Gh} (hG : kG G) {m : Mem} {b : Nat} {ad : Nat → Nat} {n : Int} {w : Wn} {ld tl at' ft lt : Int} {a0 a6 a7 a8 a9 a10 a12 a13 a17 a19 : Int → Int} {hh : Int64} (hT : TR m b ad n w ld tl at' ft lt a0 a6 a7 a8 a9 a10 a12 a13 a17 a19 hh) {p s : Int} (hp : 0 ≤ p ∧ p < 20) (hs : 0 ≤ s ∧ s < 8) (hf : WFp a0 p) : kM l G yX4_bottom cX4_bottom 4 (Option.some FieldType.int) 1 0 0 [.ref b, kI p, kI s] m (kP (kI (pB a0 p s)) m) := by
  refine kM.of hG (by decide +kernel) 1 rfl fun κ C => ?_
  refine x_aload_n C 1 dX4_bottom_0 rfl rfl rfl ?_
  refine x_getf C 4 f_X4_7_4 hT.o rfl dX4_bottom_1 rfl ?_
  refine x_bipush C 6 dX4_bottom_4 (by decide) rfl ?_
  refine x_iload_n C 7 dX4_bottom_6 rfl rfl ?_
  refine x_iadd C 8 dX4_bottom_7 rfl ?_
  refine x_iald C 9 hT.a0 (by decide) rfl (by omega) (by omega) (kfI_get (by omega) (by omega)) dX4_bottom_8 rfl ?_
  refine x_istore_n C 10 3 rfl dX4_bottom_9 rfl rfl rfl ?_
  refine x_iload_n C 11 dX4_bottom_10 rfl rfl ?_
  refine x_iconst C 12 dX4_bottom_11 rfl ?_
  refine x_icmp_eq C 20 15 dX4_bottom_12 (by omega) (by omega) (by decide) rfl (fun h12 => ?_) (fun h12 => ?_)
  ·
    refine x_iload_n C 21 dX4_bottom_20 rfl rfl ?_
    refine x_aload_n C 22 dX4_bottom_21 rfl rfl rfl ?_
    refine x_getf C 25 f_X4_7_4 hT.o rfl dX4_bottom_22 rfl ?_
    refine x_bipush C 27 dX4_bottom_25 (by decide) rfl ?_
    refine x_iload_n C 28 dX4_bottom_27 rfl rfl ?_
    refine x_iadd C 29 dX4_bottom_28 rfl ?_
    refine x_iald C 30 hT.a0 (by decide) rfl (by omega) (by omega) (kfI_get (by omega) (by omega)) dX4_bottom_29 rfl ?_
    refine x_iconst C 31 dX4_bottom_30 rfl ?_
    refine x_isub C 32 dX4_bottom_31 rfl ?_
    refine x_iconst C 33 dX4_bottom_32 rfl ?_
    refine x_idiv C 34 dX4_bottom_33 (by omega) (by omega) rfl ?_
    refine x_isub C 35 dX4_bottom_34 rfl ?_
    refine x_iret C dX4_bottom_35 rfl rfl ⟨by omega, by omega⟩ ?_
    exact kP_e (by unfold pB; repeat' split <;> omega)
  ·
    refine x_iload_n C 16 dX4_bottom_15 rfl rfl ?_
    refine x_iconst C 17 dX4_bottom_16 rfl ?_
    refine x_icmp_ne C 36 20 dX4_bottom_17 (by omega) (by omega) (by decide) rfl (fun h17 => ?_) (fun h17 => ?_)
    ·
      refine x_iload_n C 37 dX4_bottom_36 rfl rfl ?_
      first | refine x_ifb_eq C 51 40 dX4_bottom_37 (by decide) rfl (fun h37 => ?_) (fun h37 => ?_) | refine x_if_eq C 51 40 dX4_bottom_37 (by omega) (by decide) rfl (fun h37 => ?_) (fun h37 => ?_)
      ·
        refine x_iload_n C 52 dX4_bottom_51 rfl rfl ?_
        refine x_iconst C 53 dX4_bottom_52 rfl ?_
        refine x_iadd C 54 dX4_bottom_53 rfl ?_
        refine x_goto C 68 dX4_bottom_54 (by decide) ?_
        refine x_iret C dX4_bottom_68 rfl rfl ⟨by omega, by omega⟩ ?_
        exact kP_e (by unfold pB; repeat' split <;> omega)
      ·
        refine x_iload_n C 41 dX4_bottom_40 rfl rfl ?_
        refine x_iconst C 42 dX4_bottom_41 rfl ?_
        refine x_icmp_eq C 51 45 dX4_bottom_42 (by omega) (by omega) (by decide) rfl (fun h42 => ?_) (fun h42 => ?_)
        ·
          refine x_iload_n C 52 dX4_bottom_51 rfl rfl ?_
          refine x_iconst C 53 dX4_bottom_52 rfl ?_
          refine x_iadd C 54 dX4_bottom_53 rfl ?_
          refine x_goto C 68 dX4_bottom_54 (by decide) ?_
          refine x_iret C dX4_bottom_68 rfl rfl ⟨by omega, by omega⟩ ?_
          exact kP_e (by unfold pB; repeat' split <;> omega)
        ·
          refine x_iload_n C 46 dX4_bottom_45 rfl rfl ?_
          refine x_bipush C 48 dX4_bottom_46 (by decide) rfl ?_
          refine x_icmp_ne C 57 51 dX4_bottom_48 (by omega) (by omega) (by decide) rfl (fun h48 => ?_) (fun h48 => ?_)
          ·
            refine x_iload_n C 58 dX4_bottom_57 rfl rfl ?_
            refine x_aload_n C 59 dX4_bottom_58 rfl rfl rfl ?_
            refine x_getf C 62 f_X4_7_4 hT.o rfl dX4_bottom_59 rfl ?_
            refine x_bipush C 64 dX4_bottom_62 (by decide) rfl ?_
            refine x_iload_n C 65 dX4_bottom_64 rfl rfl ?_
            refine x_iadd C 66 dX4_bottom_65 rfl ?_
            refine x_iald C 67 hT.a0 (by decide) rfl (by omega) (by omega) (kfI_get (by omega) (by omega)) dX4_bottom_66 rfl ?_
            refine x_isub C 68 dX4_bottom_67 rfl ?_
            refine x_iret C dX4_bottom_68 rfl rfl ⟨by omega, by omega⟩ ?_
            exact kP_e (by unfold pB; repeat' split <;> omega)
          ·
            refine x_iload_n C 52 dX4_bottom_51 rfl rfl ?_
            refine x_iconst C 53 dX4_bottom_52 rfl ?_
            refine x_iadd C 54 dX4_bottom_53 rfl ?_
            refine x_goto C 68 dX4_bottom_54 (by decide) ?_
            refine x_iret C dX4_bottom_68 rfl rfl ⟨by omega, by omega⟩ ?_
            exact kP_e (by unfold pB; repeat' split <;> omega)
    ·
      refine x_iload_n C 21 dX4_bottom_20 rfl rfl ?_
      refine x_aload_n C 22 dX4_bottom_21 rfl rfl rfl ?_
      refine x_getf C 25 f_X4_7_4 hT.o rfl dX4_bottom_22 rfl ?_
      refine x_bipush C 27 dX4_bottom_25 (by decide) rfl ?_
      refine x_iload_n C 28 dX4_bottom_27 rfl rfl ?_
      refine x_iadd C 29 dX4_bottom_28 rfl ?_
      refine x_iald C 30 hT.a0 (by decide) rfl (by omega) (by omega) (kfI_get (by omega) (by omega)) dX4_bottom_29 rfl ?_
      refine x_iconst C 31 dX4_bottom_30 rfl ?_
      refine x_isub C 32 dX4_bottom_31 rfl ?_
      refine x_iconst C 33 dX4_bottom_32 rfl ?_
      refine x_idiv C 34 dX4_bottom_33 (by omega) (by omega) rfl ?_
      refine x_isub C 35 dX4_bottom_34 rfl ?_
      refine x_iret C dX4_bottom_35 rfl rfl ⟨by omega, by omega⟩ ?_
      exact kP_e (by unfold pB; repeat' split <;> omega)
theorem ct_X4_covers {l : Launch} {G : Gh} (hG : kG G) {m : Mem} {b : Nat} {ad : Nat → Nat} {n : Int} {w : Wn} {ld tl at' ft lt : Int} {a0 a6 a7 a8 a9 a10 a12 a13 a17 a19 : Int → Int} {hh : Int64} (hT : TR m b ad n w ld tl at' ft lt a0 a6 a7 a8 a9 a10 a12 a13 a17 a19 hh) {p s x y : Int} (hp : 0 ≤ p ∧ p < 20) (hs : 0 ≤ s ∧ s < 8) (hf : WFp a0 p) (hx : 0 ≤ x ∧ x ≤ 199) (hy : 0 ≤ y ∧ y ≤ 199) : kM l G yX4_covers cX4_covers 7 (Option.some FieldType.boolean) 2 0 0 [.ref b, kI p, kI s, kI x, kI y] m (kP (kI (bz (pCov a0 p s x y))) m) := by
  refine kM.of hG (by decide +kernel) 2 rfl fun κ C => ?_
  have hl := pL_b (s := s) hf
  have hb := pB_b (s := s) hf
  refine x_aload_n C 1 dX4_covers_0 rfl rfl rfl ?_
  refine x_iload_n C 2 dX4_covers_1 rfl rfl ?_
  refine x_iload_n C 3 dX4_covers_2 rfl rfl ?_
  refine x_callV2 C 6 (ct_X4_left hG hT (by omega) (by omega) (by assumption)) v_X4_61 hT.o rfl dX4_covers_3 rfl (by decide) (by decide) (by omega) (Nat.le_of_ble_eq_true rfl) (kP_k ?_)
  refine x_istore C 8 dX4_covers_6 rfl rfl rfl ?_
  refine x_aload_n C 9 dX4_covers_8 rfl rfl rfl ?_
  refine x_iload_n C 10 dX4_covers_9 rfl rfl ?_
  refine x_iload_n C 11 dX4_covers_10 rfl rfl ?_
  refine x_callV2 C 14 (ct_X4_bottom hG hT (by omega) (by omega) (by assumption)) v_X4_65 hT.o rfl dX4_covers_11 rfl (by decide) (by decide) (by omega) (Nat.le_of_ble_eq_true rfl) (kP_k ?_)
  refine x_istore C 16 dX4_covers_14 rfl rfl rfl ?_
  refine x_iload_n C 17 dX4_covers_16 rfl rfl ?_
  refine x_i2l C 18 dX4_covers_17 (by first | omega | (have := bz_b _; omega)) rfl ?_
  refine x_iload C 20 dX4_covers_18 rfl rfl ?_
  refine x_i2l C 21 dX4_covers_20 (by first | omega | (have := bz_b _; omega)) rfl ?_
  refine x_iload C 23 dX4_covers_21 rfl rfl ?_
  refine x_aload_n C 24 dX4_covers_23 rfl rfl rfl ?_
  refine x_getf C 27 f_X4_7_4 hT.o rfl dX4_covers_24 rfl ?_
  refine x_bipush C 29 dX4_covers_27 (by decide) rfl ?_
  refine x_iload_n C 30 dX4_covers_29 rfl rfl ?_
  refine x_iadd C 31 dX4_covers_30 rfl ?_
  refine x_iald C 32 hT.a0 (by decide) rfl (by omega) (by omega) (kfI_get (by omega) (by omega)) dX4_covers_31 rfl ?_
  refine x_iadd C 33 dX4_covers_32 rfl ?_
  refine x_iconst C 34 dX4_covers_33 rfl ?_
  refine x_isub C 35 dX4_covers_34 rfl ?_
  refine x_i2l C 36 dX4_covers_35 (by first | omega | (have := bz_b _; omega)) rfl ?_
  refine x_callS3 C 39 (ct_X4_in hG (by omega) (by omega) (by omega)) s_X4_51 dX4_covers_36 rfl (by decide) (by decide) (by omega) (Nat.le_of_ble_eq_true rfl) (kP_k ?_)
  refine x_ifd_eq C 73 42 dX4_covers_39 (by decide) rfl (fun h39 => ?_) (fun h39 => ?_)
  ·
    refine x_iconst C 74 dX4_covers_73 rfl ?_
    refine x_iret C dX4_covers_74 rfl rfl ⟨by omega, by omega⟩ ?_
    first | exact kP_e (by rw [show pCov a0 p s x y = true from by simp [pCov]; omega]; rfl) | exact kP_e (by rw [show pCov a0 p s x y = false from by simp [pCov]; omega]; rfl)
  ·
    refine x_iload C 44 dX4_covers_42 rfl rfl ?_
    refine x_i2l C 45 dX4_covers_44 (by first | omega | (have := bz_b _; omega)) rfl ?_
    refine x_iload C 47 dX4_covers_45 rfl rfl ?_
    refine x_i2l C 48 dX4_covers_47 (by first | omega | (have := bz_b _; omega)) rfl ?_
    refine x_iload C 50 dX4_covers_48 rfl rfl ?_
    refine x_aload_n C 51 dX4_covers_50 rfl rfl rfl ?_
    refine x_getf C 54 f_X4_7_4 hT.o rfl dX4_covers_51 rfl ?_
    refine x_bipush C 56 dX4_covers_54 (by decide) rfl ?_
    refine x_iload_n C 57 dX4_covers_56 rfl rfl ?_
    refine x_iadd C 58 dX4_covers_57 rfl ?_
    refine x_iald C 59 hT.a0 (by decide) rfl (by omega) (by omega) (kfI_get (by omega) (by omega)) dX4_covers_58 rfl ?_
    refine x_iadd C 60 dX4_covers_59 rfl ?_
    refine x_iconst C 61 dX4_covers_60 rfl ?_
    refine x_isub C 62 dX4_covers_61 rfl ?_
    refine x_i2l C 63 dX4_covers_62 (by first | omega | (have := bz_b _; omega)) rfl ?_
    refine x_callS3 C 66 (ct_X4_in hG (by omega) (by omega) (by omega)) s_X4_51 dX4_covers_63 rfl (by decide) (by decide) (by omega) (Nat.le_of_ble_eq_true rfl) (kP_k ?_)
    refine x_ifd_eq C 73 69 dX4_covers_66 (by decide) rfl (fun h66 => ?_) (fun h66 => ?_)
    ·
      refine x_iconst C 74 dX4_covers_73 rfl ?_
      refine x_iret C dX4_covers_74 rfl rfl ⟨by omega, by omega⟩ ?_
      first | exact kP_e (by rw [show pCov a0 p s x y = true from by simp [pCov]; omega]; rfl) | exact kP_e (by rw [show pCov a0 p s x y = false from by simp [pCov]; omega]; rfl)
    ·
      refine x_iconst C 70 dX4_covers_69 rfl ?_
      refine x_goto C 74 dX4_covers_70 (by decide) ?_
      refine x_iret C dX4_covers_74 rfl rfl ⟨by omega, by omega⟩ ?_
      first | exact kP_e (by rw [show pCov a0 p s x y = true from by simp [pCov]; omega]; rfl) | exact kP_e (by rw [show pCov a0 p s x y = false from by simp [pCov]; omega]; rfl)
theorem ct_X4_meet {l : Launch} {G : Gh} (hG : kG G) {m : Mem} {b : Nat} {ad : Nat → Nat} {n : Int} {w : Wn} {ld tl at' ft lt : Int} {a0 a6 a7 a8 a9 a10 a12 a13 a17 a19 : Int → Int} {hh : Int64} (hT : TR m b ad n w ld tl at' ft lt a0 a6 a7 a8 a9 a10 a12 a13 a17 a19 hh) {p s q t : Int} (hp : 0 ≤ p ∧ p < 20) (hs : 0 ≤ s ∧ s < 8) (hq : 0 ≤ q ∧ q < 20) (ht : 0 ≤ t ∧ t < 8) (hf : WFp a0 p) (hg : WFp a0 q) : kM l G yX4_meet cX4_meet 6 (Option.some FieldType.boolean) 2 0 0 [.ref b, kI p, kI s, kI q, kI t] m (kP (kI (bz (pMt a0 p s q t))) m) := by
  refine kM.of hG (by decide +kernel) 1 rfl fun κ C => ?_
  have hl := pL_b (s := s) hf
  have hb := pB_b (s := s) hf
  have hl2 := pL_b (s := t) hg
  have hb2 := pB_b (s := t) hg
  refine x_aload_n C 1 dX4_meet_0 rfl rfl rfl ?_
  refine x_iload_n C 2 dX4_meet_1 rfl rfl ?_
  refine x_iload_n C 3 dX4_meet_2 rfl rfl ?_
  refine x_callV2 C 6 (ct_X4_left hG hT (by omega) (by omega) (by assumption)) v_X4_61 hT.o rfl dX4_meet_3 rfl (by decide) (by decide) (by omega) (Nat.le_of_ble_eq_true rfl) (kP_k ?_)
  refine x_aload_n C 7 dX4_meet_6 rfl rfl rfl ?_
  refine x_iload_n C 8 dX4_meet_7 rfl rfl ?_
  refine x_iload C 10 dX4_meet_8 rfl rfl ?_
  refine x_callV2 C 13 (ct_X4_left hG hT (by omega) (by omega) (by assumption)) v_X4_61 hT.o rfl dX4_meet_10 rfl (by decide) (by decide) (by omega) (Nat.le_of_ble_eq_true rfl) (kP_k ?_)
  refine x_aload_n C 14 dX4_meet_13 rfl rfl rfl ?_
  refine x_getf C 17 f_X4_7_4 hT.o rfl dX4_meet_14 rfl ?_
  refine x_bipush C 19 dX4_meet_17 (by decide) rfl ?_
  refine x_iload_n C 20 dX4_meet_19 rfl rfl ?_
  refine x_iadd C 21 dX4_meet_20 rfl ?_
  refine x_iald C 22 hT.a0 (by decide) rfl (by omega) (by omega) (kfI_get (by omega) (by omega)) dX4_meet_21 rfl ?_
  refine x_iadd C 23 dX4_meet_22 rfl ?_
  refine x_icmp_ge C 56 26 dX4_meet_23 (by omega) (by omega) (by decide) rfl (fun h23 => ?_) (fun h23 => ?_)
  ·
    refine x_iconst C 57 dX4_meet_56 rfl ?_
    refine x_istore C 59 dX4_meet_57 rfl rfl rfl ?_
    refine x_iload C 61 dX4_meet_59 rfl rfl ?_
    refine x_if_eq C 120 64 dX4_meet_61 (by omega) (by decide) rfl (fun h61 => ?_) (fun h61 => ?_)
    ·
      refine x_iconst C 121 dX4_meet_120 rfl ?_
      refine x_iret C dX4_meet_121 rfl rfl ⟨by omega, by omega⟩ ?_
      first | exact kP_e (by rw [show pMt a0 p s q t = true from by simp only [pMt, *]; simp; omega]; rfl) | exact kP_e (by rw [show pMt a0 p s q t = false from by simp only [pMt]; simp; omega]; rfl)
    ·
      refine x_aload_n C 65 dX4_meet_64 rfl rfl rfl ?_
      refine x_iload_n C 66 dX4_meet_65 rfl rfl ?_
      refine x_iload_n C 67 dX4_meet_66 rfl rfl ?_
      refine x_callV2 C 70 (ct_X4_bottom hG hT (by omega) (by omega) (by assumption)) v_X4_65 hT.o rfl dX4_meet_67 rfl (by decide) (by decide) (by omega) (Nat.le_of_ble_eq_true rfl) (kP_k ?_)
      refine x_aload_n C 71 dX4_meet_70 rfl rfl rfl ?_
      refine x_iload_n C 72 dX4_meet_71 rfl rfl ?_
      refine x_iload C 74 dX4_meet_72 rfl rfl ?_
      refine x_callV2 C 77 (ct_X4_bottom hG hT (by omega) (by omega) (by assumption)) v_X4_65 hT.o rfl dX4_meet_74 rfl (by decide) (by decide) (by omega) (Nat.le_of_ble_eq_true rfl) (kP_k ?_)
      refine x_aload_n C 78 dX4_meet_77 rfl rfl rfl ?_
      refine x_getf C 81 f_X4_7_4 hT.o rfl dX4_meet_78 rfl ?_
      refine x_bipush C 83 dX4_meet_81 (by decide) rfl ?_
      refine x_iload_n C 84 dX4_meet_83 rfl rfl ?_
      refine x_iadd C 85 dX4_meet_84 rfl ?_
      refine x_iald C 86 hT.a0 (by decide) rfl (by omega) (by omega) (kfI_get (by omega) (by omega)) dX4_meet_85 rfl ?_
      refine x_iadd C 87 dX4_meet_86 rfl ?_
      refine x_icmp_ge C 120 90 dX4_meet_87 (by omega) (by omega) (by decide) rfl (fun h87 => ?_) (fun h87 => ?_)
      ·
        refine x_iconst C 121 dX4_meet_120 rfl ?_
        refine x_iret C dX4_meet_121 rfl rfl ⟨by omega, by omega⟩ ?_
        first | exact kP_e (by rw [show pMt a0 p s q t = true from by simp only [pMt, *]; simp; omega]; rfl) | exact kP_e (by rw [show pMt a0 p s q t = false from by simp only [pMt]; simp; omega]; rfl)
      ·
        refine x_aload_n C 91 dX4_meet_90 rfl rfl rfl ?_
        refine x_iload_n C 92 dX4_meet_91 rfl rfl ?_
        refine x_iload C 94 dX4_meet_92 rfl rfl ?_
        refine x_callV2 C 97 (ct_X4_bottom hG hT (by omega) (by omega) (by assumption)) v_X4_65 hT.o rfl dX4_meet_94 rfl (by decide) (by decide) (by omega) (Nat.le_of_ble_eq_true rfl) (kP_k ?_)
        refine x_aload_n C 98 dX4_meet_97 rfl rfl rfl ?_
        refine x_iload_n C 99 dX4_meet_98 rfl rfl ?_
        refine x_iload_n C 100 dX4_meet_99 rfl rfl ?_
        refine x_callV2 C 103 (ct_X4_bottom hG hT (by omega) (by omega) (by assumption)) v_X4_65 hT.o rfl dX4_meet_100 rfl (by decide) (by decide) (by omega) (Nat.le_of_ble_eq_true rfl) (kP_k ?_)
        refine x_aload_n C 104 dX4_meet_103 rfl rfl rfl ?_
        refine x_getf C 107 f_X4_7_4 hT.o rfl dX4_meet_104 rfl ?_
        refine x_bipush C 109 dX4_meet_107 (by decide) rfl ?_
        refine x_iload_n C 110 dX4_meet_109 rfl rfl ?_
        refine x_iadd C 111 dX4_meet_110 rfl ?_
        refine x_iald C 112 hT.a0 (by decide) rfl (by omega) (by omega) (kfI_get (by omega) (by omega)) dX4_meet_111 rfl ?_
        refine x_iadd C 113 dX4_meet_112 rfl ?_
        refine x_icmp_ge C 120 116 dX4_meet_113 (by omega) (by omega) (by decide) rfl (fun h113 => ?_) (fun h113 => ?_)
        ·
          refine x_iconst C 121 dX4_meet_120 rfl ?_
          refine x_iret C dX4_meet_121 rfl rfl ⟨by omega, by omega⟩ ?_
          first | exact kP_e (by rw [show pMt a0 p s q t = true from by simp only [pMt, *]; simp; omega]; rfl) | exact kP_e (by rw [show pMt a0 p s q t = false from by simp only [pMt]; simp; omega]; rfl)
        ·
          refine x_iconst C 117 dX4_meet_116 rfl ?_
          refine x_goto C 121 dX4_meet_117 (by decide) ?_
          refine x_iret C dX4_meet_121 rfl rfl ⟨by omega, by omega⟩ ?_
          first | exact kP_e (by rw [show pMt a0 p s q t = true from by simp only [pMt, *]; simp; omega]; rfl) | exact kP_e (by rw [show pMt a0 p s q t = false from by simp only [pMt]; simp; omega]; rfl)
  ·
    refine x_aload_n C 27 dX4_meet_26 rfl rfl rfl ?_
    refine x_iload_n C 28 dX4_meet_27 rfl rfl ?_
    refine x_iload C 30 dX4_meet_28 rfl rfl ?_
    refine x_callV2 C 33 (ct_X4_left hG hT (by omega) (by omega) (by assumption)) v_X4_61 hT.o rfl dX4_meet_30 rfl (by decide) (by decide) (by omega) (Nat.le_of_ble_eq_true rfl) (kP_k ?_)
    refine x_aload_n C 34 dX4_meet_33 rfl rfl rfl ?_
    refine x_iload_n C 35 dX4_meet_34 rfl rfl ?_
    refine x_iload_n C 36 dX4_meet_35 rfl rfl ?_
    refine x_callV2 C 39 (ct_X4_left hG hT (by omega) (by omega) (by assumption)) v_X4_61 hT.o rfl dX4_meet_36 rfl (by decide) (by decide) (by omega) (Nat.le_of_ble_eq_true rfl) (kP_k ?_)
    refine x_aload_n C 40 dX4_meet_39 rfl rfl rfl ?_
    refine x_getf C 43 f_X4_7_4 hT.o rfl dX4_meet_40 rfl ?_
    refine x_bipush C 45 dX4_meet_43 (by decide) rfl ?_
    refine x_iload_n C 46 dX4_meet_45 rfl rfl ?_
    refine x_iadd C 47 dX4_meet_46 rfl ?_
    refine x_iald C 48 hT.a0 (by decide) rfl (by omega) (by omega) (kfI_get (by omega) (by omega)) dX4_meet_47 rfl ?_
    refine x_iadd C 49 dX4_meet_48 rfl ?_
    refine x_icmp_ge C 56 52 dX4_meet_49 (by omega) (by omega) (by decide) rfl (fun h49 => ?_) (fun h49 => ?_)
    ·
      refine x_iconst C 57 dX4_meet_56 rfl ?_
      refine x_istore C 59 dX4_meet_57 rfl rfl rfl ?_
      refine x_iload C 61 dX4_meet_59 rfl rfl ?_
      refine x_if_eq C 120 64 dX4_meet_61 (by omega) (by decide) rfl (fun h61 => ?_) (fun h61 => ?_)
      ·
        refine x_iconst C 121 dX4_meet_120 rfl ?_
        refine x_iret C dX4_meet_121 rfl rfl ⟨by omega, by omega⟩ ?_
        first | exact kP_e (by rw [show pMt a0 p s q t = true from by simp only [pMt, *]; simp; omega]; rfl) | exact kP_e (by rw [show pMt a0 p s q t = false from by simp only [pMt]; simp; omega]; rfl)
      ·
        refine x_aload_n C 65 dX4_meet_64 rfl rfl rfl ?_
        refine x_iload_n C 66 dX4_meet_65 rfl rfl ?_
        refine x_iload_n C 67 dX4_meet_66 rfl rfl ?_
        refine x_callV2 C 70 (ct_X4_bottom hG hT (by omega) (by omega) (by assumption)) v_X4_65 hT.o rfl dX4_meet_67 rfl (by decide) (by decide) (by omega) (Nat.le_of_ble_eq_true rfl) (kP_k ?_)
        refine x_aload_n C 71 dX4_meet_70 rfl rfl rfl ?_
        refine x_iload_n C 72 dX4_meet_71 rfl rfl ?_
        refine x_iload C 74 dX4_meet_72 rfl rfl ?_
        refine x_callV2 C 77 (ct_X4_bottom hG hT (by omega) (by omega) (by assumption)) v_X4_65 hT.o rfl dX4_meet_74 rfl (by decide) (by decide) (by omega) (Nat.le_of_ble_eq_true rfl) (kP_k ?_)
        refine x_aload_n C 78 dX4_meet_77 rfl rfl rfl ?_
        refine x_getf C 81 f_X4_7_4 hT.o rfl dX4_meet_78 rfl ?_
        refine x_bipush C 83 dX4_meet_81 (by decide) rfl ?_
        refine x_iload_n C 84 dX4_meet_83 rfl rfl ?_
        refine x_iadd C 85 dX4_meet_84 rfl ?_
        refine x_iald C 86 hT.a0 (by decide) rfl (by omega) (by omega) (kfI_get (by omega) (by omega)) dX4_meet_85 rfl ?_
        refine x_iadd C 87 dX4_meet_86 rfl ?_
        refine x_icmp_ge C 120 90 dX4_meet_87 (by omega) (by omega) (by decide) rfl (fun h87 => ?_) (fun h87 => ?_)
        ·
          refine x_iconst C 121 dX4_meet_120 rfl ?_
          refine x_iret C dX4_meet_121 rfl rfl ⟨by omega, by omega⟩ ?_
          first | exact kP_e (by rw [show pMt a0 p s q t = true from by simp only [pMt, *]; simp; omega]; rfl) | exact kP_e (by rw [show pMt a0 p s q t = false from by simp only [pMt]; simp; omega]; rfl)
        ·
          refine x_aload_n C 91 dX4_meet_90 rfl rfl rfl ?_
          refine x_iload_n C 92 dX4_meet_91 rfl rfl ?_
          refine x_iload C 94 dX4_meet_92 rfl rfl ?_
          refine x_callV2 C 97 (ct_X4_bottom hG hT (by omega) (by omega) (by assumption)) v_X4_65 hT.o rfl dX4_meet_94 rfl (by decide) (by decide) (by omega) (Nat.le_of_ble_eq_true rfl) (kP_k ?_)
          refine x_aload_n C 98 dX4_meet_97 rfl rfl rfl ?_
          refine x_iload_n C 99 dX4_meet_98 rfl rfl ?_
          refine x_iload_n C 100 dX4_meet_99 rfl rfl ?_
          refine x_callV2 C 103 (ct_X4_bottom hG hT (by omega) (by omega) (by assumption)) v_X4_65 hT.o rfl dX4_meet_100 rfl (by decide) (by decide) (by omega) (Nat.le_of_ble_eq_true rfl) (kP_k ?_)
          refine x_aload_n C 104 dX4_meet_103 rfl rfl rfl ?_
          refine x_getf C 107 f_X4_7_4 hT.o rfl dX4_meet_104 rfl ?_
          refine x_bipush C 109 dX4_meet_107 (by decide) rfl ?_
          refine x_iload_n C 110 dX4_meet_109 rfl rfl ?_
          refine x_iadd C 111 dX4_meet_110 rfl ?_
          refine x_iald C 112 hT.a0 (by decide) rfl (by omega) (by omega) (kfI_get (by omega) (by omega)) dX4_meet_111 rfl ?_
          refine x_iadd C 113 dX4_meet_112 rfl ?_
          refine x_icmp_ge C 120 116 dX4_meet_113 (by omega) (by omega) (by decide) rfl (fun h113 => ?_) (fun h113 => ?_)
          ·
            refine x_iconst C 121 dX4_meet_120 rfl ?_
            refine x_iret C dX4_meet_121 rfl rfl ⟨by omega, by omega⟩ ?_
            first | exact kP_e (by rw [show pMt a0 p s q t = true from by simp only [pMt, *]; simp; omega]; rfl) | exact kP_e (by rw [show pMt a0 p s q t = false from by simp only [pMt]; simp; omega]; rfl)
          ·
            refine x_iconst C 117 dX4_meet_116 rfl ?_
            refine x_goto C 121 dX4_meet_117 (by decide) ?_
            refine x_iret C dX4_meet_121 rfl rfl ⟨by omega, by omega⟩ ?_
            first | exact kP_e (by rw [show pMt a0 p s q t = true from by simp only [pMt, *]; simp; omega]; rfl) | exact kP_e (by rw [show pMt a0 p s q t = false from by simp only [pMt]; simp; omega]; rfl)
    ·
      refine x_iconst C 53 dX4_meet_52 rfl ?_
      refine x_goto C 57 dX4_meet_53 (by decide) ?_
      refine x_istore C 59 dX4_meet_57 rfl rfl rfl ?_
      refine x_iload C 61 dX4_meet_59 rfl rfl ?_
      refine x_if_eq C 120 64 dX4_meet_61 (by omega) (by decide) rfl (fun h61 => ?_) (fun h61 => ?_)
      ·
        refine x_iconst C 121 dX4_meet_120 rfl ?_
        refine x_iret C dX4_meet_121 rfl rfl ⟨by omega, by omega⟩ ?_
        first | exact kP_e (by rw [show pMt a0 p s q t = true from by simp only [pMt, *]; simp; omega]; rfl) | exact kP_e (by rw [show pMt a0 p s q t = false from by simp only [pMt]; simp; omega]; rfl)
      ·
        refine x_aload_n C 65 dX4_meet_64 rfl rfl rfl ?_
        refine x_iload_n C 66 dX4_meet_65 rfl rfl ?_
        refine x_iload_n C 67 dX4_meet_66 rfl rfl ?_
        refine x_callV2 C 70 (ct_X4_bottom hG hT (by omega) (by omega) (by assumption)) v_X4_65 hT.o rfl dX4_meet_67 rfl (by decide) (by decide) (by omega) (Nat.le_of_ble_eq_true rfl) (kP_k ?_)
        refine x_aload_n C 71 dX4_meet_70 rfl rfl rfl ?_
        refine x_iload_n C 72 dX4_meet_71 rfl rfl ?_
        refine x_iload C 74 dX4_meet_72 rfl rfl ?_
        refine x_callV2 C 77 (ct_X4_bottom hG hT (by omega) (by omega) (by assumption)) v_X4_65 hT.o rfl dX4_meet_74 rfl (by decide) (by decide) (by omega) (Nat.le_of_ble_eq_true rfl) (kP_k ?_)
        refine x_aload_n C 78 dX4_meet_77 rfl rfl rfl ?_
        refine x_getf C 81 f_X4_7_4 hT.o rfl dX4_meet_78 rfl ?_
        refine x_bipush C 83 dX4_meet_81 (by decide) rfl ?_
        refine x_iload_n C 84 dX4_meet_83 rfl rfl ?_
        refine x_iadd C 85 dX4_meet_84 rfl ?_
        refine x_iald C 86 hT.a0 (by decide) rfl (by omega) (by omega) (kfI_get (by omega) (by omega)) dX4_meet_85 rfl ?_
        refine x_iadd C 87 dX4_meet_86 rfl ?_
        refine x_icmp_ge C 120 90 dX4_meet_87 (by omega) (by omega) (by decide) rfl (fun h87 => ?_) (fun h87 => ?_)
        ·
          refine x_iconst C 121 dX4_meet_120 rfl ?_
          refine x_iret C dX4_meet_121 rfl rfl ⟨by omega, by omega⟩ ?_
          first | exact kP_e (by rw [show pMt a0 p s q t = true from by simp only [pMt, *]; simp; omega]; rfl) | exact kP_e (by rw [show pMt a0 p s q t = false from by simp only [pMt]; simp; omega]; rfl)
        ·
          refine x_aload_n C 91 dX4_meet_90 rfl rfl rfl ?_
          refine x_iload_n C 92 dX4_meet_91 rfl rfl ?_
          refine x_iload C 94 dX4_meet_92 rfl rfl ?_
          refine x_callV2 C 97 (ct_X4_bottom hG hT (by omega) (by omega) (by assumption)) v_X4_65 hT.o rfl dX4_meet_94 rfl (by decide) (by decide) (by omega) (Nat.le_of_ble_eq_true rfl) (kP_k ?_)
          refine x_aload_n C 98 dX4_meet_97 rfl rfl rfl ?_
          refine x_iload_n C 99 dX4_meet_98 rfl rfl ?_
          refine x_iload_n C 100 dX4_meet_99 rfl rfl ?_
          refine x_callV2 C 103 (ct_X4_bottom hG hT (by omega) (by omega) (by assumption)) v_X4_65 hT.o rfl dX4_meet_100 rfl (by decide) (by decide) (by omega) (Nat.le_of_ble_eq_true rfl) (kP_k ?_)
          refine x_aload_n C 104 dX4_meet_103 rfl rfl rfl ?_
          refine x_getf C 107 f_X4_7_4 hT.o rfl dX4_meet_104 rfl ?_
          refine x_bipush C 109 dX4_meet_107 (by decide) rfl ?_
          refine x_iload_n C 110 dX4_meet_109 rfl rfl ?_
          refine x_iadd C 111 dX4_meet_110 rfl ?_
          refine x_iald C 112 hT.a0 (by decide) rfl (by omega) (by omega) (kfI_get (by omega) (by omega)) dX4_meet_111 rfl ?_
          refine x_iadd C 113 dX4_meet_112 rfl ?_
          refine x_icmp_ge C 120 116 dX4_meet_113 (by omega) (by omega) (by decide) rfl (fun h113 => ?_) (fun h113 => ?_)
          ·
            refine x_iconst C 121 dX4_meet_120 rfl ?_
            refine x_iret C dX4_meet_121 rfl rfl ⟨by omega, by omega⟩ ?_
            first | exact kP_e (by rw [show pMt a0 p s q t = true from by simp only [pMt, *]; simp; omega]; rfl) | exact kP_e (by rw [show pMt a0 p s q t = false from by simp only [pMt]; simp; omega]; rfl)
          ·
            refine x_iconst C 117 dX4_meet_116 rfl ?_
            refine x_goto C 121 dX4_meet_117 (by decide) ?_
            refine x_iret C dX4_meet_121 rfl rfl ⟨by omega, by omega⟩ ?_
            first | exact kP_e (by rw [show pMt a0 p s q t = true from by simp only [pMt, *]; simp; omega]; rfl) | exact kP_e (by rw [show pMt a0 p s q t = false from by simp only [pMt]; simp; omega]; rfl)
