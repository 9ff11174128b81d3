set_option maxRecDepth 100000
/-! java.lang.String.indexOf on the letters -/
set_option maxHeartbeats 4000000 in
theorem ct_J5_isLatin1 {G : GT} {l : Launch} {N : Nat} {S : ST} : CTi G l yJ5_isLatin1 cJ5_isLatin1 1 (some .boolean) 0 [.ref (gX G 1)] N S (nI 1) S := by
  refine CT.mk "java/lang/String" [(0, .ref (gX G 1))] rfl (by decide) rfl (Nat.le_of_ble_eq_true rfl) ?_
  intro x hR hl hr hnm
  refine v_gets (pc := 0) (C := "java/lang/String") (v := .int 1) (fun C => C.2.2.2.2.2.1.2.2.2.2.2.1) q503 rfl dJ5_isLatin1_0 ?_
  refine v_topi (v := nI 1) rfl ?_
  refine v_if_eqN (pc := 3) 17 (by omega) dJ5_isLatin1_3 (by decide) (fun h => absurd h (by decide)) (fun _ => ?_)
  refine v_aload_n (pc := 6) 0 dJ5_isLatin1_6 rfl rfl ?_
  refine v_strc (pc := 7) dJ5_isLatin1_7 ?_
  refine v_if_neN (pc := 10) 17 (by omega) dJ5_isLatin1_10 (by decide) (fun h => absurd h (by decide)) (fun _ => ?_)
  refine v_iconst (pc := 13) (nI 1) dJ5_isLatin1_13 (by decide) ?_
  refine v_goto (pc := 14) 18 dJ5_isLatin1_14 (by decide) ?_
  exact v_iret (pc := 18) hr (by decide) (Nat.le_refl _) (Nat.le_refl _) dJ5_isLatin1_18 (pI_mk rfl (hC_c rfl))

set_option maxHeartbeats 4000000 in
theorem ct_J5_coder {G : GT} {l : Launch} {N : Nat} {S : ST} : CTi G l yJ5_coder cJ5_coder 1 (some .byte) 0 [.ref (gX G 1)] N S (nI 0) S := by
  refine CT.mk "java/lang/String" [(0, .ref (gX G 1))] rfl (by decide) rfl (Nat.le_of_ble_eq_true rfl) ?_
  intro x hR hl hr hnm
  refine v_gets (pc := 0) (C := "java/lang/String") (v := .int 1) (fun C => C.2.2.2.2.2.1.2.2.2.2.2.1) q503 rfl dJ5_coder_0 ?_
  refine v_topi (v := nI 1) rfl ?_
  refine v_if_eqN (pc := 3) 13 (by omega) dJ5_coder_3 (by decide) (fun h => absurd h (by decide)) (fun _ => ?_)
  refine v_aload_n (pc := 6) 0 dJ5_coder_6 rfl rfl ?_
  refine v_strc (pc := 7) dJ5_coder_7 ?_
  refine v_goto (pc := 10) 14 dJ5_coder_10 (by decide) ?_
  exact v_iret (pc := 14) hr (by decide) (Nat.le_refl _) (Nat.le_refl _) dJ5_coder_14 (pI_mk rfl (hC_c rfl))

set_option maxHeartbeats 4000000 in
theorem ct_J5_length {G : GT} {l : Launch} {N : Nat} {S : ST} : CTi G l yJ5_length cJ5_length 1 (some .int) 1 [.ref (gX G 1)] N S (nI 11) S := by
  refine CT.mk "java/lang/String" [(0, .ref (gX G 1))] rfl (by decide) rfl (Nat.le_of_ble_eq_true rfl) ?_
  intro x hR hl hr hnm
  refine v_aload_n (pc := 0) 0 dJ5_length_0 rfl rfl ?_
  refine v_strv (pc := 1) dJ5_length_1 ?_
  refine v_strl (pc := 4) dJ5_length_4 ?_
  refine v_aload_n (pc := 5) 0 dJ5_length_5 rfl rfl ?_
  refine c_callTi (pc := 6) (st := [.int (nI 11)]) ct_J5_coder kVJ5_335 kDJ5_335 (rm_ok hR (Nat.le_of_ble_eq_true rfl) (Nat.le_of_ble_eq_true rfl)) ⟨Nat.zero_le _, Nat.zero_le _⟩ rfl rfl (Nat.le_of_ble_eq_true rfl) dJ5_length_6 ?_
  refine v_ishr (pc := 9) dJ5_length_9 ?_
  refine v_topi (v := nI 11) (by decide) ?_
  exact v_iret (pc := 10) hr (by decide) (Nat.le_refl _) (Nat.le_refl _) dJ5_length_10 (pI_mk rfl (hC_c rfl))

set_option maxHeartbeats 4000000 in
theorem ct_J6_canEncode {G : GT} {l : Launch} {N : Nat} {S : ST} {v : Nat} (hv : v < 256) : CTi G l yJ6_canEncode cJ6_canEncode 1 (some .boolean) 0 [.int (nI v)] N S (nI 1) S := by
  refine CT.mk "java/lang/StringLatin1" [(0, .int (nI v))] rfl (by decide) rfl (Nat.le_of_ble_eq_true rfl) ?_
  intro x hR hl hr hnm
  refine v_iload_n (pc := 0) 0 dJ6_canEncode_0 rfl rfl ?_
  refine v_if_ltN (pc := 1) (by omega) dJ6_canEncode_1 15 (by decide) ?_
  refine v_iload_n (pc := 4) 0 dJ6_canEncode_4 rfl rfl ?_
  refine v_sipush (pc := 5) (nI 255) dJ6_canEncode_5 (by decide) ?_
  refine v_ic_gtN (pc := 8) 15 (by omega) (by omega) dJ6_canEncode_8 (by decide) (fun c1 => ?_) (fun c1 => ?_)
  · skip
    exact absurd c1 (by omega)
  · skip
    refine v_iconst (pc := 11) (nI 1) dJ6_canEncode_11 (by decide) ?_
    refine v_goto (pc := 12) 16 dJ6_canEncode_12 (by decide) ?_
    exact v_iret (pc := 16) hr (by decide) (Nat.le_refl _) (Nat.le_refl _) dJ6_canEncode_16 (pI_mk rfl (hC_c rfl))

set_option maxHeartbeats 4000000 in
theorem ct_J6_indexOfChar {G : GT} {l : Launch} {N : Nat} {S : ST} {v : Nat} (hv : v < 256) : CTi G l yJ6_indexOfChar cJ6_indexOfChar 6 (some .int) 0 [.ref (gX G 2), .int (nI v), .int (nI 0), .int (nI 11)] N S (ioc v) S := by
  refine CT.mk "java/lang/StringLatin1" [(0, .ref (gX G 2)), (1, .int (nI v)), (2, .int (nI 0)), (3, .int (nI 11))] rfl (by decide) rfl (Nat.le_of_ble_eq_true rfl) ?_
  intro x hR hl hr hnm
  refine v_iload_n (pc := 0) 1 dJ6_indexOfChar_0 rfl rfl ?_
  refine v_i2b (pc := 1) dJ6_indexOfChar_1 rfl ?_
  refine v_istore (pc := 2) (lv' := [(4, .int ((nI v).toInt8.toInt32)), (0, .ref (gX G 2)), (1, .int (nI v)), (2, .int (nI 0)), (3, .int (nI 11))]) dJ6_indexOfChar_2 (by decide) rfl ?_
  refine v_iload_n (pc := 4) 3 dJ6_indexOfChar_4 rfl rfl ?_
  refine v_istore (pc := 5) (lv' := [(5, .int (nI 0)), (4, .int ((nI v).toInt8.toInt32)), (0, .ref (gX G 2)), (1, .int (nI v)), (2, .int (nI 0)), (3, .int (nI 11))]) dJ6_indexOfChar_5 (by decide) rfl ?_
  refine v_iload (pc := 7) 0 dJ6_indexOfChar_7 rfl ?_
  refine v_iload_n (pc := 9) 5 dJ6_indexOfChar_9 rfl rfl ?_
  refine v_ic_geN (pc := 10) 31 (by omega) (by omega) dJ6_indexOfChar_10 (by decide) (fun h => absurd h (by decide)) (fun _ => ?_)
  refine v_aload_n (pc := 13) 2 dJ6_indexOfChar_13 rfl rfl ?_
  refine v_iload (pc := 14) 0 dJ6_indexOfChar_14 rfl ?_
  refine v_strb (pc := 16) (j := 0) (by decide) dJ6_indexOfChar_16 ?_
  refine v_topi (v := nI 119) (by decide) ?_
  refine v_iload (pc := 17) 1 dJ6_indexOfChar_17 rfl ?_
  refine v_ic_ne (pc := 19) 25 dJ6_indexOfChar_19 (by decide) (fun c1 => ?_) (fun c1 => ?_)
  · skip
    refine v_iinc (pc := 25) (k := 0) (v := nI 1) (lv' := [(5, .int (nI 1)), (4, .int ((nI v).toInt8.toInt32)), (0, .ref (gX G 2)), (1, .int (nI v)), (2, .int (nI 0)), (3, .int (nI 11))]) dJ6_indexOfChar_25 rfl (by decide) (by decide) rfl ?_
    refine v_goto (pc := 28) 7 dJ6_indexOfChar_28 (by decide) ?_
    refine v_iload (pc := 7) 0 dJ6_indexOfChar_7 rfl ?_
    refine v_iload_n (pc := 9) 5 dJ6_indexOfChar_9 rfl rfl ?_
    refine v_ic_geN (pc := 10) 31 (by omega) (by omega) dJ6_indexOfChar_10 (by decide) (fun h => absurd h (by decide)) (fun _ => ?_)
    refine v_aload_n (pc := 13) 2 dJ6_indexOfChar_13 rfl rfl ?_
    refine v_iload (pc := 14) 0 dJ6_indexOfChar_14 rfl ?_
    refine v_strb (pc := 16) (j := 1) (by decide) dJ6_indexOfChar_16 ?_
    refine v_topi (v := nI 98) (by decide) ?_
    refine v_iload (pc := 17) 1 dJ6_indexOfChar_17 rfl ?_
    refine v_ic_ne (pc := 19) 25 dJ6_indexOfChar_19 (by decide) (fun c2 => ?_) (fun c2 => ?_)
    · skip
      refine v_iinc (pc := 25) (k := 0) (v := nI 2) (lv' := [(5, .int (nI 2)), (4, .int ((nI v).toInt8.toInt32)), (0, .ref (gX G 2)), (1, .int (nI v)), (2, .int (nI 0)), (3, .int (nI 11))]) dJ6_indexOfChar_25 rfl (by decide) (by decide) rfl ?_
      refine v_goto (pc := 28) 7 dJ6_indexOfChar_28 (by decide) ?_
      refine v_iload (pc := 7) 0 dJ6_indexOfChar_7 rfl ?_
      refine v_iload_n (pc := 9) 5 dJ6_indexOfChar_9 rfl rfl ?_
      refine v_ic_geN (pc := 10) 31 (by omega) (by omega) dJ6_indexOfChar_10 (by decide) (fun h => absurd h (by decide)) (fun _ => ?_)
      refine v_aload_n (pc := 13) 2 dJ6_indexOfChar_13 rfl rfl ?_
      refine v_iload (pc := 14) 0 dJ6_indexOfChar_14 rfl ?_
      refine v_strb (pc := 16) (j := 2) (by decide) dJ6_indexOfChar_16 ?_
      refine v_topi (v := nI 106) (by decide) ?_
      refine v_iload (pc := 17) 1 dJ6_indexOfChar_17 rfl ?_
      refine v_ic_ne (pc := 19) 25 dJ6_indexOfChar_19 (by decide) (fun c3 => ?_) (fun c3 => ?_)
      · skip
        refine v_iinc (pc := 25) (k := 0) (v := nI 3) (lv' := [(5, .int (nI 3)), (4, .int ((nI v).toInt8.toInt32)), (0, .ref (gX G 2)), (1, .int (nI v)), (2, .int (nI 0)), (3, .int (nI 11))]) dJ6_indexOfChar_25 rfl (by decide) (by decide) rfl ?_
        refine v_goto (pc := 28) 7 dJ6_indexOfChar_28 (by decide) ?_
        refine v_iload (pc := 7) 0 dJ6_indexOfChar_7 rfl ?_
        refine v_iload_n (pc := 9) 5 dJ6_indexOfChar_9 rfl rfl ?_
        refine v_ic_geN (pc := 10) 31 (by omega) (by omega) dJ6_indexOfChar_10 (by decide) (fun h => absurd h (by decide)) (fun _ => ?_)
        refine v_aload_n (pc := 13) 2 dJ6_indexOfChar_13 rfl rfl ?_
        refine v_iload (pc := 14) 0 dJ6_indexOfChar_14 rfl ?_
        refine v_strb (pc := 16) (j := 3) (by decide) dJ6_indexOfChar_16 ?_
        refine v_topi (v := nI 120) (by decide) ?_
        refine v_iload (pc := 17) 1 dJ6_indexOfChar_17 rfl ?_
        refine v_ic_ne (pc := 19) 25 dJ6_indexOfChar_19 (by decide) (fun c4 => ?_) (fun c4 => ?_)
        · skip
          refine v_iinc (pc := 25) (k := 0) (v := nI 4) (lv' := [(5, .int (nI 4)), (4, .int ((nI v).toInt8.toInt32)), (0, .ref (gX G 2)), (1, .int (nI v)), (2, .int (nI 0)), (3, .int (nI 11))]) dJ6_indexOfChar_25 rfl (by decide) (by decide) rfl ?_
          refine v_goto (pc := 28) 7 dJ6_indexOfChar_28 (by decide) ?_
          refine v_iload (pc := 7) 0 dJ6_indexOfChar_7 rfl ?_
          refine v_iload_n (pc := 9) 5 dJ6_indexOfChar_9 rfl rfl ?_
          refine v_ic_geN (pc := 10) 31 (by omega) (by omega) dJ6_indexOfChar_10 (by decide) (fun h => absurd h (by decide)) (fun _ => ?_)
          refine v_aload_n (pc := 13) 2 dJ6_indexOfChar_13 rfl rfl ?_
          refine v_iload (pc := 14) 0 dJ6_indexOfChar_14 rfl ?_
          refine v_strb (pc := 16) (j := 4) (by decide) dJ6_indexOfChar_16 ?_
          refine v_topi (v := nI 102) (by decide) ?_
          refine v_iload (pc := 17) 1 dJ6_indexOfChar_17 rfl ?_
          refine v_ic_ne (pc := 19) 25 dJ6_indexOfChar_19 (by decide) (fun c5 => ?_) (fun c5 => ?_)
          · skip
            refine v_iinc (pc := 25) (k := 0) (v := nI 5) (lv' := [(5, .int (nI 5)), (4, .int ((nI v).toInt8.toInt32)), (0, .ref (gX G 2)), (1, .int (nI v)), (2, .int (nI 0)), (3, .int (nI 11))]) dJ6_indexOfChar_25 rfl (by decide) (by decide) rfl ?_
            refine v_goto (pc := 28) 7 dJ6_indexOfChar_28 (by decide) ?_
            refine v_iload (pc := 7) 0 dJ6_indexOfChar_7 rfl ?_
            refine v_iload_n (pc := 9) 5 dJ6_indexOfChar_9 rfl rfl ?_
            refine v_ic_geN (pc := 10) 31 (by omega) (by omega) dJ6_indexOfChar_10 (by decide) (fun h => absurd h (by decide)) (fun _ => ?_)
            refine v_aload_n (pc := 13) 2 dJ6_indexOfChar_13 rfl rfl ?_
            refine v_iload (pc := 14) 0 dJ6_indexOfChar_14 rfl ?_
            refine v_strb (pc := 16) (j := 5) (by decide) dJ6_indexOfChar_16 ?_
            refine v_topi (v := nI 114) (by decide) ?_
            refine v_iload (pc := 17) 1 dJ6_indexOfChar_17 rfl ?_
            refine v_ic_ne (pc := 19) 25 dJ6_indexOfChar_19 (by decide) (fun c6 => ?_) (fun c6 => ?_)
            · skip
              refine v_iinc (pc := 25) (k := 0) (v := nI 6) (lv' := [(5, .int (nI 6)), (4, .int ((nI v).toInt8.toInt32)), (0, .ref (gX G 2)), (1, .int (nI v)), (2, .int (nI 0)), (3, .int (nI 11))]) dJ6_indexOfChar_25 rfl (by decide) (by decide) rfl ?_
              refine v_goto (pc := 28) 7 dJ6_indexOfChar_28 (by decide) ?_
              refine v_iload (pc := 7) 0 dJ6_indexOfChar_7 rfl ?_
              refine v_iload_n (pc := 9) 5 dJ6_indexOfChar_9 rfl rfl ?_
              refine v_ic_geN (pc := 10) 31 (by omega) (by omega) dJ6_indexOfChar_10 (by decide) (fun h => absurd h (by decide)) (fun _ => ?_)
              refine v_aload_n (pc := 13) 2 dJ6_indexOfChar_13 rfl rfl ?_
              refine v_iload (pc := 14) 0 dJ6_indexOfChar_14 rfl ?_
              refine v_strb (pc := 16) (j := 6) (by decide) dJ6_indexOfChar_16 ?_
              refine v_topi (v := nI 116) (by decide) ?_
              refine v_iload (pc := 17) 1 dJ6_indexOfChar_17 rfl ?_
              refine v_ic_ne (pc := 19) 25 dJ6_indexOfChar_19 (by decide) (fun c7 => ?_) (fun c7 => ?_)
              · skip
                refine v_iinc (pc := 25) (k := 0) (v := nI 7) (lv' := [(5, .int (nI 7)), (4, .int ((nI v).toInt8.toInt32)), (0, .ref (gX G 2)), (1, .int (nI v)), (2, .int (nI 0)), (3, .int (nI 11))]) dJ6_indexOfChar_25 rfl (by decide) (by decide) rfl ?_
                refine v_goto (pc := 28) 7 dJ6_indexOfChar_28 (by decide) ?_
                refine v_iload (pc := 7) 0 dJ6_indexOfChar_7 rfl ?_
                refine v_iload_n (pc := 9) 5 dJ6_indexOfChar_9 rfl rfl ?_
                refine v_ic_geN (pc := 10) 31 (by omega) (by omega) dJ6_indexOfChar_10 (by decide) (fun h => absurd h (by decide)) (fun _ => ?_)
                refine v_aload_n (pc := 13) 2 dJ6_indexOfChar_13 rfl rfl ?_
                refine v_iload (pc := 14) 0 dJ6_indexOfChar_14 rfl ?_
                refine v_strb (pc := 16) (j := 7) (by decide) dJ6_indexOfChar_16 ?_
                refine v_topi (v := nI 100) (by decide) ?_
                refine v_iload (pc := 17) 1 dJ6_indexOfChar_17 rfl ?_
                refine v_ic_ne (pc := 19) 25 dJ6_indexOfChar_19 (by decide) (fun c8 => ?_) (fun c8 => ?_)
                · skip
                  refine v_iinc (pc := 25) (k := 0) (v := nI 8) (lv' := [(5, .int (nI 8)), (4, .int ((nI v).toInt8.toInt32)), (0, .ref (gX G 2)), (1, .int (nI v)), (2, .int (nI 0)), (3, .int (nI 11))]) dJ6_indexOfChar_25 rfl (by decide) (by decide) rfl ?_
                  refine v_goto (pc := 28) 7 dJ6_indexOfChar_28 (by decide) ?_
                  refine v_iload (pc := 7) 0 dJ6_indexOfChar_7 rfl ?_
                  refine v_iload_n (pc := 9) 5 dJ6_indexOfChar_9 rfl rfl ?_
                  refine v_ic_geN (pc := 10) 31 (by omega) (by omega) dJ6_indexOfChar_10 (by decide) (fun h => absurd h (by decide)) (fun _ => ?_)
                  refine v_aload_n (pc := 13) 2 dJ6_indexOfChar_13 rfl rfl ?_
                  refine v_iload (pc := 14) 0 dJ6_indexOfChar_14 rfl ?_
                  refine v_strb (pc := 16) (j := 8) (by decide) dJ6_indexOfChar_16 ?_
                  refine v_topi (v := nI 115) (by decide) ?_
                  refine v_iload (pc := 17) 1 dJ6_indexOfChar_17 rfl ?_
                  refine v_ic_ne (pc := 19) 25 dJ6_indexOfChar_19 (by decide) (fun c9 => ?_) (fun c9 => ?_)
                  · skip
                    refine v_iinc (pc := 25) (k := 0) (v := nI 9) (lv' := [(5, .int (nI 9)), (4, .int ((nI v).toInt8.toInt32)), (0, .ref (gX G 2)), (1, .int (nI v)), (2, .int (nI 0)), (3, .int (nI 11))]) dJ6_indexOfChar_25 rfl (by decide) (by decide) rfl ?_
                    refine v_goto (pc := 28) 7 dJ6_indexOfChar_28 (by decide) ?_
                    refine v_iload (pc := 7) 0 dJ6_indexOfChar_7 rfl ?_
                    refine v_iload_n (pc := 9) 5 dJ6_indexOfChar_9 rfl rfl ?_
                    refine v_ic_geN (pc := 10) 31 (by omega) (by omega) dJ6_indexOfChar_10 (by decide) (fun h => absurd h (by decide)) (fun _ => ?_)
                    refine v_aload_n (pc := 13) 2 dJ6_indexOfChar_13 rfl rfl ?_
                    refine v_iload (pc := 14) 0 dJ6_indexOfChar_14 rfl ?_
                    refine v_strb (pc := 16) (j := 9) (by decide) dJ6_indexOfChar_16 ?_
                    refine v_topi (v := nI 99) (by decide) ?_
                    refine v_iload (pc := 17) 1 dJ6_indexOfChar_17 rfl ?_
                    refine v_ic_ne (pc := 19) 25 dJ6_indexOfChar_19 (by decide) (fun c10 => ?_) (fun c10 => ?_)
                    · skip
                      refine v_iinc (pc := 25) (k := 0) (v := nI 10) (lv' := [(5, .int (nI 10)), (4, .int ((nI v).toInt8.toInt32)), (0, .ref (gX G 2)), (1, .int (nI v)), (2, .int (nI 0)), (3, .int (nI 11))]) dJ6_indexOfChar_25 rfl (by decide) (by decide) rfl ?_
                      refine v_goto (pc := 28) 7 dJ6_indexOfChar_28 (by decide) ?_
                      refine v_iload (pc := 7) 0 dJ6_indexOfChar_7 rfl ?_
                      refine v_iload_n (pc := 9) 5 dJ6_indexOfChar_9 rfl rfl ?_
                      refine v_ic_geN (pc := 10) 31 (by omega) (by omega) dJ6_indexOfChar_10 (by decide) (fun h => absurd h (by decide)) (fun _ => ?_)
                      refine v_aload_n (pc := 13) 2 dJ6_indexOfChar_13 rfl rfl ?_
                      refine v_iload (pc := 14) 0 dJ6_indexOfChar_14 rfl ?_
                      refine v_strb (pc := 16) (j := 10) (by decide) dJ6_indexOfChar_16 ?_
                      refine v_topi (v := nI 103) (by decide) ?_
                      refine v_iload (pc := 17) 1 dJ6_indexOfChar_17 rfl ?_
                      refine v_ic_ne (pc := 19) 25 dJ6_indexOfChar_19 (by decide) (fun c11 => ?_) (fun c11 => ?_)
                      · skip
                        refine v_iinc (pc := 25) (k := 0) (v := nI 11) (lv' := [(5, .int (nI 11)), (4, .int ((nI v).toInt8.toInt32)), (0, .ref (gX G 2)), (1, .int (nI v)), (2, .int (nI 0)), (3, .int (nI 11))]) dJ6_indexOfChar_25 rfl (by decide) (by decide) rfl ?_
                        refine v_goto (pc := 28) 7 dJ6_indexOfChar_28 (by decide) ?_
                        refine v_iload (pc := 7) 0 dJ6_indexOfChar_7 rfl ?_
                        refine v_iload_n (pc := 9) 5 dJ6_indexOfChar_9 rfl rfl ?_
                        refine v_ic_geN (pc := 10) 31 (by omega) (by omega) dJ6_indexOfChar_10 (by decide) (fun _ => ?_) (fun h => absurd h (by omega))
                        refine v_iconst (pc := 31) ((-1)) dJ6_indexOfChar_31 (by decide) ?_
                        exact v_iret (pc := 32) hr (by decide) (Nat.le_refl _) (Nat.le_refl _) dJ6_indexOfChar_32 (pI_mk (by unfold ioc; rw [if_neg (fun z => c1 ((bq hv (by decide)).mpr z)), if_neg (fun z => c2 ((bq hv (by decide)).mpr z)), if_neg (fun z => c3 ((bq hv (by decide)).mpr z)), if_neg (fun z => c4 ((bq hv (by decide)).mpr z)), if_neg (fun z => c5 ((bq hv (by decide)).mpr z)), if_neg (fun z => c6 ((bq hv (by decide)).mpr z)), if_neg (fun z => c7 ((bq hv (by decide)).mpr z)), if_neg (fun z => c8 ((bq hv (by decide)).mpr z)), if_neg (fun z => c9 ((bq hv (by decide)).mpr z)), if_neg (fun z => c10 ((bq hv (by decide)).mpr z)), if_neg (fun z => c11 ((bq hv (by decide)).mpr z))]) (hC_c rfl))
                      · skip
                        refine v_iload (pc := 22) 0 dJ6_indexOfChar_22 rfl ?_
                        have hE : v = 103 := (bq hv (by decide)).mp c11
                        subst hE
                        exact v_iret (pc := 24) hr (by decide) (Nat.le_refl _) (Nat.le_refl _) dJ6_indexOfChar_24 (pI_mk (by decide) (hC_c rfl))
                    · skip
                      refine v_iload (pc := 22) 0 dJ6_indexOfChar_22 rfl ?_
                      have hE : v = 99 := (bq hv (by decide)).mp c10
                      subst hE
                      exact v_iret (pc := 24) hr (by decide) (Nat.le_refl _) (Nat.le_refl _) dJ6_indexOfChar_24 (pI_mk (by decide) (hC_c rfl))
                  · skip
                    refine v_iload (pc := 22) 0 dJ6_indexOfChar_22 rfl ?_
                    have hE : v = 115 := (bq hv (by decide)).mp c9
                    subst hE
                    exact v_iret (pc := 24) hr (by decide) (Nat.le_refl _) (Nat.le_refl _) dJ6_indexOfChar_24 (pI_mk (by decide) (hC_c rfl))
                · skip
                  refine v_iload (pc := 22) 0 dJ6_indexOfChar_22 rfl ?_
                  have hE : v = 100 := (bq hv (by decide)).mp c8
                  subst hE
                  exact v_iret (pc := 24) hr (by decide) (Nat.le_refl _) (Nat.le_refl _) dJ6_indexOfChar_24 (pI_mk (by decide) (hC_c rfl))
              · skip
                refine v_iload (pc := 22) 0 dJ6_indexOfChar_22 rfl ?_
                have hE : v = 116 := (bq hv (by decide)).mp c7
                subst hE
                exact v_iret (pc := 24) hr (by decide) (Nat.le_refl _) (Nat.le_refl _) dJ6_indexOfChar_24 (pI_mk (by decide) (hC_c rfl))
            · skip
              refine v_iload (pc := 22) 0 dJ6_indexOfChar_22 rfl ?_
              have hE : v = 114 := (bq hv (by decide)).mp c6
              subst hE
              exact v_iret (pc := 24) hr (by decide) (Nat.le_refl _) (Nat.le_refl _) dJ6_indexOfChar_24 (pI_mk (by decide) (hC_c rfl))
          · skip
            refine v_iload (pc := 22) 0 dJ6_indexOfChar_22 rfl ?_
            have hE : v = 102 := (bq hv (by decide)).mp c5
            subst hE
            exact v_iret (pc := 24) hr (by decide) (Nat.le_refl _) (Nat.le_refl _) dJ6_indexOfChar_24 (pI_mk (by decide) (hC_c rfl))
        · skip
          refine v_iload (pc := 22) 0 dJ6_indexOfChar_22 rfl ?_
          have hE : v = 120 := (bq hv (by decide)).mp c4
          subst hE
          exact v_iret (pc := 24) hr (by decide) (Nat.le_refl _) (Nat.le_refl _) dJ6_indexOfChar_24 (pI_mk (by decide) (hC_c rfl))
      · skip
        refine v_iload (pc := 22) 0 dJ6_indexOfChar_22 rfl ?_
        have hE : v = 106 := (bq hv (by decide)).mp c3
        subst hE
        exact v_iret (pc := 24) hr (by decide) (Nat.le_refl _) (Nat.le_refl _) dJ6_indexOfChar_24 (pI_mk (by decide) (hC_c rfl))
    · skip
      refine v_iload (pc := 22) 0 dJ6_indexOfChar_22 rfl ?_
      have hE : v = 98 := (bq hv (by decide)).mp c2
      subst hE
      exact v_iret (pc := 24) hr (by decide) (Nat.le_refl _) (Nat.le_refl _) dJ6_indexOfChar_24 (pI_mk (by decide) (hC_c rfl))
  · skip
    refine v_iload (pc := 22) 0 dJ6_indexOfChar_22 rfl ?_
    have hE : v = 119 := (bq hv (by decide)).mp c1
    subst hE
    exact v_iret (pc := 24) hr (by decide) (Nat.le_refl _) (Nat.le_refl _) dJ6_indexOfChar_24 (pI_mk (by decide) (hC_c rfl))

set_option maxHeartbeats 4000000 in
theorem ct_J6_indexOf {G : GT} {l : Launch} {N : Nat} {S : ST} {v : Nat} (hv : v < 256) : CTi G l yJ6_indexOf cJ6_indexOf 4 (some .int) 1 [.ref (gX G 2), .int (nI v), .int (nI 0), .int (nI 11)] N S (ioc v) S := by
  refine CT.mk "java/lang/StringLatin1" [(0, .ref (gX G 2)), (1, .int (nI v)), (2, .int (nI 0)), (3, .int (nI 11))] rfl (by decide) rfl (Nat.le_of_ble_eq_true rfl) ?_
  intro x hR hl hr hnm
  refine v_iload_n (pc := 0) 1 dJ6_indexOf_0 rfl rfl ?_
  refine c_callSi (pc := 1) (st := []) (ct_J6_canEncode hv) kVJ6_88 kDJ6_88 (rm_ok hR (Nat.le_of_ble_eq_true rfl) (Nat.le_of_ble_eq_true rfl)) ⟨Nat.zero_le _, Nat.zero_le _⟩ rfl rfl (Nat.le_of_ble_eq_true rfl) dJ6_indexOf_1 ?_
  refine v_if_neN (pc := 4) 9 (by omega) dJ6_indexOf_4 (by decide) (fun _ => ?_) (fun h => absurd h (by decide))
  refine v_iload_n (pc := 9) 2 dJ6_indexOf_9 rfl rfl ?_
  refine v_iconst (pc := 10) (nI 0) dJ6_indexOf_10 (by decide) ?_
  refine v_mmax (pc := 11) q519 (by rw [hR]; decide) (by rw [hR]; exact Nat.le_of_ble_eq_true rfl) (Nat.zero_le _) (Nat.zero_le _) dJ6_indexOf_11 ?_
  refine v_topi (v := nI 0) (by decide) ?_
  refine v_istore_n (pc := 14) (lv' := [(2, .int (nI 0)), (0, .ref (gX G 2)), (1, .int (nI v)), (3, .int (nI 11))]) dJ6_indexOf_14 rfl (by decide) rfl ?_
  refine v_iload_n (pc := 15) 3 dJ6_indexOf_15 rfl rfl ?_
  refine v_aload_n (pc := 16) 1 dJ6_indexOf_16 rfl rfl ?_
  refine v_strl (pc := 17) dJ6_indexOf_17 ?_
  refine v_mmin (pc := 18) q520 (by rw [hR]; decide) (by rw [hR]; exact Nat.le_of_ble_eq_true rfl) (Nat.zero_le _) (Nat.zero_le _) dJ6_indexOf_18 ?_
  refine v_topi (v := nI 11) (by decide) ?_
  refine v_istore_n (pc := 21) (lv' := [(3, .int (nI 11)), (2, .int (nI 0)), (0, .ref (gX G 2)), (1, .int (nI v))]) dJ6_indexOf_21 rfl (by decide) rfl ?_
  refine v_iload_n (pc := 22) 1 dJ6_indexOf_22 rfl rfl ?_
  refine v_iload_n (pc := 23) 0 dJ6_indexOf_23 rfl rfl ?_
  refine v_ic_ltN (pc := 24) 29 (by omega) (by omega) dJ6_indexOf_24 (by decide) (fun _ => ?_) (fun h => absurd h (by decide))
  refine v_aload_n (pc := 29) 2 dJ6_indexOf_29 rfl rfl ?_
  refine v_iload_n (pc := 30) 3 dJ6_indexOf_30 rfl rfl ?_
  refine v_iload_n (pc := 31) 1 dJ6_indexOf_31 rfl rfl ?_
  refine v_iload_n (pc := 32) 0 dJ6_indexOf_32 rfl rfl ?_
  refine c_callSi (pc := 33) (st := []) (ct_J6_indexOfChar hv) kVJ6_95 kDJ6_95 (rm_ok hR (Nat.le_of_ble_eq_true rfl) (Nat.le_of_ble_eq_true rfl)) ⟨Nat.zero_le _, Nat.zero_le _⟩ rfl rfl (Nat.le_of_ble_eq_true rfl) dJ6_indexOf_33 ?_
  exact v_iret (pc := 36) hr rfl (Nat.le_refl _) (Nat.le_refl _) dJ6_indexOf_36 (pI_mk rfl (hC_c rfl))

set_option maxHeartbeats 4000000 in
theorem ct_J5_indexOf_2 {G : GT} {l : Launch} {N : Nat} {S : ST} {v : Nat} (hv : v < 256) : CTi G l yJ5_indexOf_2 cJ5_indexOf_2 3 (some .int) 2 [.ref (gX G 1), .int (nI v), .int (nI 0)] N S (ioc v) S := by
  refine CT.mk "java/lang/String" [(0, .ref (gX G 1)), (1, .int (nI v)), (2, .int (nI 0))] rfl (by decide) rfl (Nat.le_of_ble_eq_true rfl) ?_
  intro x hR hl hr hnm
  refine v_aload_n (pc := 0) 0 dJ5_indexOf_2_0 rfl rfl ?_
  refine c_callTi (pc := 1) (st := []) ct_J5_isLatin1 kVJ5_492 kDJ5_492 (rm_ok hR (Nat.le_of_ble_eq_true rfl) (Nat.le_of_ble_eq_true rfl)) ⟨Nat.zero_le _, Nat.zero_le _⟩ rfl rfl (Nat.le_of_ble_eq_true rfl) dJ5_indexOf_2_1 ?_
  refine v_if_eqN (pc := 4) 23 (by omega) dJ5_indexOf_2_4 (by decide) (fun h => absurd h (by decide)) (fun _ => ?_)
  refine v_aload_n (pc := 7) 0 dJ5_indexOf_2_7 rfl rfl ?_
  refine v_strv (pc := 8) dJ5_indexOf_2_8 ?_
  refine v_iload_n (pc := 11) 1 dJ5_indexOf_2_11 rfl rfl ?_
  refine v_iload_n (pc := 12) 2 dJ5_indexOf_2_12 rfl rfl ?_
  refine v_aload_n (pc := 13) 0 dJ5_indexOf_2_13 rfl rfl ?_
  refine c_callTi (pc := 14) (st := [.int (nI 0), .int (nI v), .ref (gX G 2)]) ct_J5_length kVJ5_505 kDJ5_505 (rm_ok hR (Nat.le_of_ble_eq_true rfl) (Nat.le_of_ble_eq_true rfl)) ⟨Nat.zero_le _, Nat.zero_le _⟩ rfl rfl (Nat.le_of_ble_eq_true rfl) dJ5_indexOf_2_14 ?_
  refine c_callSi (pc := 17) (st := []) (ct_J6_indexOf hv) kVJ5_637 kDJ5_637 (rm_ok hR (Nat.le_of_ble_eq_true rfl) (Nat.le_of_ble_eq_true rfl)) ⟨Nat.zero_le _, Nat.zero_le _⟩ rfl rfl (Nat.le_of_ble_eq_true rfl) dJ5_indexOf_2_17 ?_
  refine v_goto (pc := 20) 36 dJ5_indexOf_2_20 (by decide) ?_
  exact v_iret (pc := 36) hr rfl (Nat.le_refl _) (Nat.le_refl _) dJ5_indexOf_2_36 (pI_mk rfl (hC_c rfl))

set_option maxHeartbeats 4000000 in
theorem ct_J5_indexOf {G : GT} {l : Launch} {N : Nat} {S : ST} {v : Nat} (hv : v < 256) : CTi G l yJ5_indexOf cJ5_indexOf 2 (some .int) 3 [.ref (gX G 1), .int (nI v)] N S (ioc v) S := by
  refine CT.mk "java/lang/String" [(0, .ref (gX G 1)), (1, .int (nI v))] rfl (by decide) rfl (Nat.le_of_ble_eq_true rfl) ?_
  intro x hR hl hr hnm
  refine v_aload_n (pc := 0) 0 dJ5_indexOf_0 rfl rfl ?_
  refine v_iload_n (pc := 1) 1 dJ5_indexOf_1 rfl rfl ?_
  refine v_iconst (pc := 2) (nI 0) dJ5_indexOf_2 (by decide) ?_
  refine c_callTi (pc := 3) (st := []) (ct_J5_indexOf_2 hv) kVJ5_633 kDJ5_633 (rm_ok hR (Nat.le_of_ble_eq_true rfl) (Nat.le_of_ble_eq_true rfl)) ⟨Nat.zero_le _, Nat.zero_le _⟩ rfl rfl (Nat.le_of_ble_eq_true rfl) dJ5_indexOf_3 ?_
  exact v_iret (pc := 6) hr rfl (Nat.le_refl _) (Nat.le_refl _) dJ5_indexOf_6 (pI_mk rfl (hC_c rfl))

