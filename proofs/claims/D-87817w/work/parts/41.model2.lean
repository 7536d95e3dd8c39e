set_option maxRecDepth 100000
theorem rkC_lt {a b : Int32} : rkC a b < 0 ↔ rk a < rk b := by
  unfold rkC
  by_cases e : a = b
  · rw [if_pos e, e]; exact ⟨fun h => absurd h (by decide), fun h => by omega⟩
  · rw [if_neg e]; exact cmp_neg
def tB (T : JT) (Q : JQ) (p s : Nat) (va : Nat → Int32) : Bool := if qk Q p = 0 then (nmdB Q p && !toM Q p s) || (rowS T Q p s va).isSome else if qk Q p = 1 then !whM Q p s || (rowS T Q p s va).isNone else if qk Q p = 2 then !whM Q p s || decide (plV Q p va 0 = plV Q p va 1) else !whM Q p s || decide (rk (plV Q p va 0) < rk (plV Q p va 1))
theorem rowS_lt {T : JT} {Q : JQ} {p s r : Nat} {va : Nat → Int32} (h : rowS T Q p s va = some r) : r < tm T (qt Q p) := by
  rcases firstF_cases (P := fun r => agB T Q p r s va) (tm T (qt Q p)) 0 with ⟨h1, -⟩ | ⟨j, h1, h2, h3, -⟩
  · unfold rowS at h; rw [h1] at h; cases h
  · unfold rowS at h; rw [h1] at h; cases h; omega
theorem oI_is {o : Option Nat} (h : ∀ r, o = some r → r < 2147483648) : (oI o = -1 → o.isSome = false ∧ o.isNone = true) ∧ (¬ oI o = -1 → o.isSome = true ∧ o.isNone = false) := by
  cases o with
  | none => exact ⟨fun _ => ⟨rfl, rfl⟩, fun e => absurd rfl e⟩
  | some k => exact ⟨fun e => absurd e (nI_ne_m1 (h k rfl)), fun _ => ⟨rfl, rfl⟩⟩
theorem m_X4_isTrue (l : Launch) (z : JZ) (T : JT) (Q : JQ) (p s : Nat) (hL : mdL z) (hp : p < 10) (h : mPt z Q p) (hT : wT T) (hw : wPt T Q p) (hn6 : qn Q ≤ 6) (hb : qk Q p ≤ 1 → mTb z T (qt Q p)) (hs : s < 64) : jCt l yX4_isTrue cX4_isTrue 3 (some FieldType.boolean) 4 0 0 [.ref (zA z (40, 0)), .int (nI p), .int (nI s)] z (jRi (jb (tB T Q p s (zM z (58, 0)))) z) := by
  have hl : ql Q p ≤ 3 := by
    rcases Nat.lt_or_ge 1 (qk Q p) with h1 | h1
    · have := (hw.2.2.1 (by omega)).1; omega
    · exact wPt_l3 hT hw h1
  have hnm : nmOk6 Q p := fun i hi => by
    rcases hw.2.2.2 i hi with e | ⟨j, hj, e⟩
    · exact Or.inl e
    · exact Or.inr ⟨j, by omega, e⟩
  have hoi := oI_is (o := rowS T Q p s (zM z (58, 0))) 
  have h4 : qk Q p = 0 ∨ qk Q p = 1 ∨ qk Q p = 2 ∨ qk Q p = 3 := by have := hw.1; omega
  have hk := h.1
  rcases h4 with e | e | e | e
  · have hk1 : qk Q p ≤ 1 := by omega
    have h40 := (hT _ (hw.2.1 hk1).1).2.1
    have hoi := hoi (fun r hr => by have := rowS_lt hr; omega)
    rw [e] at hk
    refine (jCt.of "JoinLoomModel" "isTrue" [(0, _), (1, _), (2, _)] rfl rfl (by decide) (Nat.le_of_ble_eq_true rfl) rfl (fun Γ C hQ => ?_))
    refine g_aload_n C dX4_isTrue_0 rfl rfl ?_
    refine f_X4_kind C (hL _ (by decide)) (Or.inl q770) (Or.inl rfl) dX4_isTrue_1 ?_
    refine g_iload_n C dX4_isTrue_4 rfl rfl ?_
    refine g_iald (n := 10) C rfl (hL _ (by decide)) rfl (by omega) (by decide) dX4_isTrue_5 ?_
    refine g_top (hk) ?_
    refine g_tableIn (tgt := 32) C dX4_isTrue_6 (by decide) (by decide) rfl (by decide) ?_
    refine g_aload_n C dX4_isTrue_32 rfl rfl ?_
    refine g_iload_n C dX4_isTrue_33 rfl rfl ?_
    refine g_cfi (g_runV C (m_X4_isNamed l z Q p hL hp h hl) ciX4_isNamed q965 (Or.inl qs38) (Or.inl q963) (hL _ (by decide)) rfl rfl rfl rfl (Nat.le_of_ble_eq_true rfl) dX4_isTrue_34 (by decide)) ?_
    refine g_if_eq_b (tgt := 49) C dX4_isTrue_37 (by decide) (fun c37 => ?_) (fun c37 => ?_)
    · refine g_aload_n C dX4_isTrue_49 rfl rfl ?_
      refine g_iload_n C dX4_isTrue_50 rfl rfl ?_
      refine g_iload_n C dX4_isTrue_51 rfl rfl ?_
      refine g_cfi (g_runV C (m_X4_rowOf l z T Q p s hL hp h hk1 hT hw hn6 (hb hk1) hs) ciX4_rowOf q977 (Or.inl qs41) (Or.inl q975) (hL _ (by decide)) rfl rfl rfl rfl (Nat.le_of_ble_eq_true rfl) dX4_isTrue_52 (by decide)) ?_
      refine g_iconst (v := (-1)) C dX4_isTrue_55 (by decide) ?_
      refine g_icmp_eq (tgt := 63) C dX4_isTrue_56 (by decide) (fun c56 => ?_) (fun c56 => ?_)
      · refine g_iconst (v := nI 0) C dX4_isTrue_63 (by decide) ?_
        exact g_ireturn C hQ rfl (by omega) (by omega) dX4_isTrue_64 (by first | exact ⟨by rw [tB, if_pos e, c37, c46]; rfl, rfl⟩ | exact ⟨by rw [tB, if_pos e, (hoi.1 c56).1, c37]; rfl, rfl⟩ | exact ⟨by rw [tB, if_pos e, (hoi.1 c56).1, c37, c46]; rfl, rfl⟩ | exact ⟨by rw [tB, if_pos e, (hoi.2 c56).1, Bool.or_true]; rfl, rfl⟩)
      · refine g_iconst (v := nI 1) C dX4_isTrue_59 (by decide) ?_
        refine g_goto (tgt := 64) C dX4_isTrue_60 (by decide) ?_
        exact g_ireturn C hQ rfl (by omega) (by omega) dX4_isTrue_64 (by first | exact ⟨by rw [tB, if_pos e, c37, c46]; rfl, rfl⟩ | exact ⟨by rw [tB, if_pos e, (hoi.1 c56).1, c37]; rfl, rfl⟩ | exact ⟨by rw [tB, if_pos e, (hoi.1 c56).1, c37, c46]; rfl, rfl⟩ | exact ⟨by rw [tB, if_pos e, (hoi.2 c56).1, Bool.or_true]; rfl, rfl⟩)
    · refine g_aload_n C dX4_isTrue_40 rfl rfl ?_
      refine g_iload_n C dX4_isTrue_41 rfl rfl ?_
      refine g_iload_n C dX4_isTrue_42 rfl rfl ?_
      refine g_cfi (g_runV C (m_X4_touches l z Q p s hL hp h hl hs hnm) ciX4_touches q969 (Or.inl qs39) (Or.inl q967) (hL _ (by decide)) rfl rfl rfl rfl (Nat.le_of_ble_eq_true rfl) dX4_isTrue_43 (by decide)) ?_
      refine g_if_eq_b (tgt := 59) C dX4_isTrue_46 (by decide) (fun c46 => ?_) (fun c46 => ?_)
      · refine g_iconst (v := nI 1) C dX4_isTrue_59 (by decide) ?_
        refine g_goto (tgt := 64) C dX4_isTrue_60 (by decide) ?_
        exact g_ireturn C hQ rfl (by omega) (by omega) dX4_isTrue_64 (by first | exact ⟨by rw [tB, if_pos e, c37, c46]; rfl, rfl⟩ | exact ⟨by rw [tB, if_pos e, (hoi.1 c56).1, c37]; rfl, rfl⟩ | exact ⟨by rw [tB, if_pos e, (hoi.1 c56).1, c37, c46]; rfl, rfl⟩ | exact ⟨by rw [tB, if_pos e, (hoi.2 c56).1, Bool.or_true]; rfl, rfl⟩)
      · refine g_aload_n C dX4_isTrue_49 rfl rfl ?_
        refine g_iload_n C dX4_isTrue_50 rfl rfl ?_
        refine g_iload_n C dX4_isTrue_51 rfl rfl ?_
        refine g_cfi (g_runV C (m_X4_rowOf l z T Q p s hL hp h hk1 hT hw hn6 (hb hk1) hs) ciX4_rowOf q977 (Or.inl qs41) (Or.inl q975) (hL _ (by decide)) rfl rfl rfl rfl (Nat.le_of_ble_eq_true rfl) dX4_isTrue_52 (by decide)) ?_
        refine g_iconst (v := (-1)) C dX4_isTrue_55 (by decide) ?_
        refine g_icmp_eq (tgt := 63) C dX4_isTrue_56 (by decide) (fun c56 => ?_) (fun c56 => ?_)
        · refine g_iconst (v := nI 0) C dX4_isTrue_63 (by decide) ?_
          exact g_ireturn C hQ rfl (by omega) (by omega) dX4_isTrue_64 (by first | exact ⟨by rw [tB, if_pos e, c37, c46]; rfl, rfl⟩ | exact ⟨by rw [tB, if_pos e, (hoi.1 c56).1, c37]; rfl, rfl⟩ | exact ⟨by rw [tB, if_pos e, (hoi.1 c56).1, c37, c46]; rfl, rfl⟩ | exact ⟨by rw [tB, if_pos e, (hoi.2 c56).1, Bool.or_true]; rfl, rfl⟩)
        · refine g_iconst (v := nI 1) C dX4_isTrue_59 (by decide) ?_
          refine g_goto (tgt := 64) C dX4_isTrue_60 (by decide) ?_
          exact g_ireturn C hQ rfl (by omega) (by omega) dX4_isTrue_64 (by first | exact ⟨by rw [tB, if_pos e, c37, c46]; rfl, rfl⟩ | exact ⟨by rw [tB, if_pos e, (hoi.1 c56).1, c37]; rfl, rfl⟩ | exact ⟨by rw [tB, if_pos e, (hoi.1 c56).1, c37, c46]; rfl, rfl⟩ | exact ⟨by rw [tB, if_pos e, (hoi.2 c56).1, Bool.or_true]; rfl, rfl⟩)
  · have hk1 : qk Q p ≤ 1 := by omega
    have h40 := (hT _ (hw.2.1 hk1).1).2.1
    have hoi := hoi (fun r hr => by have := rowS_lt hr; omega)
    rw [e] at hk
    refine (jCt.of "JoinLoomModel" "isTrue" [(0, _), (1, _), (2, _)] rfl rfl (by decide) (Nat.le_of_ble_eq_true rfl) rfl (fun Γ C hQ => ?_))
    refine g_aload_n C dX4_isTrue_0 rfl rfl ?_
    refine f_X4_kind C (hL _ (by decide)) (Or.inl q770) (Or.inl rfl) dX4_isTrue_1 ?_
    refine g_iload_n C dX4_isTrue_4 rfl rfl ?_
    refine g_iald (n := 10) C rfl (hL _ (by decide)) rfl (by omega) (by decide) dX4_isTrue_5 ?_
    refine g_top (hk) ?_
    refine g_tableIn (tgt := 65) C dX4_isTrue_6 (by decide) (by decide) rfl (by decide) ?_
    refine g_aload_n C dX4_isTrue_65 rfl rfl ?_
    refine g_iload_n C dX4_isTrue_66 rfl rfl ?_
    refine g_iload_n C dX4_isTrue_67 rfl rfl ?_
    refine g_cfi (g_runV C (m_X4_isWhole l z Q p s hL hp h hl hs hnm) ciX4_isWhole q989 (Or.inl qs44) (Or.inl q987) (hL _ (by decide)) rfl rfl rfl rfl (Nat.le_of_ble_eq_true rfl) dX4_isTrue_68 (by decide)) ?_
    refine g_if_eq_b (tgt := 84) C dX4_isTrue_71 (by decide) (fun c71 => ?_) (fun c71 => ?_)
    · refine g_iconst (v := nI 1) C dX4_isTrue_84 (by decide) ?_
      refine g_goto (tgt := 89) C dX4_isTrue_85 (by decide) ?_
      exact g_ireturn C hQ rfl (by omega) (by omega) dX4_isTrue_89 (by first | exact ⟨by rw [tB, if_neg (by omega), if_pos e, c71]; rfl, rfl⟩ | exact ⟨by rw [tB, if_neg (by omega), if_pos e, c71, (hoi.1 c81).2]; rfl, rfl⟩ | exact ⟨by rw [tB, if_neg (by omega), if_pos e, c71, (hoi.2 c81).2]; rfl, rfl⟩)
    · refine g_aload_n C dX4_isTrue_74 rfl rfl ?_
      refine g_iload_n C dX4_isTrue_75 rfl rfl ?_
      refine g_iload_n C dX4_isTrue_76 rfl rfl ?_
      refine g_cfi (g_runV C (m_X4_rowOf l z T Q p s hL hp h hk1 hT hw hn6 (hb hk1) hs) ciX4_rowOf q977 (Or.inl qs41) (Or.inl q975) (hL _ (by decide)) rfl rfl rfl rfl (Nat.le_of_ble_eq_true rfl) dX4_isTrue_77 (by decide)) ?_
      refine g_iconst (v := (-1)) C dX4_isTrue_80 (by decide) ?_
      refine g_icmp_ne (tgt := 88) C dX4_isTrue_81 (by decide) (fun c81 => ?_) (fun c81 => ?_)
      · refine g_iconst (v := nI 0) C dX4_isTrue_88 (by decide) ?_
        exact g_ireturn C hQ rfl (by omega) (by omega) dX4_isTrue_89 (by first | exact ⟨by rw [tB, if_neg (by omega), if_pos e, c71]; rfl, rfl⟩ | exact ⟨by rw [tB, if_neg (by omega), if_pos e, c71, (hoi.1 c81).2]; rfl, rfl⟩ | exact ⟨by rw [tB, if_neg (by omega), if_pos e, c71, (hoi.2 c81).2]; rfl, rfl⟩)
      · refine g_iconst (v := nI 1) C dX4_isTrue_84 (by decide) ?_
        refine g_goto (tgt := 89) C dX4_isTrue_85 (by decide) ?_
        exact g_ireturn C hQ rfl (by omega) (by omega) dX4_isTrue_89 (by first | exact ⟨by rw [tB, if_neg (by omega), if_pos e, c71]; rfl, rfl⟩ | exact ⟨by rw [tB, if_neg (by omega), if_pos e, c71, (hoi.1 c81).2]; rfl, rfl⟩ | exact ⟨by rw [tB, if_neg (by omega), if_pos e, c71, (hoi.2 c81).2]; rfl, rfl⟩)
  · have hl2 := (hw.2.2.1 (by omega)).1
    rw [e] at hk
    refine (jCt.of "JoinLoomModel" "isTrue" [(0, _), (1, _), (2, _)] rfl rfl (by decide) (Nat.le_of_ble_eq_true rfl) rfl (fun Γ C hQ => ?_))
    refine g_aload_n C dX4_isTrue_0 rfl rfl ?_
    refine f_X4_kind C (hL _ (by decide)) (Or.inl q770) (Or.inl rfl) dX4_isTrue_1 ?_
    refine g_iload_n C dX4_isTrue_4 rfl rfl ?_
    refine g_iald (n := 10) C rfl (hL _ (by decide)) rfl (by omega) (by decide) dX4_isTrue_5 ?_
    refine g_top (hk) ?_
    refine g_tableIn (tgt := 90) C dX4_isTrue_6 (by decide) (by decide) rfl (by decide) ?_
    refine g_aload_n C dX4_isTrue_90 rfl rfl ?_
    refine g_iload_n C dX4_isTrue_91 rfl rfl ?_
    refine g_iload_n C dX4_isTrue_92 rfl rfl ?_
    refine g_cfi (g_runV C (m_X4_isWhole l z Q p s hL hp h hl hs hnm) ciX4_isWhole q989 (Or.inl qs44) (Or.inl q987) (hL _ (by decide)) rfl rfl rfl rfl (Nat.le_of_ble_eq_true rfl) dX4_isTrue_93 (by decide)) ?_
    refine g_if_eq_b (tgt := 114) C dX4_isTrue_96 (by decide) (fun c96 => ?_) (fun c96 => ?_)
    · refine g_iconst (v := nI 1) C dX4_isTrue_114 (by decide) ?_
      refine g_goto (tgt := 119) C dX4_isTrue_115 (by decide) ?_
      exact g_ireturn C hQ rfl (by omega) (by omega) dX4_isTrue_119 (by first | exact ⟨by rw [tB, if_neg (by omega), if_neg (by omega), if_pos e, c96]; rfl, rfl⟩ | exact ⟨by rw [tB, if_neg (by omega), if_neg (by omega), if_pos e, c96, decide_eq_true c111]; rfl, rfl⟩ | exact ⟨by rw [tB, if_neg (by omega), if_neg (by omega), if_pos e, c96, decide_eq_false c111]; rfl, rfl⟩)
    · refine g_aload_n C dX4_isTrue_99 rfl rfl ?_
      refine g_iload_n C dX4_isTrue_100 rfl rfl ?_
      refine g_iconst (v := nI 0) C dX4_isTrue_101 (by decide) ?_
      refine g_cfi (g_runV C (m_X4_told l z Q p 0 hL hp h hl (by omega) (hnm 0 (by omega))) ciX4_told q985 (Or.inl qs43) (Or.inl q983) (hL _ (by decide)) rfl rfl rfl rfl (Nat.le_of_ble_eq_true rfl) dX4_isTrue_102 (by decide)) ?_
      refine g_aload_n C dX4_isTrue_105 rfl rfl ?_
      refine g_iload_n C dX4_isTrue_106 rfl rfl ?_
      refine g_iconst (v := nI 1) C dX4_isTrue_107 (by decide) ?_
      refine g_cfi (g_runV C (m_X4_told l z Q p 1 hL hp h hl (by omega) (hnm 1 (by omega))) ciX4_told q985 (Or.inl qs43) (Or.inl q983) (hL _ (by decide)) rfl rfl rfl rfl (Nat.le_of_ble_eq_true rfl) dX4_isTrue_108 (by decide)) ?_
      refine g_icmp_ne (tgt := 118) C dX4_isTrue_111 (by decide) (fun c111 => ?_) (fun c111 => ?_)
      · refine g_iconst (v := nI 0) C dX4_isTrue_118 (by decide) ?_
        exact g_ireturn C hQ rfl (by omega) (by omega) dX4_isTrue_119 (by first | exact ⟨by rw [tB, if_neg (by omega), if_neg (by omega), if_pos e, c96]; rfl, rfl⟩ | exact ⟨by rw [tB, if_neg (by omega), if_neg (by omega), if_pos e, c96, decide_eq_true c111]; rfl, rfl⟩ | exact ⟨by rw [tB, if_neg (by omega), if_neg (by omega), if_pos e, c96, decide_eq_false c111]; rfl, rfl⟩)
      · refine g_iconst (v := nI 1) C dX4_isTrue_114 (by decide) ?_
        refine g_goto (tgt := 119) C dX4_isTrue_115 (by decide) ?_
        exact g_ireturn C hQ rfl (by omega) (by omega) dX4_isTrue_119 (by first | exact ⟨by rw [tB, if_neg (by omega), if_neg (by omega), if_pos e, c96]; rfl, rfl⟩ | exact ⟨by rw [tB, if_neg (by omega), if_neg (by omega), if_pos e, c96, decide_eq_true c111]; rfl, rfl⟩ | exact ⟨by rw [tB, if_neg (by omega), if_neg (by omega), if_pos e, c96, decide_eq_false c111]; rfl, rfl⟩)
  · have hl2 := (hw.2.2.1 (by omega)).1
    rw [e] at hk
    refine (jCt.of "JoinLoomModel" "isTrue" [(0, _), (1, _), (2, _)] rfl rfl (by decide) (Nat.le_of_ble_eq_true rfl) rfl (fun Γ C hQ => ?_))
    refine g_aload_n C dX4_isTrue_0 rfl rfl ?_
    refine f_X4_kind C (hL _ (by decide)) (Or.inl q770) (Or.inl rfl) dX4_isTrue_1 ?_
    refine g_iload_n C dX4_isTrue_4 rfl rfl ?_
    refine g_iald (n := 10) C rfl (hL _ (by decide)) rfl (by omega) (by decide) dX4_isTrue_5 ?_
    refine g_top (hk) ?_
    refine g_tableOut (tgt := 120) C dX4_isTrue_6 (by decide) (by decide) ?_
    refine g_aload_n C dX4_isTrue_120 rfl rfl ?_
    refine g_iload_n C dX4_isTrue_121 rfl rfl ?_
    refine g_iload_n C dX4_isTrue_122 rfl rfl ?_
    refine g_cfi (g_runV C (m_X4_isWhole l z Q p s hL hp h hl hs hnm) ciX4_isWhole q989 (Or.inl qs44) (Or.inl q987) (hL _ (by decide)) rfl rfl rfl rfl (Nat.le_of_ble_eq_true rfl) dX4_isTrue_123 (by decide)) ?_
    refine g_if_eq_b (tgt := 147) C dX4_isTrue_126 (by decide) (fun c126 => ?_) (fun c126 => ?_)
    · refine g_iconst (v := nI 1) C dX4_isTrue_147 (by decide) ?_
      refine g_goto (tgt := 152) C dX4_isTrue_148 (by decide) ?_
      exact g_ireturn C hQ rfl (by omega) (by omega) dX4_isTrue_152 (by first | exact ⟨by rw [tB, if_neg (by omega), if_neg (by omega), if_neg (by omega), c126]; rfl, rfl⟩ | exact ⟨by rw [tB, if_neg (by omega), if_neg (by omega), if_neg (by omega), c126, decide_eq_true (rkC_lt.mp (Int32.not_le.mp c144))]; rfl, rfl⟩ | exact ⟨by rw [tB, if_neg (by omega), if_neg (by omega), if_neg (by omega), c126, decide_eq_false (fun e9 => Int32.not_lt.mpr c144 (rkC_lt.mpr e9))]; rfl, rfl⟩)
    · refine g_aload_n C dX4_isTrue_129 rfl rfl ?_
      refine g_iload_n C dX4_isTrue_130 rfl rfl ?_
      refine g_iconst (v := nI 0) C dX4_isTrue_131 (by decide) ?_
      refine g_cfi (g_runV C (m_X4_told l z Q p 0 hL hp h hl (by omega) (hnm 0 (by omega))) ciX4_told q985 (Or.inl qs43) (Or.inl q983) (hL _ (by decide)) rfl rfl rfl rfl (Nat.le_of_ble_eq_true rfl) dX4_isTrue_132 (by decide)) ?_
      refine g_aload_n C dX4_isTrue_135 rfl rfl ?_
      refine g_iload_n C dX4_isTrue_136 rfl rfl ?_
      refine g_iconst (v := nI 1) C dX4_isTrue_137 (by decide) ?_
      refine g_cfi (g_runV C (m_X4_told l z Q p 1 hL hp h hl (by omega) (hnm 1 (by omega))) ciX4_told q985 (Or.inl qs43) (Or.inl q983) (hL _ (by decide)) rfl rfl rfl rfl (Nat.le_of_ble_eq_true rfl) dX4_isTrue_138 (by decide)) ?_
      refine g_cfi (g_runS C (m_X4_rank l z _ _) ciX4_rank q888 (Or.inl q887) rfl rfl (Nat.le_of_ble_eq_true rfl) dX4_isTrue_141 (by decide)) ?_
      refine g_if_ge (tgt := 151) C dX4_isTrue_144 (by decide) (fun c144 => ?_) (fun c144 => ?_)
      · refine g_iconst (v := nI 0) C dX4_isTrue_151 (by decide) ?_
        exact g_ireturn C hQ rfl (by omega) (by omega) dX4_isTrue_152 (by first | exact ⟨by rw [tB, if_neg (by omega), if_neg (by omega), if_neg (by omega), c126]; rfl, rfl⟩ | exact ⟨by rw [tB, if_neg (by omega), if_neg (by omega), if_neg (by omega), c126, decide_eq_true (rkC_lt.mp (Int32.not_le.mp c144))]; rfl, rfl⟩ | exact ⟨by rw [tB, if_neg (by omega), if_neg (by omega), if_neg (by omega), c126, decide_eq_false (fun e9 => Int32.not_lt.mpr c144 (rkC_lt.mpr e9))]; rfl, rfl⟩)
      · refine g_iconst (v := nI 1) C dX4_isTrue_147 (by decide) ?_
        refine g_goto (tgt := 152) C dX4_isTrue_148 (by decide) ?_
        exact g_ireturn C hQ rfl (by omega) (by omega) dX4_isTrue_152 (by first | exact ⟨by rw [tB, if_neg (by omega), if_neg (by omega), if_neg (by omega), c126]; rfl, rfl⟩ | exact ⟨by rw [tB, if_neg (by omega), if_neg (by omega), if_neg (by omega), c126, decide_eq_true (rkC_lt.mp (Int32.not_le.mp c144))]; rfl, rfl⟩ | exact ⟨by rw [tB, if_neg (by omega), if_neg (by omega), if_neg (by omega), c126, decide_eq_false (fun e9 => Int32.not_lt.mpr c144 (rkC_lt.mpr e9))]; rfl, rfl⟩)
def trueB (T : JT) (Q : JQ) (s : Nat) (va : Nat → Int32) : Bool := !anyF (fun p => !tB T Q p s va) (qp Q)
/-- the reference's question -/
def mQn (z : JZ) (T : JT) (Q : JQ) : Prop := zM z (40, 0) 3 = nI (qn Q) ∧ zM z (40, 0) 4 = nI (qp Q) ∧ (∀ k, k < qn Q → zM z (49, 0) k = nI (qo Q k)) ∧ (∀ p, p < qp Q → mPt z Q p) ∧ ∀ p, p < qp Q → qk Q p ≤ 1 → mTb z T (qt Q p)
theorem lp_X4_areTrue {Γ : JC} {l : Launch} {z : JZ} {T : JT} {Q : JQ} {s : Nat} (C : jOk Γ l (jrm 5 0 0) cX4_areTrue "JoinLoomModel" (some FieldType.boolean) 3) (hQ : jRt Γ (jRi (jb (trueB T Q s (zM z (58, 0)))) z) 0 0 "areTrue") (hL : mdL z) (h : mQn z T Q) (hT : wT T) (hw : wQ T Q) (hs : s < 64) :
    ∀ (m k : Nat), k + m = qp Q → (∀ i, i < k → (!tB T Q i s (zM z (58, 0))) = false) → jG Γ 0 0 z 2 [(0, .ref (zA z (40, 0))), (1, .int (nI s)), (2, .int (nI k))] [] := by
  obtain ⟨w1, w2, w3, w4, w5, w6⟩ := hw
  intro m
  induction m with
  | zero =>
    intro k hk he
    have e : k = qp Q := by omega
    refine g_iload_n C dX4_areTrue_2 rfl rfl ?_
    refine g_aload_n C dX4_areTrue_3 rfl rfl ?_
    refine f_X4_parts C (hL _ (by decide)) (Or.inl q769) (Or.inl rfl) dX4_areTrue_4 ?_
    refine g_top (h.2.1) ?_
    first | refine g_icmp_ge_n (tgt := 27) C dX4_areTrue_7 (by decide) (by omega) (by omega) (fun c7 => ?_) (fun c7 => ?_) | refine g_icmp_ge (tgt := 27) C dX4_areTrue_7 (by decide) (fun c7 => ?_) (fun c7 => ?_)
    · refine g_iconst (v := nI 1) C dX4_areTrue_27 (by decide) ?_
      exact g_ireturn C hQ rfl (by omega) (by omega) dX4_areTrue_28 (⟨by rw [trueB, anyF_no (fun a ha => he a (by omega))]; rfl, rfl⟩)
    · omega
  | succ m ih =>
    intro k hk he
    refine g_iload_n C dX4_areTrue_2 rfl rfl ?_
    refine g_aload_n C dX4_areTrue_3 rfl rfl ?_
    refine f_X4_parts C (hL _ (by decide)) (Or.inl q769) (Or.inl rfl) dX4_areTrue_4 ?_
    refine g_top (h.2.1) ?_
    first | refine g_icmp_ge_n (tgt := 27) C dX4_areTrue_7 (by decide) (by omega) (by omega) (fun c7 => ?_) (fun c7 => ?_) | refine g_icmp_ge (tgt := 27) C dX4_areTrue_7 (by decide) (fun c7 => ?_) (fun c7 => ?_)
    · omega
    · refine g_aload_n C dX4_areTrue_10 rfl rfl ?_
      refine g_iload_n C dX4_areTrue_11 rfl rfl ?_
      refine g_iload_n C dX4_areTrue_12 rfl rfl ?_
      refine g_cfi (g_runV C (m_X4_isTrue l z T Q k s hL (by omega) (h.2.2.2.1 k (by omega)) hT (w3 k (by omega)) w1 (h.2.2.2.2 k (by omega)) hs) ciX4_isTrue q961 (Or.inl qs37) (Or.inl q959) (hL _ (by decide)) rfl rfl rfl rfl (Nat.le_of_ble_eq_true rfl) dX4_areTrue_13 (by decide)) ?_
      refine g_if_ne_b (tgt := 21) C dX4_areTrue_16 (by decide) (fun c16 => ?_) (fun c16 => ?_)
      · first | refine g_iinc1 (lv' := [(0, _), (1, _), (2, _)]) C dX4_areTrue_21 rfl (by decide) rfl ?_ | refine g_iinc (lv' := [(0, _), (1, _), (2, _)]) C dX4_areTrue_21 rfl rfl (by decide) rfl ?_
        refine g_goto (tgt := 2) C dX4_areTrue_24 (by decide) ?_
        exact ih (k + 1) (by omega) (no_s (P := fun i => !tB T Q i s (zM z (58, 0))) he (by rw [c16]; rfl))
      · refine g_iconst (v := nI 0) C dX4_areTrue_19 (by decide) ?_
        exact g_ireturn C hQ rfl (by omega) (by omega) dX4_areTrue_20 (⟨by rw [trueB, anyF_yes (i := k) (by omega) (by rw [c16]; rfl)]; rfl, rfl⟩)
theorem m_X4_areTrue (l : Launch) (z : JZ) (T : JT) (Q : JQ) (s : Nat) (hL : mdL z) (h : mQn z T Q) (hT : wT T) (hw : wQ T Q) (hs : s < 64) : jCt l yX4_areTrue cX4_areTrue 3 (some FieldType.boolean) 5 0 0 [.ref (zA z (40, 0)), .int (nI s)] z (jRi (jb (trueB T Q s (zM z (58, 0)))) z) := by
  refine (jCt.of "JoinLoomModel" "areTrue" [(0, _), (1, _)] rfl rfl (by decide) (Nat.le_of_ble_eq_true rfl) rfl (fun Γ C hQ => ?_))
  refine g_iconst (v := nI 0) C dX4_areTrue_0 (by decide) ?_
  refine g_istore_n (lv' := [(0, _), (1, _), (2, _)]) C dX4_areTrue_1 rfl (by decide) rfl ?_
  exact lp_X4_areTrue C hQ hL h hT hw hs (qp Q) 0 (by omega) (fun i hi => absurd hi (Nat.not_lt_zero _))
/-- the first place of a has that has the name k: part p, place i -/
def colP (Q : JQ) (k : Nat) (p i : Nat) : Prop := p < qp Q ∧ qk Q p = 0 ∧ i < ql Q p ∧ qm Q p i = nI k ∧ (∀ a, a < i → ¬ qm Q p a = nI k) ∧ ∀ b, b < p → qk Q b = 0 → ∀ a, a < ql Q b → ¬ qm Q b a = nI k
theorem l2_X4_columnOf {Γ : JC} {l : Launch} {z : JZ} {T : JT} {Q : JQ} {k p i p1 : Nat} (C : jOk Γ l (jrm 1 0 0) cX4_columnOf "JoinLoomModel" (some FieldType.int) 4) (hQ : jRt Γ (jRi (nI (3 * p + i)) z) 0 0 "columnOf") (hL : mdL z) (h : mQn z T Q) (hT : wT T) (hw : wQ T Q) (hc : colP Q k p i) (hp1 : p1 ≤ p) (K : p1 < p → ∀ a, jG Γ 0 0 z 57 [(0, .ref (zA z (40, 0))), (1, .int (nI k)), (2, .int (nI p1)), (3, .int a)] []) :
    ∀ (m a : Nat), a + m = ql Q p1 → (p1 = p → a ≤ i) → jG Γ 0 0 z 12 [(0, .ref (zA z (40, 0))), (1, .int (nI k)), (2, .int (nI p1)), (3, .int (nI a))] [] := by
  obtain ⟨c1, c2, c3, c4, c5, c6⟩ := hc
  obtain ⟨w1, w2, w3, w4, w5, w6⟩ := hw
  have hpt := h.2.2.2.1 p1 (by omega)
  have hwp := w3 p1 (by omega)
  have hk3 := hwp.1
  have hl : ql Q p1 ≤ 3 := by
    rcases Nat.lt_or_ge 1 (qk Q p1) with h1 | h1
    · have := (hwp.2.2.1 (by omega)).1; omega
    · exact wPt_l3 hT hwp h1
  intro m
  induction m with
  | zero =>
    intro a ha hai
    refine g_iload_n C dX4_columnOf_12 rfl rfl ?_
    refine g_aload_n C dX4_columnOf_13 rfl rfl ?_
    refine f_X4_places C (hL _ (by decide)) (Or.inl q772) (Or.inl rfl) dX4_columnOf_14 ?_
    refine g_iload_n C dX4_columnOf_17 rfl rfl ?_
    refine g_iald (n := 10) C rfl (hL _ (by decide)) rfl (by omega) (by decide) dX4_columnOf_18 ?_
    refine g_top (hpt.2.2.1) ?_
    first | refine g_icmp_ge_n (tgt := 57) C dX4_columnOf_19 (by decide) (by omega) (by omega) (fun c19 => ?_) (fun c19 => ?_) | refine g_icmp_ge (tgt := 57) C dX4_columnOf_19 (by decide) (fun c19 => ?_) (fun c19 => ?_)
    · exact K (by rcases Nat.lt_or_ge p1 p with h9 | h9; exact h9; (have e9 : p1 = p := by omega); subst e9; have := hai rfl; omega) _
    · omega
  | succ m ih =>
    intro a ha hai
    refine g_iload_n C dX4_columnOf_12 rfl rfl ?_
    refine g_aload_n C dX4_columnOf_13 rfl rfl ?_
    refine f_X4_places C (hL _ (by decide)) (Or.inl q772) (Or.inl rfl) dX4_columnOf_14 ?_
    refine g_iload_n C dX4_columnOf_17 rfl rfl ?_
    refine g_iald (n := 10) C rfl (hL _ (by decide)) rfl (by omega) (by decide) dX4_columnOf_18 ?_
    refine g_top (hpt.2.2.1) ?_
    first | refine g_icmp_ge_n (tgt := 57) C dX4_columnOf_19 (by decide) (by omega) (by omega) (fun c19 => ?_) (fun c19 => ?_) | refine g_icmp_ge (tgt := 57) C dX4_columnOf_19 (by decide) (fun c19 => ?_) (fun c19 => ?_)
    · omega
    · refine g_aload_n C dX4_columnOf_22 rfl rfl ?_
      refine f_X4_kind C (hL _ (by decide)) (Or.inl q770) (Or.inl rfl) dX4_columnOf_23 ?_
      refine g_iload_n C dX4_columnOf_26 rfl rfl ?_
      refine g_iald (n := 10) C rfl (hL _ (by decide)) rfl (by omega) (by decide) dX4_columnOf_27 ?_
      refine g_top (hpt.1) ?_
      refine g_if_ne_n (tgt := 57) C dX4_columnOf_28 (by decide) (by omega) (fun c28 => ?_) (fun c28 => ?_)
      · exact K (by rcases Nat.lt_or_ge p1 p with h9 | h9; exact h9; (have e9 : p1 = p := by omega); subst e9; exact absurd c2 c28) _
      · refine g_aload_n C dX4_columnOf_31 rfl rfl ?_
        refine f_X4_placeName C (hL _ (by decide)) (Or.inl q773) (Or.inl rfl) dX4_columnOf_32 ?_
        refine g_iconst (v := nI 3) C dX4_columnOf_35 (by decide) ?_
        refine g_iload_n C dX4_columnOf_36 rfl rfl ?_
        first | refine g_imul_n C dX4_columnOf_37 ?_ | refine g_imul C dX4_columnOf_37 ?_
        refine g_iload_n C dX4_columnOf_38 rfl rfl ?_
        first | refine g_iadd_n C dX4_columnOf_39 ?_ | refine g_iadd C dX4_columnOf_39 ?_
        refine g_iald (n := 30) C rfl (hL _ (by decide)) rfl (by omega) (by decide) dX4_columnOf_40 ?_
        refine g_top ((hpt.2.2.2 a (by omega)).1) ?_
        refine g_iload_n C dX4_columnOf_41 rfl rfl ?_
        refine g_icmp_ne (tgt := 51) C dX4_columnOf_42 (by decide) (fun c42 => ?_) (fun c42 => ?_)
        · first | refine g_iinc1 (lv' := [(0, _), (1, _), (2, _), (3, _)]) C dX4_columnOf_51 rfl (by decide) rfl ?_ | refine g_iinc (lv' := [(0, _), (1, _), (2, _), (3, _)]) C dX4_columnOf_51 rfl rfl (by decide) rfl ?_
          refine g_goto (tgt := 12) C dX4_columnOf_54 (by decide) ?_
          exact ih (a + 1) (by omega) (fun e9 => by subst e9; have h7 := hai rfl; have h8 : a ≠ i := fun e8 => c42 (by rw [e8]; exact c4); omega)
        · have e9 : p1 = p := Classical.byContradiction (fun h9 => c6 p1 (by omega) c28 a (by omega) c42)
          subst e9
          have e8 : a = i := Classical.byContradiction (fun h9 => c5 a (by have := hai rfl; omega) c42)
          subst e8
          refine g_iconst (v := nI 3) C dX4_columnOf_45 (by decide) ?_
          refine g_iload_n C dX4_columnOf_46 rfl rfl ?_
          first | refine g_imul_n C dX4_columnOf_47 ?_ | refine g_imul C dX4_columnOf_47 ?_
          refine g_iload_n C dX4_columnOf_48 rfl rfl ?_
          first | refine g_iadd_n C dX4_columnOf_49 ?_ | refine g_iadd C dX4_columnOf_49 ?_
          exact g_ireturn C hQ rfl (by omega) (by omega) dX4_columnOf_50 (⟨rfl, rfl⟩)
theorem lp_X4_columnOf {Γ : JC} {l : Launch} {z : JZ} {T : JT} {Q : JQ} {k p i : Nat} (C : jOk Γ l (jrm 1 0 0) cX4_columnOf "JoinLoomModel" (some FieldType.int) 4) (hQ : jRt Γ (jRi (nI (3 * p + i)) z) 0 0 "columnOf") (hL : mdL z) (h : mQn z T Q) (hT : wT T) (hw : wQ T Q) (hc : colP Q k p i) :
    ∀ (m p1 : Nat), p1 + m = p → jG Γ 0 0 z 2 [(0, .ref (zA z (40, 0))), (1, .int (nI k)), (2, .int (nI p1))] [] := by
  have hp := hc.1
  have w2 := hw.2.1
  intro m
  induction m with
  | zero =>
    intro p1 hp1
    refine g_iload_n C dX4_columnOf_2 rfl rfl ?_
    refine g_aload_n C dX4_columnOf_3 rfl rfl ?_
    refine f_X4_parts C (hL _ (by decide)) (Or.inl q769) (Or.inl rfl) dX4_columnOf_4 ?_
    refine g_top (h.2.1) ?_
    first | refine g_icmp_ge_n (tgt := 63) C dX4_columnOf_7 (by decide) (by omega) (by omega) (fun c7 => ?_) (fun c7 => ?_) | refine g_icmp_ge (tgt := 63) C dX4_columnOf_7 (by decide) (fun c7 => ?_) (fun c7 => ?_)
    · omega
    · refine g_iconst (v := nI 0) C dX4_columnOf_10 (by decide) ?_
      refine g_istore_n (lv' := [(0, _), (1, _), (2, _), (3, _)]) C dX4_columnOf_11 rfl (by decide) rfl ?_
      exact l2_X4_columnOf C hQ hL h hT hw hc (by omega) (fun h9 => by omega) _ 0 (Nat.zero_add _) (fun _ => Nat.zero_le _)
  | succ m ih =>
    intro p1 hp1
    have K : p1 < p → ∀ a, jG Γ 0 0 z 57 [(0, .ref (zA z (40, 0))), (1, .int (nI k)), (2, .int (nI p1)), (3, .int a)] [] := by
      intro h9 a
      first | refine g_iinc1 (lv' := [(0, _), (1, _), (2, _), (3, _)]) C dX4_columnOf_57 rfl (by decide) rfl ?_ | refine g_iinc (lv' := [(0, _), (1, _), (2, _), (3, _)]) C dX4_columnOf_57 rfl rfl (by decide) rfl ?_
      refine g_goto (tgt := 2) C dX4_columnOf_60 (by decide) ?_
      refine g_take 3 rfl ?_
      exact ih (p1 + 1) (by omega)
    refine g_iload_n C dX4_columnOf_2 rfl rfl ?_
    refine g_aload_n C dX4_columnOf_3 rfl rfl ?_
    refine f_X4_parts C (hL _ (by decide)) (Or.inl q769) (Or.inl rfl) dX4_columnOf_4 ?_
    refine g_top (h.2.1) ?_
    first | refine g_icmp_ge_n (tgt := 63) C dX4_columnOf_7 (by decide) (by omega) (by omega) (fun c7 => ?_) (fun c7 => ?_) | refine g_icmp_ge (tgt := 63) C dX4_columnOf_7 (by decide) (fun c7 => ?_) (fun c7 => ?_)
    · omega
    · refine g_iconst (v := nI 0) C dX4_columnOf_10 (by decide) ?_
      refine g_istore_n (lv' := [(0, _), (1, _), (2, _), (3, _)]) C dX4_columnOf_11 rfl (by decide) rfl ?_
      exact l2_X4_columnOf C hQ hL h hT hw hc (by omega) K _ 0 (Nat.zero_add _) (fun _ => Nat.zero_le _)
theorem m_X4_columnOf (l : Launch) (z : JZ) (T : JT) (Q : JQ) (k p i : Nat) (hL : mdL z) (h : mQn z T Q) (hT : wT T) (hw : wQ T Q) (hc : colP Q k p i) : jCt l yX4_columnOf cX4_columnOf 4 (some FieldType.int) 1 0 0 [.ref (zA z (40, 0)), .int (nI k)] z (jRi (nI (3 * p + i)) z) := by
  refine (jCt.of "JoinLoomModel" "columnOf" [(0, _), (1, _)] rfl rfl (by decide) (Nat.le_of_ble_eq_true rfl) rfl (fun Γ C hQ => ?_))
  refine g_iconst (v := nI 0) C dX4_columnOf_0 (by decide) ?_
  refine g_istore_n (lv' := [(0, _), (1, _), (2, _)]) C dX4_columnOf_1 rfl (by decide) rfl ?_
  exact lp_X4_columnOf C hQ hL h hT hw hc p 0 (by omega)
theorem lp_X4_isAgain {Γ : JC} {l : Launch} {z : JZ} {T : JT} {t c r : Nat} (C : jOk Γ l (jrm 2 0 0) cX4_isAgain "JoinLoomModel" (some FieldType.boolean) 5) (hQ : jRt Γ (jRi (jb (anyF (fun k => decide (tv T t k c = tv T t r c)) r)) z) 0 0 "isAgain") (hL : mdL z) (ht : t < 8) (hT : wT T) (h : mTb z T t) (hc : c < tc T t) (hr : r < tm T t) :
    ∀ (m k : Nat), k + m = r → (∀ i, i < k → decide (tv T t i c = tv T t r c) = false) → jG Γ 0 0 z 3 [(0, .ref (zA z (40, 0))), (1, .int (nI t)), (2, .int (nI c)), (3, .int (nI r)), (4, .int (nI k))] [] := by
  obtain ⟨w1, w2, w3⟩ := hT t ht
  intro m
  induction m with
  | zero =>
    intro k hk he
    refine g_iload C dX4_isAgain_3 rfl ?_
    refine g_iload_n C dX4_isAgain_5 rfl rfl ?_
    first | refine g_icmp_ge_n (tgt := 35) C dX4_isAgain_6 (by decide) (by omega) (by omega) (fun c6 => ?_) (fun c6 => ?_) | refine g_icmp_ge (tgt := 35) C dX4_isAgain_6 (by decide) (fun c6 => ?_) (fun c6 => ?_)
    · refine g_iconst (v := nI 0) C dX4_isAgain_35 (by decide) ?_
      exact g_ireturn C hQ rfl (by omega) (by omega) dX4_isAgain_36 (⟨by rw [anyF_no (fun a ha => he a (by omega))]; rfl, rfl⟩)
    · omega
  | succ m ih =>
    intro k hk he
    refine g_iload C dX4_isAgain_3 rfl ?_
    refine g_iload_n C dX4_isAgain_5 rfl rfl ?_
    first | refine g_icmp_ge_n (tgt := 35) C dX4_isAgain_6 (by decide) (by omega) (by omega) (fun c6 => ?_) (fun c6 => ?_) | refine g_icmp_ge (tgt := 35) C dX4_isAgain_6 (by decide) (fun c6 => ?_) (fun c6 => ?_)
    · omega
    · refine g_aload_n C dX4_isAgain_9 rfl rfl ?_
      refine g_iload_n C dX4_isAgain_10 rfl rfl ?_
      refine g_iload C dX4_isAgain_11 rfl ?_
      refine g_iload_n C dX4_isAgain_13 rfl rfl ?_
      refine g_cfi (g_runV C (mT_cell l z T t k c hL ht hT h (by omega) hc) ciX4_cell q885 (Or.inl qs28) (Or.inl q883) (hL _ (by decide)) rfl rfl rfl rfl (Nat.le_of_ble_eq_true rfl) dX4_isAgain_14 (by decide)) ?_
      refine g_aload_n C dX4_isAgain_17 rfl rfl ?_
      refine g_iload_n C dX4_isAgain_18 rfl rfl ?_
      refine g_iload_n C dX4_isAgain_19 rfl rfl ?_
      refine g_iload_n C dX4_isAgain_20 rfl rfl ?_
      refine g_cfi (g_runV C (mT_cell l z T t r c hL ht hT h (by omega) hc) ciX4_cell q885 (Or.inl qs28) (Or.inl q883) (hL _ (by decide)) rfl rfl rfl rfl (Nat.le_of_ble_eq_true rfl) dX4_isAgain_21 (by decide)) ?_
      refine g_icmp_ne (tgt := 29) C dX4_isAgain_24 (by decide) (fun c24 => ?_) (fun c24 => ?_)
      · first | refine g_iinc1 (lv' := [(0, _), (1, _), (2, _), (3, _), (4, _)]) C dX4_isAgain_29 rfl (by decide) rfl ?_ | refine g_iinc (lv' := [(0, _), (1, _), (2, _), (3, _), (4, _)]) C dX4_isAgain_29 rfl rfl (by decide) rfl ?_
        refine g_goto (tgt := 3) C dX4_isAgain_32 (by decide) ?_
        exact ih (k + 1) (by omega) (no_s (P := fun i => decide (tv T t i c = tv T t r c)) he (decide_eq_false c24))
      · refine g_iconst (v := nI 1) C dX4_isAgain_27 (by decide) ?_
        exact g_ireturn C hQ rfl (by omega) (by omega) dX4_isAgain_28 (⟨by rw [anyF_yes (i := k) (by omega) (decide_eq_true c24)]; rfl, rfl⟩)
theorem m_X4_isAgain (l : Launch) (z : JZ) (T : JT) (t c r : Nat) (hL : mdL z) (ht : t < 8) (hT : wT T) (h : mTb z T t) (hc : c < tc T t) (hr : r < tm T t) : jCt l yX4_isAgain cX4_isAgain 5 (some FieldType.boolean) 2 0 0 [.ref (zA z (40, 0)), .int (nI t), .int (nI c), .int (nI r)] z (jRi (jb (anyF (fun k => decide (tv T t k c = tv T t r c)) r)) z) := by
  refine (jCt.of "JoinLoomModel" "isAgain" [(0, _), (1, _), (2, _), (3, _)] rfl rfl (by decide) (Nat.le_of_ble_eq_true rfl) rfl (fun Γ C hQ => ?_))
  refine g_iconst (v := nI 0) C dX4_isAgain_0 (by decide) ?_
  refine g_istore (lv' := [(0, _), (1, _), (2, _), (3, _), (4, _)]) C dX4_isAgain_1 (by decide) rfl ?_
  exact lp_X4_isAgain C hQ hL ht hT h hc hr r 0 (by omega) (fun i hi => absurd hi (Nat.not_lt_zero _))
theorem lp_X4_against_2 {Γ : JC} {l : Launch} {z : JZ} {ta tb i j n : Nat} (C : jOk Γ l (jrm 2 0 0) cX4_against_2 "JoinLoomModel" (some FieldType.int) 7) (hQ : jRt Γ (jRi (cmpF (fun k => zM z (ta, 0) (6 * i + k)) (fun k => zM z (tb, 0) (6 * j + k)) n 0) z) 0 0 "against") (hka : kd ta = .inl (0, 3006)) (hkb : kd tb = .inl (0, 3006)) (ha : zL z (ta, 0) = true) (hb : zL z (tb, 0) = true) (hi : i < 501) (hj : j < 501) (hn : n ≤ 6) :
    ∀ (m k : Nat), k + m = n → cmpF (fun k => zM z (ta, 0) (6 * i + k)) (fun k => zM z (tb, 0) (6 * j + k)) n 0 = cmpF (fun k => zM z (ta, 0) (6 * i + k)) (fun k => zM z (tb, 0) (6 * j + k)) m k → jG Γ 0 0 z 3 [(0, .ref (zA z (ta, 0))), (1, .int (nI i)), (2, .ref (zA z (tb, 0))), (3, .int (nI j)), (4, .int (nI n)), (5, .int (nI k))] [] := by
  intro m
  induction m with
  | zero =>
    intro k hk he
    refine g_iload C dX4_against_2_3 rfl ?_
    refine g_iload C dX4_against_2_5 rfl ?_
    first | refine g_icmp_ge_n (tgt := 47) C dX4_against_2_7 (by decide) (by omega) (by omega) (fun c7 => ?_) (fun c7 => ?_) | refine g_icmp_ge (tgt := 47) C dX4_against_2_7 (by decide) (fun c7 => ?_) (fun c7 => ?_)
    · refine g_iconst (v := nI 0) C dX4_against_2_47 (by decide) ?_
      exact g_ireturn C hQ rfl (by omega) (by omega) dX4_against_2_48 (⟨by rw [he]; rfl, rfl⟩)
    · omega
  | succ m ih =>
    intro k hk he
    rw [rkC_cmp] at he
    refine g_iload C dX4_against_2_3 rfl ?_
    refine g_iload C dX4_against_2_5 rfl ?_
    first | refine g_icmp_ge_n (tgt := 47) C dX4_against_2_7 (by decide) (by omega) (by omega) (fun c7 => ?_) (fun c7 => ?_) | refine g_icmp_ge (tgt := 47) C dX4_against_2_7 (by decide) (fun c7 => ?_) (fun c7 => ?_)
    · omega
    · refine g_aload_n C dX4_against_2_10 rfl rfl ?_
      refine g_bipush (v := nI 6) C dX4_against_2_11 (by decide) ?_
      refine g_iload_n C dX4_against_2_13 rfl rfl ?_
      first | refine g_imul_n C dX4_against_2_14 ?_ | refine g_imul C dX4_against_2_14 ?_
      refine g_iload C dX4_against_2_15 rfl ?_
      first | refine g_iadd_n C dX4_against_2_17 ?_ | refine g_iadd C dX4_against_2_17 ?_
      refine g_iald (n := 3006) C hka ha rfl (by omega) (by decide) dX4_against_2_18 ?_
      refine g_aload_n C dX4_against_2_19 rfl rfl ?_
      refine g_bipush (v := nI 6) C dX4_against_2_20 (by decide) ?_
      refine g_iload_n C dX4_against_2_22 rfl rfl ?_
      first | refine g_imul_n C dX4_against_2_23 ?_ | refine g_imul C dX4_against_2_23 ?_
      refine g_iload C dX4_against_2_24 rfl ?_
      first | refine g_iadd_n C dX4_against_2_26 ?_ | refine g_iadd C dX4_against_2_26 ?_
      refine g_iald (n := 3006) C hkb hb rfl (by omega) (by decide) dX4_against_2_27 ?_
      refine g_cfi (g_runS C (m_X4_rank l z _ _) ciX4_rank q888 (Or.inl q887) rfl rfl (Nat.le_of_ble_eq_true rfl) dX4_against_2_28 (by decide)) ?_
      refine g_istore (lv' := [(0, _), (1, _), (2, _), (3, _), (4, _), (5, _), (6, _)]) C dX4_against_2_31 (by decide) rfl ?_
      refine g_iload C dX4_against_2_33 rfl ?_
      refine g_if_eq (tgt := 41) C dX4_against_2_35 (by decide) (fun c35 => ?_) (fun c35 => ?_)
      · first | refine g_iinc1 (lv' := [(0, _), (1, _), (2, _), (3, _), (4, _), (5, _), (6, _)]) C dX4_against_2_41 rfl (by decide) rfl ?_ | refine g_iinc (lv' := [(0, _), (1, _), (2, _), (3, _), (4, _), (5, _), (6, _)]) C dX4_against_2_41 rfl rfl (by decide) rfl ?_
        refine g_goto (tgt := 3) C dX4_against_2_44 (by decide) ?_
        refine g_take 6 rfl ?_
        exact ih (k + 1) (by omega) (by rw [he, if_pos c35])
      · refine g_iload C dX4_against_2_38 rfl ?_
        exact g_ireturn C hQ rfl (by omega) (by omega) dX4_against_2_40 (⟨by rw [he, if_neg c35], rfl⟩)
theorem m_X4_against_2 (l : Launch) (z : JZ) (ta tb i j n : Nat) (hka : kd ta = .inl (0, 3006)) (hkb : kd tb = .inl (0, 3006)) (ha : zL z (ta, 0) = true) (hb : zL z (tb, 0) = true) (hi : i < 501) (hj : j < 501) (hn : n ≤ 6) : jCt l yX4_against_2 cX4_against_2 7 (some FieldType.int) 2 0 0 [.ref (zA z (ta, 0)), .int (nI i), .ref (zA z (tb, 0)), .int (nI j), .int (nI n)] z (jRi (cmpF (fun k => zM z (ta, 0) (6 * i + k)) (fun k => zM z (tb, 0) (6 * j + k)) n 0) z) := by
  refine (jCt.of "JoinLoomModel" "against" [(0, _), (1, _), (2, _), (3, _), (4, _)] rfl rfl (by decide) (Nat.le_of_ble_eq_true rfl) rfl (fun Γ C hQ => ?_))
  refine g_iconst (v := nI 0) C dX4_against_2_0 (by decide) ?_
  refine g_istore (lv' := [(0, _), (1, _), (2, _), (3, _), (4, _), (5, _)]) C dX4_against_2_1 (by decide) rfl ?_
  exact lp_X4_against_2 C hQ hka hkb ha hb hi hj hn n 0 (by omega) rfl
