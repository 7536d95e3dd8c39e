set_option maxRecDepth 100000
def covK (Q : JQ) (k : Nat) : Bool := anyF (fun p => decide (qk Q p = 0) && hasO (qm Q p) (ql Q p) (nI k)) (qp Q)
/-- the reference's 'holds' -/
def stM2 (T : JT) (Q : JQ) : Bool := !decide (qn Q = 0) && (!anyF (fun p => !whP T Q p) (qp Q) && !anyF (fun k => !covK Q k) (qn Q))
section MH
variable {Γ : JC} {l : Launch} {z : JZ} {T : JT} {Q : JQ}
theorem wQ_l3 (hT : wT T) (hw : wQ T Q) {p : Nat} (hp : p < qp Q) : ql Q p ≤ 3 := by
  have hwp := hw.2.2.1 p hp
  rcases Nat.lt_or_ge 1 (qk Q p) with h1 | h1
  · have := (hwp.2.2.1 (by omega)).1; omega
  · exact wPt_l3 hT hwp h1
theorem l71_holds {k : Nat} (C : jOk Γ l (jrm 2 0 0) cX4_holds "JoinLoomModel" (some FieldType.boolean) 4) (hL : mdL z) (h : mQn z T Q) (hT : wT T) (hw : wQ T Q) (hk : k < qn Q) (K : ∀ x : Int32, x = jb (covK Q k) → ∀ y, jG Γ 0 0 z 113 [(0, .ref (zA z (40, 0))), (1, .int (nI k)), (2, .int x), (3, .int y)] []) :
    ∀ (w p : Nat), p + w = qp Q → ∀ x : Int32, x = jb (anyF (fun p => decide (qk Q p = 0) && hasO (qm Q p) (ql Q p) (nI k)) p) → jG Γ 0 0 z 71 [(0, .ref (zA z (40, 0))), (1, .int (nI k)), (2, .int x), (3, .int (nI p))] [] := by
  have w1 := hw.1
  have w2 := hw.2.1
  intro w
  induction w with
  | zero =>
    intro p hp x hx
    have e : p = qp Q := by omega
    subst e
    refine g_iload_n C dX4_holds_71 rfl rfl ?_
    refine g_aload_n C dX4_holds_72 rfl rfl ?_
    refine f_X4_parts C (hL _ (by decide)) (Or.inl q769) (Or.inl rfl) dX4_holds_73 ?_
    refine g_top (h.2.1) ?_
    first | refine g_icmp_ge_n (tgt := 113) C dX4_holds_76 (by decide) (by omega) (by omega) (fun c76 => ?_) (fun c76 => ?_) | refine g_icmp_ge (tgt := 113) C dX4_holds_76 (by decide) (fun c76 => ?_) (fun c76 => ?_)
    · exact K x hx _
    · omega
  | succ w ih =>
    intro p hp x hx
    subst hx
    have hp2 : p < qp Q := by omega
    have hpt := h.2.2.2.1 p hp2
    have hk3 := (hw.2.2.1 p hp2).1
    have J : ∀ x : Int32, x = jb (anyF (fun p => decide (qk Q p = 0) && hasO (qm Q p) (ql Q p) (nI k)) (p + 1)) → jG Γ 0 0 z 107 [(0, .ref (zA z (40, 0))), (1, .int (nI k)), (2, .int x), (3, .int (nI p))] [] := by
      intro x hx
      first | refine g_iinc1 (lv' := [(0, _), (1, _), (2, _), (3, _)]) C dX4_holds_107 rfl (by decide) rfl ?_ | refine g_iinc (lv' := [(0, _), (1, _), (2, _), (3, _)]) C dX4_holds_107 rfl rfl (by decide) rfl ?_
      refine g_goto (tgt := 71) C dX4_holds_110 (by decide) ?_
      exact ih (p + 1) (by omega) x hx
    refine g_iload_n C dX4_holds_71 rfl rfl ?_
    refine g_aload_n C dX4_holds_72 rfl rfl ?_
    refine f_X4_parts C (hL _ (by decide)) (Or.inl q769) (Or.inl rfl) dX4_holds_73 ?_
    refine g_top (h.2.1) ?_
    first | refine g_icmp_ge_n (tgt := 113) C dX4_holds_76 (by decide) (by omega) (by omega) (fun c76 => ?_) (fun c76 => ?_) | refine g_icmp_ge (tgt := 113) C dX4_holds_76 (by decide) (fun c76 => ?_) (fun c76 => ?_)
    · omega
    · refine g_iload_n C dX4_holds_79 rfl rfl ?_
      refine g_if_ne_b (tgt := 101) C dX4_holds_80 (by decide) (fun c80 => ?_) (fun c80 => ?_)
      · refine g_iconst (v := nI 1) C dX4_holds_101 (by decide) ?_
        refine g_goto (tgt := 106) C dX4_holds_102 (by decide) ?_
        refine g_istore_n (lv' := [(0, _), (1, _), (2, _), (3, _)]) C dX4_holds_106 rfl (by decide) rfl ?_
        first | exact J _ (by rw [anyF, c80]; rfl) | exact J _ (by rw [anyF, c80, decide_eq_true c89, c98]; rfl) | exact J _ (by rw [anyF, c80, decide_eq_false c89]; rfl)
      · refine g_aload_n C dX4_holds_83 rfl rfl ?_
        refine f_X4_kind C (hL _ (by decide)) (Or.inl q770) (Or.inl rfl) dX4_holds_84 ?_
        refine g_iload_n C dX4_holds_87 rfl rfl ?_
        refine g_iald (n := 10) C rfl (hL _ (by decide)) rfl (by omega) (by decide) dX4_holds_88 ?_
        refine g_top (hpt.1) ?_
        refine g_if_ne_n (tgt := 105) C dX4_holds_89 (by decide) (by omega) (fun c89 => ?_) (fun c89 => ?_)
        · refine g_iconst (v := nI 0) C dX4_holds_105 (by decide) ?_
          refine g_istore_n (lv' := [(0, _), (1, _), (2, _), (3, _)]) C dX4_holds_106 rfl (by decide) rfl ?_
          first | exact J _ (by rw [anyF, c80]; rfl) | exact J _ (by rw [anyF, c80, decide_eq_true c89, c98]; rfl) | exact J _ (by rw [anyF, c80, decide_eq_false c89]; rfl)
        · refine g_aload_n C dX4_holds_92 rfl rfl ?_
          refine g_iload_n C dX4_holds_93 rfl rfl ?_
          refine g_iload_n C dX4_holds_94 rfl rfl ?_
          refine g_cfi (g_runV C (m_X4_hasName l z Q p (nI k) hL (by omega) hpt (wQ_l3 hT hw hp2)) ciX4_hasName q941 (Or.inl qs32) (Or.inl q939) (hL _ (by decide)) rfl rfl rfl rfl (Nat.le_of_ble_eq_true rfl) dX4_holds_95 (by decide)) ?_
          refine g_if_eq_b (tgt := 105) C dX4_holds_98 (by decide) (fun c98 => ?_) (fun c98 => ?_)
          · refine g_iconst (v := nI 0) C dX4_holds_105 (by decide) ?_
            refine g_istore_n (lv' := [(0, _), (1, _), (2, _), (3, _)]) C dX4_holds_106 rfl (by decide) rfl ?_
            first | exact J _ (by rw [anyF, c80]; rfl) | exact J _ (by rw [anyF, c80, decide_eq_true c89, c98]; rfl) | exact J _ (by rw [anyF, c80, decide_eq_false c89]; rfl)
          · refine g_iconst (v := nI 1) C dX4_holds_101 (by decide) ?_
            refine g_goto (tgt := 106) C dX4_holds_102 (by decide) ?_
            refine g_istore_n (lv' := [(0, _), (1, _), (2, _), (3, _)]) C dX4_holds_106 rfl (by decide) rfl ?_
            first | exact J _ (by rw [anyF, c80]; rfl) | exact J _ (by rw [anyF, c80, decide_eq_true c89, c98]; rfl) | exact J _ (by rw [anyF, c80, decide_eq_false c89]; rfl)
theorem l59_holds (C : jOk Γ l (jrm 2 0 0) cX4_holds "JoinLoomModel" (some FieldType.boolean) 4) (hQ : jRt Γ (jRi (jb (stM2 T Q)) z) 0 0 "holds") (hL : mdL z) (h : mQn z T Q) (hT : wT T) (hw : wQ T Q) (h0 : ¬ qn Q = 0) (hW : anyF (fun p => !whP T Q p) (qp Q) = false) :
    ∀ (w k : Nat), k + w = qn Q → (∀ i, i < k → (!covK Q i) = false) → jG Γ 0 0 z 59 [(0, .ref (zA z (40, 0))), (1, .int (nI k))] [] := by
  have w1 := hw.1
  intro w
  induction w with
  | zero =>
    intro k hk he
    refine g_iload_n C dX4_holds_59 rfl rfl ?_
    refine g_aload_n C dX4_holds_60 rfl rfl ?_
    refine f_X4_names C (hL _ (by decide)) (Or.inl q768) (Or.inl rfl) dX4_holds_61 ?_
    refine g_top (h.1) ?_
    first | refine g_icmp_ge_n (tgt := 125) C dX4_holds_64 (by decide) (by omega) (by omega) (fun c64 => ?_) (fun c64 => ?_) | refine g_icmp_ge (tgt := 125) C dX4_holds_64 (by decide) (fun c64 => ?_) (fun c64 => ?_)
    · refine g_iconst (v := nI 1) C dX4_holds_125 (by decide) ?_
      exact g_ireturn C hQ rfl (by omega) (by omega) dX4_holds_126 (⟨by rw [stM2, decide_eq_false h0, hW, anyF_no (fun a ha => he a (by omega))]; rfl, rfl⟩)
    · omega
  | succ w ih =>
    intro k hk he
    have K : ∀ x : Int32, x = jb (covK Q k) → ∀ y, jG Γ 0 0 z 113 [(0, .ref (zA z (40, 0))), (1, .int (nI k)), (2, .int x), (3, .int y)] [] := by
      intro x hx y
      subst hx
      refine g_iload_n C dX4_holds_113 rfl rfl ?_
      refine g_if_ne_b (tgt := 119) C dX4_holds_114 (by decide) (fun c114 => ?_) (fun c114 => ?_)
      · first | refine g_iinc1 (lv' := [(0, _), (1, _), (2, _), (3, _)]) C dX4_holds_119 rfl (by decide) rfl ?_ | refine g_iinc (lv' := [(0, _), (1, _), (2, _), (3, _)]) C dX4_holds_119 rfl rfl (by decide) rfl ?_
        refine g_goto (tgt := 59) C dX4_holds_122 (by decide) ?_
        refine g_take 2 rfl ?_
        exact ih (k + 1) (by omega) (no_s (P := fun i => !covK Q i) he (by rw [c114]; rfl))
      · refine g_iconst (v := nI 0) C dX4_holds_117 (by decide) ?_
        exact g_ireturn C hQ rfl (by omega) (by omega) dX4_holds_118 (⟨by rw [stM2, anyF_yes (P := fun k => !covK Q k) (i := k) (by omega) (by rw [c114]; rfl), Bool.not_true, Bool.and_false, Bool.and_false]; rfl, rfl⟩)
    refine g_iload_n C dX4_holds_59 rfl rfl ?_
    refine g_aload_n C dX4_holds_60 rfl rfl ?_
    refine f_X4_names C (hL _ (by decide)) (Or.inl q768) (Or.inl rfl) dX4_holds_61 ?_
    refine g_top (h.1) ?_
    first | refine g_icmp_ge_n (tgt := 125) C dX4_holds_64 (by decide) (by omega) (by omega) (fun c64 => ?_) (fun c64 => ?_) | refine g_icmp_ge (tgt := 125) C dX4_holds_64 (by decide) (fun c64 => ?_) (fun c64 => ?_)
    · omega
    · refine g_iconst (v := nI 0) C dX4_holds_67 (by decide) ?_
      refine g_istore_n (lv' := [(0, _), (1, _), (2, _)]) C dX4_holds_68 rfl (by decide) rfl ?_
      refine g_iconst (v := nI 0) C dX4_holds_69 (by decide) ?_
      refine g_istore_n (lv' := [(0, _), (1, _), (2, _), (3, _)]) C dX4_holds_70 rfl (by decide) rfl ?_
      exact l71_holds C hL h hT hw (by omega) K (qp Q) 0 (by omega) _ rfl
theorem l11_holds (C : jOk Γ l (jrm 2 0 0) cX4_holds "JoinLoomModel" (some FieldType.boolean) 4) (hQ : jRt Γ (jRi (jb (stM2 T Q)) z) 0 0 "holds") (hL : mdL z) (h : mQn z T Q) (hT : wT T) (hw : wQ T Q) (h0 : ¬ qn Q = 0) :
    ∀ (w p : Nat), p + w = qp Q → (∀ i, i < p → (!whP T Q i) = false) → jG Γ 0 0 z 11 [(0, .ref (zA z (40, 0))), (1, .int (nI p))] [] := by
  have w2 := hw.2.1
  intro w
  induction w with
  | zero =>
    intro p hp he
    refine g_iload_n C dX4_holds_11 rfl rfl ?_
    refine g_aload_n C dX4_holds_12 rfl rfl ?_
    refine f_X4_parts C (hL _ (by decide)) (Or.inl q769) (Or.inl rfl) dX4_holds_13 ?_
    refine g_top (h.2.1) ?_
    first | refine g_icmp_ge_n (tgt := 57) C dX4_holds_16 (by decide) (by omega) (by omega) (fun c16 => ?_) (fun c16 => ?_) | refine g_icmp_ge (tgt := 57) C dX4_holds_16 (by decide) (fun c16 => ?_) (fun c16 => ?_)
    · refine g_iconst (v := nI 0) C dX4_holds_57 (by decide) ?_
      refine g_istore_n (lv' := [(0, _), (1, _)]) C dX4_holds_58 rfl (by decide) rfl ?_
      exact l59_holds C hQ hL h hT hw h0 (anyF_no (fun a ha => he a (by omega))) (qn Q) 0 (by omega) (fun i hi => absurd hi (Nat.not_lt_zero _))
    · omega
  | succ w ih =>
    intro p hp he
    have hp2 : p < qp Q := by omega
    have hpt := h.2.2.2.1 p hp2
    have hwp := hw.2.2.1 p hp2
    have hk3 := hwp.1
    have hl3 := wQ_l3 hT hw hp2
    refine g_iload_n C dX4_holds_11 rfl rfl ?_
    refine g_aload_n C dX4_holds_12 rfl rfl ?_
    refine f_X4_parts C (hL _ (by decide)) (Or.inl q769) (Or.inl rfl) dX4_holds_13 ?_
    refine g_top (h.2.1) ?_
    first | refine g_icmp_ge_n (tgt := 57) C dX4_holds_16 (by decide) (by omega) (by omega) (fun c16 => ?_) (fun c16 => ?_) | refine g_icmp_ge (tgt := 57) C dX4_holds_16 (by decide) (fun c16 => ?_) (fun c16 => ?_)
    · omega
    · refine g_aload_n C dX4_holds_19 rfl rfl ?_
      refine f_X4_kind C (hL _ (by decide)) (Or.inl q770) (Or.inl rfl) dX4_holds_20 ?_
      refine g_iload_n C dX4_holds_23 rfl rfl ?_
      refine g_iald (n := 10) C rfl (hL _ (by decide)) rfl (by omega) (by decide) dX4_holds_24 ?_
      refine g_top (hpt.1) ?_
      refine g_iconst (v := nI 1) C dX4_holds_25 (by decide) ?_
      refine g_icmp_gt_n (tgt := 51) C dX4_holds_26 (by decide) (by omega) (by omega) (fun c26 => ?_) (fun c26 => ?_)
      · first | refine g_iinc1 (lv' := [(0, _), (1, _)]) C dX4_holds_51 rfl (by decide) rfl ?_ | refine g_iinc (lv' := [(0, _), (1, _)]) C dX4_holds_51 rfl rfl (by decide) rfl ?_
        refine g_goto (tgt := 11) C dX4_holds_54 (by decide) ?_
        first | exact ih (p + 1) (by omega) (no_s (P := fun i => !whP T Q i) he (by rw [whP, decide_eq_true (fun e9 => absurd e9 (Nat.not_le.mpr c26))]; rfl)) | exact ih (p + 1) (by omega) (no_s (P := fun i => !whP T Q i) he (by rw [whP, decide_eq_true (fun _ => Nat.le_antisymm hlc c46)]; rfl))
      · have hb := h.2.2.2.2 p hp2 c26
        obtain ⟨h8, hc0, hlc⟩ := hwp.2.1 c26
        have hc3 := (hT _ h8).1
        refine g_aload_n C dX4_holds_29 rfl rfl ?_
        refine f_X4_places C (hL _ (by decide)) (Or.inl q772) (Or.inl rfl) dX4_holds_30 ?_
        refine g_iload_n C dX4_holds_33 rfl rfl ?_
        refine g_iald (n := 10) C rfl (hL _ (by decide)) rfl (by omega) (by decide) dX4_holds_34 ?_
        refine g_top (hpt.2.2.1) ?_
        refine g_aload_n C dX4_holds_35 rfl rfl ?_
        refine f_X4_columns C (hL _ (by decide)) (Or.inl q765) (Or.inl rfl) dX4_holds_36 ?_
        refine g_aload_n C dX4_holds_39 rfl rfl ?_
        refine f_X4_of C (hL _ (by decide)) (Or.inl q771) (Or.inl rfl) dX4_holds_40 ?_
        refine g_iload_n C dX4_holds_43 rfl rfl ?_
        refine g_iald (n := 10) C rfl (hL _ (by decide)) rfl (by omega) (by decide) dX4_holds_44 ?_
        refine g_top (hpt.2.1 c26) ?_
        refine g_iald (n := 8) C rfl (hL _ (by decide)) rfl (by omega) (by decide) dX4_holds_45 ?_
        refine g_top (hb.1) ?_
        refine g_icmp_ge_n (tgt := 51) C dX4_holds_46 (by decide) (by omega) (by omega) (fun c46 => ?_) (fun c46 => ?_)
        · first | refine g_iinc1 (lv' := [(0, _), (1, _)]) C dX4_holds_51 rfl (by decide) rfl ?_ | refine g_iinc (lv' := [(0, _), (1, _)]) C dX4_holds_51 rfl rfl (by decide) rfl ?_
          refine g_goto (tgt := 11) C dX4_holds_54 (by decide) ?_
          first | exact ih (p + 1) (by omega) (no_s (P := fun i => !whP T Q i) he (by rw [whP, decide_eq_true (fun e9 => absurd e9 (Nat.not_le.mpr c26))]; rfl)) | exact ih (p + 1) (by omega) (no_s (P := fun i => !whP T Q i) he (by rw [whP, decide_eq_true (fun _ => Nat.le_antisymm hlc c46)]; rfl))
        · refine g_iconst (v := nI 0) C dX4_holds_49 (by decide) ?_
          exact g_ireturn C hQ rfl (by omega) (by omega) dX4_holds_50 (⟨by rw [stM2, anyF_yes (P := fun p => !whP T Q p) (i := p) hp2 (by rw [whP, decide_eq_false (fun e9 => by have := e9 c26; omega)]; rfl), Bool.not_true, Bool.false_and, Bool.and_false]; rfl, rfl⟩)
end MH
theorem m_X4_holds (l : Launch) (z : JZ) (T : JT) (Q : JQ) (hL : mdL z) (h : mQn z T Q) (hT : wT T) (hw : wQ T Q) : jCt l yX4_holds cX4_holds 4 (some FieldType.boolean) 2 0 0 [.ref (zA z (40, 0))] z (jRi (jb (stM2 T Q)) z) := by
  have w1 := hw.1
  refine (jCt.of "JoinLoomModel" "holds" [(0, _)] rfl rfl (by decide) (Nat.le_of_ble_eq_true rfl) rfl (fun Γ C hQ => ?_))
  refine g_aload_n C dX4_holds_0 rfl rfl ?_
  refine f_X4_names C (hL _ (by decide)) (Or.inl q768) (Or.inl rfl) dX4_holds_1 ?_
  refine g_top (h.1) ?_
  refine g_if_ne_n (tgt := 9) C dX4_holds_4 (by decide) (by omega) (fun c4 => ?_) (fun c4 => ?_)
  · refine g_iconst (v := nI 0) C dX4_holds_9 (by decide) ?_
    refine g_istore_n (lv' := [(0, _), (1, _)]) C dX4_holds_10 rfl (by decide) rfl ?_
    exact l11_holds C hQ hL h hT hw c4 (qp Q) 0 (by omega) (fun i hi => absurd hi (Nat.not_lt_zero _))
  · refine g_iconst (v := nI 0) C dX4_holds_7 (by decide) ?_
    exact g_ireturn C hQ rfl (by omega) (by omega) dX4_holds_8 (⟨by rw [stM2, decide_eq_true c4]; rfl, rfl⟩)
