set_option maxRecDepth 100000
/-- what a weave of the reference leaves: L the answers in order -/
def mwDone (T : JT) (Q : JQ) (cp ci : Nat → Nat) (z : JZ) (L : List (Nat → Int32)) (z' : JZ) : Prop := srtF (qn Q) L ∧ L.Perm (lvM T Q cp ci (qn Q)) ∧ L.length ≤ 500 ∧ z' = wM z (zM z') ∧ (∀ id : JId, id ≠ (40, 0) → id ≠ (50, 0) → id ≠ (51, 0) → id ≠ (52, 0) → id ≠ (53, 0) → id ≠ (54, 0) → id ≠ (55, 0) → id ≠ (56, 0) → id ≠ (58, 0) → zM z' id = zM z id) ∧ (∀ j, j ≠ 13 → j ≠ 15 → j ≠ 16 → j ≠ 17 → zM z' (40, 0) j = zM z (40, 0) j) ∧ zM z' (40, 0) 15 = nI (qn Q) ∧ zM z' (40, 0) 16 = nI L.length ∧ zM z' (40, 0) 17 = nI (qp Q) ∧ rpL (zM z' (53, 0)) L ∧ (∀ e, e < qn Q → zM z' (54, 0) e = nI (lvM T Q cp ci (e + 1)).length) ∧ (∀ p, p < 10 → zM z' (56, 0) p = jb (decide (p < qp Q) && decide (qk Q p = 0))) ∧ ∀ i, i < L.length → ∀ p, p < qp Q → zM z' (55, 0) (10 * i + p) = witV T Q (rAt L i) p
def mwPost (T : JT) (Q : JQ) (cp ci : Nat → Nat) (z : JZ) (r : Int32) (z' : JZ) : Prop := (stM2 T Q = false ∧ r = -1 ∧ z' = z) ∨ (stM2 T Q = true ∧ (∃ d, d < qn Q ∧ 500 < (lvM T Q cp ci (d + 1)).length) ∧ r = -2 ∧ ∃ (R N A M : Nat → Int32) (k : Int32), z' = mz z R N A M k) ∨ (stM2 T Q = true ∧ (∀ d, d < qn Q → (lvM T Q cp ci (d + 1)).length ≤ 500) ∧ ∃ L, r = nI L.length ∧ mwDone T Q cp ci z L z')
theorem m_X4_weave (l : Launch) (z : JZ) (T : JT) (Q : JQ) (cp ci : Nat → Nat) (hL : mdL z) (h : mQn z T Q) (hT : wT T) (hw : wQ T Q) (hc : stM2 T Q = true → colF Q cp ci) : jCt l yX4_weave cX4_weave 4 (some FieldType.int) 7 0 0 [.ref (zA z (40, 0))] z (jPi (mwPost T Q cp ci z)) := by
  have w1 := hw.1
  refine (jCt.of "JoinLoomModel" "weave" [(0, _)] rfl rfl (by decide) (Nat.le_of_ble_eq_true rfl) rfl (fun Γ C hQ => ?_))
  have J45 : stM2 T Q = true → ∀ R N A M : Nat → Int32, (∀ d, d < qn Q → (lvM T Q cp ci (d + 1)).length ≤ 500) → rpL R (lvM T Q cp ci (qn Q)) → (∀ d, d < qn Q → M d = nI (lvM T Q cp ci (d + 1)).length) → jG Γ 0 0 (sM (sM (sM (mz z R N A M (nI (lvM T Q cp ci (qn Q)).length)) (40, 0) 15 (nI (qn Q))) (40, 0) 16 (nI (lvM T Q cp ci (qn Q)).length)) (40, 0) 17 (nI (qp Q))) 45 [(0, .ref (zA z (40, 0))), (1, .int (nI 0))] [] := by
    intro hst R N A M ht1 ht2 ht4
    have h0 : 0 < qn Q := by
      unfold stM2 at hst
      rcases Nat.eq_zero_or_pos (qn Q) with e | e
      · rw [decide_eq_true e] at hst; cases hst
      · exact e
    have hlen : (lvM T Q cp ci (qn Q)).length ≤ 500 := by
      have := ht1 (qn Q - 1) (by omega)
      rw [show qn Q - 1 + 1 = qn Q by omega] at this
      exact this
    generalize hz2 : sM (sM (sM (mz z R N A M (nI (lvM T Q cp ci (qn Q)).length)) (40, 0) 15 (nI (qn Q))) (40, 0) 16 (nI (lvM T Q cp ci (qn Q)).length)) (40, 0) 17 (nI (qp Q)) = z2
    have e40 : zM z2 (40, 0) = upd (upd (upd (upd (zM z (40, 0)) 13 (nI (lvM T Q cp ci (qn Q)).length)) 15 (nI (qn Q))) 16 (nI (lvM T Q cp ci (qn Q)).length)) 17 (nI (qp Q)) := by
      rw [← hz2, zM_sM_s, zM_sM_s, zM_sM_s]; rfl
    have eL : zL z2 = zL z := by rw [← hz2]; rfl
    have eA : zA z2 = zA z := by rw [← hz2]; rfl
    have e50 : zM z2 (50, 0) = R := by rw [← hz2]; rfl
    have e52 : zM z2 (52, 0) = M := by rw [← hz2]; rfl
    have eo : ∀ id : JId, id ≠ (40, 0) → id ≠ (50, 0) → id ≠ (51, 0) → id ≠ (52, 0) → id ≠ (58, 0) → zM z2 id = zM z id := by
      intro id a1 a2 a3 a4 a5
      rw [← hz2, zM_sM_n a1, zM_sM_n a1, zM_sM_n a1]
      show (if id = (50, 0) then R else if id = (51, 0) then N else if id = (52, 0) then M else if id = (58, 0) then A else if id = (40, 0) then _ else zM z id) = _
      rw [if_neg a2, if_neg a3, if_neg a4, if_neg a5, if_neg a1]
    have ew : z2 = wM z (zM z2) := by rw [← hz2]; rfl
    have hL2 : mdL z2 := by unfold mdL; rw [eL]; exact hL
    have hQ2 : mQn z2 T Q := by
      obtain ⟨q1, q2, q3, q4, q5⟩ := h
      refine ⟨by rw [e40]; exact q1, by rw [e40]; exact q2, by rw [eo (49, 0) (by decide) (by decide) (by decide) (by decide) (by decide)]; exact q3, fun p hp => ?_, fun p hp hk => ?_⟩
      · unfold mPt
        rw [eo (44, 0) (by decide) (by decide) (by decide) (by decide) (by decide), eo (45, 0) (by decide) (by decide) (by decide) (by decide) (by decide), eo (46, 0) (by decide) (by decide) (by decide) (by decide) (by decide), eo (47, 0) (by decide) (by decide) (by decide) (by decide) (by decide), eo (48, 0) (by decide) (by decide) (by decide) (by decide) (by decide)]
        exact q4 p hp
      · unfold mTb
        rw [eo (41, 0) (by decide) (by decide) (by decide) (by decide) (by decide), eo (42, 0) (by decide) (by decide) (by decide) (by decide) (by decide), eo (43, 0) (by decide) (by decide) (by decide) (by decide) (by decide)]
        exact q5 p hp hk
    rw [← eA]
    have en : zM z2 (40, 0) 3 = nI (qn Q) := by rw [e40]; exact h.1
    have ek : zM z2 (40, 0) 13 = nI (lvM T Q cp ci (qn Q)).length := by rw [e40]; rfl
    have J196 : ∀ (V : Nat → Int32) (L : List (Nat → Int32)), rpL V L → srtF (qn Q) L → L.Perm (lvM T Q cp ci (qn Q)) → jG Γ 0 0 (sA (sA z2 (54, 0) (cpM (zM z2 (54, 0)) (zM z2 (52, 0)) 0 (qn Q))) (53, 0) V) 196 [(0, .ref (zA z2 (40, 0))), (1, .int (nI (lvM T Q cp ci (qn Q)).length))] [] := by
      intro V L hV hs hp
      have hpl := hp.length_eq
      have K338 : ∀ H X A' : Nat → Int32, (∀ p, p < 10 → H p = jb (decide (p < qp Q) && decide (qk Q p = 0))) → (∀ i, i < L.length → ∀ p, p < qp Q → X (10 * i + p) = witV T Q (rAt L i) p) → ∀ y, jG Γ 0 0 (sA (sA (sA (sA (sA z2 (54, 0) (cpM (zM z2 (54, 0)) (zM z2 (52, 0)) 0 (qn Q))) (53, 0) V) (56, 0) H) (55, 0) X) (58, 0) A') 338 [(0, .ref (zA z2 (40, 0))), (1, .int y)] [] := by
        intro H X A' hH hX y
        refine g_aload_n C dX4_weave_338 rfl rfl ?_
        refine f_X4_wovenMany C (hL2 _ (by decide)) (Or.inl q781) (Or.inl rfl) dX4_weave_339 ?_
        refine g_top ((show _ = nI L.length by show zM z2 (40, 0) 16 = _; rw [e40, hpl]; rfl)) ?_
        exact g_ireturn C hQ rfl (by omega) (by omega) dX4_weave_342 (⟨_, rfl, Or.inr (Or.inr ⟨hst, ht1, L, rfl, hs, hp, by rw [hpl]; exact hlen, by rw [ew]; rfl, fun id a40 a50 a51 a52 a53 a54 a55 a56 a58 => by rw [zM_sA_n a58, zM_sA_n a55, zM_sA_n a56, zM_sA_n a53, zM_sA_n a54]; exact eo id a40 a50 a51 a52 a58, fun j j1 j2 j3 j4 => by show zM z2 (40, 0) j = _; rw [e40]; simp only [upd]; rw [if_neg j4, if_neg j3, if_neg j2, if_neg j1], by show zM z2 (40, 0) 15 = _; rw [e40]; rfl, by show zM z2 (40, 0) 16 = _; rw [e40, hpl]; rfl, by show zM z2 (40, 0) 17 = _; rw [e40]; rfl, hV, fun e he => by show cpM (zM z2 (54, 0)) (zM z2 (52, 0)) 0 (qn Q) e = _; simp only [cpM]; rw [if_pos he, Nat.zero_add, e52]; exact ht4 e he, hH, hX⟩)⟩)
      have K238 : ∀ H : Nat → Int32, (∀ p, p < 10 → H p = jb (decide (p < qp Q) && decide (qk Q p = 0))) → jG Γ 0 0 (sA (sA (sA z2 (54, 0) (cpM (zM z2 (54, 0)) (zM z2 (52, 0)) 0 (qn Q))) (53, 0) V) (56, 0) H) 238 [(0, .ref (zA z2 (40, 0))), (1, .int (nI 10))] [] := by
        intro H hH
        refine g_iconst (v := nI 0) C dX4_weave_238 (by decide) ?_
        refine g_istore_n (lv' := [(0, _), (1, _)]) C dX4_weave_239 rfl (by decide) rfl ?_
        refine g_z (show _ = sA (sA (sA (sA (sA z2 (54, 0) (cpM (zM z2 (54, 0)) (zM z2 (52, 0)) 0 (qn Q))) (53, 0) V) (56, 0) H) (55, 0) (zM z2 (55, 0))) (58, 0) (zM z2 (58, 0)) from ?_) (l240_weave (L := L) (T := T) (Q := Q) (z := sA (sA (sA z2 (54, 0) (cpM (zM z2 (54, 0)) (zM z2 (52, 0)) 0 (qn Q))) (53, 0) V) (56, 0) H) C hL2 hQ2 hT hw (by rw [hpl]; exact hlen) (by show zM z2 (40, 0) 16 = _; rw [e40, hpl]; rfl) hV (fun X A' hX => K338 H X A' hH hX _) L.length 0 (Nat.zero_add _) _ _ (fun a ha => absurd ha (Nat.not_lt_zero _)))
        exact (show sA (sA (sA (sA (sA z2 (54, 0) (cpM (zM z2 (54, 0)) (zM z2 (52, 0)) 0 (qn Q))) (53, 0) V) (56, 0) H) (55, 0) (zM (sA (sA (sA z2 (54, 0) (cpM (zM z2 (54, 0)) (zM z2 (52, 0)) 0 (qn Q))) (53, 0) V) (56, 0) H) (55, 0))) (58, 0) (zM (sA (sA (sA z2 (54, 0) (cpM (zM z2 (54, 0)) (zM z2 (52, 0)) 0 (qn Q))) (53, 0) V) (56, 0) H) (58, 0)) = _ by rw [sA_self, sA_self]).symm
      refine g_iconst (v := nI 0) C dX4_weave_196 (by decide) ?_
      refine g_istore_n (lv' := [(0, _), (1, _)]) C dX4_weave_197 rfl (by decide) rfl ?_
      refine g_z (show _ = sA (sA (sA z2 (54, 0) (cpM (zM z2 (54, 0)) (zM z2 (52, 0)) 0 (qn Q))) (53, 0) V) (56, 0) (zM z2 (56, 0)) from (sA_self _ _).symm) (l198_weave (T := T) (Q := Q) (z := sA (sA z2 (54, 0) (cpM (zM z2 (54, 0)) (zM z2 (52, 0)) 0 (qn Q))) (53, 0) V) (R := jrm 7 0 0) C hL2 hQ2 hw K238 10 0 (by omega) _ (fun p hp => absurd hp (Nat.not_lt_zero _)))
    refine g_z (show _ = sA z2 (54, 0) (cpM (zM z2 (54, 0)) (zM z2 (52, 0)) 0 0) by rw [cpM_0, sA_self]) ?_
    refine l45_weave C hL2 en w1 ?_ (qn Q) 0 (by omega)
    refine g_iconst (v := nI 0) C dX4_weave_71 (by decide) ?_
    refine g_istore_n (lv' := [(0, _), (1, _)]) C dX4_weave_72 rfl (by decide) rfl ?_
    refine g_z (show _ = sA (sA z2 (54, 0) (cpM (zM z2 (54, 0)) (zM z2 (52, 0)) 0 (qn Q))) (53, 0) (zM z2 (53, 0)) from (sA_self _ _).symm) ?_
    refine l73_weave (z := sA z2 (54, 0) (cpM (zM z2 (54, 0)) (zM z2 (52, 0)) 0 (qn Q))) (Lr := lvM T Q cp ci (qn Q)) (n := qn Q) C hL2 en w1 ek hlen (by show rpL (zM z2 (50, 0)) _; rw [e50]; exact ht2) (fun V L hV hs hp => ?_) _ 0 (Nat.zero_add _) _ [] rfl (fun m hm => absurd hm (Nat.not_lt_zero _)) (fun a b _ hb => absurd hb (Nat.not_lt_zero _)) (List.Perm.refl _)
    exact J196 V L hV hs hp
  refine g_aload_n C dX4_weave_0 rfl rfl ?_
  refine g_cfi (g_runV C (m_X4_holds l z T Q hL h hT hw) ciX4_holds q937 (Or.inl qs31) (Or.inl q935) (hL _ (by decide)) rfl rfl rfl rfl (Nat.le_of_ble_eq_true rfl) dX4_weave_1 (by decide)) ?_
  refine g_if_ne_b (tgt := 9) C dX4_weave_4 (by decide) (fun c4 => ?_) (fun c4 => ?_)
  · refine g_aload_n C dX4_weave_9 rfl rfl ?_
    refine g_ci (g_runV C (m_X4_meets l z T Q cp ci hL h hT hw (hc c4)) ciX4_meets q945 (Or.inl qs33) (Or.inl q943) (hL _ (by decide)) rfl rfl rfl rfl (Nat.le_of_ble_eq_true rfl) dX4_weave_10 (by decide)) (fun r10 z10 h10 => ?_)
    obtain ⟨b, R, N, A, M, k, rfl, rfl, ht, hf⟩ := h10
    refine g_if_ne_b (tgt := 19) C dX4_weave_13 (by decide) (fun c13 => ?_) (fun c13 => ?_)
    · obtain ⟨ht1, ht2, ht3, ht4⟩ := ht c13
      subst ht3
      refine g_aload_n C dX4_weave_19 rfl rfl ?_
      refine g_aload_n C dX4_weave_20 rfl rfl ?_
      refine f_X4_names C (hL _ (by decide)) (Or.inl q768) (Or.inl rfl) dX4_weave_21 ?_
      refine g_top ((show _ = nI (qn Q) from h.1)) ?_
      refine p_X4_wovenNames C hQ (hL _ (by decide)) (Or.inl q780) (Or.inl rfl) dX4_weave_24 ?_
      refine g_aload_n C dX4_weave_27 rfl rfl ?_
      refine g_aload_n C dX4_weave_28 rfl rfl ?_
      refine f_X4_rowMany C (hL _ (by decide)) (Or.inl q778) (Or.inl rfl) dX4_weave_29 ?_
      refine g_top ((show _ = nI (lvM T Q cp ci (qn Q)).length from rfl)) ?_
      refine p_X4_wovenMany C hQ (hL _ (by decide)) (Or.inl q781) (Or.inl rfl) dX4_weave_32 ?_
      refine g_aload_n C dX4_weave_35 rfl rfl ?_
      refine g_aload_n C dX4_weave_36 rfl rfl ?_
      refine f_X4_parts C (hL _ (by decide)) (Or.inl q769) (Or.inl rfl) dX4_weave_37 ?_
      refine g_top ((show _ = nI (qp Q) from h.2.1)) ?_
      refine p_X4_wovenParts C hQ (hL _ (by decide)) (Or.inl q782) (Or.inl rfl) dX4_weave_40 ?_
      refine g_iconst (v := nI 0) C dX4_weave_43 (by decide) ?_
      refine g_istore_n (lv' := [(0, _), (1, _)]) C dX4_weave_44 rfl (by decide) rfl ?_
      exact J45 c4 R N A M ht1 ht2 ht4
    · refine g_bipush (v := (-2)) C dX4_weave_16 (by decide) ?_
      exact g_ireturn C hQ rfl (by omega) (by omega) dX4_weave_18 (⟨_, rfl, Or.inr (Or.inl ⟨c4, hf c13, rfl, R, N, A, M, k, rfl⟩)⟩)
  · refine g_iconst (v := (-1)) C dX4_weave_7 (by decide) ?_
    exact g_ireturn C hQ rfl (by omega) (by omega) dX4_weave_8 (⟨_, rfl, Or.inl ⟨c4, rfl, rfl⟩⟩)
