set_option maxRecDepth 100000
theorem anyF_congr {P R : Nat → Bool} : ∀ {n : Nat}, (∀ i, i < n → P i = R i) → anyF P n = anyF R n
  | 0, _ => rfl
  | n + 1, h => by
    simp only [anyF]
    rw [anyF_congr (n := n) (fun i hi => h i (by omega)), h n (by omega)]
theorem firstF_congr {P R : Nat → Bool} : ∀ {n k : Nat}, (∀ i, k ≤ i → i < k + n → P i = R i) → firstF P n k = firstF R n k
  | 0, _, _ => rfl
  | n + 1, k, h => by
    simp only [firstF]
    rw [h k (by omega) (by omega), firstF_congr (n := n) (k := k + 1) (fun i h1 h2 => h i (by omega) (by omega))]
theorem plV_c {Q : JQ} {p : Nat} {va vb : Nat → Int32} (hn : nmOk6 Q p) (h : ∀ j, j < 6 → va j = vb j) {i : Nat} (hi : i < ql Q p) : plV Q p va i = plV Q p vb i := by
  unfold plV
  rcases hn i hi with e | ⟨j, hj, e⟩
  · rw [if_pos e, if_pos e]
  · rw [e, nI_clamp (by omega), h j hj]
theorem rowS_c {T : JT} {Q : JQ} {p s : Nat} {va vb : Nat → Int32} (hn : nmOk6 Q p) (h : ∀ j, j < 6 → va j = vb j) : rowS T Q p s va = rowS T Q p s vb := by
  unfold rowS
  refine firstF_congr (fun r _ _ => ?_)
  unfold agB
  rw [anyF_congr (R := agI T Q p r s vb) (fun i hi => ?_)]
  unfold agI
  rw [plV_c hn h hi]
theorem tB_c {T : JT} {Q : JQ} {p s : Nat} {va vb : Nat → Int32} (hn : nmOk6 Q p) (h2 : 2 ≤ qk Q p → ql Q p = 2) (h : ∀ j, j < 6 → va j = vb j) : tB T Q p s va = tB T Q p s vb := by
  unfold tB
  rw [rowS_c hn h]
  by_cases e0 : qk Q p = 0
  · rw [if_pos e0, if_pos e0]
  · rw [if_neg e0, if_neg e0]
    by_cases e1 : qk Q p = 1
    · rw [if_pos e1, if_pos e1]
    · rw [if_neg e1, if_neg e1, plV_c hn h (i := 0) (by have := h2 (by omega); omega), plV_c hn h (i := 1) (by have := h2 (by omega); omega)]
theorem wQ_nm {T : JT} {Q : JQ} (hw : wQ T Q) {p : Nat} (hp : p < qp Q) : nmOk6 Q p := fun i hi => by
  rcases (hw.2.2.1 p hp).2.2.2 i hi with e | ⟨j, hj, e⟩
  · exact Or.inl e
  · exact Or.inr ⟨j, by have := hw.1; omega, e⟩
theorem trueB_c {T : JT} {Q : JQ} {s : Nat} {va vb : Nat → Int32} (hw : wQ T Q) (h : ∀ j, j < 6 → va j = vb j) : trueB T Q s va = trueB T Q s vb := by
  unfold trueB
  rw [anyF_congr (R := fun p => !tB T Q p s vb) (fun p hp => by rw [tB_c (wQ_nm hw hp) (fun h2 => ((hw.2.2.1 p hp).2.2.1 h2).1) h])]
theorem exR_len (T : JT) (Q : JQ) (t c k s : Nat) (g : Nat → Int32) : ∀ {a b : Nat}, a ≤ b → (exR T Q t c k s g a).length ≤ (exR T Q t c k s g b).length := by
  intro a b h
  induction b with
  | zero =>
    have : a = 0 := by omega
    subst this; exact Nat.le_refl _
  | succ b ih =>
    rcases Nat.lt_or_ge a (b + 1) with h1 | h1
    · have := ih (by omega)
      rw [exR, List.length_append]
      omega
    · have : a = b + 1 := by omega
      subst this; exact Nat.le_refl _
theorem preF_len (L : List (Nat → Int32)) (ex : (Nat → Int32) → List (Nat → Int32)) : ∀ {a b : Nat}, a ≤ b → (preF L ex a).length ≤ (preF L ex b).length := by
  intro a b h
  induction b with
  | zero =>
    have : a = 0 := by omega
    subst this; exact Nat.le_refl _
  | succ b ih =>
    rcases Nat.lt_or_ge a (b + 1) with h1 | h1
    · have := ih (by omega)
      rw [preF, List.length_append]
      omega
    · have : a = b + 1 := by omega
      subst this; exact Nat.le_refl _
theorem setB_lt {T : JT} {Q : JQ} (hw : wQ T Q) : ∀ {d : Nat}, d ≤ qn Q → setB Q d < 64
  | 0, _ => by simp [setB]
  | d + 1, h => by
    have := hw.2.2.2.2.1 d (by omega)
    have := hw.1
    exact bit_lt _ (setB_lt hw (d := d) (by omega)) _ (by omega)
theorem rpL_add {N A : Nat → Int32} {L : List (Nat → Int32)} {g : Nat → Int32} (h : rpL N L) (hA : ∀ j, j < 6 → A j = g j) : rpL (stM N A L.length 6) (L ++ [g]) := by
  intro m hm j hj
  rw [List.length_append] at hm
  simp only [List.length_cons, List.length_nil] at hm
  simp only [stM]
  rcases Nat.lt_or_ge m L.length with h1 | h1
  · rw [if_neg (by omega), h m h1 j hj]
    simp only [List.getD_eq_getElem?_getD]
    rw [List.getElem?_append_left h1]
  · have : m = L.length := by omega
    subst this
    rw [if_pos (by omega)]
    simp only [List.getD_eq_getElem?_getD]
    rw [List.getElem?_append_right (Nat.le_refl _)]
    simp only [Nat.sub_self, List.getElem?_cons_zero, Option.getD_some]
    rw [show 6 * L.length + j - 6 * L.length = j by omega]
    exact hA j hj
/-- the end of the reference's meetings -/
def mmPost (T : JT) (Q : JQ) (cp ci : Nat → Nat) (z : JZ) (r : Int32) (z' : JZ) : Prop := ∃ (b : Bool) (R N A M : Nat → Int32) (k : Int32), r = jb b ∧ z' = mz z R N A M k ∧ (b = true → (∀ d, d < qn Q → (lvM T Q cp ci (d + 1)).length ≤ 500) ∧ rpL R (lvM T Q cp ci (qn Q)) ∧ k = nI (lvM T Q cp ci (qn Q)).length ∧ ∀ d, d < qn Q → M d = nI (lvM T Q cp ci (d + 1)).length) ∧ (b = false → ∃ d, d < qn Q ∧ 500 < (lvM T Q cp ci (d + 1)).length)
section MM2
variable {Γ : JC} {l : Launch} {z : JZ} {T : JT} {Q : JQ} {cp ci : Nat → Nat}
theorem l87_meets {d m : Nat} {F M : Nat → Int32} {kk : Int32} {L : List (Nat → Int32)} (C : jOk Γ l (jrm 6 0 0) cX4_meets "JoinLoomModel" (some FieldType.boolean) 10) (hQ : jRt Γ (jPi (mmPost T Q cp ci z)) 0 0 "meets") (hL : mdL z) (h : mQn z T Q) (hT : wT T) (hw : wQ T Q) (hc : colF Q cp ci) (hd : d < qn Q) (hLl : L = lvM T Q cp ci d) (hL5 : L.length ≤ 500) (hm : m < L.length) (hF : rpL F L)
    (K : ∀ (N A : Nat → Int32) (Nx : List (Nat → Int32)), Nx = preF L (fun g => exR T Q (qt Q (cp d)) (ci d) (qo Q d) (setB Q (d + 1)) g (tm T (qt Q (cp d)))) (m + 1) → rpL N Nx → Nx.length ≤ 500 → jG Γ 0 0 (mz z F N A M kk) 237 [(0, .ref (zA z (40, 0))), (1, .int (nI (setB Q (d + 1)))), (2, .int (nI d)), (3, .int (nI (qo Q d))), (4, .int (nI (3 * cp d + ci d))), (5, .int (nI (qt Q (cp d)))), (6, .int (nI Nx.length)), (7, .int (nI m)), (8, .int (nI (tm T (qt Q (cp d)))))] []) :
    ∀ (w r : Nat), r + w = tm T (qt Q (cp d)) → ∀ (N A : Nat → Int32) (Nx : List (Nat → Int32)), Nx = preF L (fun g => exR T Q (qt Q (cp d)) (ci d) (qo Q d) (setB Q (d + 1)) g (tm T (qt Q (cp d)))) m ++ exR T Q (qt Q (cp d)) (ci d) (qo Q d) (setB Q (d + 1)) (L.getD m (fun _ => 0)) r → rpL N Nx → Nx.length ≤ 500 → jG Γ 0 0 (mz z F N A M kk) 87 [(0, .ref (zA z (40, 0))), (1, .int (nI (setB Q (d + 1)))), (2, .int (nI d)), (3, .int (nI (qo Q d))), (4, .int (nI (3 * cp d + ci d))), (5, .int (nI (qt Q (cp d)))), (6, .int (nI Nx.length)), (7, .int (nI m)), (8, .int (nI r))] [] := by
  obtain ⟨k1, k2, k3, k4, k5, k6⟩ := hc d hd
  obtain ⟨w1, w2, w3, w4, w5, w6⟩ := id hw
  have hwp := w3 (cp d) k1
  obtain ⟨ht8, htc, hlc⟩ := hwp.2.1 (by omega)
  obtain ⟨t1, t2, t3⟩ := hT _ ht8
  have hb := h.2.2.2.2 (cp d) k1 (by omega)
  have ho6 := w5 d hd
  have hs := setB_lt hw (d := d + 1) (by omega)
  intro w
  induction w with
  | zero =>
    intro r hr N A Nx hNx hN hN5
    have e : r = tm T (qt Q (cp d)) := by omega
    subst e
    refine g_iload C dX4_meets_87 rfl ?_
    refine g_aload_n C dX4_meets_89 rfl rfl ?_
    refine f_X4_many C (hL _ (by decide)) (Or.inl q766) (Or.inl rfl) dX4_meets_90 ?_
    refine g_iload C dX4_meets_93 rfl ?_
    refine g_iald (n := 8) C rfl (hL _ (by decide)) rfl (by omega) (by decide) dX4_meets_95 ?_
    refine g_top (hb.2.1) ?_
    first | refine g_icmp_ge_n (tgt := 237) C dX4_meets_96 (by decide) (by omega) (by omega) (fun c96 => ?_) (fun c96 => ?_) | refine g_icmp_ge (tgt := 237) C dX4_meets_96 (by decide) (fun c96 => ?_) (fun c96 => ?_)
    · exact K N A Nx hNx hN hN5
    · omega
  | succ w ih =>
    intro r hr N A Nx hNx hN hN5
    have hskip : ∀ (A' : Nat → Int32), exR T Q (qt Q (cp d)) (ci d) (qo Q d) (setB Q (d + 1)) (L.getD m (fun _ => 0)) (r + 1) = exR T Q (qt Q (cp d)) (ci d) (qo Q d) (setB Q (d + 1)) (L.getD m (fun _ => 0)) r → jG Γ 0 0 (mz z F N A' M kk) 231 [(0, .ref (zA z (40, 0))), (1, .int (nI (setB Q (d + 1)))), (2, .int (nI d)), (3, .int (nI (qo Q d))), (4, .int (nI (3 * cp d + ci d))), (5, .int (nI (qt Q (cp d)))), (6, .int (nI Nx.length)), (7, .int (nI m)), (8, .int (nI r))] [] := by
      intro A' he
      first | refine g_iinc1 (lv' := [(0, _), (1, _), (2, _), (3, _), (4, _), (5, _), (6, _), (7, _), (8, _)]) C dX4_meets_231 rfl (by decide) rfl ?_ | refine g_iinc (lv' := [(0, _), (1, _), (2, _), (3, _), (4, _), (5, _), (6, _), (7, _), (8, _)]) C dX4_meets_231 rfl rfl (by decide) rfl ?_
      refine g_goto (tgt := 87) C dX4_meets_234 (by decide) ?_
      exact ih (r + 1) (by omega) N A' Nx (by rw [he]; exact hNx) hN hN5
    have hg : ∀ j, j < 6 → cpM A F (6 * m) 6 j = L.getD m (fun _ => 0) j := fun j hj => by
      simp only [cpM]
      rw [if_pos hj]
      exact hF m hm j hj
    have hg2 : ∀ j, j < 6 → upd (cpM A F (6 * m) 6) (qo Q d) (tv T (qt Q (cp d)) r (ci d)) j = upd (L.getD m (fun _ => 0)) (qo Q d) (tv T (qt Q (cp d)) r (ci d)) j := fun j hj => by
      simp only [upd]
      split
      · rfl
      · exact hg j hj
    have hbig : Nx.length = 500 → exR T Q (qt Q (cp d)) (ci d) (qo Q d) (setB Q (d + 1)) (L.getD m (fun _ => 0)) (r + 1) = exR T Q (qt Q (cp d)) (ci d) (qo Q d) (setB Q (d + 1)) (L.getD m (fun _ => 0)) r ++ [upd (L.getD m (fun _ => 0)) (qo Q d) (tv T (qt Q (cp d)) r (ci d))] → 500 < (lvM T Q cp ci (d + 1)).length := by
      intro h5 he
      have e1 := exR_len T Q (qt Q (cp d)) (ci d) (qo Q d) (setB Q (d + 1)) (L.getD m (fun _ => 0)) (show r + 1 ≤ tm T (qt Q (cp d)) by omega)
      have e2 := preF_len L (fun g => exR T Q (qt Q (cp d)) (ci d) (qo Q d) (setB Q (d + 1)) g (tm T (qt Q (cp d)))) (show m + 1 ≤ L.length by omega)
      have e3 : (lvM T Q cp ci (d + 1)) = preF L (fun g => exR T Q (qt Q (cp d)) (ci d) (qo Q d) (setB Q (d + 1)) g (tm T (qt Q (cp d)))) L.length := by rw [lvM, ← hLl]
      rw [e3]
      rw [preF, List.length_append] at e2
      rw [hNx, List.length_append] at h5
      rw [he, List.length_append] at e1
      simp only [List.length_cons, List.length_nil] at e1
      omega
    have J228 : exR T Q (qt Q (cp d)) (ci d) (qo Q d) (setB Q (d + 1)) (L.getD m (fun _ => 0)) (r + 1) = exR T Q (qt Q (cp d)) (ci d) (qo Q d) (setB Q (d + 1)) (L.getD m (fun _ => 0)) r ++ [upd (L.getD m (fun _ => 0)) (qo Q d) (tv T (qt Q (cp d)) r (ci d))] → ¬ Nx.length = 500 → jG Γ 0 0 (mz z F (stM N (upd (cpM A F (6 * m) 6) (qo Q d) (tv T (qt Q (cp d)) r (ci d))) Nx.length 6) (upd (cpM A F (6 * m) 6) (qo Q d) (tv T (qt Q (cp d)) r (ci d))) M kk) 228 [(0, .ref (zA z (40, 0))), (1, .int (nI (setB Q (d + 1)))), (2, .int (nI d)), (3, .int (nI (qo Q d))), (4, .int (nI (3 * cp d + ci d))), (5, .int (nI (qt Q (cp d)))), (6, .int (nI Nx.length)), (7, .int (nI m)), (8, .int (nI r)), (9, .int (nI 6))] [] := by
      intro he h5
      have h9 := ih (r + 1) (by omega) (stM N (upd (cpM A F (6 * m) 6) (qo Q d) (tv T (qt Q (cp d)) r (ci d))) Nx.length 6) (upd (cpM A F (6 * m) 6) (qo Q d) (tv T (qt Q (cp d)) r (ci d))) (Nx ++ [upd (L.getD m (fun _ => 0)) (qo Q d) (tv T (qt Q (cp d)) r (ci d))]) (by rw [he, hNx, List.append_assoc]) (rpL_add hN hg2) (by rw [List.length_append]; simp only [List.length_cons, List.length_nil]; omega)
      rw [List.length_append] at h9
      first | refine g_iinc1 (lv' := [(0, _), (1, _), (2, _), (3, _), (4, _), (5, _), (6, _), (7, _), (8, _), (9, _)]) C dX4_meets_228 rfl (by decide) rfl ?_ | refine g_iinc (lv' := [(0, _), (1, _), (2, _), (3, _), (4, _), (5, _), (6, _), (7, _), (8, _), (9, _)]) C dX4_meets_228 rfl rfl (by decide) rfl ?_
      first | refine g_iinc1 (lv' := [(0, _), (1, _), (2, _), (3, _), (4, _), (5, _), (6, _), (7, _), (8, _), (9, _)]) C dX4_meets_231 rfl (by decide) rfl ?_ | refine g_iinc (lv' := [(0, _), (1, _), (2, _), (3, _), (4, _), (5, _), (6, _), (7, _), (8, _), (9, _)]) C dX4_meets_231 rfl rfl (by decide) rfl ?_
      refine g_goto (tgt := 87) C dX4_meets_234 (by decide) ?_
      refine g_take 9 rfl ?_
      exact h9
    have J153 : anyF (fun a => decide (tv T (qt Q (cp d)) a (ci d) = tv T (qt Q (cp d)) r (ci d))) r = false → jG Γ 0 0 (mz z F N (cpM A F (6 * m) 6) M kk) 153 [(0, .ref (zA z (40, 0))), (1, .int (nI (setB Q (d + 1)))), (2, .int (nI d)), (3, .int (nI (qo Q d))), (4, .int (nI (3 * cp d + ci d))), (5, .int (nI (qt Q (cp d)))), (6, .int (nI Nx.length)), (7, .int (nI m)), (8, .int (nI r)), (9, .int (nI 6))] [] := by
      intro hag
      refine g_aload_n C dX4_meets_153 rfl rfl ?_
      refine f_X4_at C (hL _ (by decide)) (Or.inl q790) (Or.inl rfl) dX4_meets_154 ?_
      refine g_iload_n C dX4_meets_157 rfl rfl ?_
      refine g_aload_n C dX4_meets_158 rfl rfl ?_
      refine g_iload C dX4_meets_159 rfl ?_
      refine g_iload C dX4_meets_161 rfl ?_
      refine g_iload C dX4_meets_163 rfl ?_
      refine g_iconst (v := nI 3) C dX4_meets_165 (by decide) ?_
      first | refine g_irem_n C dX4_meets_166 (by omega) (by omega) (by omega) ?_ | refine g_irem C dX4_meets_166 (by decide) ?_
      refine g_top ((show _ = nI (ci d) by rw [show (3 * cp d + ci d) % 3 = ci d by omega])) ?_
      refine g_cfi (g_runV C (mT_cell l _ T (qt Q (cp d)) r (ci d) hL ht8 hT hb (by omega) (by omega)) ciX4_cell q885 (Or.inl qs28) (Or.inl q883) (hL _ (by decide)) rfl rfl rfl rfl (Nat.le_of_ble_eq_true rfl) dX4_meets_167 (by decide)) ?_
      refine g_iast (n := 6) C rfl (hL _ (by decide)) rfl (by omega) (by decide) dX4_meets_170 ?_
      refine g_z (mz_58 _ _ _ _ _ _ _ _) ?_
      refine g_aload_n C dX4_meets_171 rfl rfl ?_
      refine g_iload_n C dX4_meets_172 rfl rfl ?_
      refine g_cfi (g_runV C (m_X4_areTrue l _ T Q (setB Q (d + 1)) hL h hT hw hs) ciX4_areTrue q957 (Or.inl qs36) (Or.inl q955) (hL _ (by decide)) rfl rfl rfl rfl (Nat.le_of_ble_eq_true rfl) dX4_meets_173 (by decide)) ?_
      refine g_top ((show _ = jb (trueB T Q (setB Q (d + 1)) (upd (L.getD m (fun _ => 0)) (qo Q d) (tv T (qt Q (cp d)) r (ci d)))) from congrArg jb (trueB_c hw hg2))) ?_
      refine g_if_ne_b (tgt := 182) C dX4_meets_176 (by decide) (fun c176 => ?_) (fun c176 => ?_)
      · have he : exR T Q (qt Q (cp d)) (ci d) (qo Q d) (setB Q (d + 1)) (L.getD m (fun _ => 0)) (r + 1) = exR T Q (qt Q (cp d)) (ci d) (qo Q d) (setB Q (d + 1)) (L.getD m (fun _ => 0)) r ++ [upd (L.getD m (fun _ => 0)) (qo Q d) (tv T (qt Q (cp d)) r (ci d))] := by rw [exR, if_neg (by rw [hag]; decide), if_pos c176]
        refine g_iload C dX4_meets_182 rfl ?_
        refine g_sipush (v := nI 500) C dX4_meets_184 (by decide) ?_
        first | refine g_icmp_ne_n (tgt := 192) C dX4_meets_187 (by decide) (by omega) (by omega) (fun c187 => ?_) (fun c187 => ?_) | refine g_icmp_ne (tgt := 192) C dX4_meets_187 (by decide) (fun c187 => ?_) (fun c187 => ?_)
        · refine g_iconst (v := nI 0) C dX4_meets_192 (by decide) ?_
          refine g_istore (lv' := [(0, _), (1, _), (2, _), (3, _), (4, _), (5, _), (6, _), (7, _), (8, _), (9, _)]) C dX4_meets_193 (by decide) rfl ?_
          refine g_z (show _ = mz z F (stM N (upd (cpM A F (6 * m) 6) (qo Q d) (tv T (qt Q (cp d)) r (ci d))) Nx.length 0) (upd (cpM A F (6 * m) 6) (qo Q d) (tv T (qt Q (cp d)) r (ci d))) M kk by rw [stM_0]) ?_
          refine ln_meets C hL (by omega) ?_ 6 0 (by omega)
          exact J228 he c187
        · refine g_iconst (v := nI 0) C dX4_meets_190 (by decide) ?_
          exact g_ireturn C hQ rfl (by omega) (by omega) dX4_meets_191 (⟨_, rfl, false, _, _, _, _, _, rfl, rfl, fun e9 => (by cases e9), fun _ => ⟨d, hd, hbig c187 he⟩⟩)
      · have he : exR T Q (qt Q (cp d)) (ci d) (qo Q d) (setB Q (d + 1)) (L.getD m (fun _ => 0)) (r + 1) = exR T Q (qt Q (cp d)) (ci d) (qo Q d) (setB Q (d + 1)) (L.getD m (fun _ => 0)) r := by rw [exR, if_neg (by rw [hag]; decide), if_neg (by rw [c176]; decide), List.append_nil]
        refine g_goto (tgt := 231) C dX4_meets_179 (by decide) ?_
        refine g_take 9 rfl ?_
        exact hskip _ he
    refine g_iload C dX4_meets_87 rfl ?_
    refine g_aload_n C dX4_meets_89 rfl rfl ?_
    refine f_X4_many C (hL _ (by decide)) (Or.inl q766) (Or.inl rfl) dX4_meets_90 ?_
    refine g_iload C dX4_meets_93 rfl ?_
    refine g_iald (n := 8) C rfl (hL _ (by decide)) rfl (by omega) (by decide) dX4_meets_95 ?_
    refine g_top (hb.2.1) ?_
    first | refine g_icmp_ge_n (tgt := 237) C dX4_meets_96 (by decide) (by omega) (by omega) (fun c96 => ?_) (fun c96 => ?_) | refine g_icmp_ge (tgt := 237) C dX4_meets_96 (by decide) (fun c96 => ?_) (fun c96 => ?_)
    · omega
    · refine g_aload_n C dX4_meets_99 rfl rfl ?_
      refine g_iload C dX4_meets_100 rfl ?_
      refine g_iload C dX4_meets_102 rfl ?_
      refine g_iconst (v := nI 3) C dX4_meets_104 (by decide) ?_
      first | refine g_irem_n C dX4_meets_105 (by omega) (by omega) (by omega) ?_ | refine g_irem C dX4_meets_105 (by decide) ?_
      refine g_top ((show _ = nI (ci d) by rw [show (3 * cp d + ci d) % 3 = ci d by omega])) ?_
      refine g_iload C dX4_meets_106 rfl ?_
      refine g_cfi (g_runV C (m_X4_isAgain l _ T (qt Q (cp d)) (ci d) r hL ht8 hT hb (by omega) (by omega)) ciX4_isAgain q953 (Or.inl qs35) (Or.inl q951) (hL _ (by decide)) rfl rfl rfl rfl (Nat.le_of_ble_eq_true rfl) dX4_meets_108 (by decide)) ?_
      refine g_if_eq_b (tgt := 117) C dX4_meets_111 (by decide) (fun c111 => ?_) (fun c111 => ?_)
      · refine g_iconst (v := nI 0) C dX4_meets_117 (by decide) ?_
        refine g_istore (lv' := [(0, _), (1, _), (2, _), (3, _), (4, _), (5, _), (6, _), (7, _), (8, _), (9, _)]) C dX4_meets_118 (by decide) rfl ?_
        refine g_z (show _ = mz z F N (cpM A F (6 * m) 0) M kk by rw [cpM_0]) ?_
        exact la_meets C hL (by omega) (J153 c111) 6 0 (by omega)
      · refine g_goto (tgt := 231) C dX4_meets_114 (by decide) ?_
        exact hskip A (by rw [exR, if_pos c111, List.append_nil])
theorem l75_meets {d : Nat} {F M : Nat → Int32} {L : List (Nat → Int32)} (C : jOk Γ l (jrm 6 0 0) cX4_meets "JoinLoomModel" (some FieldType.boolean) 10) (hQ : jRt Γ (jPi (mmPost T Q cp ci z)) 0 0 "meets") (hL : mdL z) (h : mQn z T Q) (hT : wT T) (hw : wQ T Q) (hc : colF Q cp ci) (hd : d < qn Q) (hLl : L = lvM T Q cp ci d) (hL5 : L.length ≤ 500) (hF : rpL F L)
    (K : ∀ (N A : Nat → Int32) (Nx : List (Nat → Int32)), Nx = lvM T Q cp ci (d + 1) → rpL N Nx → Nx.length ≤ 500 → jG Γ 0 0 (mz z F N A M (nI L.length)) 243 [(0, .ref (zA z (40, 0))), (1, .int (nI (setB Q (d + 1)))), (2, .int (nI d)), (3, .int (nI (qo Q d))), (4, .int (nI (3 * cp d + ci d))), (5, .int (nI (qt Q (cp d)))), (6, .int (nI Nx.length)), (7, .int (nI L.length))] []) :
    ∀ (w m : Nat), m + w = L.length → ∀ (N A : Nat → Int32) (Nx : List (Nat → Int32)), Nx = preF L (fun g => exR T Q (qt Q (cp d)) (ci d) (qo Q d) (setB Q (d + 1)) g (tm T (qt Q (cp d)))) m → rpL N Nx → Nx.length ≤ 500 → jG Γ 0 0 (mz z F N A M (nI L.length)) 75 [(0, .ref (zA z (40, 0))), (1, .int (nI (setB Q (d + 1)))), (2, .int (nI d)), (3, .int (nI (qo Q d))), (4, .int (nI (3 * cp d + ci d))), (5, .int (nI (qt Q (cp d)))), (6, .int (nI Nx.length)), (7, .int (nI m))] [] := by
  intro w
  induction w with
  | zero =>
    intro m hm N A Nx hNx hN hN5
    have e : m = L.length := by omega
    subst e
    refine g_iload C dX4_meets_75 rfl ?_
    refine g_aload_n C dX4_meets_77 rfl rfl ?_
    refine f_X4_rowMany C (hL _ (by decide)) (Or.inl q778) (Or.inl rfl) dX4_meets_78 ?_
    refine g_top ((show _ = nI L.length from rfl)) ?_
    first | refine g_icmp_ge_n (tgt := 243) C dX4_meets_81 (by decide) (by omega) (by omega) (fun c81 => ?_) (fun c81 => ?_) | refine g_icmp_ge (tgt := 243) C dX4_meets_81 (by decide) (fun c81 => ?_) (fun c81 => ?_)
    · exact K N A Nx (by rw [hNx, lvM, ← hLl]) hN hN5
    · omega
  | succ w ih =>
    intro m hm N A Nx hNx hN hN5
    have K2 : ∀ (N A : Nat → Int32) (Nx : List (Nat → Int32)), Nx = preF L (fun g => exR T Q (qt Q (cp d)) (ci d) (qo Q d) (setB Q (d + 1)) g (tm T (qt Q (cp d)))) (m + 1) → rpL N Nx → Nx.length ≤ 500 → jG Γ 0 0 (mz z F N A M (nI L.length)) 237 [(0, .ref (zA z (40, 0))), (1, .int (nI (setB Q (d + 1)))), (2, .int (nI d)), (3, .int (nI (qo Q d))), (4, .int (nI (3 * cp d + ci d))), (5, .int (nI (qt Q (cp d)))), (6, .int (nI Nx.length)), (7, .int (nI m)), (8, .int (nI (tm T (qt Q (cp d)))))] [] := by
      intro N A Nx hNx hN hN5
      first | refine g_iinc1 (lv' := [(0, _), (1, _), (2, _), (3, _), (4, _), (5, _), (6, _), (7, _), (8, _)]) C dX4_meets_237 rfl (by decide) rfl ?_ | refine g_iinc (lv' := [(0, _), (1, _), (2, _), (3, _), (4, _), (5, _), (6, _), (7, _), (8, _)]) C dX4_meets_237 rfl rfl (by decide) rfl ?_
      refine g_goto (tgt := 75) C dX4_meets_240 (by decide) ?_
      refine g_take 8 rfl ?_
      exact ih (m + 1) (by omega) N A Nx hNx hN hN5
    refine g_iload C dX4_meets_75 rfl ?_
    refine g_aload_n C dX4_meets_77 rfl rfl ?_
    refine f_X4_rowMany C (hL _ (by decide)) (Or.inl q778) (Or.inl rfl) dX4_meets_78 ?_
    refine g_top ((show _ = nI L.length from rfl)) ?_
    first | refine g_icmp_ge_n (tgt := 243) C dX4_meets_81 (by decide) (by omega) (by omega) (fun c81 => ?_) (fun c81 => ?_) | refine g_icmp_ge (tgt := 243) C dX4_meets_81 (by decide) (fun c81 => ?_) (fun c81 => ?_)
    · omega
    · refine g_iconst (v := nI 0) C dX4_meets_84 (by decide) ?_
      refine g_istore (lv' := [(0, _), (1, _), (2, _), (3, _), (4, _), (5, _), (6, _), (7, _), (8, _)]) C dX4_meets_85 (by decide) rfl ?_
      exact l87_meets C hQ hL h hT hw hc hd hLl hL5 (by omega) hF K2 _ 0 (Nat.zero_add _) N A Nx (by rw [hNx, exR, List.append_nil]) hN hN5
theorem l30_meets (C : jOk Γ l (jrm 6 0 0) cX4_meets "JoinLoomModel" (some FieldType.boolean) 10) (hQ : jRt Γ (jPi (mmPost T Q cp ci z)) 0 0 "meets") (hL : mdL z) (h : mQn z T Q) (hT : wT T) (hw : wQ T Q) (hc : colF Q cp ci) :
    ∀ (w d : Nat), d + w = qn Q → ∀ (F N A M : Nat → Int32), rpL F (lvM T Q cp ci d) → (lvM T Q cp ci d).length ≤ 500 → (∀ e, e < d → (lvM T Q cp ci (e + 1)).length ≤ 500 ∧ M e = nI (lvM T Q cp ci (e + 1)).length) → jG Γ 0 0 (mz z F N A M (nI (lvM T Q cp ci d).length)) 30 [(0, .ref (zA z (40, 0))), (1, .int (nI (setB Q d))), (2, .int (nI d))] [] := by
  have w1 := hw.1
  intro w
  induction w with
  | zero =>
    intro d hd F N A M hF hL5 hM
    have e : d = qn Q := by omega
    subst e
    refine g_iload_n C dX4_meets_30 rfl rfl ?_
    refine g_aload_n C dX4_meets_31 rfl rfl ?_
    refine f_X4_names C (hL _ (by decide)) (Or.inl q768) (Or.inl rfl) dX4_meets_32 ?_
    refine g_top ((show _ = nI (qn Q) from h.1)) ?_
    first | refine g_icmp_ge_n (tgt := 296) C dX4_meets_35 (by decide) (by omega) (by omega) (fun c35 => ?_) (fun c35 => ?_) | refine g_icmp_ge (tgt := 296) C dX4_meets_35 (by decide) (fun c35 => ?_) (fun c35 => ?_)
    · refine g_iconst (v := nI 1) C dX4_meets_296 (by decide) ?_
      exact g_ireturn C hQ rfl (by omega) (by omega) dX4_meets_297 (⟨_, rfl, true, F, N, A, M, _, rfl, rfl, fun _ => ⟨fun d hd => (hM d hd).1, hF, rfl, fun d hd => (hM d hd).2⟩, fun e9 => by cases e9⟩)
    · omega
  | succ w ih =>
    intro d hd F N A M hF hL5 hM
    have hd2 : d < qn Q := by omega
    have ho6 := hw.2.2.2.2.1 d hd2
    have hcd := hc d hd2
    have hp10 : cp d < 10 := by have := hcd.1; have := hw.2.1; omega
    have hpt := h.2.2.2.1 (cp d) hcd.1
    have hs := setB_lt hw (d := d) (by omega)
    have hwp := hw.2.2.1 (cp d) hcd.1
    have hci3 : ci d < 3 := by have := wPt_l3 hT hwp (by rw [hcd.2.1]; decide); have := hcd.2.2.1; omega
    have hord : zM z (49, 0) d = nI (qo Q d) := h.2.2.1 d hd2
    have K : ∀ (N A : Nat → Int32) (Nx : List (Nat → Int32)), Nx = lvM T Q cp ci (d + 1) → rpL N Nx → Nx.length ≤ 500 → jG Γ 0 0 (mz z F N A M (nI (lvM T Q cp ci d).length)) 243 [(0, .ref (zA z (40, 0))), (1, .int (nI (setB Q (d + 1)))), (2, .int (nI d)), (3, .int (nI (qo Q d))), (4, .int (nI (3 * cp d + ci d))), (5, .int (nI (qt Q (cp d)))), (6, .int (nI Nx.length)), (7, .int (nI (lvM T Q cp ci d).length))] [] := by
      intro N A Nx hNx hN hN5
      have K2 : jG Γ 0 0 (mz z (cpM F N 0 (6 * Nx.length)) N A M (nI (lvM T Q cp ci d).length)) 276 [(0, .ref (zA z (40, 0))), (1, .int (nI (setB Q (d + 1)))), (2, .int (nI d)), (3, .int (nI (qo Q d))), (4, .int (nI (3 * cp d + ci d))), (5, .int (nI (qt Q (cp d)))), (6, .int (nI Nx.length)), (7, .int (nI (6 * Nx.length)))] [] := by
        have h9 := ih (d + 1) (by omega) (cpM F N 0 (6 * Nx.length)) N A (upd M d (nI Nx.length)) (by
          rw [← hNx]
          intro m hm j hj
          simp only [cpM]
          rw [if_pos (by omega), Nat.zero_add]
          exact hN m hm j hj) (by rw [← hNx]; exact hN5) (fun e he => by
          simp only [upd]
          rcases Nat.lt_or_ge e d with h8 | h8
          · rw [if_neg (by omega)]; exact hM e h8
          · have : e = d := by omega
            subst this
            rw [if_pos rfl, ← hNx]; exact ⟨hN5, rfl⟩)
        rw [← hNx] at h9
        refine g_aload_n C dX4_meets_276 rfl rfl ?_
        refine g_iload C dX4_meets_277 rfl ?_
        refine p_X4_rowMany C hQ (hL _ (by decide)) (Or.inl q778) (Or.inl rfl) dX4_meets_279 ?_
        refine g_z (mz_40 _ _ _ _ _ _ _) ?_
        refine g_aload_n C dX4_meets_282 rfl rfl ?_
        refine f_X4_metMany C (hL _ (by decide)) (Or.inl q779) (Or.inl rfl) dX4_meets_283 ?_
        refine g_iload_n C dX4_meets_286 rfl rfl ?_
        refine g_iload C dX4_meets_287 rfl ?_
        refine g_iast (n := 6) C rfl (hL _ (by decide)) rfl (by omega) (by decide) dX4_meets_289 ?_
        refine g_z (mz_52 _ _ _ _ _ _ _ _) ?_
        first | refine g_iinc1 (lv' := [(0, _), (1, _), (2, _), (3, _), (4, _), (5, _), (6, _), (7, _)]) C dX4_meets_290 rfl (by decide) rfl ?_ | refine g_iinc (lv' := [(0, _), (1, _), (2, _), (3, _), (4, _), (5, _), (6, _), (7, _)]) C dX4_meets_290 rfl rfl (by decide) rfl ?_
        refine g_goto (tgt := 30) C dX4_meets_293 (by decide) ?_
        refine g_take 3 rfl ?_
        exact h9
      refine g_iconst (v := nI 0) C dX4_meets_243 (by decide) ?_
      refine g_istore (lv' := [(0, _), (1, _), (2, _), (3, _), (4, _), (5, _), (6, _), (7, _)]) C dX4_meets_244 (by decide) rfl ?_
      refine g_z (show _ = mz z (cpM F N 0 0) N A M (nI (lvM T Q cp ci d).length) by rw [cpM_0]) ?_
      exact lr_meets (x6 := 0) C hL hN5 K2 _ 0 (Nat.zero_add _)
    refine g_iload_n C dX4_meets_30 rfl rfl ?_
    refine g_aload_n C dX4_meets_31 rfl rfl ?_
    refine f_X4_names C (hL _ (by decide)) (Or.inl q768) (Or.inl rfl) dX4_meets_32 ?_
    refine g_top ((show _ = nI (qn Q) from h.1)) ?_
    first | refine g_icmp_ge_n (tgt := 296) C dX4_meets_35 (by decide) (by omega) (by omega) (fun c35 => ?_) (fun c35 => ?_) | refine g_icmp_ge (tgt := 296) C dX4_meets_35 (by decide) (fun c35 => ?_) (fun c35 => ?_)
    · omega
    · refine g_aload_n C dX4_meets_38 rfl rfl ?_
      refine f_X4_order C (hL _ (by decide)) (Or.inl q775) (Or.inl rfl) dX4_meets_39 ?_
      refine g_iload_n C dX4_meets_42 rfl rfl ?_
      refine g_iald (n := 6) C rfl (hL _ (by decide)) rfl (by omega) (by decide) dX4_meets_43 ?_
      refine g_top ((show _ = nI (qo Q d) from hord)) ?_
      refine g_istore_n (lv' := [(0, _), (1, _), (2, _), (3, _)]) C dX4_meets_44 rfl (by decide) rfl ?_
      refine g_iload_n C dX4_meets_45 rfl rfl ?_
      refine g_iconst (v := nI 1) C dX4_meets_46 (by decide) ?_
      refine g_iload_n C dX4_meets_47 rfl rfl ?_
      refine g_ishl C dX4_meets_48 ?_
      refine g_ior C dX4_meets_49 ?_
      refine g_top ((show _ = nI (setB Q (d + 1)) from bit_or _ hs _ (by omega))) ?_
      refine g_istore_n (lv' := [(0, _), (1, _), (2, _), (3, _)]) C dX4_meets_50 rfl (by decide) rfl ?_
      refine g_aload_n C dX4_meets_51 rfl rfl ?_
      refine g_iload_n C dX4_meets_52 rfl rfl ?_
      refine g_cfi (g_runV C (m_X4_columnOf l _ T Q (qo Q d) (cp d) (ci d) hL h hT hw hcd) ciX4_columnOf q949 (Or.inl qs34) (Or.inl q947) (hL _ (by decide)) rfl rfl rfl rfl (Nat.le_of_ble_eq_true rfl) dX4_meets_53 (by decide)) ?_
      refine g_istore (lv' := [(0, _), (1, _), (2, _), (3, _), (4, _)]) C dX4_meets_56 (by decide) rfl ?_
      refine g_aload_n C dX4_meets_58 rfl rfl ?_
      refine f_X4_of C (hL _ (by decide)) (Or.inl q771) (Or.inl rfl) dX4_meets_59 ?_
      refine g_iload C dX4_meets_62 rfl ?_
      refine g_iconst (v := nI 3) C dX4_meets_64 (by decide) ?_
      first | refine g_idiv_n C dX4_meets_65 (by omega) (by omega) (by omega) ?_ | refine g_idiv C dX4_meets_65 (by decide) ?_
      refine g_top ((show _ = nI (cp d) by rw [show (3 * cp d + ci d) / 3 = cp d by omega])) ?_
      refine g_iald (n := 10) C rfl (hL _ (by decide)) rfl (by omega) (by decide) dX4_meets_66 ?_
      refine g_top ((show _ = nI (qt Q (cp d)) from hpt.2.1 (by rw [hcd.2.1]; decide))) ?_
      refine g_istore (lv' := [(0, _), (1, _), (2, _), (3, _), (4, _), (5, _)]) C dX4_meets_67 (by decide) rfl ?_
      refine g_iconst (v := nI 0) C dX4_meets_69 (by decide) ?_
      refine g_istore (lv' := [(0, _), (1, _), (2, _), (3, _), (4, _), (5, _), (6, _)]) C dX4_meets_70 (by decide) rfl ?_
      refine g_iconst (v := nI 0) C dX4_meets_72 (by decide) ?_
      refine g_istore (lv' := [(0, _), (1, _), (2, _), (3, _), (4, _), (5, _), (6, _), (7, _)]) C dX4_meets_73 (by decide) rfl ?_
      exact l75_meets C hQ hL h hT hw hc hd2 rfl hL5 hF K _ 0 (Nat.zero_add _) N A [] rfl (fun m hm => absurd hm (Nat.not_lt_zero _)) (Nat.zero_le _)
end MM2
theorem mz_self (z : JZ) : mz z (zM z (50, 0)) (zM z (51, 0)) (zM z (58, 0)) (zM z (52, 0)) (zM z (40, 0) 13) = z := by
  unfold mz
  have e : (fun id : JId => if id = (50, 0) then zM z (50, 0) else if id = (51, 0) then zM z (51, 0) else if id = (52, 0) then zM z (52, 0) else if id = (58, 0) then zM z (58, 0) else if id = (40, 0) then upd (zM z (40, 0)) 13 (zM z (40, 0) 13) else zM z id) = zM z := by
    funext id
    by_cases e1 : id = (50, 0)
    · rw [if_pos e1, e1]
    · rw [if_neg e1]
      by_cases e2 : id = (51, 0)
      · rw [if_pos e2, e2]
      · rw [if_neg e2]
        by_cases e3 : id = (52, 0)
        · rw [if_pos e3, e3]
        · rw [if_neg e3]
          by_cases e4 : id = (58, 0)
          · rw [if_pos e4, e4]
          · rw [if_neg e4]
            by_cases e5 : id = (40, 0)
            · rw [if_pos e5, e5]; exact upd_self rfl
            · rw [if_neg e5]
  rw [e]
  exact wM_self z
theorem m_X4_meets (l : Launch) (z : JZ) (T : JT) (Q : JQ) (cp ci : Nat → Nat) (hL : mdL z) (h : mQn z T Q) (hT : wT T) (hw : wQ T Q) (hc : colF Q cp ci) : jCt l yX4_meets cX4_meets 10 (some FieldType.boolean) 6 0 0 [.ref (zA z (40, 0))] z (jPi (mmPost T Q cp ci z)) := by
  refine (jCt.of "JoinLoomModel" "meets" [(0, _)] rfl rfl (by decide) (Nat.le_of_ble_eq_true rfl) rfl (fun Γ C hQ => ?_))
  refine g_z (mz_self z).symm ?_
  have J26 : ∀ F' : Nat → Int32, (∀ j, j < 6 → F' j = 0) → jG Γ 0 0 (mz z F' (zM z (51, 0)) (zM z (58, 0)) (zM z (52, 0)) (nI 1)) 26 [(0, .ref (zA z (40, 0))), (1, .int (nI 6))] [] := by
    intro F' hF'
    refine g_iconst (v := nI 0) C dX4_meets_26 (by decide) ?_
    refine g_istore_n (lv' := [(0, _), (1, _)]) C dX4_meets_27 rfl (by decide) rfl ?_
    refine g_iconst (v := nI 0) C dX4_meets_28 (by decide) ?_
    refine g_istore_n (lv' := [(0, _), (1, _), (2, _)]) C dX4_meets_29 rfl (by decide) rfl ?_
    exact l30_meets C hQ hL h hT hw hc (qn Q) 0 (by omega) F' _ _ _ (fun m hm j hj => by have h1 : m < 1 := hm; have hm0 : m = 0 := Nat.lt_one_iff.mp h1; subst hm0; rw [Nat.mul_zero, Nat.zero_add]; exact hF' j hj) (show 1 ≤ 500 by decide) (fun e he => absurd he (Nat.not_lt_zero _))
  refine g_aload_n C dX4_meets_0 rfl rfl ?_
  refine g_iconst (v := nI 1) C dX4_meets_1 (by decide) ?_
  refine p_X4_rowMany C hQ (hL _ (by decide)) (Or.inl q778) (Or.inl rfl) dX4_meets_2 ?_
  refine g_z (mz_40 _ _ _ _ _ _ _) ?_
  refine g_iconst (v := nI 0) C dX4_meets_5 (by decide) ?_
  refine g_istore_n (lv' := [(0, _), (1, _)]) C dX4_meets_6 rfl (by decide) rfl ?_
  refine l0_meets (x0 := 0) (R := jrm 6 0 0) C hL (fun F' hF' => ?_) 6 0 (by omega) _ (fun a ha => absurd ha (Nat.not_lt_zero _))
  exact J26 F' hF'
