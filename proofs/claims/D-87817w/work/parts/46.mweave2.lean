set_option maxRecDepth 100000
theorem full_s : ∀ n, n < 7 → (nI 1 <<< (nI n &&& 31)) - nI 1 = nI (2 ^ n - 1) ∧ 2 ^ n - 1 < 64 := by decide +kernel
/-- the rows that make an answer true, by part -/
def witV (T : JT) (Q : JQ) (g : Nat → Int32) (p : Nat) : Int32 := if qk Q p = 0 then oI (rowS T Q p (2 ^ qn Q - 1) g) else -1
section MW2
variable {Γ : JC} {l : Launch} {z : JZ} {T : JT} {Q : JQ}
theorem l73_weave {n : Nat} {Lr : List (Nat → Int32)} {ret : Option FieldType} (C : jOk Γ l (jrm 7 0 0) cX4_weave "JoinLoomModel" ret 4) (hL : mdL z) (hn : zM z (40, 0) 3 = nI n) (hn6 : n ≤ 6) (hk : zM z (40, 0) 13 = nI Lr.length) (h5 : Lr.length ≤ 500) (hR : rpL (zM z (50, 0)) Lr)
    (K : ∀ (V : Nat → Int32) (L : List (Nat → Int32)), rpL V L → srtF n L → L.Perm Lr → jG Γ 0 0 (sA z (53, 0) V) 196 [(0, .ref (zA z (40, 0))), (1, .int (nI Lr.length))] []) :
    ∀ (w m : Nat), m + w = Lr.length → ∀ (V : Nat → Int32) (L : List (Nat → Int32)), L.length = m → rpL V L → srtF n L → L.Perm (Lr.take m) → jG Γ 0 0 (sA z (53, 0) V) 73 [(0, .ref (zA z (40, 0))), (1, .int (nI m))] [] := by
  intro w
  induction w with
  | zero =>
    intro m hm V L hl hV hs hp
    have e : m = Lr.length := by omega
    subst e
    rw [List.take_length] at hp
    refine g_iload_n C dX4_weave_73 rfl rfl ?_
    refine g_aload_n C dX4_weave_74 rfl rfl ?_
    refine f_X4_rowMany C (hL _ (by decide)) (Or.inl q778) (Or.inl rfl) dX4_weave_75 ?_
    refine g_top (hk) ?_
    first | refine g_icmp_ge_n (tgt := 196) C dX4_weave_78 (by decide) (by omega) (by omega) (fun c78 => ?_) (fun c78 => ?_) | refine g_icmp_ge (tgt := 196) C dX4_weave_78 (by decide) (fun c78 => ?_) (fun c78 => ?_)
    · exact K V L hV hs hp
    · omega
  | succ w ih =>
    intro m hm V L hl hV hs hp
    obtain ⟨p, p1, p2, p3⟩ := topPos (fun i => 0 < cmpF (rAt L i) (rAt Lr m) n 0) m
    have K2 : ∀ V' : Nat → Int32, rpL V' (insL p (rAt Lr m) L) → ∀ a b, jG Γ 0 0 (sA z (53, 0) V') 190 [(0, .ref (zA z (40, 0))), (1, .int (nI m)), (2, .int a), (3, .int b)] [] := by
      intro V' hV' a b
      have h9 := ih (m + 1) (by omega) V' (insL p (rAt Lr m) L) (by rw [insL_len (by omega)]; omega) hV' (insL_srt hs (by omega) (fun i hi hi2 => p2 i hi (by omega)) p3) (by
        refine (insL_perm p (rAt Lr m) L).trans ?_
        rw [List.take_add_one]
        refine hp.append ?_
        have : Lr[m]? = some (rAt Lr m) := by
          unfold rAt
          rw [List.getD_eq_getElem?_getD, List.getElem?_eq_getElem (by omega)]
          rfl
        rw [this]
        exact List.Perm.refl _)
      first | refine g_iinc1 (lv' := [(0, _), (1, _), (2, _), (3, _)]) C dX4_weave_190 rfl (by decide) rfl ?_ | refine g_iinc (lv' := [(0, _), (1, _), (2, _), (3, _)]) C dX4_weave_190 rfl rfl (by decide) rfl ?_
      refine g_goto (tgt := 73) C dX4_weave_193 (by decide) ?_
      refine g_take 2 rfl ?_
      exact h9
    refine g_iload_n C dX4_weave_73 rfl rfl ?_
    refine g_aload_n C dX4_weave_74 rfl rfl ?_
    refine f_X4_rowMany C (hL _ (by decide)) (Or.inl q778) (Or.inl rfl) dX4_weave_75 ?_
    refine g_top (hk) ?_
    first | refine g_icmp_ge_n (tgt := 196) C dX4_weave_78 (by decide) (by omega) (by omega) (fun c78 => ?_) (fun c78 => ?_) | refine g_icmp_ge (tgt := 196) C dX4_weave_78 (by decide) (fun c78 => ?_) (fun c78 => ?_)
    · omega
    · refine g_iload_n C dX4_weave_81 rfl rfl ?_
      refine g_istore_n (lv' := [(0, _), (1, _), (2, _)]) C dX4_weave_82 rfl (by decide) rfl ?_
      refine g_z (show _ = sA z (53, 0) (shM V m m) by rw [shM_id]) ?_
      exact l83_weave C hL hn hn6 (by omega) hl hV (fun j hj => hR m (by omega) j hj) p1 p2 p3 K2 (m - p) m (by omega) (by omega)
theorem l45_weave {n : Nat} {f : Nat → Int32} {R : Room} {ret : Option FieldType} (C : jOk Γ l R cX4_weave "JoinLoomModel" ret 4) (hL : mdL z) (hn : zM z (40, 0) 3 = nI n) (hn6 : n ≤ 6) (K : jG Γ 0 0 (sA z (54, 0) (cpM f (zM z (52, 0)) 0 n)) 71 [(0, .ref (zA z (40, 0))), (1, .int (nI n))] []) :
    ∀ (w j : Nat), j + w = n → jG Γ 0 0 (sA z (54, 0) (cpM f (zM z (52, 0)) 0 j)) 45 [(0, .ref (zA z (40, 0))), (1, .int (nI j))] [] := by
  intro w
  induction w with
  | zero =>
    intro j hj
    have e : j = n := by omega
    subst e
    refine g_iload_n C dX4_weave_45 rfl rfl ?_
    refine g_aload_n C dX4_weave_46 rfl rfl ?_
    refine f_X4_names C (hL _ (by decide)) (Or.inl q768) (Or.inl rfl) dX4_weave_47 ?_
    refine g_top (hn) ?_
    first | refine g_icmp_ge_n (tgt := 71) C dX4_weave_50 (by decide) (by omega) (by omega) (fun c50 => ?_) (fun c50 => ?_) | refine g_icmp_ge (tgt := 71) C dX4_weave_50 (by decide) (fun c50 => ?_) (fun c50 => ?_)
    · exact K
    · omega
  | succ w ih =>
    intro j hj
    refine g_iload_n C dX4_weave_45 rfl rfl ?_
    refine g_aload_n C dX4_weave_46 rfl rfl ?_
    refine f_X4_names C (hL _ (by decide)) (Or.inl q768) (Or.inl rfl) dX4_weave_47 ?_
    refine g_top (hn) ?_
    first | refine g_icmp_ge_n (tgt := 71) C dX4_weave_50 (by decide) (by omega) (by omega) (fun c50 => ?_) (fun c50 => ?_) | refine g_icmp_ge (tgt := 71) C dX4_weave_50 (by decide) (fun c50 => ?_) (fun c50 => ?_)
    · omega
    · refine g_aload_n C dX4_weave_53 rfl rfl ?_
      refine f_X4_wovenMet C (hL _ (by decide)) (Or.inl q784) (Or.inl rfl) dX4_weave_54 ?_
      refine g_iload_n C dX4_weave_57 rfl rfl ?_
      refine g_aload_n C dX4_weave_58 rfl rfl ?_
      refine f_X4_metMany C (hL _ (by decide)) (Or.inl q779) (Or.inl rfl) dX4_weave_59 ?_
      refine g_iload_n C dX4_weave_62 rfl rfl ?_
      refine g_iald (n := 6) C rfl (hL _ (by decide)) rfl (by omega) (by decide) dX4_weave_63 ?_
      refine g_top ((show _ = zM z (52, 0) (0 + j) by rw [Nat.zero_add]; rfl)) ?_
      refine g_iast (n := 6) C rfl (hL _ (by decide)) rfl (by omega) (by decide) dX4_weave_64 ?_
      first | refine g_iinc1 (lv' := [(0, _), (1, _)]) C dX4_weave_65 rfl (by decide) rfl ?_ | refine g_iinc (lv' := [(0, _), (1, _)]) C dX4_weave_65 rfl rfl (by decide) rfl ?_
      refine g_goto (tgt := 45) C dX4_weave_68 (by decide) ?_
      refine g_z ?_ (ih (j + 1) (by omega))
      rw [sM_sA, cpM_step]
theorem l198_weave {R : Room} {ret : Option FieldType} (C : jOk Γ l R cX4_weave "JoinLoomModel" ret 4) (hL : mdL z) (h : mQn z T Q) (hw : wQ T Q) (K : ∀ X : Nat → Int32, (∀ p, p < 10 → X p = jb (decide (p < qp Q) && decide (qk Q p = 0))) → jG Γ 0 0 (sA z (56, 0) X) 238 [(0, .ref (zA z (40, 0))), (1, .int (nI 10))] []) :
    ∀ (w j : Nat), j + w = 10 → ∀ X : Nat → Int32, (∀ p, p < j → X p = jb (decide (p < qp Q) && decide (qk Q p = 0))) → jG Γ 0 0 (sA z (56, 0) X) 198 [(0, .ref (zA z (40, 0))), (1, .int (nI j))] [] := by
  have w2 := hw.2.1
  intro w
  induction w with
  | zero =>
    intro j hj X hX
    have e : j = 10 := by omega
    subst e
    refine g_iload_n C dX4_weave_198 rfl rfl ?_
    refine g_bipush (v := nI 10) C dX4_weave_199 (by decide) ?_
    first | refine g_icmp_ge_n (tgt := 238) C dX4_weave_201 (by decide) (by omega) (by omega) (fun c201 => ?_) (fun c201 => ?_) | refine g_icmp_ge (tgt := 238) C dX4_weave_201 (by decide) (fun c201 => ?_) (fun c201 => ?_)
    · exact K X hX
    · omega
  | succ w ih =>
    intro j hj X hX
    have J : ∀ b : Bool, b = (decide (j < qp Q) && decide (qk Q j = 0)) → jG Γ 0 0 (sA z (56, 0) X) 231 [(0, .ref (zA z (40, 0))), (1, .int (nI j))] [.int (jb b), .int (nI j), .ref (zA z (56, 0))] := by
      intro b hb
      refine g_zast (n := 10) C rfl (hL _ (by decide)) rfl (by omega) (by decide) (jb_vn b) dX4_weave_231 ?_
      first | refine g_iinc1 (lv' := [(0, _), (1, _)]) C dX4_weave_232 rfl (by decide) rfl ?_ | refine g_iinc (lv' := [(0, _), (1, _)]) C dX4_weave_232 rfl rfl (by decide) rfl ?_
      refine g_goto (tgt := 198) C dX4_weave_235 (by decide) ?_
      refine g_z (sM_sA _ _ _ _ _) (ih (j + 1) (by omega) _ (fun p hp => ?_))
      simp only [upd]
      by_cases e : p = j
      · rw [if_pos e, e, hb]
      · rw [if_neg e]; exact hX p (by omega)
    refine g_iload_n C dX4_weave_198 rfl rfl ?_
    refine g_bipush (v := nI 10) C dX4_weave_199 (by decide) ?_
    first | refine g_icmp_ge_n (tgt := 238) C dX4_weave_201 (by decide) (by omega) (by omega) (fun c201 => ?_) (fun c201 => ?_) | refine g_icmp_ge (tgt := 238) C dX4_weave_201 (by decide) (fun c201 => ?_) (fun c201 => ?_)
    · omega
    · refine g_aload_n C dX4_weave_204 rfl rfl ?_
      refine f_X4_wovenHas C (hL _ (by decide)) (Or.inl q786) (Or.inl rfl) dX4_weave_205 ?_
      refine g_iload_n C dX4_weave_208 rfl rfl ?_
      refine g_iload_n C dX4_weave_209 rfl rfl ?_
      refine g_aload_n C dX4_weave_210 rfl rfl ?_
      refine f_X4_parts C (hL _ (by decide)) (Or.inl q769) (Or.inl rfl) dX4_weave_211 ?_
      refine g_top ((show _ = nI (qp Q) from h.2.1)) ?_
      first | refine g_icmp_ge_n (tgt := 230) C dX4_weave_214 (by decide) (by omega) (by omega) (fun c214 => ?_) (fun c214 => ?_) | refine g_icmp_ge (tgt := 230) C dX4_weave_214 (by decide) (fun c214 => ?_) (fun c214 => ?_)
      · refine g_iconst (v := nI 0) C dX4_weave_230 (by decide) ?_
        first | exact J true (by rw [decide_eq_true c214, decide_eq_true c223]; rfl) | exact J false (by rw [decide_eq_false c223, Bool.and_false]) | exact J false (by rw [decide_eq_false (Nat.not_lt.mpr c214)]; rfl)
      · have hk3 := (hw.2.2.1 j c214).1
        refine g_aload_n C dX4_weave_217 rfl rfl ?_
        refine f_X4_kind C (hL _ (by decide)) (Or.inl q770) (Or.inl rfl) dX4_weave_218 ?_
        refine g_iload_n C dX4_weave_221 rfl rfl ?_
        refine g_iald (n := 10) C rfl (hL _ (by decide)) rfl (by omega) (by decide) dX4_weave_222 ?_
        refine g_top ((show _ = nI (qk Q j) from (h.2.2.2.1 j c214).1)) ?_
        refine g_if_ne_n (tgt := 230) C dX4_weave_223 (by decide) (by omega) (fun c223 => ?_) (fun c223 => ?_)
        · refine g_iconst (v := nI 0) C dX4_weave_230 (by decide) ?_
          first | exact J true (by rw [decide_eq_true c214, decide_eq_true c223]; rfl) | exact J false (by rw [decide_eq_false c223, Bool.and_false]) | exact J false (by rw [decide_eq_false (Nat.not_lt.mpr c214)]; rfl)
        · refine g_iconst (v := nI 1) C dX4_weave_226 (by decide) ?_
          refine g_goto (tgt := 231) C dX4_weave_227 (by decide) ?_
          first | exact J true (by rw [decide_eq_true c214, decide_eq_true c223]; rfl) | exact J false (by rw [decide_eq_false c223, Bool.and_false]) | exact J false (by rw [decide_eq_false (Nat.not_lt.mpr c214)]; rfl)
theorem l250_weave {i : Nat} {A X : Nat → Int32} {R : Room} {ret : Option FieldType} (C : jOk Γ l R cX4_weave "JoinLoomModel" ret 4) (hL : mdL z) (hi : i ≤ 500) (K : jG Γ 0 0 (sA (sA z (55, 0) X) (58, 0) (cpM A (zM z (53, 0)) (6 * i) 6)) 279 [(0, .ref (zA z (40, 0))), (1, .int (nI i)), (2, .int (nI 6))] []) :
    ∀ (w j : Nat), j + w = 6 → jG Γ 0 0 (sA (sA z (55, 0) X) (58, 0) (cpM A (zM z (53, 0)) (6 * i) j)) 250 [(0, .ref (zA z (40, 0))), (1, .int (nI i)), (2, .int (nI j))] [] := by
  intro w
  induction w with
  | zero =>
    intro j hj
    have e : j = 6 := by omega
    subst e
    refine g_iload_n C dX4_weave_250 rfl rfl ?_
    refine g_bipush (v := nI 6) C dX4_weave_251 (by decide) ?_
    first | refine g_icmp_ge_n (tgt := 279) C dX4_weave_253 (by decide) (by omega) (by omega) (fun c253 => ?_) (fun c253 => ?_) | refine g_icmp_ge (tgt := 279) C dX4_weave_253 (by decide) (fun c253 => ?_) (fun c253 => ?_)
    · exact K
    · omega
  | succ w ih =>
    intro j hj
    refine g_iload_n C dX4_weave_250 rfl rfl ?_
    refine g_bipush (v := nI 6) C dX4_weave_251 (by decide) ?_
    first | refine g_icmp_ge_n (tgt := 279) C dX4_weave_253 (by decide) (by omega) (by omega) (fun c253 => ?_) (fun c253 => ?_) | refine g_icmp_ge (tgt := 279) C dX4_weave_253 (by decide) (fun c253 => ?_) (fun c253 => ?_)
    · omega
    · refine g_aload_n C dX4_weave_256 rfl rfl ?_
      refine f_X4_at C (hL _ (by decide)) (Or.inl q790) (Or.inl rfl) dX4_weave_257 ?_
      refine g_iload_n C dX4_weave_260 rfl rfl ?_
      refine g_aload_n C dX4_weave_261 rfl rfl ?_
      refine f_X4_woven C (hL _ (by decide)) (Or.inl q783) (Or.inl rfl) dX4_weave_262 ?_
      refine g_bipush (v := nI 6) C dX4_weave_265 (by decide) ?_
      refine g_iload_n C dX4_weave_267 rfl rfl ?_
      first | refine g_imul_n C dX4_weave_268 ?_ | refine g_imul C dX4_weave_268 ?_
      refine g_iload_n C dX4_weave_269 rfl rfl ?_
      first | refine g_iadd_n C dX4_weave_270 ?_ | refine g_iadd C dX4_weave_270 ?_
      refine g_iald (n := 3006) C rfl (hL _ (by decide)) rfl (by omega) (by decide) dX4_weave_271 ?_
      refine g_top ((show _ = zM z (53, 0) (6 * i + j) from rfl)) ?_
      refine g_iast (n := 6) C rfl (hL _ (by decide)) rfl (by omega) (by decide) dX4_weave_272 ?_
      first | refine g_iinc1 (lv' := [(0, _), (1, _), (2, _)]) C dX4_weave_273 rfl (by decide) rfl ?_ | refine g_iinc (lv' := [(0, _), (1, _), (2, _)]) C dX4_weave_273 rfl rfl (by decide) rfl ?_
      refine g_goto (tgt := 250) C dX4_weave_276 (by decide) ?_
      refine g_z ?_ (ih (j + 1) (by omega))
      rw [sM_sA, cpM_step]
theorem l281_weave {i : Nat} {A : Nat → Int32} {g : Nat → Int32} {ret : Option FieldType} (C : jOk Γ l (jrm 7 0 0) cX4_weave "JoinLoomModel" ret 4) (hL : mdL z) (h : mQn z T Q) (hT : wT T) (hw : wQ T Q) (hi : i ≤ 500) (hA : ∀ j, j < 6 → A j = g j) {Y : Nat → Int32}
    (K : ∀ X : Nat → Int32, (∀ a, (a < 10 * i ∨ 10 * i + 10 ≤ a) → X a = Y a) → (∀ p, p < qp Q → X (10 * i + p) = witV T Q g p) → jG Γ 0 0 (sA (sA z (55, 0) X) (58, 0) A) 332 [(0, .ref (zA z (40, 0))), (1, .int (nI i)), (2, .int (nI (qp Q)))] []) :
    ∀ (w p : Nat), p + w = qp Q → ∀ X : Nat → Int32, (∀ a, (a < 10 * i ∨ 10 * i + 10 ≤ a) → X a = Y a) → (∀ b, b < p → X (10 * i + b) = witV T Q g b) → jG Γ 0 0 (sA (sA z (55, 0) X) (58, 0) A) 281 [(0, .ref (zA z (40, 0))), (1, .int (nI i)), (2, .int (nI p))] [] := by
  have w1 := hw.1
  have w2 := hw.2.1
  obtain ⟨hf1, hf2⟩ := full_s (qn Q) (by omega)
  intro w
  induction w with
  | zero =>
    intro p hp X hX hY
    have e : p = qp Q := by omega
    subst e
    refine g_iload_n C dX4_weave_281 rfl rfl ?_
    refine g_aload_n C dX4_weave_282 rfl rfl ?_
    refine f_X4_parts C (hL _ (by decide)) (Or.inl q769) (Or.inl rfl) dX4_weave_283 ?_
    refine g_top ((show _ = nI (qp Q) from h.2.1)) ?_
    first | refine g_icmp_ge_n (tgt := 332) C dX4_weave_286 (by decide) (by omega) (by omega) (fun c286 => ?_) (fun c286 => ?_) | refine g_icmp_ge (tgt := 332) C dX4_weave_286 (by decide) (fun c286 => ?_) (fun c286 => ?_)
    · exact K X hX hY
    · omega
  | succ w ih =>
    intro p hp X hX hY
    have hp2 : p < qp Q := by omega
    have hpt := h.2.2.2.1 p hp2
    have hk3 := (hw.2.2.1 p hp2).1
    have J : jG Γ 0 0 (sA (sA z (55, 0) X) (58, 0) A) 325 [(0, .ref (zA z (40, 0))), (1, .int (nI i)), (2, .int (nI p))] [.int (witV T Q g p), .int (nI (10 * i + p)), .ref (zA z (55, 0))] := by
      refine g_iast (n := 5010) C rfl (hL _ (by decide)) rfl (by omega) (by decide) dX4_weave_325 ?_
      first | refine g_iinc1 (lv' := [(0, _), (1, _), (2, _)]) C dX4_weave_326 rfl (by decide) rfl ?_ | refine g_iinc (lv' := [(0, _), (1, _), (2, _)]) C dX4_weave_326 rfl rfl (by decide) rfl ?_
      refine g_goto (tgt := 281) C dX4_weave_329 (by decide) ?_
      refine g_z (show _ = sA (sA z (55, 0) (upd X (10 * i + p) (witV T Q g p))) (58, 0) A by rw [sM_sA_c _ (by simp), sM_sA]) (ih (p + 1) (by omega) _ (fun a ha => ?_) (fun b hb => ?_))
      · simp only [upd]; rw [if_neg (by omega)]; exact hX a ha
      · simp only [upd]
        by_cases e : b = p
        · rw [if_pos (by rw [e]), e]
        · rw [if_neg (by omega)]; exact hY b (by omega)
    refine g_iload_n C dX4_weave_281 rfl rfl ?_
    refine g_aload_n C dX4_weave_282 rfl rfl ?_
    refine f_X4_parts C (hL _ (by decide)) (Or.inl q769) (Or.inl rfl) dX4_weave_283 ?_
    refine g_top ((show _ = nI (qp Q) from h.2.1)) ?_
    first | refine g_icmp_ge_n (tgt := 332) C dX4_weave_286 (by decide) (by omega) (by omega) (fun c286 => ?_) (fun c286 => ?_) | refine g_icmp_ge (tgt := 332) C dX4_weave_286 (by decide) (fun c286 => ?_) (fun c286 => ?_)
    · omega
    · refine g_aload_n C dX4_weave_289 rfl rfl ?_
      refine f_X4_wovenRow C (hL _ (by decide)) (Or.inl q785) (Or.inl rfl) dX4_weave_290 ?_
      refine g_bipush (v := nI 10) C dX4_weave_293 (by decide) ?_
      refine g_iload_n C dX4_weave_295 rfl rfl ?_
      first | refine g_imul_n C dX4_weave_296 ?_ | refine g_imul C dX4_weave_296 ?_
      refine g_iload_n C dX4_weave_297 rfl rfl ?_
      first | refine g_iadd_n C dX4_weave_298 ?_ | refine g_iadd C dX4_weave_298 ?_
      refine g_aload_n C dX4_weave_299 rfl rfl ?_
      refine f_X4_kind C (hL _ (by decide)) (Or.inl q770) (Or.inl rfl) dX4_weave_300 ?_
      refine g_iload_n C dX4_weave_303 rfl rfl ?_
      refine g_iald (n := 10) C rfl (hL _ (by decide)) rfl (by omega) (by decide) dX4_weave_304 ?_
      refine g_top ((show _ = nI (qk Q p) from hpt.1)) ?_
      refine g_if_ne_n (tgt := 324) C dX4_weave_305 (by decide) (by omega) (fun c305 => ?_) (fun c305 => ?_)
      · refine g_iconst (v := (-1)) C dX4_weave_324 (by decide) ?_
        refine g_top (show _ = witV T Q g p by rw [witV, if_neg c305]) ?_
        exact J
      · refine g_aload_n C dX4_weave_308 rfl rfl ?_
        refine g_iload_n C dX4_weave_309 rfl rfl ?_
        refine g_iconst (v := nI 1) C dX4_weave_310 (by decide) ?_
        refine g_aload_n C dX4_weave_311 rfl rfl ?_
        refine f_X4_names C (hL _ (by decide)) (Or.inl q768) (Or.inl rfl) dX4_weave_312 ?_
        refine g_top ((show _ = nI (qn Q) from h.1)) ?_
        refine g_ishl C dX4_weave_315 ?_
        refine g_iconst (v := nI 1) C dX4_weave_316 (by decide) ?_
        first | refine g_isub_n C dX4_weave_317 (by omega) ?_ | refine g_isub C dX4_weave_317 ?_
        refine g_top (hf1) ?_
        refine g_cfi (g_runV C (m_X4_rowOf l _ T Q p (2 ^ qn Q - 1) hL (by omega) hpt (by omega) hT (hw.2.2.1 p hp2) w1 (h.2.2.2.2 p hp2 (by omega)) hf2) ciX4_rowOf q977 (Or.inl qs41) (Or.inl q975) (hL _ (by decide)) rfl rfl rfl rfl (Nat.le_of_ble_eq_true rfl) dX4_weave_318 (by decide)) ?_
        refine g_top ((show _ = witV T Q g p by rw [witV, if_pos c305]; exact congrArg oI (rowS_c (wQ_nm hw hp2) hA))) ?_
        refine g_goto (tgt := 325) C dX4_weave_321 (by decide) ?_
        exact J
theorem l240_weave {L : List (Nat → Int32)} {ret : Option FieldType} (C : jOk Γ l (jrm 7 0 0) cX4_weave "JoinLoomModel" ret 4) (hL : mdL z) (h : mQn z T Q) (hT : wT T) (hw : wQ T Q) (h5 : L.length ≤ 500) (hm : zM z (40, 0) 16 = nI L.length) (hV : rpL (zM z (53, 0)) L)
    (K : ∀ X A : Nat → Int32, (∀ i, i < L.length → ∀ p, p < qp Q → X (10 * i + p) = witV T Q (rAt L i) p) → jG Γ 0 0 (sA (sA z (55, 0) X) (58, 0) A) 338 [(0, .ref (zA z (40, 0))), (1, .int (nI L.length))] []) :
    ∀ (w i : Nat), i + w = L.length → ∀ X A : Nat → Int32, (∀ a, a < i → ∀ p, p < qp Q → X (10 * a + p) = witV T Q (rAt L a) p) → jG Γ 0 0 (sA (sA z (55, 0) X) (58, 0) A) 240 [(0, .ref (zA z (40, 0))), (1, .int (nI i))] [] := by
  have w2 := hw.2.1
  intro w
  induction w with
  | zero =>
    intro i hi X A hX
    have e : i = L.length := by omega
    subst e
    refine g_iload_n C dX4_weave_240 rfl rfl ?_
    refine g_aload_n C dX4_weave_241 rfl rfl ?_
    refine f_X4_wovenMany C (hL _ (by decide)) (Or.inl q781) (Or.inl rfl) dX4_weave_242 ?_
    refine g_top ((show _ = nI L.length from hm)) ?_
    first | refine g_icmp_ge_n (tgt := 338) C dX4_weave_245 (by decide) (by omega) (by omega) (fun c245 => ?_) (fun c245 => ?_) | refine g_icmp_ge (tgt := 338) C dX4_weave_245 (by decide) (fun c245 => ?_) (fun c245 => ?_)
    · exact K X A hX
    · omega
  | succ w ih =>
    intro i hi X A hX
    have hA : ∀ j, j < 6 → cpM A (zM z (53, 0)) (6 * i) 6 j = rAt L i j := fun j hj => by
      simp only [cpM]
      rw [if_pos hj]
      exact hV i (by omega) j hj
    have K2 : ∀ X' : Nat → Int32, (∀ a, (a < 10 * i ∨ 10 * i + 10 ≤ a) → X' a = X a) → (∀ p, p < qp Q → X' (10 * i + p) = witV T Q (rAt L i) p) → jG Γ 0 0 (sA (sA z (55, 0) X') (58, 0) (cpM A (zM z (53, 0)) (6 * i) 6)) 332 [(0, .ref (zA z (40, 0))), (1, .int (nI i)), (2, .int (nI (qp Q)))] [] := by
      intro X' h1 h2
      have h9 := ih (i + 1) (by omega) X' (cpM A (zM z (53, 0)) (6 * i) 6) (fun a ha p hp => by
        rcases Nat.lt_or_ge a i with h8 | h8
        · rw [h1 _ (by omega)]; exact hX a h8 p hp
        · have : a = i := by omega
          subst this; exact h2 p hp)
      first | refine g_iinc1 (lv' := [(0, _), (1, _), (2, _)]) C dX4_weave_332 rfl (by decide) rfl ?_ | refine g_iinc (lv' := [(0, _), (1, _), (2, _)]) C dX4_weave_332 rfl rfl (by decide) rfl ?_
      refine g_goto (tgt := 240) C dX4_weave_335 (by decide) ?_
      refine g_take 2 rfl ?_
      exact h9
    have K3 : jG Γ 0 0 (sA (sA z (55, 0) X) (58, 0) (cpM A (zM z (53, 0)) (6 * i) 6)) 279 [(0, .ref (zA z (40, 0))), (1, .int (nI i)), (2, .int (nI 6))] [] := by
      refine g_iconst (v := nI 0) C dX4_weave_279 (by decide) ?_
      refine g_istore_n (lv' := [(0, _), (1, _), (2, _)]) C dX4_weave_280 rfl (by decide) rfl ?_
      exact l281_weave C hL h hT hw (by omega) hA K2 (qp Q) 0 (by omega) X (fun _ _ => rfl) (fun b hb => absurd hb (Nat.not_lt_zero _))
    refine g_iload_n C dX4_weave_240 rfl rfl ?_
    refine g_aload_n C dX4_weave_241 rfl rfl ?_
    refine f_X4_wovenMany C (hL _ (by decide)) (Or.inl q781) (Or.inl rfl) dX4_weave_242 ?_
    refine g_top ((show _ = nI L.length from hm)) ?_
    first | refine g_icmp_ge_n (tgt := 338) C dX4_weave_245 (by decide) (by omega) (by omega) (fun c245 => ?_) (fun c245 => ?_) | refine g_icmp_ge (tgt := 338) C dX4_weave_245 (by decide) (fun c245 => ?_) (fun c245 => ?_)
    · omega
    · refine g_iconst (v := nI 0) C dX4_weave_248 (by decide) ?_
      refine g_istore_n (lv' := [(0, _), (1, _), (2, _)]) C dX4_weave_249 rfl (by decide) rfl ?_
      refine g_z (show _ = sA (sA z (55, 0) X) (58, 0) (cpM A (zM z (53, 0)) (6 * i) 0) by rw [cpM_0]) ?_
      exact l250_weave C hL (by omega) K3 6 0 (by omega)
end MW2
