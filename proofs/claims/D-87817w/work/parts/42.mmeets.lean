set_option maxRecDepth 100000
/-! ===== the reference's meetings, name by name ===== -/
def setB (Q : JQ) : Nat → Nat
  | 0 => 0
  | d + 1 => setB Q d ||| 2 ^ (qo Q d)
/-- the rows of a level that come of one row g, by rows below r of table t, column c; name k, set s -/
def exR (T : JT) (Q : JQ) (t c k s : Nat) (g : Nat → Int32) : Nat → List (Nat → Int32)
  | 0 => []
  | r + 1 => exR T Q t c k s g r ++ (if anyF (fun a => decide (tv T t a c = tv T t r c)) r = true then [] else if trueB T Q s (upd g k (tv T t r c)) = true then [upd g k (tv T t r c)] else [])
def preF (L : List (Nat → Int32)) (ex : (Nat → Int32) → List (Nat → Int32)) : Nat → List (Nat → Int32)
  | 0 => []
  | m + 1 => preF L ex m ++ ex (L.getD m (fun _ => 0))
/-- a column for each name -/
def colF (Q : JQ) (cp ci : Nat → Nat) : Prop := ∀ d, d < qn Q → colP Q (qo Q d) (cp d) (ci d)
def lvM (T : JT) (Q : JQ) (cp ci : Nat → Nat) : Nat → List (Nat → Int32)
  | 0 => [fun _ => 0]
  | d + 1 => preF (lvM T Q cp ci d) (fun g => exR T Q (qt Q (cp d)) (ci d) (qo Q d) (setB Q (d + 1)) g (tm T (qt Q (cp d)))) (lvM T Q cp ci d).length
def rpL (R : Nat → Int32) (L : List (Nat → Int32)) : Prop := ∀ m, m < L.length → ∀ j, j < 6 → R (6 * m + j) = L.getD m (fun _ => 0) j
/-- the reference's store with its scratch -/
def mz (z : JZ) (R N A M : Nat → Int32) (k : Int32) : JZ := wM z (fun id => if id = (50, 0) then R else if id = (51, 0) then N else if id = (52, 0) then M else if id = (58, 0) then A else if id = (40, 0) then upd (zM z (40, 0)) 13 k else zM z id)
theorem mz_50 (z : JZ) (R N A M : Nat → Int32) (k : Int32) (j : Nat) (v : Int32) : sM (mz z R N A M k) (50, 0) j v = mz z (upd R j v) N A M k := by
  unfold sM sA mz wM
  simp only [Prod.mk.injEq, true_and, and_true]
  funext id
  by_cases e : id = (50, 0)
  · subst e; rfl
  · simp only [if_neg e]
theorem mz_51 (z : JZ) (R N A M : Nat → Int32) (k : Int32) (j : Nat) (v : Int32) : sM (mz z R N A M k) (51, 0) j v = mz z R (upd N j v) A M k := by
  unfold sM sA mz wM
  simp only [Prod.mk.injEq, true_and, and_true]
  funext id
  by_cases e : id = (51, 0)
  · subst e; rfl
  · simp only [if_neg e]
theorem mz_52 (z : JZ) (R N A M : Nat → Int32) (k : Int32) (j : Nat) (v : Int32) : sM (mz z R N A M k) (52, 0) j v = mz z R N A (upd M j v) k := by
  unfold sM sA mz wM
  simp only [Prod.mk.injEq, true_and, and_true]
  funext id
  by_cases e : id = (52, 0)
  · subst e; rfl
  · simp only [if_neg e]
theorem mz_58 (z : JZ) (R N A M : Nat → Int32) (k : Int32) (j : Nat) (v : Int32) : sM (mz z R N A M k) (58, 0) j v = mz z R N (upd A j v) M k := by
  unfold sM sA mz wM
  simp only [Prod.mk.injEq, true_and, and_true]
  funext id
  by_cases e : id = (58, 0)
  · subst e; rfl
  · simp only [if_neg e]
theorem mz_40 (z : JZ) (R N A M : Nat → Int32) (k v : Int32) : sM (mz z R N A M k) (40, 0) 13 v = mz z R N A M v := by
  unfold sM sA mz wM
  simp only [Prod.mk.injEq, true_and, and_true]
  funext id
  by_cases e : id = (40, 0)
  · subst e
    show upd (upd (zM z (40, 0)) 13 k) 13 v = upd (zM z (40, 0)) 13 v
    exact bx_updd _ _ _ _
  · simp only [if_neg e]
/-- a row is set into place i, its first k values -/
def stM (f row : Nat → Int32) (i k : Nat) : Nat → Int32 := fun j => if 6 * i ≤ j ∧ j < 6 * i + k then row (j - 6 * i) else f j
theorem stM_0 (f row : Nat → Int32) (i : Nat) : stM f row i 0 = f := by
  funext j
  simp only [stM]
  rw [if_neg (by omega)]
theorem stM_step (f row : Nat → Int32) (i k : Nat) : upd (stM f row i k) (6 * i + k) (row k) = stM f row i (k + 1) := by
  funext j
  simp only [upd, stM]
  by_cases e : j = 6 * i + k
  · subst e
    rw [if_pos rfl, if_pos (by omega)]
    congr 1
    omega
  · rw [if_neg e]
    by_cases e2 : 6 * i ≤ j ∧ j < 6 * i + k
    · rw [if_pos e2, if_pos (by omega)]
    · rw [if_neg e2, if_neg (by omega)]
def cpM (f g : Nat → Int32) (o k : Nat) : Nat → Int32 := fun j => if j < k then g (o + j) else f j
theorem cpM_0 (f g : Nat → Int32) (o : Nat) : cpM f g o 0 = f := by
  funext j
  simp only [cpM]
  rw [if_neg (by omega)]
theorem cpM_step (f g : Nat → Int32) (o k : Nat) : upd (cpM f g o k) k (g (o + k)) = cpM f g o (k + 1) := by
  funext j
  simp only [upd, cpM]
  by_cases e : j = k
  · subst e
    rw [if_pos rfl, if_pos (by omega)]
  · rw [if_neg e]
    by_cases e2 : j < k
    · rw [if_pos e2, if_pos (by omega)]
    · rw [if_neg e2, if_neg (by omega)]
section MMEETS
variable {Γ : JC} {l : Launch} {R : Room} {ret : Option FieldType} {z : JZ} {F N A M : Nat → Int32} {kk : Int32}
/-- at := row m of rows -/
theorem la_meets {m : Nat} {x1 x2 x3 x4 x5 x6 x8 : Int32} (C : jOk Γ l R cX4_meets "JoinLoomModel" ret 10) (hL : mdL z) (hm : m ≤ 500) (K : jG Γ 0 0 (mz z F N (cpM A F (6 * m) 6) M kk) 153 [(0, .ref (zA z (40, 0))), (1, .int x1), (2, .int x2), (3, .int x3), (4, .int x4), (5, .int x5), (6, .int x6), (7, .int (nI m)), (8, .int x8), (9, .int (nI 6))] []) :
    ∀ (w j : Nat), j + w = 6 → jG Γ 0 0 (mz z F N (cpM A F (6 * m) j) M kk) 120 [(0, .ref (zA z (40, 0))), (1, .int x1), (2, .int x2), (3, .int x3), (4, .int x4), (5, .int x5), (6, .int x6), (7, .int (nI m)), (8, .int x8), (9, .int (nI j))] [] := by
  intro w
  induction w with
  | zero =>
    intro j hj
    have e : j = 6 := by omega
    subst e
    refine g_iload C dX4_meets_120 rfl ?_
    refine g_bipush (v := nI 6) C dX4_meets_122 (by decide) ?_
    first | refine g_icmp_ge_n (tgt := 153) C dX4_meets_124 (by decide) (by omega) (by omega) (fun c124 => ?_) (fun c124 => ?_) | refine g_icmp_ge (tgt := 153) C dX4_meets_124 (by decide) (fun c124 => ?_) (fun c124 => ?_)
    · exact K
    · omega
  | succ w ih =>
    intro j hj
    refine g_iload C dX4_meets_120 rfl ?_
    refine g_bipush (v := nI 6) C dX4_meets_122 (by decide) ?_
    first | refine g_icmp_ge_n (tgt := 153) C dX4_meets_124 (by decide) (by omega) (by omega) (fun c124 => ?_) (fun c124 => ?_) | refine g_icmp_ge (tgt := 153) C dX4_meets_124 (by decide) (fun c124 => ?_) (fun c124 => ?_)
    · omega
    · refine g_aload_n C dX4_meets_127 rfl rfl ?_
      refine f_X4_at C (hL _ (by decide)) (Or.inl q790) (Or.inl rfl) dX4_meets_128 ?_
      refine g_iload C dX4_meets_131 rfl ?_
      refine g_aload_n C dX4_meets_133 rfl rfl ?_
      refine f_X4_rows C (hL _ (by decide)) (Or.inl q776) (Or.inl rfl) dX4_meets_134 ?_
      refine g_bipush (v := nI 6) C dX4_meets_137 (by decide) ?_
      refine g_iload C dX4_meets_139 rfl ?_
      first | refine g_imul_n C dX4_meets_141 ?_ | refine g_imul C dX4_meets_141 ?_
      refine g_iload C dX4_meets_142 rfl ?_
      first | refine g_iadd_n C dX4_meets_144 ?_ | refine g_iadd C dX4_meets_144 ?_
      refine g_iald (n := 3006) C rfl (hL _ (by decide)) rfl (by omega) (by decide) dX4_meets_145 ?_
      refine g_top ((show _ = F (6 * m + j) from rfl)) ?_
      refine g_iast (n := 6) C rfl (hL _ (by decide)) rfl (by omega) (by decide) dX4_meets_146 ?_
      first | refine g_iinc1 (lv' := [(0, _), (1, _), (2, _), (3, _), (4, _), (5, _), (6, _), (7, _), (8, _), (9, _)]) C dX4_meets_147 rfl (by decide) rfl ?_ | refine g_iinc (lv' := [(0, _), (1, _), (2, _), (3, _), (4, _), (5, _), (6, _), (7, _), (8, _), (9, _)]) C dX4_meets_147 rfl rfl (by decide) rfl ?_
      refine g_goto (tgt := 120) C dX4_meets_150 (by decide) ?_
      refine g_z ?_ (ih (j + 1) (by omega))
      rw [mz_58, cpM_step]
/-- row n of next := at -/
theorem ln_meets {n : Nat} {x1 x2 x3 x4 x5 x7 x8 : Int32} (C : jOk Γ l R cX4_meets "JoinLoomModel" ret 10) (hL : mdL z) (hn : n < 500) (K : jG Γ 0 0 (mz z F (stM N A n 6) A M kk) 228 [(0, .ref (zA z (40, 0))), (1, .int x1), (2, .int x2), (3, .int x3), (4, .int x4), (5, .int x5), (6, .int (nI n)), (7, .int x7), (8, .int x8), (9, .int (nI 6))] []) :
    ∀ (w j : Nat), j + w = 6 → jG Γ 0 0 (mz z F (stM N A n j) A M kk) 195 [(0, .ref (zA z (40, 0))), (1, .int x1), (2, .int x2), (3, .int x3), (4, .int x4), (5, .int x5), (6, .int (nI n)), (7, .int x7), (8, .int x8), (9, .int (nI j))] [] := by
  intro w
  induction w with
  | zero =>
    intro j hj
    have e : j = 6 := by omega
    subst e
    refine g_iload C dX4_meets_195 rfl ?_
    refine g_bipush (v := nI 6) C dX4_meets_197 (by decide) ?_
    first | refine g_icmp_ge_n (tgt := 228) C dX4_meets_199 (by decide) (by omega) (by omega) (fun c199 => ?_) (fun c199 => ?_) | refine g_icmp_ge (tgt := 228) C dX4_meets_199 (by decide) (fun c199 => ?_) (fun c199 => ?_)
    · exact K
    · omega
  | succ w ih =>
    intro j hj
    refine g_iload C dX4_meets_195 rfl ?_
    refine g_bipush (v := nI 6) C dX4_meets_197 (by decide) ?_
    first | refine g_icmp_ge_n (tgt := 228) C dX4_meets_199 (by decide) (by omega) (by omega) (fun c199 => ?_) (fun c199 => ?_) | refine g_icmp_ge (tgt := 228) C dX4_meets_199 (by decide) (fun c199 => ?_) (fun c199 => ?_)
    · omega
    · refine g_aload_n C dX4_meets_202 rfl rfl ?_
      refine f_X4_next C (hL _ (by decide)) (Or.inl q777) (Or.inl rfl) dX4_meets_203 ?_
      refine g_bipush (v := nI 6) C dX4_meets_206 (by decide) ?_
      refine g_iload C dX4_meets_208 rfl ?_
      first | refine g_imul_n C dX4_meets_210 ?_ | refine g_imul C dX4_meets_210 ?_
      refine g_iload C dX4_meets_211 rfl ?_
      first | refine g_iadd_n C dX4_meets_213 ?_ | refine g_iadd C dX4_meets_213 ?_
      refine g_aload_n C dX4_meets_214 rfl rfl ?_
      refine f_X4_at C (hL _ (by decide)) (Or.inl q790) (Or.inl rfl) dX4_meets_215 ?_
      refine g_iload C dX4_meets_218 rfl ?_
      refine g_iald (n := 6) C rfl (hL _ (by decide)) rfl (by omega) (by decide) dX4_meets_220 ?_
      refine g_top ((show _ = A j from rfl)) ?_
      refine g_iast (n := 3006) C rfl (hL _ (by decide)) rfl (by omega) (by decide) dX4_meets_221 ?_
      first | refine g_iinc1 (lv' := [(0, _), (1, _), (2, _), (3, _), (4, _), (5, _), (6, _), (7, _), (8, _), (9, _)]) C dX4_meets_222 rfl (by decide) rfl ?_ | refine g_iinc (lv' := [(0, _), (1, _), (2, _), (3, _), (4, _), (5, _), (6, _), (7, _), (8, _), (9, _)]) C dX4_meets_222 rfl rfl (by decide) rfl ?_
      refine g_goto (tgt := 195) C dX4_meets_225 (by decide) ?_
      refine g_z ?_ (ih (j + 1) (by omega))
      rw [mz_51, stM_step]
/-- rows := next -/
theorem lr_meets {n : Nat} {x1 x2 x3 x4 x5 x6 : Int32} (C : jOk Γ l R cX4_meets "JoinLoomModel" ret 10) (hL : mdL z) (hn : n ≤ 500) (K : jG Γ 0 0 (mz z (cpM F N 0 (6 * n)) N A M kk) 276 [(0, .ref (zA z (40, 0))), (1, .int x1), (2, .int x2), (3, .int x3), (4, .int x4), (5, .int x5), (6, .int (nI n)), (7, .int (nI (6 * n)))] []) :
    ∀ (w j : Nat), j + w = 6 * n → jG Γ 0 0 (mz z (cpM F N 0 j) N A M kk) 246 [(0, .ref (zA z (40, 0))), (1, .int x1), (2, .int x2), (3, .int x3), (4, .int x4), (5, .int x5), (6, .int (nI n)), (7, .int (nI j))] [] := by
  intro w
  induction w with
  | zero =>
    intro j hj
    have e : j = 6 * n := by omega
    subst e
    refine g_iload C dX4_meets_246 rfl ?_
    refine g_bipush (v := nI 6) C dX4_meets_248 (by decide) ?_
    refine g_iload C dX4_meets_250 rfl ?_
    first | refine g_imul_n C dX4_meets_252 ?_ | refine g_imul C dX4_meets_252 ?_
    first | refine g_icmp_ge_n (tgt := 276) C dX4_meets_253 (by decide) (by omega) (by omega) (fun c253 => ?_) (fun c253 => ?_) | refine g_icmp_ge (tgt := 276) C dX4_meets_253 (by decide) (fun c253 => ?_) (fun c253 => ?_)
    · exact K
    · omega
  | succ w ih =>
    intro j hj
    refine g_iload C dX4_meets_246 rfl ?_
    refine g_bipush (v := nI 6) C dX4_meets_248 (by decide) ?_
    refine g_iload C dX4_meets_250 rfl ?_
    first | refine g_imul_n C dX4_meets_252 ?_ | refine g_imul C dX4_meets_252 ?_
    first | refine g_icmp_ge_n (tgt := 276) C dX4_meets_253 (by decide) (by omega) (by omega) (fun c253 => ?_) (fun c253 => ?_) | refine g_icmp_ge (tgt := 276) C dX4_meets_253 (by decide) (fun c253 => ?_) (fun c253 => ?_)
    · omega
    · refine g_aload_n C dX4_meets_256 rfl rfl ?_
      refine f_X4_rows C (hL _ (by decide)) (Or.inl q776) (Or.inl rfl) dX4_meets_257 ?_
      refine g_iload C dX4_meets_260 rfl ?_
      refine g_aload_n C dX4_meets_262 rfl rfl ?_
      refine f_X4_next C (hL _ (by decide)) (Or.inl q777) (Or.inl rfl) dX4_meets_263 ?_
      refine g_iload C dX4_meets_266 rfl ?_
      refine g_iald (n := 3006) C rfl (hL _ (by decide)) rfl (by omega) (by decide) dX4_meets_268 ?_
      refine g_top ((show _ = N (0 + j) by rw [Nat.zero_add]; rfl)) ?_
      refine g_iast (n := 3006) C rfl (hL _ (by decide)) rfl (by omega) (by decide) dX4_meets_269 ?_
      first | refine g_iinc1 (lv' := [(0, _), (1, _), (2, _), (3, _), (4, _), (5, _), (6, _), (7, _)]) C dX4_meets_270 rfl (by decide) rfl ?_ | refine g_iinc (lv' := [(0, _), (1, _), (2, _), (3, _), (4, _), (5, _), (6, _), (7, _)]) C dX4_meets_270 rfl rfl (by decide) rfl ?_
      refine g_goto (tgt := 246) C dX4_meets_273 (by decide) ?_
      refine g_z ?_ (ih (j + 1) (by omega))
      rw [mz_50, cpM_step]
theorem l0_meets {x0 : Int32} (C : jOk Γ l R cX4_meets "JoinLoomModel" ret 10) (hL : mdL z) (K : ∀ F' : Nat → Int32, (∀ j, j < 6 → F' j = 0) → jG Γ 0 0 (mz z F' N A M kk) 26 [(0, .ref (zA z (40, 0))), (1, .int (nI 6))] []) :
    ∀ (w j : Nat), j + w = 6 → ∀ F' : Nat → Int32, (∀ a, a < j → F' a = 0) → jG Γ 0 0 (mz z F' N A M kk) 7 [(0, .ref (zA z (40, 0))), (1, .int (nI j))] [] := by
  intro w
  induction w with
  | zero =>
    intro j hj F' hF
    have e : j = 6 := by omega
    subst e
    refine g_iload_n C dX4_meets_7 rfl rfl ?_
    refine g_bipush (v := nI 6) C dX4_meets_8 (by decide) ?_
    first | refine g_icmp_ge_n (tgt := 26) C dX4_meets_10 (by decide) (by omega) (by omega) (fun c10 => ?_) (fun c10 => ?_) | refine g_icmp_ge (tgt := 26) C dX4_meets_10 (by decide) (fun c10 => ?_) (fun c10 => ?_)
    · exact K F' hF
    · omega
  | succ w ih =>
    intro j hj F' hF
    refine g_iload_n C dX4_meets_7 rfl rfl ?_
    refine g_bipush (v := nI 6) C dX4_meets_8 (by decide) ?_
    first | refine g_icmp_ge_n (tgt := 26) C dX4_meets_10 (by decide) (by omega) (by omega) (fun c10 => ?_) (fun c10 => ?_) | refine g_icmp_ge (tgt := 26) C dX4_meets_10 (by decide) (fun c10 => ?_) (fun c10 => ?_)
    · omega
    · refine g_aload_n C dX4_meets_13 rfl rfl ?_
      refine f_X4_rows C (hL _ (by decide)) (Or.inl q776) (Or.inl rfl) dX4_meets_14 ?_
      refine g_iload_n C dX4_meets_17 rfl rfl ?_
      refine g_iconst (v := nI 0) C dX4_meets_18 (by decide) ?_
      refine g_iast (n := 3006) C rfl (hL _ (by decide)) rfl (by omega) (by decide) dX4_meets_19 ?_
      first | refine g_iinc1 (lv' := [(0, _), (1, _)]) C dX4_meets_20 rfl (by decide) rfl ?_ | refine g_iinc (lv' := [(0, _), (1, _)]) C dX4_meets_20 rfl rfl (by decide) rfl ?_
      refine g_goto (tgt := 7) C dX4_meets_23 (by decide) ?_
      refine g_z (mz_50 _ _ _ _ _ _ _ _) (ih (j + 1) (by omega) _ (fun a ha => ?_))
      simp only [upd]
      by_cases e : a = j
      · rw [if_pos e]; rfl
      · rw [if_neg e]; exact hF a (by omega)
end MMEETS
