section
/-! tokens: the printed questions as functions, and the kinds of token that the law feeds -/
theorem cq_it {α : Type} {c A B : Prop} [Decidable c] {P : α → Prop} {x y : α} (h : P (if c then x else y)) (f : P x → A) (g : P y → B) : (c → A) ∧ (¬ c → B) :=
  ⟨fun hc => f (by rw [if_pos hc] at h; exact h), fun hc => g (by rw [if_neg hc] at h; exact h)⟩
theorem cq_vi {n N : Nat} (h : n < N) (hN : N < 2 ^ 31 := by decide) : vp_in (nI n) N := vp_in_nI h hN
def cq_in (x a b : Int32) : Int32 := if x < a then 0 else if a + b ≤ x then 0 else 1
theorem cq_in_w {post : Int32 → Prop} {x a b : Int32} (h : post (cq_in x a b)) : wpX_isIn post () x a b := by
  unfold cq_in at h
  exact cq_it h id (fun h => cq_it h id id)
def cq_leaf (t : Int32) : Int32 := if cq_in t 100 16 = 0 then (if cq_in t 120 4 = 0 then (if cq_in t 124 4 = 0 then (if cq_in t 143 15 = 0 then (if cq_in t 210 81 = 0 then 0 else 1) else 1) else 1) else 1) else 1
theorem cq_leaf_w {post : Int32 → Prop} {t : Int32} (h : post (cq_leaf t)) : wpX_isLeaf post () t := by
  unfold cq_leaf at h
  exact cq_in_w (cq_it h (fun h => cq_in_w (cq_it h (fun h => cq_in_w (cq_it h (fun h => cq_in_w (cq_it h (fun h => cq_in_w (cq_it h id id)) id)) id)) id)) id)
def cq_parts (t : Int32) : Int32 := if cq_leaf t = 0 then (if t = 2 then 0 else if t = 39 then 0 else if t = 128 then 1 else if t = 139 then 1 else if cq_in t 10 16 = 0 then (if cq_in t 30 4 = 0 then (if cq_in t 66 3 = 0 then (if t = 56 then 4 else if t = 35 then 3 else if t = 142 then 3 else if cq_in t 40 16 = 0 then (if cq_in t 63 3 = 0 then 2 else 3) else 3) else 1) else 1) else 1) else 0
theorem cq_parts_w {post : Int32 → Prop} {t : Int32} (h : post (cq_parts t)) : wpX_partsOf post () t := by
  unfold cq_parts at h
  exact cq_leaf_w (cq_it h (fun h => cq_it h id (fun h => cq_it h id (fun h => cq_it h id (fun h => cq_it h id (fun h => cq_in_w (cq_it h (fun h => cq_in_w (cq_it h (fun h => cq_in_w (cq_it h (fun h => cq_it h id (fun h => cq_it h id (fun h => cq_it h id (fun h => cq_in_w (cq_it h (fun h => cq_in_w (cq_it h id id)) id))))) id)) id)) id)))))) id)
def cq_expr (t : Int32) : Int32 := if cq_leaf t = 0 then (if t = 128 then 1 else if cq_in t 130 13 = 0 then 0 else 1) else 1
theorem cq_expr_w {post : Int32 → Prop} {t : Int32} (h : post (cq_expr t)) : wpX_isExpression post () t := by
  unfold cq_expr at h
  exact cq_leaf_w (cq_it h (fun h => cq_it h id (fun h => cq_in_w (cq_it h id id))) id)
def cq_stmt (t : Int32) : Int32 := if t = 1 then 1 else if t = 2 then 1 else if cq_in t 10 16 = 0 then (if cq_in t 30 8 = 0 then (if t = 39 then 1 else if cq_in t 40 17 = 0 then (if cq_in t 60 9 = 0 then 0 else 1) else 1) else 1) else 1
theorem cq_stmt_w {post : Int32 → Prop} {t : Int32} (h : post (cq_stmt t)) : wpX_isStatement post () t := by
  unfold cq_stmt at h
  exact cq_it h id (fun h => cq_it h id (fun h => cq_in_w (cq_it h (fun h => cq_in_w (cq_it h (fun h => cq_it h id (fun h => cq_in_w (cq_it h (fun h => cq_in_w (cq_it h id id)) id))) id)) id)))
def cq_stp (t k : Int32) : Int32 := if t = 1 then 1 else if t = 35 then (if k ≤ 0 then 0 else 1) else if t = 36 then (if k ≤ 0 then 0 else 1) else if t = 56 then (if k ≤ 0 then 0 else 1) else if t = 37 then (if k = 0 then 1 else 0) else if cq_in t 40 16 = 0 then 0 else (if k = 2 then 1 else 0)
theorem cq_stp_w {post : Int32 → Prop} {t k : Int32} (h : post (cq_stp t k)) : wpX_isStatementPart post () t k := by
  unfold cq_stp at h
  exact cq_it h id (fun h => cq_it h (fun h => cq_it h id id) (fun h => cq_it h (fun h => cq_it h id id) (fun h => cq_it h (fun h => cq_it h id id) (fun h => cq_it h (fun h => cq_it h id id) (fun h => cq_in_w (cq_it h id (fun h => cq_it h id id)))))))
/-- the kind of a token: 0 a leaf, 1 a number, 2 NOT, 3 an operation of two, 4 CHOOSE, 5 CELL, 6 SEQUENCE, 7 ASSIGN or OUT, 8 STORE, 9 IF, 10 CASE, 11 NOTHING; 99 none of the law's -/
def cq_cls (n : Nat) : Nat := if n = 1 then 6 else if n = 2 then 11 else if 10 ≤ n ∧ n ≤ 25 ∨ 30 ≤ n ∧ n ≤ 33 then 7 else if n = 34 then 8 else if n = 35 then 9 else if n = 56 then 10 else if 100 ≤ n ∧ n ≤ 115 ∨ 120 ≤ n ∧ n ≤ 127 then 0 else if n = 128 then 5 else if n = 139 then 2 else if n = 142 then 4 else if 130 ≤ n ∧ n ≤ 141 then 3 else if 210 ≤ n ∧ n ≤ 290 then 1 else 99
def cq_prt : Nat → List Nat
  | 2 => [0]
  | 3 => [0, 0]
  | 4 => [0, 0, 0]
  | 5 => [0]
  | 6 => [1, 1]
  | 7 => [0]
  | 8 => [0, 0]
  | 9 => [0, 1, 1]
  | 10 => [0, 1, 1, 1]
  | _ => []
def cq_tk (c : Nat) (t : Int32) : Prop := ∃ n, n < 291 ∧ cq_cls n = c ∧ c ≠ 99 ∧ t = nI n
theorem cq_t_parts : ∀ n, n < 291 → cq_cls n ≠ 99 → cq_parts (nI n) = nI (cq_prt (cq_cls n)).length := by decide +kernel
theorem cq_t_stmt : ∀ n, n < 291 → cq_cls n ≠ 99 → cq_stmt (nI n) = if 6 ≤ cq_cls n then 1 else 0 := by decide +kernel
theorem cq_t_expr : ∀ n, n < 291 → cq_cls n ≠ 99 → cq_expr (nI n) = if cq_cls n ≤ 5 then 1 else 0 := by decide +kernel
theorem cq_t_stp : ∀ n, n < 291 → cq_cls n ≠ 99 → ∀ k, k < 4 → k < (cq_prt (cq_cls n)).length → cq_stp (nI n) (nI k) = nI ((cq_prt (cq_cls n)).getD k 0) := by decide +kernel
theorem cq_t_len : ∀ n, n < 291 → (cq_prt (cq_cls n)).length ≤ 4 := by decide +kernel
theorem cq_parts_k {c : Nat} {t : Int32} (h : cq_tk c t) : cq_parts t = nI (cq_prt c).length := by
  obtain ⟨n, hn, rfl, hc, rfl⟩ := h
  exact cq_t_parts n hn hc
theorem cq_stmt_k {c : Nat} {t : Int32} (h : cq_tk c t) : cq_stmt t = if 6 ≤ c then 1 else 0 := by
  obtain ⟨n, hn, rfl, hc, rfl⟩ := h
  exact cq_t_stmt n hn hc
theorem cq_expr_k {c : Nat} {t : Int32} (h : cq_tk c t) : cq_expr t = if c ≤ 5 then 1 else 0 := by
  obtain ⟨n, hn, rfl, hc, rfl⟩ := h
  exact cq_t_expr n hn hc
theorem cq_len_k {c : Nat} {t : Int32} (h : cq_tk c t) : (cq_prt c).length ≤ 4 := by
  obtain ⟨n, hn, rfl, hc, rfl⟩ := h
  exact cq_t_len n hn
theorem cq_stp_k {c : Nat} {t : Int32} (h : cq_tk c t) {k : Nat} (hk : k < (cq_prt c).length) : cq_stp t (nI k) = nI ((cq_prt c).getD k 0) := by
  have hl := cq_len_k h
  obtain ⟨n, hn, rfl, hc, rfl⟩ := h
  exact cq_t_stp n hn hc k (by omega) hk
/-- a pile in an array: the list's head is the top -/
def cq_stk (a : Nat → Int32) : List Int32 → Prop
  | [] => True
  | x :: L => a L.length = x ∧ cq_stk a L
theorem cq_stk_upd {a : Nat → Int32} {k : Nat} {x : Int32} : ∀ {L : List Int32}, L.length ≤ k → cq_stk a L → cq_stk (upd a k x) L
  | [], _, _ => trivial
  | y :: L, h, hs => by
    have h' : L.length + 1 ≤ k := h
    exact ⟨by rw [pk_un (by omega)]; exact hs.1, cq_stk_upd (by omega) hs.2⟩
theorem cq_stk_push {a : Nat → Int32} {x : Int32} {L : List Int32} {k : Nat} (hk : k = L.length) (h : cq_stk a L) : cq_stk (upd a k x) (x :: L) := by
  subst hk
  exact ⟨pk_us, cq_stk_upd (Nat.le_refl _) h⟩
end
section
/-! scan, feed -/
def cq_scan : List Nat → List Nat → Option (List Nat)
  | [], W => some W
  | _ :: _, [] => none
  | c :: T, _ :: W => cq_scan T (cq_prt c ++ W)
def cq_toks (p : Nat) (a11 a12 : Nat → Int32) (T : List (Nat × Int32)) : Prop :=
  a12 p = nI T.length ∧ T.length ≤ 30 ∧ ∀ j c v, T[j]? = some (c, v) → cq_tk c v ∧ a11 (60 * p + j) = v
theorem cq_m1 (x : Int32) : x + (-1) = x - 1 := by rw [Int32.sub_eq_add_neg]
theorem cq_prt01 (c : Nat) : ∀ x, x ∈ cq_prt c → x = 0 ∨ x = 1 := by
  intro x hx
  unfold cq_prt at hx
  split at hx <;> simp at hx <;> omega
theorem cq_prt_len (c : Nat) : (cq_prt c).length ≤ 4 := by
  unfold cq_prt
  split <;> simp
theorem cq_scan_len : ∀ (T W Wf : List Nat), cq_scan T W = some Wf → Wf.length ≤ W.length + 3 * T.length
  | [], W, Wf, h => by
    have h' : W = Wf := by simpa [cq_scan] using h
    subst h'
    simp
  | c :: T, [], Wf, h => by simp [cq_scan] at h
  | c :: T, w :: W, Wf, h => by
    have h1 := cq_scan_len T (cq_prt c ++ W) Wf h
    have h2 := cq_prt_len c
    simp at h1 ⊢
    omega
theorem cq_scan54 {post : St2 → Prop} {J14 : Int32 → Int32 → (Nat → Int32) → (Nat → Int32) → (Nat → Int32) → (Nat → Int32) → (Nat → Int32) → (Nat → Int32) → (Nat → Int32) → (Nat → Int32) → (Nat → Int32) → (Nat → Int32) → (Nat → Int32) → (Nat → Int32) → (Nat → Int32) → (Nat → Int32) → (Nat → Int32) → (Nat → Int32) → (Nat → Int32) → (Nat → Int32) → (Nat → Int32) → (Nat → Int32) → (Nat → Int32) → (Nat → Int32) → (Nat → Int32) → (Nat → Int32) → (Nat → Int32) → (Nat → Int32) → (Nat → Int32) → Prop} {x1 x2 x3 : Int32} {tm ac rn sz dp lo ex hgt al ov : Int32} {a1 a2 a3 a4 a5 a6 a7 a8 a9 a10 a11 a12 a14 a15 a16 a17 a18 a19 a20 a21 a22 a23 a24 a25 a26 a27 : Nat → Int32} {c : Nat} (hk : cq_tk c x3) (W : List Nat) (hW : W.length ≤ 125)
    (H : ∀ b, cq_stk b ((cq_prt c ++ W).map nI) → J14 (x2 + 1) (nI (cq_prt c ++ W).length) a1 a2 a3 a4 a5 a6 a7 a8 a9 a10 a11 a12 b a14 a15 a16 a17 a18 a19 a20 a21 a22 a23 a24 a25 a26 a27) :
    ∀ (e : Nat) (s : Nat → Int32), e ≤ (cq_prt c).length → cq_stk s (((cq_prt c).drop e ++ W).map nI) → wX_scan_54 post J14 x1 x2 x3 tm ac rn sz dp lo ex hgt al ov (e + 1) (nI e - 1) (nI ((cq_prt c).drop e ++ W).length) a1 a2 a3 a4 a5 a6 a7 a8 a9 a10 a11 a12 s a14 a15 a16 a17 a18 a19 a20 a21 a22 a23 a24 a25 a26 a27 := by
  have hl := cq_len_k hk
  intro e
  induction e with
  | zero =>
    intro s _ hs
    exact br_t (by decide) (nm_e (H s hs))
  | succ e ih =>
    intro s he hs
    rw [nI_pred]
    have hd : (cq_prt c).drop e = (cq_prt c)[e] :: (cq_prt c).drop (e + 1) := List.drop_eq_getElem_cons (by omega)
    have hg : (cq_prt c).getD e 0 = (cq_prt c)[e] := by simp [List.getD, List.getElem?_eq_getElem (show e < (cq_prt c).length by omega)]
    have hlen : ((cq_prt c).drop (e + 1) ++ W).length < 130 := by simp; omega
    have key : wX_scan_81 post J14 (wX_scan_54 post J14 x1 x2 x3 tm ac rn sz dp lo ex hgt al ov (e + 1)) x1 x2 x3 (nI e) (nI ((cq_prt c)[e])) (nI ((cq_prt c).drop (e + 1) ++ W).length) tm ac rn (nI ((cq_prt c).drop (e + 1) ++ W).length) sz dp lo ex hgt al ov a1 a2 a3 a4 a5 a6 a7 a8 a9 a10 a11 a12 s a14 a15 a16 a17 a18 a19 a20 a21 a22 a23 a24 a25 a26 a27 := by
      refine And.intro (cq_vi hlen) (nm_e (nm_r (nI_1 _) (nm_r (cq_m1 _) ?_)))
      have h := ih (upd s ((cq_prt c).drop (e + 1) ++ W).length (nI ((cq_prt c)[e]))) (by omega) (by
        rw [hd]
        exact cq_stk_push (by simp) hs)
      rw [hd] at h
      rw [nI_clamp (by omega)]
      exact h
    refine br_f (nI_pos (by omega)) (cq_stp_w ?_)
    rw [cq_stp_k hk (by omega), hg]
    rcases cq_prt01 c ((cq_prt c)[e]) (List.getElem_mem _) with h0 | h0
    · rw [h0] at key ⊢
      exact br_t rfl key
    · rw [h0] at key ⊢
      exact br_f (by decide) key
theorem cq_scan54x {post : St2 → Prop} {J14 : Int32 → Int32 → (Nat → Int32) → (Nat → Int32) → (Nat → Int32) → (Nat → Int32) → (Nat → Int32) → (Nat → Int32) → (Nat → Int32) → (Nat → Int32) → (Nat → Int32) → (Nat → Int32) → (Nat → Int32) → (Nat → Int32) → (Nat → Int32) → (Nat → Int32) → (Nat → Int32) → (Nat → Int32) → (Nat → Int32) → (Nat → Int32) → (Nat → Int32) → (Nat → Int32) → (Nat → Int32) → (Nat → Int32) → (Nat → Int32) → (Nat → Int32) → (Nat → Int32) → (Nat → Int32) → (Nat → Int32) → Prop} {x1 x2 x3 : Int32} {tm ac rn sz dp lo ex hgt al ov : Int32} {a1 a2 a3 a4 a5 a6 a7 a8 a9 a10 a11 a12 a14 a15 a16 a17 a18 a19 a20 a21 a22 a23 a24 a25 a26 a27 : Nat → Int32} {c : Nat} (hk : cq_tk c x3) (W : List Nat) (hW : W.length ≤ 125) {s : Nat → Int32} (hs : cq_stk s (W.map nI))
    (H : ∀ b, cq_stk b ((cq_prt c ++ W).map nI) → J14 (x2 + 1) (nI (cq_prt c ++ W).length) a1 a2 a3 a4 a5 a6 a7 a8 a9 a10 a11 a12 b a14 a15 a16 a17 a18 a19 a20 a21 a22 a23 a24 a25 a26 a27) :
    ∃ n, wX_scan_54 post J14 x1 x2 x3 tm ac rn sz dp lo ex hgt al ov n (nI (cq_prt c).length - 1) (nI W.length) a1 a2 a3 a4 a5 a6 a7 a8 a9 a10 a11 a12 s a14 a15 a16 a17 a18 a19 a20 a21 a22 a23 a24 a25 a26 a27 := by
  have h : wX_scan_54 post J14 x1 x2 x3 tm ac rn sz dp lo ex hgt al ov ((cq_prt c).length + 1) (nI (cq_prt c).length - 1) (nI ((cq_prt c).drop (cq_prt c).length ++ W).length) a1 a2 a3 a4 a5 a6 a7 a8 a9 a10 a11 a12 s a14 a15 a16 a17 a18 a19 a20 a21 a22 a23 a24 a25 a26 a27 := cq_scan54 (post := post) (x1 := x1) hk W hW H (cq_prt c).length s (Nat.le_refl _) (by rw [List.drop_length]; exact hs)
  rw [List.drop_length, List.nil_append] at h
  exact ⟨_, h⟩
theorem cq_ix {p i : Nat} : (60 : Int32) * nI p + nI i = nI (60 * p + i) := by
  rw [← nI_add, ← pk_mul]
  rfl
theorem cq_scan14 {post : St2 → Prop} {tm ac rn sz dp lo ex hgt al ov : Int32} {a1 a2 a3 a4 a5 a6 a7 a8 a9 a10 a11 a12 a14 a15 a16 a17 a18 a19 a20 a21 a22 a23 a24 a25 a26 a27 : Nat → Int32} {T : List (Nat × Int32)} {p : Nat} {Wf : List Nat} (hp : p < 2) (hT : cq_toks p a11 a12 T)
    (H : ∀ b, cq_stk b (Wf.map nI) → post (tm, ac, rn, nI Wf.length, sz, dp, lo, ex, hgt, al, ov, a1, a2, a3, a4, a5, a6, a7, a8, a9, a10, a11, a12, b, a14, a15, a16, a17, a18, a19, a20, a21, a22, a23, a24, a25, a26, a27)) :
    ∀ (k i : Nat) (W : List Nat) (s : Nat → Int32), i + k = T.length → cq_scan ((T.drop i).map Prod.fst) W = some Wf → W.length + 3 * k ≤ 125 → cq_stk s (W.map nI) → wX_scan_14 post (nI p) tm ac rn sz dp lo ex hgt al ov (k + 1) (nI i) (nI W.length) a1 a2 a3 a4 a5 a6 a7 a8 a9 a10 a11 a12 s a14 a15 a16 a17 a18 a19 a20 a21 a22 a23 a24 a25 a26 a27 := by
  intro k
  induction k with
  | zero =>
    intro i W s hi hs hb hk
    have hl := hT.2.1
    have hd : T.drop i = [] := List.drop_eq_nil_of_le (by omega)
    rw [hd] at hs
    have hs' : W = Wf := by simpa [cq_scan] using hs
    subst hs'
    refine And.intro (pk_in p 2 hp) ?_
    rw [nI_clamp (show p < 2 ^ 31 by omega), hT.1]
    exact pk_le T.length i (fun _ => H s hk) (fun z => absurd z (by omega))
  | succ k ih =>
    intro i W s hi hs hb hk
    have hl := hT.2.1
    have hlt : i < T.length := by omega
    have hd : T.drop i = T[i] :: T.drop (i + 1) := List.drop_eq_getElem_cons hlt
    obtain ⟨ht, ha⟩ := hT.2.2 i T[i].1 T[i].2 (by rw [List.getElem?_eq_getElem hlt])
    rw [hd] at hs
    refine And.intro (pk_in p 2 hp) ?_
    rw [nI_clamp (show p < 2 ^ 31 by omega), hT.1, cq_ix, nI_clamp (show 60 * p + i < 2 ^ 31 by omega), ha]
    cases W with
    | nil =>
      have hs' : (none : Option (List Nat)) = some Wf := hs
      cases hs'
    | cons w W =>
      refine pk_le T.length i (fun z => absurd z (by omega)) (fun _ => And.intro (pk_in (60 * p + i) 120 (by omega)) (nm_e (nm_r (nI_pred W.length) (cq_parts_w ?_))))
      rw [cq_parts_k ht]
      refine nm_e (cq_scan54x ht W (by simp at hb; omega) hk.2 (fun b hb' => ?_))
      rw [nI_1]
      have hq := cq_len_k ht
      exact ih (i + 1) _ b (by omega) hs (by simp at hb ⊢; omega) hb'
theorem cq_scan_ok {post : St2 → Prop} {tm ac rn wc sz dp lo ex hgt al ov : Int32} {a1 a2 a3 a4 a5 a6 a7 a8 a9 a10 a11 a12 a13 a14 a15 a16 a17 a18 a19 a20 a21 a22 a23 a24 a25 a26 a27 : Nat → Int32} {T : List (Nat × Int32)} {p : Nat} {Wf : List Nat} (hp : p < 2) (hT : cq_toks p a11 a12 T) (hs : cq_scan (T.map Prod.fst) [1] = some Wf)
    (H : ∀ b, cq_stk b (Wf.map nI) → post (tm, ac, rn, nI Wf.length, sz, dp, lo, ex, hgt, al, ov, a1, a2, a3, a4, a5, a6, a7, a8, a9, a10, a11, a12, b, a14, a15, a16, a17, a18, a19, a20, a21, a22, a23, a24, a25, a26, a27)) : wpX_scan post (tm, ac, rn, wc, sz, dp, lo, ex, hgt, al, ov, a1, a2, a3, a4, a5, a6, a7, a8, a9, a10, a11, a12, a13, a14, a15, a16, a17, a18, a19, a20, a21, a22, a23, a24, a25, a26, a27) (nI p) := by
  have hl := hT.2.1
  refine nm_e (Exists.intro (T.length + 1) ?_)
  exact cq_scan14 hp hT H T.length 0 [1] (upd a13 0 1) (by omega) hs (by simp; omega) ⟨pk_us, trivial⟩
theorem cq_prog_w {post : Int32 → Prop} {p : Nat} (hp : p < 2) (h : post 1) : wpX_isProgram post () (nI p) := by
  have h2 : p = 0 ∨ p = 1 := by omega
  rcases h2 with rfl | rfl
  · exact br_t rfl h
  · exact br_f (by decide) (br_t rfl h)
theorem cq_fixed_w {post : Int32 → Prop} {tm ac rn wc sz dp lo ex hgt al ov : Int32} {a1 a2 a3 a4 a5 a6 a7 a8 a9 a10 a11 a12 a13 a14 a15 a16 a17 a18 a19 a20 a21 a22 a23 a24 a25 a26 a27 : Nat → Int32} {p : Nat} (hfx : rn = 0 ∨ ¬ nI p = ac) (h : post 0) : wpX_isFixed post (tm, ac, rn, wc, sz, dp, lo, ex, hgt, al, ov, a1, a2, a3, a4, a5, a6, a7, a8, a9, a10, a11, a12, a13, a14, a15, a16, a17, a18, a19, a20, a21, a22, a23, a24, a25, a26, a27) (nI p) := by
  rcases hfx with h0 | h0
  · exact br_t h0 h
  · exact br_c (fun _ => h) (fun _ => br_f h0 h)
theorem cq_feed72 {post : Int32 → St2 → Prop} {tm ac rn wc sz dp lo ex hgt al ov : Int32} {a1 a2 a3 a4 a5 a6 a7 a8 a9 a10 a11 a12 a13 a14 a15 a16 a17 a18 a19 a20 a21 a22 a23 a24 a25 a26 a27 : Nat → Int32} {T : List (Nat × Int32)} {p : Nat} {v z : Int32} (hp : p < 2) (hT : cq_toks p a11 a12 T) (hz : ¬ z = 0)
    (H : post (nI (T.length + 1)) (tm, ac, rn, wc, sz, dp, lo, ex, hgt, al, ov, a1, a2, a3, a4, a5, a6, a7, a8, a9, a10, upd a11 (60 * p + T.length) v, upd a12 p (nI (T.length + 1)), a13, a14, a15, a16, a17, a18, a19, a20, a21, a22, a23, a24, a25, a26, a27)) : wX_feed_72 post (nI p) v z tm ac rn wc sz dp lo ex hgt al ov a1 a2 a3 a4 a5 a6 a7 a8 a9 a10 a11 a12 a13 a14 a15 a16 a17 a18 a19 a20 a21 a22 a23 a24 a25 a26 a27 := by
  have hl := hT.2.1
  have e : upd a12 p (nI (T.length + 1)) p = nI (T.length + 1) := pk_us
  refine br_f hz ?_
  rw [nI_clamp (show p < 2 ^ 31 by omega), hT.1, cq_ix, nI_clamp (show 60 * p + T.length < 2 ^ 31 by omega), nI_1]
  refine ⟨pk_in p 2 hp, cq_vi (by omega), nm_e ⟨pk_in p 2 hp, pk_in p 2 hp, nm_e ⟨pk_in p 2 hp, ?_⟩⟩⟩
  rw [e]
  exact H
theorem cq_feed_ok {post : Int32 → St2 → Prop} {tm ac rn wc sz dp lo ex hgt al ov : Int32} {a1 a2 a3 a4 a5 a6 a7 a8 a9 a10 a11 a12 a13 a14 a15 a16 a17 a18 a19 a20 a21 a22 a23 a24 a25 a26 a27 : Nat → Int32} {T : List (Nat × Int32)} {p w c : Nat} {Wf : List Nat} {v : Int32} (hp : p < 2) (hfx : rn = 0 ∨ ¬ nI p = ac) (hT : cq_toks p a11 a12 T)
    (hs : cq_scan (T.map Prod.fst) [1] = some (w :: Wf)) (hk : cq_tk c v) (hf : w = 1 ∧ 6 ≤ c ∨ w = 0 ∧ c ≤ 5)
    (H : ∀ f b, post (nI (T.length + 1)) (tm, ac, rn, f, sz, dp, lo, ex, hgt, al, ov, a1, a2, a3, a4, a5, a6, a7, a8, a9, a10, upd a11 (60 * p + T.length) v, upd a12 p (nI (T.length + 1)), b, a14, a15, a16, a17, a18, a19, a20, a21, a22, a23, a24, a25, a26, a27)) : wpX_feed post (tm, ac, rn, wc, sz, dp, lo, ex, hgt, al, ov, a1, a2, a3, a4, a5, a6, a7, a8, a9, a10, a11, a12, a13, a14, a15, a16, a17, a18, a19, a20, a21, a22, a23, a24, a25, a26, a27) (nI p) v := by
  have hl := hT.2.1
  unfold wpX_feed
  refine cq_prog_w hp (br_f (by decide) (cq_fixed_w hfx (br_t rfl (cq_scan_ok hp hT hs (fun b hb => ?_)))))
  have hb' : b Wf.length = nI w := by have := hb.1; rw [List.length_map] at this; exact this
  have hlen : Wf.length < 129 := by
    have := cq_scan_len _ _ _ hs
    simp at this
    omega
  have e1 : nI (List.length (w :: Wf)) - 1 = nI Wf.length := nI_pred Wf.length
  have key : ∀ z, ¬ z = 0 → wX_feed_72 post (nI p) v z tm ac rn (nI (List.length (w :: Wf))) sz dp lo ex hgt al ov a1 a2 a3 a4 a5 a6 a7 a8 a9 a10 a11 a12 b a14 a15 a16 a17 a18 a19 a20 a21 a22 a23 a24 a25 a26 a27 := fun z hz => cq_feed72 hp hT hz (H _ b)
  refine br_f (nI_ne0 (by simp) (by simp; omega)) ?_
  rw [e1, nI_clamp (show p < 2 ^ 31 by omega), hT.1, nI_clamp (show Wf.length < 2 ^ 31 by omega), hb']
  refine And.intro (pk_in p 2 hp) (pk_lt T.length 60 (fun _ => And.intro (cq_vi (by omega)) ?_) (fun z => absurd z (by omega)))
  rcases hf with ⟨rfl, hc⟩ | ⟨rfl, hc⟩
  · refine br_t rfl (cq_stmt_w ?_)
    rw [cq_stmt_k hk, if_pos hc]
    exact key 1 (by decide)
  · refine br_f (by decide) (cq_expr_w ?_)
    rw [cq_expr_k hk, if_pos hc]
    exact key 1 (by decide)
theorem cq_feed_full {post : Int32 → St2 → Prop} {tm ac rn wc sz dp lo ex hgt al ov : Int32} {a1 a2 a3 a4 a5 a6 a7 a8 a9 a10 a11 a12 a13 a14 a15 a16 a17 a18 a19 a20 a21 a22 a23 a24 a25 a26 a27 : Nat → Int32} {T : List (Nat × Int32)} {p : Nat} {v : Int32} (hp : p < 2) (hfx : rn = 0 ∨ ¬ nI p = ac) (hT : cq_toks p a11 a12 T)
    (hs : cq_scan (T.map Prod.fst) [1] = some []) (H : ∀ f b, post (-3) (tm, ac, rn, f, sz, dp, lo, ex, hgt, al, ov, a1, a2, a3, a4, a5, a6, a7, a8, a9, a10, a11, a12, b, a14, a15, a16, a17, a18, a19, a20, a21, a22, a23, a24, a25, a26, a27)) : wpX_feed post (tm, ac, rn, wc, sz, dp, lo, ex, hgt, al, ov, a1, a2, a3, a4, a5, a6, a7, a8, a9, a10, a11, a12, a13, a14, a15, a16, a17, a18, a19, a20, a21, a22, a23, a24, a25, a26, a27) (nI p) v := by
  unfold wpX_feed
  exact cq_prog_w hp (br_f (by decide) (cq_fixed_w hfx (br_t rfl (cq_scan_ok hp hT hs (fun b _ => br_t rfl (H _ b))))))
theorem cq_isComplete_ok {post : Int32 → St2 → Prop} {tm ac rn wc sz dp lo ex hgt al ov : Int32} {a1 a2 a3 a4 a5 a6 a7 a8 a9 a10 a11 a12 a13 a14 a15 a16 a17 a18 a19 a20 a21 a22 a23 a24 a25 a26 a27 : Nat → Int32} {T : List (Nat × Int32)} {p : Nat} (hp : p < 2) (hT : cq_toks p a11 a12 T)
    (hs : cq_scan (T.map Prod.fst) [1] = some []) (H : ∀ f b, post 1 (tm, ac, rn, f, sz, dp, lo, ex, hgt, al, ov, a1, a2, a3, a4, a5, a6, a7, a8, a9, a10, a11, a12, b, a14, a15, a16, a17, a18, a19, a20, a21, a22, a23, a24, a25, a26, a27)) : wpX_isComplete post (tm, ac, rn, wc, sz, dp, lo, ex, hgt, al, ov, a1, a2, a3, a4, a5, a6, a7, a8, a9, a10, a11, a12, a13, a14, a15, a16, a17, a18, a19, a20, a21, a22, a23, a24, a25, a26, a27) (nI p) := by
  unfold wpX_isComplete
  exact cq_scan_ok hp hT hs (fun b _ => br_t rfl (H _ b))
theorem cq_complete_ok {post : Int32 → St2 → Prop} {tm ac rn wc sz dp lo ex hgt al ov : Int32} {a1 a2 a3 a4 a5 a6 a7 a8 a9 a10 a11 a12 a13 a14 a15 a16 a17 a18 a19 a20 a21 a22 a23 a24 a25 a26 a27 : Nat → Int32} {T : List (Nat × Int32)} {p : Nat} (hp : p < 2) (hT : cq_toks p a11 a12 T)
    (hs : cq_scan (T.map Prod.fst) [1] = some []) (H : ∀ f b, post 1 (tm, ac, rn, f, sz, dp, lo, ex, hgt, al, ov, a1, a2, a3, a4, a5, a6, a7, a8, a9, a10, a11, a12, b, a14, a15, a16, a17, a18, a19, a20, a21, a22, a23, a24, a25, a26, a27)) : wpX_complete post (tm, ac, rn, wc, sz, dp, lo, ex, hgt, al, ov, a1, a2, a3, a4, a5, a6, a7, a8, a9, a10, a11, a12, a13, a14, a15, a16, a17, a18, a19, a20, a21, a22, a23, a24, a25, a26, a27) (nI p) := by
  unfold wpX_complete
  exact cq_prog_w hp (br_f (by decide) (cq_isComplete_ok hp hT hs (fun f b => br_f (by decide) (H f b))))
end
section
/-! measure, partAt -/
def cq_adv : Nat → Nat → List Nat → Option Nat
  | 0, o, _ => some o
  | n + 1, o, S => match S[o]? with
    | none => none
    | some s => cq_adv n (o + s) S
def cq_sp : List Nat → Option (List Nat)
  | [] => some []
  | c :: T => match cq_sp T with
    | none => none
    | some S => match cq_adv (cq_prt c).length 0 S with
      | none => none
      | some d => some ((1 + d) :: S)
theorem cq_adv_s {n o r : Nat} {S : List Nat} (h : cq_adv (n + 1) o S = some r) : ∃ s, S[o]? = some s ∧ cq_adv n (o + s) S = some r := by
  unfold cq_adv at h
  split at h
  · cases h
  · rename_i s hs
    exact ⟨s, hs, h⟩
theorem cq_sp_cons {c : Nat} {T S' : List Nat} (h : cq_sp (c :: T) = some S') : ∃ S d, cq_sp T = some S ∧ cq_adv (cq_prt c).length 0 S = some d ∧ S' = (1 + d) :: S := by
  unfold cq_sp at h
  split at h
  · cases h
  · rename_i S hS
    split at h
    · cases h
    · rename_i d hd
      exact ⟨S, d, hS, hd, (Option.some.inj h).symm⟩
theorem cq_sp_len : ∀ {T S : List Nat}, cq_sp T = some S → S.length = T.length
  | [], S, h => by
    have h' : [] = S := by simpa [cq_sp] using h
    subst h'
    rfl
  | c :: T, S', h => by
    obtain ⟨S, d, h1, _, rfl⟩ := cq_sp_cons h
    simp [cq_sp_len h1]
theorem cq_sp_drop : ∀ (e : Nat) {T S : List Nat}, cq_sp T = some S → cq_sp (T.drop e) = some (S.drop e)
  | 0, _, _, h => h
  | e + 1, [], S, h => by
    have h' : [] = S := by simpa [cq_sp] using h
    subst h'
    simp [cq_sp]
  | e + 1, c :: T, S', h => by
    obtain ⟨S, d, h1, _, rfl⟩ := cq_sp_cons h
    exact cq_sp_drop e h1
def cq_lay (a : Nat → Int32) (o : Nat) (S : List Nat) : Prop := ∀ j s, S[j]? = some s → a (o + j) = nI s
theorem cq_lay_cons {a : Nat → Int32} {o x : Nat} {S : List Nat} (h : cq_lay a (o + 1) S) : cq_lay (upd a o (nI x)) o (x :: S) := by
  intro j s hj
  cases j with
  | zero =>
    have : x = s := by simpa using hj
    rw [← this]
    exact pk_us
  | succ j =>
    rw [pk_un (by omega)]
    have h' := h j s (by simpa using hj)
    rw [show o + (j + 1) = o + 1 + j by omega]
    exact h'
theorem cq_some_lt {α : Type} {S : List α} {j : Nat} {s : α} (h : S[j]? = some s) : j < S.length := by
  rcases Nat.lt_or_ge j S.length with h' | h'
  · exact h'
  · rw [List.getElem?_eq_none h'] at h
    cases h
theorem cq_meas30 {post : St2 → Prop} {J12 : Int32 → (Nat → Int32) → (Nat → Int32) → (Nat → Int32) → (Nat → Int32) → (Nat → Int32) → (Nat → Int32) → (Nat → Int32) → (Nat → Int32) → (Nat → Int32) → (Nat → Int32) → (Nat → Int32) → (Nat → Int32) → (Nat → Int32) → (Nat → Int32) → (Nat → Int32) → (Nat → Int32) → (Nat → Int32) → (Nat → Int32) → (Nat → Int32) → (Nat → Int32) → (Nat → Int32) → (Nat → Int32) → (Nat → Int32) → (Nat → Int32) → (Nat → Int32) → (Nat → Int32) → (Nat → Int32) → Prop} {tm ac rn wc sz dp lo ex hgt al ov : Int32} {a1 a2 a3 a4 a5 a6 a7 a8 a9 a10 a11 a12 a13 a14 a15 a16 a17 a18 a19 a20 a21 a22 a23 a24 a25 a26 a27 : Nat → Int32} {i n d : Nat} {S : List Nat} (hl : cq_lay a14 (i + 1) S) (hb : i + 1 + S.length ≤ 60) (hn : n < 9)
    (H : J12 (nI i - 1) a1 a2 a3 a4 a5 a6 a7 a8 a9 a10 a11 a12 a13 (upd a14 i (nI (1 + d))) a15 a16 a17 a18 a19 a20 a21 a22 a23 a24 a25 a26 a27) :
    ∀ (k x o : Nat), x + k = n → cq_adv k o S = some d → wX_measure_30 post J12 (nI i) (nI n) tm ac rn wc sz dp lo ex hgt al ov a1 a2 a3 a4 a5 a6 a7 a8 a9 a10 a11 a12 a13 a14 a15 a16 a17 a18 a19 a20 a21 a22 a23 a24 a25 a26 a27 (k + 1) (nI (1 + o)) (nI x) := by
  intro k
  induction k with
  | zero =>
    intro x o hx h
    have hd : o = d := by simpa [cq_adv] using h
    subst hd
    refine pk_le n x (fun _ => And.intro (pk_in i 60 (by omega)) (nm_r (by rw [nI_clamp (by omega)]) (nm_r (cq_m1 _) H))) (fun z => absurd z (by omega))
  | succ k ih =>
    intro x o hx h
    obtain ⟨s, hs, h'⟩ := cq_adv_s h
    have ho := cq_some_lt hs
    have e : nI i + nI (1 + o) = nI (i + 1 + o) := by rw [nI_add]; congr 1; omega
    refine pk_le n x (fun z => absurd z (by omega)) (fun _ => ?_)
    rw [e, nI_clamp (by omega), hl o s hs]
    refine And.intro (cq_vi (by omega)) (nm_r (nI_add _ _) (nm_r (nI_1 x) ?_))
    rw [show 1 + o + s = 1 + (o + s) by omega]
    exact ih (x + 1) (o + s) (by omega) h'
theorem cq_meas12 {post : St2 → Prop} {tm rn wc sz dp lo ex hgt al ov : Int32} {a1 a2 a3 a4 a5 a6 a7 a8 a9 a10 a11 a12 a13 a15 a16 a17 a18 a19 a20 a21 a22 a23 a24 a25 a26 a27 : Nat → Int32} {T : List (Nat × Int32)} {p : Nat} {Sf : List Nat} (hp : p < 2) (hT : cq_toks p a11 a12 T) (hS : cq_sp (T.map Prod.fst) = some Sf)
    (H : ∀ b, cq_lay b 0 Sf → post (tm, nI p, rn, wc, sz, dp, lo, ex, hgt, al, ov, a1, a2, a3, a4, a5, a6, a7, a8, a9, a10, a11, a12, a13, b, a15, a16, a17, a18, a19, a20, a21, a22, a23, a24, a25, a26, a27)) :
    ∀ (e : Nat) (s : Nat → Int32), e ≤ T.length → cq_lay s e (Sf.drop e) → wX_measure_12 post tm (nI p) rn wc sz dp lo ex hgt al ov (e + 1) (nI e - 1) a1 a2 a3 a4 a5 a6 a7 a8 a9 a10 a11 a12 a13 s a15 a16 a17 a18 a19 a20 a21 a22 a23 a24 a25 a26 a27 := by
  have hl := hT.2.1
  have hSl : Sf.length = T.length := by rw [cq_sp_len hS, List.length_map]
  intro e
  induction e with
  | zero =>
    intro s _ hs
    exact br_t (by decide) (H s hs)
  | succ e ih =>
    intro s he hs
    rw [nI_pred]
    have hlt : e < T.length := by omega
    obtain ⟨ht, ha⟩ := hT.2.2 e T[e].1 T[e].2 (by rw [List.getElem?_eq_getElem hlt])
    have hd := cq_sp_drop e hS
    rw [← List.map_drop, List.drop_eq_getElem_cons hlt, List.map_cons] at hd
    obtain ⟨S, d, h1, h2, h3⟩ := cq_sp_cons hd
    have h4 : S = Sf.drop (e + 1) := by
      have h5 := cq_sp_drop (e + 1) hS
      rw [← List.map_drop, h1] at h5
      exact Option.some.inj h5
    refine br_f (nI_pos (by omega)) ?_
    have hq := cq_len_k ht
    refine And.intro ?_ (cq_parts_w ?_)
    · rw [cq_ix]
      exact cq_vi (by omega)
    · rw [cq_ix, nI_clamp (by omega), ha, cq_parts_k ht]
      refine Exists.intro _ (cq_meas30 (S := S) (d := d) (by rw [h4]; exact hs) (by rw [h4]; simp; omega) (by omega) ?_ (cq_prt T[e].1).length 0 0 (by omega) h2)
      refine ih _ (by omega) ?_
      rw [h3]
      exact cq_lay_cons (by rw [h4]; exact hs)
theorem cq_meas_ok {post : St2 → Prop} {tm ac rn wc sz dp lo ex hgt al ov : Int32} {a1 a2 a3 a4 a5 a6 a7 a8 a9 a10 a11 a12 a13 a14 a15 a16 a17 a18 a19 a20 a21 a22 a23 a24 a25 a26 a27 : Nat → Int32} {T : List (Nat × Int32)} {p : Nat} {Sf : List Nat} (hp : p < 2) (hac : ac = nI p) (hT : cq_toks p a11 a12 T) (hS : cq_sp (T.map Prod.fst) = some Sf)
    (H : ∀ b, cq_lay b 0 Sf → post (tm, ac, rn, wc, sz, dp, lo, ex, hgt, al, ov, a1, a2, a3, a4, a5, a6, a7, a8, a9, a10, a11, a12, a13, b, a15, a16, a17, a18, a19, a20, a21, a22, a23, a24, a25, a26, a27)) : wpX_measure post (tm, ac, rn, wc, sz, dp, lo, ex, hgt, al, ov, a1, a2, a3, a4, a5, a6, a7, a8, a9, a10, a11, a12, a13, a14, a15, a16, a17, a18, a19, a20, a21, a22, a23, a24, a25, a26, a27) := by
  subst hac
  have hSl : Sf.length = T.length := by rw [cq_sp_len hS, List.length_map]
  have hl := hT.2.1
  refine And.intro (pk_in p 2 hp) ?_
  rw [nI_clamp (by omega), hT.1]
  refine nm_e (Exists.intro _ (cq_meas12 hp hT hS H T.length a14 (Nat.le_refl _) ?_))
  rw [List.drop_eq_nil_of_le (by omega)]
  intro j s hj
  simp at hj
theorem cq_part7 {post : Int32 → Prop} {tm ac rn wc sz dp lo ex hgt al ov : Int32} {a1 a2 a3 a4 a5 a6 a7 a8 a9 a10 a11 a12 a13 a14 a15 a16 a17 a18 a19 a20 a21 a22 a23 a24 a25 a26 a27 : Nat → Int32} {n r : Nat} {S : List Nat} (hl : cq_lay a14 0 S) (hb : S.length ≤ 60) (hn : n < 9) (H : post (nI r)) :
    ∀ (k x o : Nat), x + k = n → cq_adv k o S = some r → wX_partAt_7 post (nI n) tm ac rn wc sz dp lo ex hgt al ov a1 a2 a3 a4 a5 a6 a7 a8 a9 a10 a11 a12 a13 a14 a15 a16 a17 a18 a19 a20 a21 a22 a23 a24 a25 a26 a27 (k + 1) (nI o) (nI x) := by
  intro k
  induction k with
  | zero =>
    intro x o hx h
    have hd : o = r := by simpa [cq_adv] using h
    subst hd
    exact pk_le n x (fun _ => H) (fun z => absurd z (by omega))
  | succ k ih =>
    intro x o hx h
    obtain ⟨s, hs, h'⟩ := cq_adv_s h
    have ho := cq_some_lt hs
    have e := hl o s hs
    rw [Nat.zero_add] at e
    refine pk_le n x (fun z => absurd z (by omega)) (fun _ => ?_)
    rw [nI_clamp (by omega), e]
    exact And.intro (cq_vi (by omega)) (nm_r (nI_add _ _) (nm_r (nI_1 x) (ih (x + 1) (o + s) (by omega) h')))
theorem cq_part_ok {post : Int32 → Prop} {tm ac rn wc sz dp lo ex hgt al ov : Int32} {a1 a2 a3 a4 a5 a6 a7 a8 a9 a10 a11 a12 a13 a14 a15 a16 a17 a18 a19 a20 a21 a22 a23 a24 a25 a26 a27 : Nat → Int32} {i k r : Nat} {S : List Nat} (hl : cq_lay a14 0 S) (hb : S.length ≤ 60) (hk : k < 9) (h : cq_adv k (i + 1) S = some r) (H : post (nI r)) : wpX_partAt post (tm, ac, rn, wc, sz, dp, lo, ex, hgt, al, ov, a1, a2, a3, a4, a5, a6, a7, a8, a9, a10, a11, a12, a13, a14, a15, a16, a17, a18, a19, a20, a21, a22, a23, a24, a25, a26, a27) (nI i) (nI k) :=
  nm_r (nI_1 i) (Exists.intro _ (cq_part7 hl hb hk H k 0 (i + 1) (by omega) h))
end
section
/-! the code that is made: a list of (kind, value, target); kinds under 21 are those of tokens; 21 PUSH, 22 JUMP, 23 JUMP_UNLESS, 24 JUMP_UNLESS_EQUAL, 25 DROP, 26 OVER -/
def cq_op (k : Nat) (v : Int32) : Int32 := if k < 21 then v else if k = 21 then 300 else if k = 22 then 301 else if k = 23 then 302 else if k = 24 then 303 else if k = 25 then 304 else 311
def cq_arg (k : Nat) (v : Int32) : Int32 := if k < 21 then 0 else v
def cq_code (sz : Int32) (o a t : Nat → Int32) (C : List (Nat × Int32 × Nat)) : Prop :=
  sz = nI C.length ∧ ∀ j k v g, C[j]? = some (k, v, g) → o j = cq_op k v ∧ a j = cq_arg k v ∧ t j = nI g ∧ g < 400 ∧ (k < 21 → cq_tk k v)
theorem cq_op_ne {k : Nat} {v : Int32} (h : k < 21 → cq_tk k v) (hk : k ≠ 21) : ¬ cq_op k v = 300 := by
  unfold cq_op
  by_cases h1 : k < 21
  · rw [if_pos h1]
    obtain ⟨n, hn, _, _, rfl⟩ := h h1
    intro e
    have e' : nI n = nI 300 := e
    rw [nI_eq (by omega) (by omega)] at e'
    omega
  · rw [if_neg h1, if_neg hk]
    split
    · decide
    · split
      · decide
      · split
        · decide
        · split <;> decide
def cq_emit (C : List (Nat × Int32 × Nat)) (k : Nat) (v : Int32) : List (Nat × Int32 × Nat) := C ++ [(k, v, C.length)]
def cq_patch (C : List (Nat × Int32 × Nat)) (p : Nat) : Option (List (Nat × Int32 × Nat)) := match C[p]? with
  | none => none
  | some e => some (C.set p (e.1, e.2.1, C.length))
theorem cq_code_emit {o a t : Nat → Int32} {sz : Int32} {C : List (Nat × Int32 × Nat)} {k : Nat} {v : Int32} (hc : cq_code sz o a t C) (hC : C.length < 400) (hk : k < 21 → cq_tk k v) :
    cq_code (nI (C.length + 1)) (upd o C.length (cq_op k v)) (upd a C.length (cq_arg k v)) (upd t C.length (nI C.length)) (cq_emit C k v) := by
  refine ⟨by simp [cq_emit], fun j k' v' g hj => ?_⟩
  unfold cq_emit at hj
  by_cases h : j = C.length
  · subst h
    rw [List.getElem?_append_right (Nat.le_refl _), Nat.sub_self] at hj
    have hj' : (k, v, C.length) = (k', v', g) := by simpa using hj
    cases hj'
    exact ⟨pk_us, pk_us, pk_us, hC, hk⟩
  · have hlt : j < C.length := by
      have := cq_some_lt hj
      simp at this
      omega
    rw [List.getElem?_append_left hlt] at hj
    rw [pk_un h, pk_un h, pk_un h]
    exact hc.2 j k' v' g hj
theorem cq_code_patch {o a t : Nat → Int32} {sz : Int32} {C C' : List (Nat × Int32 × Nat)} {p : Nat} (hc : cq_code sz o a t C) (hC : C.length < 400) (h : cq_patch C p = some C') :
    p < C.length ∧ C'.length = C.length ∧ cq_code sz o a (upd t p (nI C.length)) C' := by
  unfold cq_patch at h
  split at h
  · cases h
  · rename_i e he
    have hlt := cq_some_lt he
    have h' := Option.some.inj h
    subst h'
    refine ⟨hlt, by simp, by simp; exact hc.1, fun j k v g hj => ?_⟩
    by_cases hp : j = p
    · subst hp
      rw [List.getElem?_set_self hlt] at hj
      have hj' : (e.1, e.2.1, C.length) = (k, v, g) := by simpa using hj
      cases hj'
      obtain ⟨h1, h2, h3, h4, h5⟩ := hc.2 j e.1 e.2.1 e.2.2 he
      exact ⟨h1, h2, pk_us, hC, h5⟩
    · rw [List.getElem?_set_ne (fun z => hp z.symm)] at hj
      rw [pk_un hp]
      exact hc.2 j k v g hj
theorem cq_emit_ok {post : Int32 → St2 → Prop} {tm ac rn wc sz dp lo ex hgt al ov : Int32} {a1 a2 a3 a4 a5 a6 a7 a8 a9 a10 a11 a12 a13 a14 a15 a16 a17 a18 a19 a20 a21 a22 a23 a24 a25 a26 a27 : Nat → Int32} {C : List (Nat × Int32 × Nat)} {op ar : Int32} (k : Nat) (v : Int32) (hc : cq_code sz a15 a16 a17 C) (hC : C.length < 400) (ho : op = cq_op k v) (ha : ar = cq_arg k v) (hk : k < 21 → cq_tk k v)
    (H : ∀ s o a t, cq_code s o a t (cq_emit C k v) → post (nI C.length) (tm, ac, rn, wc, s, dp, lo, ex, hgt, al, ov, a1, a2, a3, a4, a5, a6, a7, a8, a9, a10, a11, a12, a13, a14, o, a, t, a18, a19, a20, a21, a22, a23, a24, a25, a26, a27)) : wpX_emit post (tm, ac, rn, wc, sz, dp, lo, ex, hgt, al, ov, a1, a2, a3, a4, a5, a6, a7, a8, a9, a10, a11, a12, a13, a14, a15, a16, a17, a18, a19, a20, a21, a22, a23, a24, a25, a26, a27) op ar := by
  have e := hc.1
  subst e ho ha
  refine pk_le 400 C.length (fun z => absurd z (by omega)) (fun _ => ?_)
  rw [nI_clamp (by omega)]
  refine And.intro (cq_vi hC) (nm_e (And.intro (cq_vi hC) (nm_e (And.intro (cq_vi hC) (nm_e (nm_r (nI_1 _) ?_))))))
  rw [nI_pred]
  exact H _ _ _ _ (cq_code_emit hc hC hk)
theorem cq_emit_2_ok {post : Int32 → St2 → Prop} {tm ac rn wc sz dp lo ex hgt al ov : Int32} {a1 a2 a3 a4 a5 a6 a7 a8 a9 a10 a11 a12 a13 a14 a15 a16 a17 a18 a19 a20 a21 a22 a23 a24 a25 a26 a27 : Nat → Int32} {C : List (Nat × Int32 × Nat)} {op ar : Int32} (k : Nat) (v : Int32) (hc : cq_code sz a15 a16 a17 C) (hC : C.length < 400) (ho : op = cq_op k v) (ha : ar = cq_arg k v) (hk : k < 21 → cq_tk k v)
    (H : ∀ s o a t, cq_code s o a t (cq_emit C k v) → post (nI C.length) (tm, ac, rn, wc, s, dp, lo, ex, hgt, al, ov, a1, a2, a3, a4, a5, a6, a7, a8, a9, a10, a11, a12, a13, a14, o, a, t, a18, a19, a20, a21, a22, a23, a24, a25, a26, a27)) : wpX_emit_2 post (tm, ac, rn, wc, sz, dp, lo, ex, hgt, al, ov, a1, a2, a3, a4, a5, a6, a7, a8, a9, a10, a11, a12, a13, a14, a15, a16, a17, a18, a19, a20, a21, a22, a23, a24, a25, a26, a27) op ar := by
  have e := hc.1
  subst e ho ha
  refine pk_le 400 C.length (fun z => absurd z (by omega)) (fun _ => ?_)
  rw [nI_clamp (by omega)]
  refine And.intro (cq_vi hC) (nm_e (And.intro (cq_vi hC) (nm_e (And.intro (cq_vi hC) (nm_e (nm_r (nI_1 _) ?_))))))
  rw [nI_pred]
  exact H _ _ _ _ (cq_code_emit hc hC hk)
theorem cq_emit_3_ok {post : Int32 → St2 → Prop} {tm ac rn wc sz dp lo ex hgt al ov : Int32} {a1 a2 a3 a4 a5 a6 a7 a8 a9 a10 a11 a12 a13 a14 a15 a16 a17 a18 a19 a20 a21 a22 a23 a24 a25 a26 a27 : Nat → Int32} {C : List (Nat × Int32 × Nat)} {op ar : Int32} (k : Nat) (v : Int32) (hc : cq_code sz a15 a16 a17 C) (hC : C.length < 400) (ho : op = cq_op k v) (ha : ar = cq_arg k v) (hk : k < 21 → cq_tk k v)
    (H : ∀ s o a t, cq_code s o a t (cq_emit C k v) → post (nI C.length) (tm, ac, rn, wc, s, dp, lo, ex, hgt, al, ov, a1, a2, a3, a4, a5, a6, a7, a8, a9, a10, a11, a12, a13, a14, o, a, t, a18, a19, a20, a21, a22, a23, a24, a25, a26, a27)) : wpX_emit_3 post (tm, ac, rn, wc, sz, dp, lo, ex, hgt, al, ov, a1, a2, a3, a4, a5, a6, a7, a8, a9, a10, a11, a12, a13, a14, a15, a16, a17, a18, a19, a20, a21, a22, a23, a24, a25, a26, a27) op ar := by
  have e := hc.1
  subst e ho ha
  refine pk_le 400 C.length (fun z => absurd z (by omega)) (fun _ => ?_)
  rw [nI_clamp (by omega)]
  refine And.intro (cq_vi hC) (nm_e (And.intro (cq_vi hC) (nm_e (And.intro (cq_vi hC) (nm_e (nm_r (nI_1 _) ?_))))))
  rw [nI_pred]
  exact H _ _ _ _ (cq_code_emit hc hC hk)
theorem cq_patch_ok {post : St2 → Prop} {tm ac rn wc sz dp lo ex hgt al ov : Int32} {a1 a2 a3 a4 a5 a6 a7 a8 a9 a10 a11 a12 a13 a14 a15 a16 a17 a18 a19 a20 a21 a22 a23 a24 a25 a26 a27 : Nat → Int32} {C C' : List (Nat × Int32 × Nat)} {p : Nat} {x : Int32} (hc : cq_code sz a15 a16 a17 C) (hC : C.length < 400) (hx : x = nI p) (h : cq_patch C p = some C')
    (H : ∀ t, cq_code sz a15 a16 t C' → post (tm, ac, rn, wc, sz, dp, lo, ex, hgt, al, ov, a1, a2, a3, a4, a5, a6, a7, a8, a9, a10, a11, a12, a13, a14, a15, a16, t, a18, a19, a20, a21, a22, a23, a24, a25, a26, a27)) : wpX_patch post (tm, ac, rn, wc, sz, dp, lo, ex, hgt, al, ov, a1, a2, a3, a4, a5, a6, a7, a8, a9, a10, a11, a12, a13, a14, a15, a16, a17, a18, a19, a20, a21, a22, a23, a24, a25, a26, a27) x := by
  obtain ⟨h1, h2, h3⟩ := cq_code_patch hc hC h
  subst hx
  refine And.intro (pk_in p 400 (by omega)) (nm_r ?_ (H _ h3))
  rw [nI_clamp (by omega), hc.1]
/-- the tokens that are open: (where, phase, two patches), the top ahead -/
def cq_frs (oa ph p q : Nat → Int32) : List (Nat × Nat × Option Nat × Option Nat) → Prop
  | [] => True
  | (i, h, x, y) :: F => oa F.length = nI i ∧ ph F.length = nI h ∧ (∀ r, x = some r → p F.length = nI r) ∧ (∀ r, y = some r → q F.length = nI r) ∧ cq_frs oa ph p q F
theorem cq_frs_c {oa ph p q oa' ph' p' q' : Nat → Int32} : ∀ {F : List (Nat × Nat × Option Nat × Option Nat)}, (∀ j, j < F.length → oa' j = oa j ∧ ph' j = ph j ∧ p' j = p j ∧ q' j = q j) → cq_frs oa ph p q F → cq_frs oa' ph' p' q' F
  | [], _, _ => trivial
  | (i, h, x, y) :: F, e, hf => by
    obtain ⟨e1, e2, e3, e4⟩ := e F.length (by simp)
    obtain ⟨h1, h2, h3, h4, h5⟩ := hf
    exact ⟨by rw [e1]; exact h1, by rw [e2]; exact h2, fun r hr => by rw [e3]; exact h3 r hr, fun r hr => by rw [e4]; exact h4 r hr, cq_frs_c (fun j hj => e j (by simp; omega)) h5⟩
def cq_frm (d : Int32) (oa ph p q : Nat → Int32) (F : List (Nat × Nat × Option Nat × Option Nat)) : Prop := d = nI F.length ∧ cq_frs oa ph p q F
theorem cq_enter_ok {post : St2 → Prop} {tm ac rn wc sz dp lo ex hgt al ov : Int32} {a1 a2 a3 a4 a5 a6 a7 a8 a9 a10 a11 a12 a13 a14 a15 a16 a17 a18 a19 a20 a21 a22 a23 a24 a25 a26 a27 : Nat → Int32} {F : List (Nat × Nat × Option Nat × Option Nat)} {i : Nat} (hf : cq_frm dp a18 a19 a20 a21 F) (hF : F.length < 64)
    (H : ∀ d oa ph, cq_frm d oa ph a20 a21 ((i, 0, none, none) :: F) → post (tm, ac, rn, wc, sz, d, lo, ex, hgt, al, ov, a1, a2, a3, a4, a5, a6, a7, a8, a9, a10, a11, a12, a13, a14, a15, a16, a17, oa, ph, a20, a21, a22, a23, a24, a25, a26, a27)) : wpX_enter post (tm, ac, rn, wc, sz, dp, lo, ex, hgt, al, ov, a1, a2, a3, a4, a5, a6, a7, a8, a9, a10, a11, a12, a13, a14, a15, a16, a17, a18, a19, a20, a21, a22, a23, a24, a25, a26, a27) (nI i) := by
  obtain ⟨e, hf⟩ := hf
  subst e
  refine And.intro (cq_vi hF) (nm_e (And.intro (cq_vi hF) (nm_e (nm_r (nI_1 _) ?_))))
  rw [nI_clamp (by omega)]
  refine H _ _ _ ⟨rfl, pk_us, pk_us, fun r hr => absurd hr (by simp), fun r hr => absurd hr (by simp), cq_frs_c (fun j hj => ?_) hf⟩
  exact ⟨pk_un (by omega), pk_un (by omega), rfl, rfl⟩
/-! what is known -/
def cq_nk (n : Nat) (C : List (Nat × Int32 × Nat)) : Bool := (List.range n).any (fun j => match C[C.length - 1 - j]? with
  | some e => decide (j < C.length) && (e.1 != 21)
  | none => false)
theorem cq_nk_e {n : Nat} {C : List (Nat × Int32 × Nat)} (h : cq_nk n C = true) : ∃ j e, j < n ∧ j < C.length ∧ C[C.length - 1 - j]? = some e ∧ e.1 ≠ 21 := by
  unfold cq_nk at h
  rw [List.any_eq_true] at h
  obtain ⟨j, hj, h⟩ := h
  split at h
  · rename_i e he
    simp at h hj
    exact ⟨j, e, hj, h.1, he, h.2⟩
  · cases h
theorem cq_known_no {post : Int32 → Prop} {tm ac rn wc sz dp lo ex hgt al ov : Int32} {a1 a2 a3 a4 a5 a6 a7 a8 a9 a10 a11 a12 a13 a14 a15 a16 a17 a18 a19 a20 a21 a22 a23 a24 a25 a26 a27 : Nat → Int32} {L n j : Nat} (hsz : sz = nI L) (hL : L < 400) (hn : n < 9) (hj : 1 ≤ j) (hjn : j ≤ n) (hjL : j ≤ L) (hne : ¬ a15 (L - j) = 300) (H : post 0) : wpX_isKnown post (tm, ac, rn, wc, sz, dp, lo, ex, hgt, al, ov, a1, a2, a3, a4, a5, a6, a7, a8, a9, a10, a11, a12, a13, a14, a15, a16, a17, a18, a19, a20, a21, a22, a23, a24, a25, a26, a27) (nI n) := by
  subst hsz
  have key : ∀ (k x : Nat), x + k = j → 1 ≤ x → wX_isKnown_2 post (nI n) tm ac rn wc (nI L) dp lo ex hgt al ov a1 a2 a3 a4 a5 a6 a7 a8 a9 a10 a11 a12 a13 a14 a15 a16 a17 a18 a19 a20 a21 a22 a23 a24 a25 a26 a27 (k + 1) (nI x) := by
    intro k
    induction k with
    | zero =>
      intro x hx h1
      have e : x = j := by omega
      subst e
      refine pk_lt n x (fun z => absurd z (by omega)) (fun _ => ?_)
      rw [pk_sub hjL, nI_clamp (by omega)]
      exact br_f (nI_pos (by omega)) (And.intro (cq_vi (by omega)) (br_f hne H))
    | succ k ih =>
      intro x hx h1
      refine pk_lt n x (fun z => absurd z (by omega)) (fun _ => ?_)
      rw [pk_sub (show x ≤ L by omega), nI_clamp (by omega)]
      exact br_f (nI_pos (by omega)) (And.intro (cq_vi (by omega)) (br_c (fun _ => nm_r (nI_1 x) (ih (x + 1) (by omega) (by omega))) (fun _ => H)))
  exact Exists.intro _ (key (j - 1) 1 (by omega) (by omega))
theorem cq_known_0 {post : Int32 → Prop} {tm ac rn wc sz dp lo ex hgt al ov : Int32} {a1 a2 a3 a4 a5 a6 a7 a8 a9 a10 a11 a12 a13 a14 a15 a16 a17 a18 a19 a20 a21 a22 a23 a24 a25 a26 a27 : Nat → Int32} (H : post 0) : wpX_isKnown post (tm, ac, rn, wc, sz, dp, lo, ex, hgt, al, ov, a1, a2, a3, a4, a5, a6, a7, a8, a9, a10, a11, a12, a13, a14, a15, a16, a17, a18, a19, a20, a21, a22, a23, a24, a25, a26, a27) (nI 0) :=
  Exists.intro 1 (pk_lt 0 1 (fun _ => pk_le 0 0 (fun _ => H) (fun z => absurd z (by omega))) (fun z => absurd z (by omega)))
theorem cq_known_1 {post : Int32 → Prop} {tm ac rn wc sz dp lo ex hgt al ov : Int32} {a1 a2 a3 a4 a5 a6 a7 a8 a9 a10 a11 a12 a13 a14 a15 a16 a17 a18 a19 a20 a21 a22 a23 a24 a25 a26 a27 : Nat → Int32} {L : Nat} (hsz : sz = nI L) (hL : L < 400) (h1 : 1 ≤ L) (H : ∀ r, post r) : wpX_isKnown post (tm, ac, rn, wc, sz, dp, lo, ex, hgt, al, ov, a1, a2, a3, a4, a5, a6, a7, a8, a9, a10, a11, a12, a13, a14, a15, a16, a17, a18, a19, a20, a21, a22, a23, a24, a25, a26, a27) (nI 1) := by
  subst hsz
  refine Exists.intro 2 (pk_lt 1 1 (fun z => absurd z (by omega)) (fun _ => ?_))
  have e : nI L - 1 = nI (L - 1) := by
    have := pk_sub h1
    exact this
  rw [e]
  refine br_f (nI_pos (by omega)) (And.intro (cq_vi (by omega)) (br_c (fun _ => nm_e ?_) (fun _ => H 0)))
  exact pk_lt 1 2 (fun _ => pk_le 1 0 (fun z => absurd z (by omega)) (fun _ => H 1)) (fun z => absurd z (by omega))
end
section
/-! expressions and statements -/
theorem cq_t_num : ∀ n, n < 291 → cq_cls n ≠ 99 → cq_in (nI n) 210 81 = if cq_cls n = 1 then 1 else 0 := by decide +kernel
theorem cq_t_cell : ∀ n, n < 291 → cq_cls n = 5 → nI n < 130 := by decide +kernel
theorem cq_t_st : ∀ n, n < 291 → cq_cls n = 7 ∨ cq_cls n = 8 → cq_in (nI n) 40 16 = 0 ∧ ¬ nI n = 35 ∧ ¬ nI n = 56 ∧ ¬ nI n = 36 ∧ ¬ nI n = 37 ∧ ¬ nI n = 39 ∧ ¬ nI n = 1 ∧ ¬ nI n = 2 := by decide +kernel
theorem cq_t_6 : ∀ n, n < 291 → cq_cls n = 6 → nI n = 1 := by decide +kernel
theorem cq_t_9 : ∀ n, n < 291 → cq_cls n = 9 → nI n = 35 := by decide +kernel
theorem cq_t_10 : ∀ n, n < 291 → cq_cls n = 10 → nI n = 56 := by decide +kernel
theorem cq_t_11 : ∀ n, n < 291 → cq_cls n = 11 → nI n = 2 := by decide +kernel
theorem cq_num_k {c : Nat} {t : Int32} (h : cq_tk c t) : cq_in t 210 81 = if c = 1 then 1 else 0 := by
  obtain ⟨n, hn, rfl, hc, rfl⟩ := h
  exact cq_t_num n hn hc
def cq_eact (c : Nat) (v : Int32) (h : Nat) (C : List (Nat × Int32 × Nat)) : Option (List (Nat × Int32 × Nat)) :=
  if h < (cq_prt c).length then some C else if c = 1 then some (cq_emit C 21 (v - 250)) else if c = 0 ∨ (c = 5 ∧ 1 ≤ C.length) ∨ cq_nk (cq_prt c).length C = true then some (cq_emit C c v) else none
theorem cq_expression_ok {post : St2 → Prop} {tm ac rn wc sz dp lo ex hgt al ov : Int32} {a1 a2 a3 a4 a5 a6 a7 a8 a9 a10 a11 a12 a13 a14 a15 a16 a17 a18 a19 a20 a21 a22 a23 a24 a25 a26 a27 : Nat → Int32} {C C' : List (Nat × Int32 × Nat)} {c h : Nat} {v : Int32} (hk : cq_tk c v) (h5 : c ≤ 5) (hc : cq_code sz a15 a16 a17 C) (hC : C.length < 400) (hh : h < 9) (hact : cq_eact c v h C = some C')
    (H : ∀ s o a t, cq_code s o a t C' → post (tm, ac, rn, wc, s, dp, lo, ex, hgt, al, ov, a1, a2, a3, a4, a5, a6, a7, a8, a9, a10, a11, a12, a13, a14, o, a, t, a18, a19, a20, a21, a22, a23, a24, a25, a26, a27)) : wpX_expression post (tm, ac, rn, wc, sz, dp, lo, ex, hgt, al, ov, a1, a2, a3, a4, a5, a6, a7, a8, a9, a10, a11, a12, a13, a14, a15, a16, a17, a18, a19, a20, a21, a22, a23, a24, a25, a26, a27) v (nI h) (nI (cq_prt c).length) := by
  have hq := cq_len_k hk
  have h87 : some (cq_emit C c v) = some C' → wX_expression_87 post v tm ac rn wc sz dp lo ex hgt al ov a1 a2 a3 a4 a5 a6 a7 a8 a9 a10 a11 a12 a13 a14 a15 a16 a17 a18 a19 a20 a21 a22 a23 a24 a25 a26 a27 := fun e => by
    refine cq_emit_ok c v hc hC ?_ ?_ (fun _ => hk) (fun s o a t hc' => H s o a t ?_)
    · unfold cq_op
      rw [if_pos (by omega)]
    · unfold cq_arg
      rw [if_pos (by omega)]
    · rw [← Option.some.inj e]
      exact hc'
  unfold cq_eact at hact
  refine pk_le (cq_prt c).length h (fun z => ?_) (fun z => ?_)
  · rw [if_neg (by omega)] at hact
    refine cq_in_w ?_
    rw [cq_num_k hk]
    by_cases h1 : c = 1
    · rw [if_pos h1] at hact
      rw [if_pos h1]
      refine br_f (by decide) (cq_emit_ok 21 (v - 250) hc hC rfl rfl (fun z => absurd z (by omega)) (fun s o a t hc' => H s o a t ?_))
      rw [← Option.some.inj hact]
      exact hc'
    · rw [if_neg h1] at hact
      rw [if_neg h1]
      refine br_t rfl ?_
      split at hact
      · rename_i hx
        rcases hx with h0 | ⟨h0, hl⟩ | hn
        · subst h0
          exact cq_known_0 (br_t rfl (h87 hact))
        · subst h0
          obtain ⟨n, hn, hc5, _, rfl⟩ := hk
          exact cq_known_1 hc.1 hC hl (fun r => br_c (fun _ => h87 hact) (fun _ => br_t (cq_t_cell n hn hc5) (h87 hact)))
        · obtain ⟨j, e, h1, h2, h3, h4⟩ := cq_nk_e hn
          obtain ⟨g1, _, _, _, g5⟩ := hc.2 _ e.1 e.2.1 e.2.2 h3
          refine cq_known_no (j := j + 1) hc.1 hC (by omega) (by omega) (by omega) (by omega) ?_ (br_t rfl (h87 hact))
          rw [show C.length - (j + 1) = C.length - 1 - j by omega, g1]
          exact cq_op_ne g5 h4
      · cases hact
  · rw [if_pos z] at hact
    exact H sz a15 a16 a17 (by rw [← Option.some.inj hact]; exact hc)
def cq_lnp (C : List (Nat × Int32 × Nat)) : Bool := match C[C.length - 1]? with
  | some e => e.1 != 21
  | none => false
def cq_if : Nat → Option Nat → Option Nat → List (Nat × Int32 × Nat) → Option (List (Nat × Int32 × Nat) × Option Nat × Option Nat)
  | 0, _, y, C => some (C, none, y)
  | 1, _, y, C => if cq_lnp C = true then some (cq_emit C 23 0, some C.length, y) else none
  | 2, some p, y, C => match cq_patch (cq_emit C 22 0) p with
    | none => none
    | some C1 => some (C1, some C.length, y)
  | 3, some p, y, C => match cq_patch C p with
    | none => none
    | some C1 => some (C1, some p, y)
  | _, _, _, _ => none
def cq_cs : Nat → Option Nat → Option Nat → List (Nat × Int32 × Nat) → Option (List (Nat × Int32 × Nat) × Option Nat × Option Nat)
  | 0, x, y, C => some (C, x, y)
  | 1, _, _, C => some (cq_emit C 24 0, some C.length, none)
  | 2, some p, _, C => match cq_patch (cq_emit C 22 0) p with
    | none => none
    | some C1 => some (cq_emit C1 24 1, some C1.length, some C.length)
  | 3, some p, y, C => match cq_patch (cq_emit C 22 0) p with
    | none => none
    | some C1 => some (cq_emit C1 25 0, some C.length, y)
  | 4, some p, some q, C => match cq_patch C p with
    | none => none
    | some C1 => match cq_patch C1 q with
      | none => none
      | some C2 => some (C2, some p, some q)
  | _, _, _, _ => none
def cq_sact (c : Nat) (v : Int32) (h : Nat) (x y : Option Nat) (C : List (Nat × Int32 × Nat)) : Option (List (Nat × Int32 × Nat) × Option Nat × Option Nat) :=
  if c = 6 ∨ c = 11 then some (C, x, y) else if c = 7 ∨ c = 8 then some (if h = (cq_prt c).length then cq_emit C c v else C, x, y) else if c = 9 then cq_if h x y C else if c = 10 then cq_cs h x y C else none
def cq_top (p q p' q' : Nat → Int32) (k : Nat) (x y : Option Nat) : Prop := (∀ j, j < k → p' j = p j ∧ q' j = q j) ∧ (∀ r, x = some r → p' k = nI r) ∧ (∀ r, y = some r → q' k = nI r)
theorem cq_emit_len (C : List (Nat × Int32 × Nat)) (k : Nat) (v : Int32) : (cq_emit C k v).length = C.length + 1 := by simp [cq_emit]
theorem cq_patch_len {C C' : List (Nat × Int32 × Nat)} {p : Nat} (h : cq_patch C p = some C') : C'.length = C.length := by
  unfold cq_patch at h
  split at h
  · cases h
  · rw [← Option.some.inj h]
    simp
theorem cq_3 {α β γ : Type} {a a' : α} {b b' : β} {c c' : γ} (h : some (a, b, c) = some (a', b', c')) : a = a' ∧ b = b' ∧ c = c' := by
  cases h
  exact ⟨rfl, rfl, rfl⟩
theorem cq_choice_ok {post : St2 → Prop} {tm ac rn wc sz dp lo ex hgt al ov : Int32} {a1 a2 a3 a4 a5 a6 a7 a8 a9 a10 a11 a12 a13 a14 a15 a16 a17 a18 a19 a20 a21 a22 a23 a24 a25 a26 a27 : Nat → Int32} {C C' : List (Nat × Int32 × Nat)} {h k : Nat} {x y x' y' : Option Nat} {p0 : Int32} (hc : cq_code sz a15 a16 a17 C) (hC : C.length < 390) (hk : k < 64)
    (hx : ∀ r, x = some r → a20 k = nI r) (hy : ∀ r, y = some r → a21 k = nI r) (hact : cq_if h x y C = some (C', x', y'))
    (H : ∀ s o a t p q, cq_code s o a t C' → cq_top a20 a21 p q k x' y' → post (tm, ac, rn, wc, s, dp, lo, ex, hgt, al, ov, a1, a2, a3, a4, a5, a6, a7, a8, a9, a10, a11, a12, a13, a14, o, a, t, a18, a19, p, q, a22, a23, a24, a25, a26, a27)) : wpX_choice post (tm, ac, rn, wc, sz, dp, lo, ex, hgt, al, ov, a1, a2, a3, a4, a5, a6, a7, a8, a9, a10, a11, a12, a13, a14, a15, a16, a17, a18, a19, a20, a21, a22, a23, a24, a25, a26, a27) p0 (nI h) (nI k) := by
  have hkk : (nI k).toNatClampNeg = k := nI_clamp (by omega)
  have hik : vp_in (nI k) 64 := pk_in k 64 hk
  unfold cq_if at hact
  split at hact
  · obtain ⟨rfl, rfl, rfl⟩ := cq_3 hact
    refine br_f (by decide) (br_t rfl (And.intro hik (nm_r (by rw [hkk]) (H _ _ _ _ _ _ hc ⟨fun j hj => ⟨pk_un (by omega), rfl⟩, fun r hr => absurd hr (by simp), hy⟩))))
  · split at hact
    · rename_i hl
      obtain ⟨rfl, rfl, rfl⟩ := cq_3 hact
      unfold cq_lnp at hl
      split at hl
      · rename_i e he
        have hlt := cq_some_lt he
        obtain ⟨g1, _, _, _, g5⟩ := hc.2 _ e.1 e.2.1 e.2.2 he
        have hne : ¬ a15 (C.length - 1) = 300 := by
          rw [g1]
          exact cq_op_ne g5 (by simpa using hl)
        have es : sz - 1 = nI (C.length - 1) := by
          rw [hc.1]
          exact pk_sub (b := 1) (by omega)
        refine br_t rfl ?_
        rw [es, nI_clamp (show C.length - 1 < 2 ^ 31 by omega)]
        refine And.intro (cq_vi (by omega)) (br_f hne (br_f (by decide) (br_t rfl (cq_emit_2_ok 23 0 hc (by omega) rfl rfl (fun z => absurd z (by omega)) (fun s o a t hc' => ?_)))))
        exact And.intro hik (nm_r (by rw [hkk]) (H _ _ _ _ _ _ hc' ⟨fun j hj => ⟨pk_un (by omega), rfl⟩, fun r hr => by rw [← Option.some.inj hr]; exact pk_us, hy⟩))
      · cases hl
    · cases hact
  · skip
    split at hact
    · cases hact
    · rename_i C1 hp
      obtain ⟨rfl, rfl, rfl⟩ := cq_3 hact
      refine br_f (by decide) (br_f (by decide) (br_f (by decide) (br_t rfl (cq_emit_ok 22 0 hc (by omega) rfl rfl (fun z => absurd z (by omega)) (fun s o a t hc' => ?_)))))
      refine And.intro hik (cq_patch_ok hc' (by rw [cq_emit_len]; omega) (by rw [hkk]; exact hx _ rfl) hp (fun t' hc'' => ?_))
      exact And.intro hik (nm_r (by rw [hkk]) (H _ _ _ _ _ _ hc'' ⟨fun j hj => ⟨pk_un (by omega), rfl⟩, fun r hr => by rw [← Option.some.inj hr]; exact pk_us, hy⟩))
  · skip
    split at hact
    · cases hact
    · rename_i C1 hp
      obtain ⟨rfl, rfl, rfl⟩ := cq_3 hact
      refine br_f (by decide) (br_f (by decide) (br_f (by decide) (br_f (by decide) (br_t rfl (And.intro hik (cq_patch_ok hc (by omega) (by rw [hkk]; exact hx _ rfl) hp (fun t' hc'' => ?_)))))))
      exact H _ _ _ _ _ _ hc'' ⟨fun j hj => ⟨rfl, rfl⟩, hx, hy⟩
  · cases hact
theorem cq_cases_ok {post : St2 → Prop} {tm ac rn wc sz dp lo ex hgt al ov : Int32} {a1 a2 a3 a4 a5 a6 a7 a8 a9 a10 a11 a12 a13 a14 a15 a16 a17 a18 a19 a20 a21 a22 a23 a24 a25 a26 a27 : Nat → Int32} {C C' : List (Nat × Int32 × Nat)} {h k : Nat} {x y x' y' : Option Nat} (hc : cq_code sz a15 a16 a17 C) (hC : C.length < 390) (hk : k < 64)
    (hx : ∀ r, x = some r → a20 k = nI r) (hy : ∀ r, y = some r → a21 k = nI r) (hact : cq_cs h x y C = some (C', x', y'))
    (H : ∀ s o a t p q, cq_code s o a t C' → cq_top a20 a21 p q k x' y' → post (tm, ac, rn, wc, s, dp, lo, ex, hgt, al, ov, a1, a2, a3, a4, a5, a6, a7, a8, a9, a10, a11, a12, a13, a14, o, a, t, a18, a19, p, q, a22, a23, a24, a25, a26, a27)) : wpX_cases post (tm, ac, rn, wc, sz, dp, lo, ex, hgt, al, ov, a1, a2, a3, a4, a5, a6, a7, a8, a9, a10, a11, a12, a13, a14, a15, a16, a17, a18, a19, a20, a21, a22, a23, a24, a25, a26, a27) (nI h) (nI k) := by
  have hkk : (nI k).toNatClampNeg = k := nI_clamp (by omega)
  have hik : vp_in (nI k) 64 := pk_in k 64 hk
  unfold cq_cs at hact
  split at hact
  · obtain ⟨rfl, rfl, rfl⟩ := cq_3 hact
    exact br_f (by decide) (br_f (by decide) (br_f (by decide) (br_f (by decide) (H _ _ _ _ _ _ hc ⟨fun j hj => ⟨rfl, rfl⟩, hx, hy⟩))))
  · obtain ⟨rfl, rfl, rfl⟩ := cq_3 hact
    refine br_t rfl (cq_emit_2_ok 24 0 hc (by omega) rfl rfl (fun z => absurd z (by omega)) (fun s o a t hc' => ?_))
    exact And.intro hik (nm_r (by rw [hkk]) (And.intro hik (nm_r (by rw [hkk]) (H _ _ _ _ _ _ hc' ⟨fun j hj => ⟨pk_un (by omega), pk_un (by omega)⟩, fun r hr => by rw [← Option.some.inj hr]; exact pk_us, fun r hr => absurd hr (by simp)⟩))))
  · skip
    split at hact
    · cases hact
    · rename_i C1 hp
      obtain ⟨rfl, rfl, rfl⟩ := cq_3 hact
      have hl := cq_patch_len hp
      rw [cq_emit_len] at hl
      refine br_f (by decide) (br_t rfl (cq_emit_3_ok 22 0 hc (by omega) rfl rfl (fun z => absurd z (by omega)) (fun s o a t hc' => ?_)))
      refine And.intro hik (nm_r (by rw [hkk]) (And.intro hik (cq_patch_ok hc' (by rw [cq_emit_len]; omega) (by rw [hkk]; exact hx _ rfl) hp (fun t' hc'' => ?_))))
      refine cq_emit_2_ok 24 1 hc'' (by omega) rfl rfl (fun z => absurd z (by omega)) (fun s o a t hc3 => ?_)
      exact And.intro hik (nm_r (by rw [hkk]) (H _ _ _ _ _ _ hc3 ⟨fun j hj => ⟨pk_un (by omega), pk_un (by omega)⟩, fun r hr => by rw [← Option.some.inj hr]; exact pk_us, fun r hr => by rw [← Option.some.inj hr]; exact pk_us⟩))
  · skip
    split at hact
    · cases hact
    · rename_i C1 hp
      obtain ⟨rfl, rfl, rfl⟩ := cq_3 hact
      have hl := cq_patch_len hp
      rw [cq_emit_len] at hl
      refine br_f (by decide) (br_f (by decide) (br_t rfl (cq_emit_ok 22 0 hc (by omega) rfl rfl (fun z => absurd z (by omega)) (fun s o a t hc' => ?_))))
      refine And.intro hik (cq_patch_ok hc' (by rw [cq_emit_len]; omega) (by rw [hkk]; exact hx _ rfl) hp (fun t' hc'' => ?_))
      refine cq_emit_ok 25 0 hc'' (by omega) rfl rfl (fun z => absurd z (by omega)) (fun s o a t hc3 => ?_)
      exact And.intro hik (nm_r (by rw [hkk]) (H _ _ _ _ _ _ hc3 ⟨fun j hj => ⟨pk_un (by omega), rfl⟩, fun r hr => by rw [← Option.some.inj hr]; exact pk_us, hy⟩))
  · skip
    split at hact
    · cases hact
    · rename_i C1 hp
      split at hact
      · cases hact
      · rename_i C2 hp2
        obtain ⟨rfl, rfl, rfl⟩ := cq_3 hact
        have hl := cq_patch_len hp
        refine br_f (by decide) (br_f (by decide) (br_f (by decide) (br_t rfl (And.intro hik (cq_patch_ok hc (by omega) (by rw [hkk]; exact hx _ rfl) hp (fun t' hc'' => ?_))))))
        refine And.intro hik (cq_patch_ok hc'' (by omega) (by rw [hkk]; exact hy _ rfl) hp2 (fun t' hc3 => ?_))
        exact H _ _ _ _ _ _ hc3 ⟨fun j hj => ⟨rfl, rfl⟩, hx, hy⟩
  · cases hact
theorem cq_statement_ok {post : St2 → Prop} {tm ac rn wc sz dp lo ex hgt al ov : Int32} {a1 a2 a3 a4 a5 a6 a7 a8 a9 a10 a11 a12 a13 a14 a15 a16 a17 a18 a19 a20 a21 a22 a23 a24 a25 a26 a27 : Nat → Int32} {C C' : List (Nat × Int32 × Nat)} {c h k : Nat} {x y x' y' : Option Nat} {p0 v : Int32} (hv : cq_tk c v) (hc : cq_code sz a15 a16 a17 C) (hC : C.length < 390) (hk : k < 64) (hh : h < 9)
    (hx : ∀ r, x = some r → a20 k = nI r) (hy : ∀ r, y = some r → a21 k = nI r) (hact : cq_sact c v h x y C = some (C', x', y'))
    (H : ∀ s o a t p q, cq_code s o a t C' → cq_top a20 a21 p q k x' y' → post (tm, ac, rn, wc, s, dp, lo, ex, hgt, al, ov, a1, a2, a3, a4, a5, a6, a7, a8, a9, a10, a11, a12, a13, a14, o, a, t, a18, a19, p, q, a22, a23, a24, a25, a26, a27)) : wpX_statement post (tm, ac, rn, wc, sz, dp, lo, ex, hgt, al, ov, a1, a2, a3, a4, a5, a6, a7, a8, a9, a10, a11, a12, a13, a14, a15, a16, a17, a18, a19, a20, a21, a22, a23, a24, a25, a26, a27) p0 v (nI h) (nI k) := by
  have hq := cq_len_k hv
  unfold wpX_statement
  refine cq_parts_w ?_
  rw [cq_parts_k hv]
  obtain ⟨n, hn, hcl, _, rfl⟩ := hv
  unfold cq_sact at hact
  by_cases h1 : c = 6 ∨ c = 11
  · rw [if_pos h1] at hact
    obtain ⟨rfl, rfl, rfl⟩ := cq_3 hact
    have Hp : post (tm, ac, rn, wc, sz, dp, lo, ex, hgt, al, ov, a1, a2, a3, a4, a5, a6, a7, a8, a9, a10, a11, a12, a13, a14, a15, a16, a17, a18, a19, a20, a21, a22, a23, a24, a25, a26, a27) := H _ _ _ _ _ _ hc ⟨fun j hj => ⟨rfl, rfl⟩, hx, hy⟩
    rcases h1 with h1 | h1
    · rw [cq_t_6 n hn (by omega)]
      refine br_f (by decide) (br_f (by decide) (br_f (by decide) (br_f (by decide) (cq_in_w ?_))))
      exact br_t (by decide) (br_f (by decide) (br_t rfl Hp))
    · rw [cq_t_11 n hn (by omega)]
      refine br_f (by decide) (br_f (by decide) (br_f (by decide) (br_f (by decide) (cq_in_w ?_))))
      exact br_t (by decide) (br_f (by decide) (br_f (by decide) (br_t rfl Hp)))
  · rw [if_neg h1] at hact
    by_cases h2 : c = 7 ∨ c = 8
    · rw [if_pos h2] at hact
      obtain ⟨e1, rfl, rfl⟩ := cq_3 hact
      obtain ⟨g0, g1, g2, g3, g4, g5, g6, g7⟩ := cq_t_st n hn (by rw [hcl]; exact h2)
      refine br_f g1 (br_f g2 (br_f g3 (br_f g4 (cq_in_w ?_))))
      rw [g0]
      refine br_t rfl (br_f g5 (br_f g6 (br_f g7 (pk_eq h (cq_prt c).length (fun z => ?_) (fun z => ?_)))))
      · rw [if_pos z] at e1
        refine cq_emit_ok c (nI n) hc (by omega) ?_ ?_ (fun _ => ⟨n, hn, hcl, by omega, rfl⟩) (fun s o a t hc' => ?_)
        · unfold cq_op
          rw [if_pos (by omega)]
        · unfold cq_arg
          rw [if_pos (by omega)]
        · exact H _ _ _ _ _ _ (by rw [← e1]; exact hc') ⟨fun j hj => ⟨rfl, rfl⟩, hx, hy⟩
      · rw [if_neg z] at e1
        subst e1
        exact H _ _ _ _ _ _ hc ⟨fun j hj => ⟨rfl, rfl⟩, hx, hy⟩
    · rw [if_neg h2] at hact
      by_cases h3 : c = 9
      · rw [if_pos h3] at hact
        rw [cq_t_9 n hn (by omega)]
        exact br_t rfl (cq_choice_ok hc hC hk hx hy hact H)
      · rw [if_neg h3] at hact
        by_cases h4 : c = 10
        · rw [if_pos h4] at hact
          rw [cq_t_10 n hn (by omega)]
          exact br_f (by decide) (br_t rfl (cq_cases_ok hc hC hk hx hy hact H))
        · rw [if_neg h4] at hact
          cases hact
end
section
/-! the loop that makes code -/
def cq_fin (S : List Nat) (n i h : Nat) (x y : Option Nat) (F : List (Nat × Nat × Option Nat × Option Nat)) : Option (List (Nat × Nat × Option Nat × Option Nat)) :=
  if h < n then (match cq_adv h (i + 1) S with
    | none => none
    | some r => some ((r, 0, none, none) :: (i, h + 1, x, y) :: F)) else some F
theorem cq_c110 {post : St2 → Prop} {J29 : Int32 → Int32 → Int32 → Int32 → Int32 → Int32 → Int32 → Int32 → Int32 → Int32 → Int32 → (Nat → Int32) → (Nat → Int32) → (Nat → Int32) → (Nat → Int32) → (Nat → Int32) → (Nat → Int32) → (Nat → Int32) → (Nat → Int32) → (Nat → Int32) → (Nat → Int32) → (Nat → Int32) → (Nat → Int32) → (Nat → Int32) → (Nat → Int32) → (Nat → Int32) → (Nat → Int32) → (Nat → Int32) → (Nat → Int32) → (Nat → Int32) → (Nat → Int32) → (Nat → Int32) → (Nat → Int32) → (Nat → Int32) → (Nat → Int32) → (Nat → Int32) → (Nat → Int32) → (Nat → Int32) → Prop} {tm ac rn wc sz dp lo ex hgt al ov : Int32} {a1 a2 a3 a4 a5 a6 a7 a8 a9 a10 a11 a12 a13 a14 a15 a16 a17 a18 a19 a20 a21 a22 a23 a24 a25 a26 a27 : Nat → Int32} {i h n : Nat} {S : List Nat} {x y : Option Nat} {F F' : List (Nat × Nat × Option Nat × Option Nat)} (hl : cq_lay a14 0 S) (hS : S.length ≤ 60) (hn : n < 9) (hh : h < 9) (hF : F.length < 60)
    (hf : cq_frm dp a18 a19 a20 a21 ((i, h + 1, x, y) :: F)) (hfin : cq_fin S n i h x y F = some F')
    (H : ∀ d oa ph, cq_frm d oa ph a20 a21 F' → J29 tm ac rn wc sz d lo ex hgt al ov a1 a2 a3 a4 a5 a6 a7 a8 a9 a10 a11 a12 a13 a14 a15 a16 a17 oa ph a20 a21 a22 a23 a24 a25 a26 a27) : wX_compile_110 post J29 (nI F.length) (nI i) (nI h) (nI n) tm ac rn wc sz dp lo ex hgt al ov a1 a2 a3 a4 a5 a6 a7 a8 a9 a10 a11 a12 a13 a14 a15 a16 a17 a18 a19 a20 a21 a22 a23 a24 a25 a26 a27 := by
  have e1 : dp = nI F.length + 1 := by rw [nI_1]; exact hf.1
  have e2 : dp - 1 = nI F.length := by rw [hf.1]; exact nI_pred F.length
  unfold cq_fin at hfin
  refine pk_le n h (fun z => ?_) (fun z => ?_)
  · rw [if_neg (by omega)] at hfin
    have hF' := Option.some.inj hfin
    subst hF'
    exact br_t e1 (nm_r e2 (H _ _ _ ⟨rfl, hf.2.2.2.2.2⟩))
  · rw [if_pos z] at hfin
    split at hfin
    · cases hfin
    · rename_i r hr
      have hF' := Option.some.inj hfin
      subst hF'
      exact br_t e1 (cq_part_ok hl hS hh hr (cq_enter_ok hf (by simp; omega) (fun d oa ph hf' => H d oa ph hf')))
def cq_step1 (T : List (Nat × Int32)) (S : List Nat) (C : List (Nat × Int32 × Nat)) (i h : Nat) (x y : Option Nat) (F : List (Nat × Nat × Option Nat × Option Nat)) : Option (List (Nat × Int32 × Nat) × List (Nat × Nat × Option Nat × Option Nat)) :=
  if 390 ≤ C.length ∨ 60 ≤ F.length ∨ 9 ≤ h then none else match T[i]? with
    | none => none
    | some e => if e.1 ≤ 5 then (match cq_eact e.1 e.2 h C with
        | none => none
        | some C' => match cq_fin S (cq_prt e.1).length i h x y F with
          | none => none
          | some F' => some (C', F')) else (match cq_sact e.1 e.2 h x y C with
        | none => none
        | some d => match cq_fin S (cq_prt e.1).length i h d.2.1 d.2.2 F with
          | none => none
          | some F' => some (d.1, F'))
def cq_step (T : List (Nat × Int32)) (S : List Nat) (C : List (Nat × Int32 × Nat)) : List (Nat × Nat × Option Nat × Option Nat) → Option (List (Nat × Int32 × Nat) × List (Nat × Nat × Option Nat × Option Nat))
  | [] => none
  | f :: F => cq_step1 T S C f.1 f.2.1 f.2.2.1 f.2.2.2 F
theorem cq_2 {α β : Type} {a a' : α} {b b' : β} (h : some (a, b) = some (a', b')) : a = a' ∧ b = b' := by
  cases h
  exact ⟨rfl, rfl⟩
theorem cq_step_ok {post : St2 → Prop} {n : Nat} {tm ac rn wc sz dp lo ex hgt al ov : Int32} {a1 a2 a3 a4 a5 a6 a7 a8 a9 a10 a11 a12 a13 a14 a15 a16 a17 a18 a19 a20 a21 a22 a23 a24 a25 a26 a27 : Nat → Int32} {p : Nat} {T : List (Nat × Int32)} {S : List Nat} {C C' : List (Nat × Int32 × Nat)} {F F' : List (Nat × Nat × Option Nat × Option Nat)} (hp : p < 2) (hac : ac = nI p) (hT : cq_toks p a11 a12 T) (hl : cq_lay a14 0 S) (hS : S.length ≤ 60)
    (hc : cq_code sz a15 a16 a17 C) (hf : cq_frm dp a18 a19 a20 a21 F) (hst : cq_step T S C F = some (C', F'))
    (H : ∀ s d o a t oa ph x y, cq_code s o a t C' → cq_frm d oa ph x y F' → wX_compile_29 post n tm ac rn wc s d lo ex hgt al ov a1 a2 a3 a4 a5 a6 a7 a8 a9 a10 a11 a12 a13 a14 o a t oa ph x y a22 a23 a24 a25 a26 a27) : wX_compile_29 post (n + 1) tm ac rn wc sz dp lo ex hgt al ov a1 a2 a3 a4 a5 a6 a7 a8 a9 a10 a11 a12 a13 a14 a15 a16 a17 a18 a19 a20 a21 a22 a23 a24 a25 a26 a27 := by
  subst hac
  cases F with
  | nil => cases hst
  | cons f F =>
    obtain ⟨i, h, x, y⟩ := f
    obtain ⟨hd, f1, f2, f3, f4, f5⟩ := hf
    subst hd
    replace hst : cq_step1 T S C i h x y F = some (C', F') := hst
    unfold cq_step1 at hst
    split at hst
    · cases hst
    · rename_i hg
      have hC : C.length < 390 := by omega
      have hF : F.length < 60 := by omega
      have hh : h < 9 := by omega
      split at hst
      · cases hst
      · rename_i e hTi
        obtain ⟨c, v⟩ := e
        obtain ⟨ht, ha⟩ := hT.2.2 i c v hTi
        dsimp only at hst
        have hi := cq_some_lt hTi
        have hT30 := hT.2.1
        have hq := cq_len_k ht
        have ew : (nI F.length).toNatClampNeg = F.length := nI_clamp (by omega)
        refine br_f (nI_nle (by simp) (by simp; omega)) (nm_r (nI_pred F.length) ?_)
        rw [ew, f1, f2, nI_1]
        refine And.intro (cq_vi (by omega)) (nm_e (And.intro (cq_vi (by omega)) (nm_e (And.intro (cq_vi (by omega)) (And.intro (cq_vi (by omega)) (nm_e ?_))))))
        refine And.intro (by rw [cq_ix]; exact cq_vi (by omega)) ?_
        rw [cq_ix, nI_clamp (show 60 * p + i < 2 ^ 31 by omega), ha]
        refine cq_parts_w ?_
        rw [cq_parts_k ht]
        refine cq_stmt_w ?_
        rw [cq_stmt_k ht]
        have hfr : ∀ x' y' pp qq, cq_top a20 a21 pp qq F.length x' y' → cq_frm (nI (F.length + 1)) a18 (upd a19 F.length (nI (h + 1))) pp qq ((i, h + 1, x', y') :: F) := fun x' y' pp qq ht => by
          refine ⟨rfl, f1, pk_us, ht.2.1, ht.2.2, cq_frs_c (fun j hj => ?_) f5⟩
          exact ⟨rfl, pk_un (by omega), (ht.1 j hj).1, (ht.1 j hj).2⟩
        split at hst
        · rename_i h5
          rw [if_neg (by omega)]
          refine br_t rfl ?_
          split at hst
          · cases hst
          · rename_i C1 hact
            split at hst
            · cases hst
            · rename_i F1 hfin
              obtain ⟨rfl, rfl⟩ := cq_2 hst
              refine cq_expression_ok ht h5 hc (by omega) hh hact (fun s o a t hc' => ?_)
              exact cq_c110 hl hS (by omega) hh hF (hfr x y a20 a21 ⟨fun _ _ => ⟨rfl, rfl⟩, f3, f4⟩) hfin (fun d oa ph hf' => H _ _ _ _ _ _ _ _ _ hc' hf')
        · rename_i h5
          rw [if_pos (by omega)]
          refine br_f (by decide) ?_
          split at hst
          · cases hst
          · rename_i d hact
            obtain ⟨C1, x1, y1⟩ := d
            dsimp only at hst
            split at hst
            · cases hst
            · rename_i F1 hfin
              obtain ⟨rfl, rfl⟩ := cq_2 hst
              refine cq_statement_ok ht hc hC (by omega) hh f3 f4 hact (fun s o a t pp qq hc' htop => ?_)
              exact cq_c110 hl hS (by omega) hh hF (hfr x1 y1 pp qq htop) hfin (fun d oa ph hf' => H _ _ _ _ _ _ _ _ _ hc' hf')
def cq_crun (T : List (Nat × Int32)) (S : List Nat) : Nat → List (Nat × Int32 × Nat) → List (Nat × Nat × Option Nat × Option Nat) → Option (List (Nat × Int32 × Nat))
  | 0, _, _ => none
  | _ + 1, C, [] => some C
  | n + 1, C, f :: F => match cq_step T S C (f :: F) with
    | none => none
    | some (C', F') => cq_crun T S n C' F'
/-! jumps to jumps -/
def cq_jmp (x : Int32) : Int32 := if x = 301 then 1 else if x = 302 then 1 else if x = 303 then 1 else if x = 306 then 1 else if x = 309 then 1 else if x = 307 then 1 else 0
theorem cq_jmp_w {post : Int32 → Prop} {x : Int32} (h : post (cq_jmp x)) : wpX_jumps post () x := by
  unfold cq_jmp at h
  exact cq_it h id (fun h => cq_it h id (fun h => cq_it h id (fun h => cq_it h id (fun h => cq_it h id (fun h => cq_it h id id)))))
theorem cq_t_jmp : ∀ n, n < 291 → cq_jmp (nI n) = 0 ∧ ¬ nI n = 301 := by decide +kernel
theorem cq_jmp_k {k : Nat} {v : Int32} (h : k < 21 → cq_tk k v) : cq_jmp (cq_op k v) = (if 22 ≤ k ∧ k ≤ 24 then 1 else 0) ∧ (cq_op k v = 301 ↔ k = 22) := by
  unfold cq_op
  by_cases h1 : k < 21
  · rw [if_pos h1, if_neg (by omega)]
    obtain ⟨n, hn, _, _, rfl⟩ := h h1
    exact ⟨(cq_t_jmp n hn).1, fun e => absurd e (cq_t_jmp n hn).2, fun e => absurd e (by omega)⟩
  · rw [if_neg h1]
    by_cases h2 : k = 21
    · subst h2
      decide
    · by_cases h3 : k = 22
      · subst h3
        decide
      · by_cases h4 : k = 23
        · subst h4
          decide
        · by_cases h5 : k = 24
          · subst h5
            decide
          · by_cases h6 : k = 25
            · subst h6
              decide
            · rw [if_neg h2, if_neg h3, if_neg h4, if_neg h5, if_neg h6, if_neg (by omega)]
              exact ⟨by decide, fun e => absurd e (by decide), fun e => absurd e (by omega)⟩
def cq_ld (C : List (Nat × Int32 × Nat)) : Nat → Nat → Nat
  | 0, g => g
  | n + 1, g => match C[g]? with
    | none => g
    | some e => if e.1 = 22 then cq_ld C n e.2.2 else g
def cq_lead1 (C : List (Nat × Int32 × Nat)) (k : Nat) : List (Nat × Int32 × Nat) := match C[k]? with
  | none => C
  | some e => if 22 ≤ e.1 ∧ e.1 ≤ 24 then C.set k (e.1, e.2.1, cq_ld C 8 e.2.2) else C
def cq_lead : Nat → Nat → List (Nat × Int32 × Nat) → List (Nat × Int32 × Nat)
  | 0, _, C => C
  | n + 1, k, C => cq_lead n (k + 1) (cq_lead1 C k)
theorem cq_lead1_len (C : List (Nat × Int32 × Nat)) (k : Nat) : (cq_lead1 C k).length = C.length := by
  unfold cq_lead1
  split
  · rfl
  · split
    · simp
    · rfl
theorem cq_l70 {post : St2 → Prop} {J2 : Int32 → (Nat → Int32) → (Nat → Int32) → (Nat → Int32) → (Nat → Int32) → (Nat → Int32) → (Nat → Int32) → (Nat → Int32) → (Nat → Int32) → (Nat → Int32) → (Nat → Int32) → (Nat → Int32) → (Nat → Int32) → (Nat → Int32) → (Nat → Int32) → (Nat → Int32) → (Nat → Int32) → (Nat → Int32) → (Nat → Int32) → (Nat → Int32) → (Nat → Int32) → (Nat → Int32) → (Nat → Int32) → (Nat → Int32) → (Nat → Int32) → (Nat → Int32) → (Nat → Int32) → (Nat → Int32) → Prop} {tm ac rn wc sz dp lo ex hgt al ov : Int32} {a1 a2 a3 a4 a5 a6 a7 a8 a9 a10 a11 a12 a13 a14 a15 a16 a17 a18 a19 a20 a21 a22 a23 a24 a25 a26 a27 : Nat → Int32} {C : List (Nat × Int32 × Nat)} {k g kk gg : Nat} {v : Int32} (hC : C.length < 400) (hc : cq_code sz a15 a16 a17 C) (he : C[k]? = some (kk, v, gg)) (hg : g < 400)
    (H : ∀ t, cq_code sz a15 a16 t (if 22 ≤ kk ∧ kk ≤ 24 then C.set k (kk, v, g) else C) → J2 (nI (k + 1)) a1 a2 a3 a4 a5 a6 a7 a8 a9 a10 a11 a12 a13 a14 a15 a16 t a18 a19 a20 a21 a22 a23 a24 a25 a26 a27) : wX_leadOn_70 post J2 (nI k) (nI g) tm ac rn wc sz dp lo ex hgt al ov a1 a2 a3 a4 a5 a6 a7 a8 a9 a10 a11 a12 a13 a14 a15 a16 a17 a18 a19 a20 a21 a22 a23 a24 a25 a26 a27 := by
  have hlt := cq_some_lt he
  obtain ⟨h1, h2, h3, h4, h5⟩ := hc.2 k kk v gg he
  have hik : vp_in (nI k) 400 := pk_in k 400 (by omega)
  have ek : (nI k).toNatClampNeg = k := nI_clamp (by omega)
  refine And.intro hik (cq_jmp_w ?_)
  rw [ek, h1, (cq_jmp_k h5).1]
  by_cases hj : 22 ≤ kk ∧ kk ≤ 24
  · rw [if_pos hj] at H
    rw [if_pos hj]
    refine br_f (by decide) (And.intro hik (nm_e (nm_r (nI_1 k) (H (upd a17 k (nI g)) ⟨by simp; exact hc.1, fun j k' v' g' hj' => ?_⟩))))
    by_cases hp : j = k
    · subst hp
      rw [List.getElem?_set_self hlt] at hj'
      have e : (kk, v, g) = (k', v', g') := by simpa using hj'
      cases e
      exact ⟨h1, h2, pk_us, hg, h5⟩
    · rw [List.getElem?_set_ne (fun z => hp z.symm)] at hj'
      rw [pk_un hp]
      exact hc.2 j k' v' g' hj'
  · rw [if_neg hj] at H
    rw [if_neg hj]
    refine br_t rfl (And.intro hik (And.intro hik (nm_e (nm_r (nI_1 k) (H (upd a17 k (a17 k)) ⟨hc.1, fun j k' v' g' hj' => ?_⟩)))))
    by_cases hp : j = k
    · rw [hp, pk_us, ← hp]
      exact hc.2 j k' v' g' hj'
    · rw [pk_un hp]
      exact hc.2 j k' v' g' hj'
theorem cq_l19 {post : St2 → Prop} {J2 : Int32 → (Nat → Int32) → (Nat → Int32) → (Nat → Int32) → (Nat → Int32) → (Nat → Int32) → (Nat → Int32) → (Nat → Int32) → (Nat → Int32) → (Nat → Int32) → (Nat → Int32) → (Nat → Int32) → (Nat → Int32) → (Nat → Int32) → (Nat → Int32) → (Nat → Int32) → (Nat → Int32) → (Nat → Int32) → (Nat → Int32) → (Nat → Int32) → (Nat → Int32) → (Nat → Int32) → (Nat → Int32) → (Nat → Int32) → (Nat → Int32) → (Nat → Int32) → (Nat → Int32) → (Nat → Int32) → Prop} {tm ac rn wc sz dp lo ex hgt al ov : Int32} {a1 a2 a3 a4 a5 a6 a7 a8 a9 a10 a11 a12 a13 a14 a15 a16 a17 a18 a19 a20 a21 a22 a23 a24 a25 a26 a27 : Nat → Int32} {C : List (Nat × Int32 × Nat)} {k kk gg : Nat} {v : Int32} (hC : C.length < 400) (hc : cq_code sz a15 a16 a17 C) (he : C[k]? = some (kk, v, gg)) :
    ∀ (m x g : Nat), x + m = 8 → g < 400 → (∀ t, cq_code sz a15 a16 t (if 22 ≤ kk ∧ kk ≤ 24 then C.set k (kk, v, cq_ld C m g) else C) → J2 (nI (k + 1)) a1 a2 a3 a4 a5 a6 a7 a8 a9 a10 a11 a12 a13 a14 a15 a16 t a18 a19 a20 a21 a22 a23 a24 a25 a26 a27) → wX_leadOn_19 post J2 (nI k) tm ac rn wc sz dp lo ex hgt al ov a1 a2 a3 a4 a5 a6 a7 a8 a9 a10 a11 a12 a13 a14 a15 a16 a17 a18 a19 a20 a21 a22 a23 a24 a25 a26 a27 (m + 1) (nI g) (nI x) := by
  have hlt := cq_some_lt he
  obtain ⟨h1, h2, h3, h4, h5⟩ := hc.2 k kk v gg he
  have hik : vp_in (nI k) 400 := pk_in k 400 (by omega)
  have ek : (nI k).toNatClampNeg = k := nI_clamp (by omega)
  intro m
  induction m with
  | zero =>
    intro x g hx hg H
    exact pk_le 8 x (fun _ => cq_l70 hC hc he hg H) (fun z => absurd z (by omega))
  | succ m ih =>
    intro x g hx hg H
    refine pk_le 8 x (fun z => absurd z (by omega)) (fun _ => And.intro hik (cq_jmp_w ?_))
    rw [ek, h1, (cq_jmp_k h5).1]
    by_cases hj : 22 ≤ kk ∧ kk ≤ 24
    · rw [if_pos hj]
      refine br_f (by decide) ?_
      cases hn : C[g]? with
      | none =>
        have e : cq_ld C (m + 1) g = g := by
          unfold cq_ld
          rw [hn]
        rw [e] at H
        have hge : C.length ≤ g := by
          rcases Nat.lt_or_ge g C.length with z | z
          · rw [List.getElem?_eq_getElem z] at hn
            cases hn
          · exact z
        exact br_t (by rw [hc.1]; exact nI_le hge (by omega)) (cq_l70 hC hc he hg H)
      | some e =>
        have e' : cq_ld C (m + 1) g = if e.1 = 22 then cq_ld C m e.2.2 else g := by
          conv => lhs; unfold cq_ld
          rw [hn]
        rw [e'] at H
        have hgl := cq_some_lt hn
        obtain ⟨g1, g2, g3, g4, g5⟩ := hc.2 g e.1 e.2.1 e.2.2 hn
        refine br_f (by rw [hc.1]; exact nI_ge hgl (by omega)) ?_
        rw [nI_clamp (show g < 2 ^ 31 by omega), g1, g3]
        refine And.intro (pk_in g 400 hg) ?_
        by_cases h22 : e.1 = 22
        · rw [if_pos h22] at H
          exact br_t ((cq_jmp_k g5).2.mpr h22) (And.intro (pk_in g 400 hg) (nm_e (nm_r (nI_1 x) (ih (x + 1) e.2.2 (by omega) g4 H))))
        · rw [if_neg h22] at H
          exact br_f (fun z => h22 ((cq_jmp_k g5).2.mp z)) (cq_l70 hC hc he hg H)
    · rw [if_neg hj] at H
      rw [if_neg hj]
      refine br_t rfl (cq_l70 hC hc he hg ?_)
      rw [if_neg hj]
      exact H
theorem cq_lead_ok {post : St2 → Prop} {tm ac rn wc sz dp lo ex hgt al ov : Int32} {a1 a2 a3 a4 a5 a6 a7 a8 a9 a10 a11 a12 a13 a14 a15 a16 a18 a19 a20 a21 a22 a23 a24 a25 a26 a27 : Nat → Int32} {Cf : List (Nat × Int32 × Nat)} (hCf : Cf.length < 400)
    (H : ∀ t, cq_code sz a15 a16 t Cf → post (tm, ac, rn, wc, sz, dp, lo, ex, hgt, al, ov, a1, a2, a3, a4, a5, a6, a7, a8, a9, a10, a11, a12, a13, a14, a15, a16, t, a18, a19, a20, a21, a22, a23, a24, a25, a26, a27)) :
    ∀ (m k : Nat) (C : List (Nat × Int32 × Nat)) (t : Nat → Int32), k + m = C.length → cq_lead m k C = Cf → C.length < 400 → cq_code sz a15 a16 t C → wX_leadOn_2 post tm ac rn wc sz dp lo ex hgt al ov (m + 1) (nI k) a1 a2 a3 a4 a5 a6 a7 a8 a9 a10 a11 a12 a13 a14 a15 a16 t a18 a19 a20 a21 a22 a23 a24 a25 a26 a27 := by
  intro m
  induction m with
  | zero =>
    intro k C t hk hl hC hc
    have e : C = Cf := hl
    subst e
    exact br_t (by rw [hc.1]; exact nI_le (by omega) (by omega)) (H t hc)
  | succ m ih =>
    intro k C t hk hl hC hc
    have hlt : k < C.length := by omega
    have he := List.getElem?_eq_getElem hlt
    obtain ⟨h1, h2, h3, h4, h5⟩ := hc.2 k C[k].1 C[k].2.1 C[k].2.2 he
    refine br_f (by rw [hc.1]; exact nI_ge hlt (by omega)) ?_
    rw [nI_clamp (show k < 2 ^ 31 by omega), h3]
    refine And.intro (pk_in k 400 (by omega)) (nm_e (Exists.intro _ (cq_l19 hC hc he 8 0 C[k].2.2 (by omega) h4 (fun t' hc' => ?_))))
    have e : cq_lead1 C k = (if 22 ≤ C[k].1 ∧ C[k].1 ≤ 24 then C.set k (C[k].1, C[k].2.1, cq_ld C 8 C[k].2.2) else C) := by
      unfold cq_lead1
      rw [he]
    replace hc' : cq_code sz a15 a16 t' (cq_lead1 C k) := by
      rw [e]
      exact hc'
    exact ih (k + 1) (cq_lead1 C k) t' (by rw [cq_lead1_len]; omega) hl (by rw [cq_lead1_len]; exact hC) hc'
/-! compile -/
theorem cq_lead_len : ∀ (m k : Nat) (C : List (Nat × Int32 × Nat)), (cq_lead m k C).length = C.length
  | 0, _, _ => rfl
  | m + 1, k, C => by
    unfold cq_lead
    rw [cq_lead_len m (k + 1), cq_lead1_len]
def cq_end (C : List (Nat × Int32 × Nat)) : List (Nat × Int32 × Nat) := cq_lead (C.length + 1) 0 (cq_emit C 26 0)
theorem cq_crun_ok {post : St2 → Prop} {p : Nat} {T : List (Nat × Int32)} {S : List Nat} {Cf : List (Nat × Int32 × Nat)} {tm ac rn wc lo ex hgt al ov : Int32} {a1 a2 a3 a4 a5 a6 a7 a8 a9 a10 a11 a12 a13 a14 a22 a23 a24 a25 a26 a27 : Nat → Int32} (hp : p < 2) (hac : ac = nI p) (hT : cq_toks p a11 a12 T) (hl : cq_lay a14 0 S) (hS : S.length ≤ 60) (hCf : Cf.length < 390)
    (H : ∀ s d o a t oa ph x y, cq_code s o a t (cq_end Cf) → post (tm, ac, rn, wc, s, d, lo, ex, hgt, al, ov, a1, a2, a3, a4, a5, a6, a7, a8, a9, a10, a11, a12, a13, a14, o, a, t, oa, ph, x, y, a22, a23, a24, a25, a26, a27)) :
    ∀ (n : Nat) (C : List (Nat × Int32 × Nat)) (F : List (Nat × Nat × Option Nat × Option Nat)) (s d : Int32) (o a t oa ph x y : Nat → Int32), cq_crun T S n C F = some Cf → cq_code s o a t C → cq_frm d oa ph x y F → wX_compile_29 post n tm ac rn wc s d lo ex hgt al ov a1 a2 a3 a4 a5 a6 a7 a8 a9 a10 a11 a12 a13 a14 o a t oa ph x y a22 a23 a24 a25 a26 a27 := by
  intro n
  induction n with
  | zero =>
    intro C F s d o a t oa ph x y h _ _
    cases h
  | succ n ih =>
    intro C F s d o a t oa ph x y h hc hf
    cases F with
    | nil =>
      have e : C = Cf := Option.some.inj h
      subst e
      have hd : d = nI 0 := hf.1
      subst hd
      refine br_t (by decide) (cq_emit_ok 26 0 hc (by omega) rfl rfl (fun z => absurd z (by omega)) (fun s' o' a' t' hc' => ?_))
      have hl2 : (cq_emit C 26 0).length = C.length + 1 := cq_emit_len C 26 0
      refine Exists.intro _ (cq_lead_ok (Cf := cq_end C) ?_ ?_ (C.length + 1) 0 (cq_emit C 26 0) t' (by omega) rfl (by omega) hc')
      · unfold cq_end
        rw [cq_lead_len]
        omega
      · exact fun t'' hc'' => H _ _ _ _ _ _ _ _ _ hc''
    | cons f F =>
      unfold cq_crun at h
      split at h
      · cases h
      · rename_i C1 F1 hst
        exact cq_step_ok hp hac hT hl hS hc hf hst (fun s d o a t oa ph x y hc' hf' => ih C1 F1 s d o a t oa ph x y h hc' hf')
theorem cq_compile_ok {post : St2 → Prop} {tm ac rn wc sz dp lo ex hgt al ov : Int32} {a1 a2 a3 a4 a5 a6 a7 a8 a9 a10 a11 a12 a13 a14 a15 a16 a17 a18 a19 a20 a21 a22 a23 a24 a25 a26 a27 : Nat → Int32} {p n : Nat} {T : List (Nat × Int32)} {S : List Nat} {Cf : List (Nat × Int32 × Nat)} (hp : p < 2) (hac : ac = nI p) (hT : cq_toks p a11 a12 T) (hS : cq_sp (T.map Prod.fst) = some S) (hr : cq_crun T S n [] [(0, 0, none, none)] = some Cf) (hCf : Cf.length < 390)
    (H : ∀ s d l e b o a t oa ph x y, cq_code s o a t (cq_end Cf) → post (tm, ac, rn, wc, s, d, l, e, hgt, al, ov, a1, a2, a3, a4, a5, a6, a7, a8, a9, a10, a11, a12, a13, b, o, a, t, oa, ph, x, y, a22, a23, a24, a25, a26, a27)) : wpX_compile post (tm, ac, rn, wc, sz, dp, lo, ex, hgt, al, ov, a1, a2, a3, a4, a5, a6, a7, a8, a9, a10, a11, a12, a13, a14, a15, a16, a17, a18, a19, a20, a21, a22, a23, a24, a25, a26, a27) := by
  have hSl : S.length = T.length := by rw [cq_sp_len hS, List.length_map]
  have hT30 := hT.2.1
  unfold wpX_compile
  refine cq_meas_ok hp hac hT hS (fun b hb => ?_)
  refine cq_enter_ok (F := []) (i := 0) ⟨rfl, trivial⟩ (by simp) (fun d oa ph hf => ?_)
  exact Exists.intro n (cq_crun_ok hp hac hT hb (by omega) hCf (fun s d o a t oa ph x y hc => H _ _ _ _ _ _ _ _ _ _ _ _ hc) n [] _ _ _ _ _ _ _ _ _ _ hr ⟨rfl, fun j k v g hj => by simp at hj⟩ hf)
theorem cq_activate_ok {post : Int32 → St2 → Prop} {tm ac rn wc sz dp lo ex hgt al ov : Int32} {a1 a2 a3 a4 a5 a6 a7 a8 a9 a10 a11 a12 a13 a14 a15 a16 a17 a18 a19 a20 a21 a22 a23 a24 a25 a26 a27 : Nat → Int32} {p n : Nat} {T : List (Nat × Int32)} {S : List Nat} {Cf : List (Nat × Int32 × Nat)} (hp : p < 2) (hT : cq_toks p a11 a12 T) (hs : cq_scan (T.map Prod.fst) [1] = some []) (hS : cq_sp (T.map Prod.fst) = some S) (hr : cq_crun T S n [] [(0, 0, none, none)] = some Cf) (hCf : Cf.length < 390)
    (H : ∀ f c s d l e b o a t oa ph x y, cq_code s o a t (cq_end Cf) → post ac (tm, nI p, 1, f, s, d, l, e, hgt, al, ov, a1, a2, a3, a4, a5, a6, a7, a8, a9, a10, a11, a12, c, b, o, a, t, oa, ph, x, y, a22, a23, a24, a25, a26, a27)) : wpX_activate post (tm, ac, rn, wc, sz, dp, lo, ex, hgt, al, ov, a1, a2, a3, a4, a5, a6, a7, a8, a9, a10, a11, a12, a13, a14, a15, a16, a17, a18, a19, a20, a21, a22, a23, a24, a25, a26, a27) (nI p) := by
  unfold wpX_activate
  exact cq_prog_w hp (br_f (by decide) (cq_isComplete_ok hp hT hs (fun f c => br_f (by decide) (cq_compile_ok hp rfl hT hS hr hCf (fun s d l e b o a t oa ph x y hc => H f c s d l e b o a t oa ph x y hc)))))
end
section
/-! arithmetic -/
theorem cq_itc {α : Type} {c A B : Prop} [Decidable c] {P : α → Prop} {x y : α} (h : P (if c then x else y)) (f : c → P x → A) (g : ¬ c → P y → B) : (c → A) ∧ (¬ c → B) :=
  ⟨fun hc => f hc (by rw [if_pos hc] at h; exact h), fun hc => g hc (by rw [if_neg hc] at h; exact h)⟩
def cq_two (t x y : Int32) : Int32 := if t = 130 then x + y else if t = 131 then x - y else if t = 132 then x * y else if t = 133 then (if y = 0 then 0 else x / y) else if t = 134 then (if y = 0 then 0 else x - x / y * y) else if t = 135 then (if y ≤ x then 0 else 1) else if t = 136 then (if x = y then 1 else 0) else if t = 137 then (if x = 0 then 0 else if y = 0 then 0 else 1) else if t = 138 then (if x = 0 then (if y = 0 then 0 else 1) else 1) else if t = 140 then (if x ≤ y then y else x) else (if x ≤ y then x else y)
theorem cq_two_w {post : Int32 → Prop} {t x y : Int32} (h : post (cq_two t x y)) : wpX_two post () t x y := by
  unfold cq_two at h
  refine cq_it h id (fun h => cq_it h id (fun h => cq_it h id (fun h => cq_it h (fun h => cq_itc h (fun _ h => h) (fun c h => ⟨c, h⟩)) (fun h => cq_it h (fun h => cq_itc h (fun _ h => h) (fun c h => ⟨c, h⟩)) (fun h => ?_)))))
  have t0 : ∀ {P : Int32 → Prop}, P 0 → wpX_truth P () 0 := fun h => br_t rfl h
  have t1 : ∀ {P : Int32 → Prop}, P 1 → wpX_truth P () 1 := fun h => br_f (by decide) h
  refine cq_it h (fun h => cq_it h (fun h => t0 h) (fun h => t1 h)) (fun h => ?_)
  refine cq_it h (fun h => cq_it h (fun h => t1 h) (fun h => t0 h)) (fun h => ?_)
  refine cq_it h (fun h => cq_it h (fun h => t0 h) (fun h => cq_it h (fun h => t0 h) (fun h => t1 h))) (fun h => ?_)
  refine cq_it h (fun h => cq_it h (fun h => cq_it h (fun h => t0 h) (fun h => t1 h)) (fun h => t1 h)) (fun h => ?_)
  refine cq_it h (fun h => cq_it h (fun h => br_f (by decide) h) (fun h => br_t rfl h)) (fun h => cq_it h (fun h => br_t rfl h) (fun h => br_f (by decide) h))
def cq_due (t x y g : Int32) : Int32 := if t = 130 then x + y else if t = 131 then x - y else if t = 132 then x * y else if t = 133 then (if y = 0 then 0 else if y = -1 then -x else x / y) else if t = 134 then (if y = 0 then 0 else if y = -1 then 0 else x - x / y * y) else if t = 135 then (if y ≤ x then 0 else 1) else if t = 136 then (if x = y then 1 else 0) else if t = 137 then (if x = 0 then 0 else if y = 0 then 0 else 1) else if t = 138 then (if x = 0 then (if y = 0 then 0 else 1) else 1) else if t = 139 then (if x = 0 then 1 else 0) else if t = 140 then (if x ≤ y then y else x) else if t = 141 then (if y ≤ x then y else x) else (if x = 0 then g else y)
theorem cq_due_w {post : Int32 → Prop} {t x y g : Int32} (h : post (cq_due t x y g)) : wpL_due post () t x y g := by
  unfold cq_due at h
  refine cq_it h id (fun h => cq_it h id (fun h => cq_it h id (fun h => cq_it h (fun h => cq_itc h (fun _ h => h) (fun c h => cq_it h id (fun h => ⟨c, h⟩))) (fun h => cq_it h (fun h => cq_itc h (fun _ h => h) (fun c h => cq_it h id (fun h => ⟨c, h⟩))) (fun h => ?_)))))
  refine cq_it h (fun h => cq_it h id id) (fun h => ?_)
  refine cq_it h (fun h => cq_it h id id) (fun h => ?_)
  refine cq_it h (fun h => cq_it h id (fun h => cq_it h id id)) (fun h => ?_)
  refine cq_it h (fun h => cq_it h (fun h => cq_it h id id) id) (fun h => ?_)
  refine cq_it h (fun h => cq_it h id id) (fun h => ?_)
  exact cq_it h (fun h => cq_it h id id) (fun h => cq_it h (fun h => cq_it h id id) (fun h => cq_it h id id))
theorem cq_divm (x : Int32) : x / (-1) = -x := by
  apply Int32.toInt_inj.mp
  have e : (-1 : Int32).toInt = -1 := by decide
  rw [Int32.toInt_div, e, Int.tdiv_neg, Int.tdiv_one, Int32.toInt_neg]
theorem cq_remm (x : Int32) : x - x / (-1) * (-1) = 0 := by
  rw [cq_divm]
  grind
theorem cq_t_3 : ∀ n, n < 291 → cq_cls n = 3 → n = 130 ∨ n = 131 ∨ n = 132 ∨ n = 133 ∨ n = 134 ∨ n = 135 ∨ n = 136 ∨ n = 137 ∨ n = 138 ∨ n = 140 ∨ n = 141 := by decide +kernel
theorem cq_two_due {t x y : Int32} (g : Int32) (h : cq_tk 3 t) : cq_two t x y = cq_due t x y g := by
  obtain ⟨n, hn, hc, _, rfl⟩ := h
  rcases cq_t_3 n hn hc with rfl | rfl | rfl | rfl | rfl | rfl | rfl | rfl | rfl | rfl | rfl
  · rfl
  · rfl
  · rfl
  · show (if y = 0 then 0 else x / y) = (if y = 0 then 0 else if y = -1 then -x else x / y)
    split
    · rfl
    · split
      · rename_i h
        rw [h, cq_divm]
      · rfl
  · show (if y = 0 then 0 else x - x / y * y) = (if y = 0 then 0 else if y = -1 then 0 else x - x / y * y)
    split
    · rfl
    · split
      · rename_i h
        rw [h, cq_remm]
      · rfl
  · rfl
  · rfl
  · rfl
  · rfl
  · rfl
  · show (if x ≤ y then x else y) = (if y ≤ x then y else x)
    split
    · rename_i h
      split
      · rename_i h'
        exact Int32.le_antisymm h h'
      · rfl
    · rename_i h
      rw [if_pos (by rcases Int32.le_total x y with z | z; exact absurd z h; exact z)]
/-! the machine -/
theorem cq_push_ok {post : St2 → Prop} {tm ac rn wc sz dp lo ex hgt al ov : Int32} {a1 a2 a3 a4 a5 a6 a7 a8 a9 a10 a11 a12 a13 a14 a15 a16 a17 a18 a19 a20 a21 a22 a23 a24 a25 a26 a27 : Nat → Int32} {L : List Int32} {x : Int32} (hh : hgt = nI L.length) (hL : L.length < 80) (hs : cq_stk a25 L)
    (H : ∀ h st, h = nI (x :: L).length → cq_stk st (x :: L) → post (tm, ac, rn, wc, sz, dp, lo, ex, h, al, ov, a1, a2, a3, a4, a5, a6, a7, a8, a9, a10, a11, a12, a13, a14, a15, a16, a17, a18, a19, a20, a21, a22, a23, a24, st, a26, a27)) : wpX_push post (tm, ac, rn, wc, sz, dp, lo, ex, hgt, al, ov, a1, a2, a3, a4, a5, a6, a7, a8, a9, a10, a11, a12, a13, a14, a15, a16, a17, a18, a19, a20, a21, a22, a23, a24, a25, a26, a27) x := by
  subst hh
  exact And.intro (cq_vi hL) (nm_r (by rw [nI_clamp (by omega)]) (nm_r (nI_1 _) (H _ _ rfl (cq_stk_push rfl hs))))
theorem cq_pop_ok {post : Int32 → St2 → Prop} {tm ac rn wc sz dp lo ex hgt al ov : Int32} {a1 a2 a3 a4 a5 a6 a7 a8 a9 a10 a11 a12 a13 a14 a15 a16 a17 a18 a19 a20 a21 a22 a23 a24 a25 a26 a27 : Nat → Int32} {L : List Int32} {x : Int32} (hh : hgt = nI (x :: L).length) (hL : L.length < 80) (hs : cq_stk a25 (x :: L))
    (H : ∀ h, h = nI L.length → post x (tm, ac, rn, wc, sz, dp, lo, ex, h, al, ov, a1, a2, a3, a4, a5, a6, a7, a8, a9, a10, a11, a12, a13, a14, a15, a16, a17, a18, a19, a20, a21, a22, a23, a24, a25, a26, a27)) : wpX_pop post (tm, ac, rn, wc, sz, dp, lo, ex, hgt, al, ov, a1, a2, a3, a4, a5, a6, a7, a8, a9, a10, a11, a12, a13, a14, a15, a16, a17, a18, a19, a20, a21, a22, a23, a24, a25, a26, a27) := by
  subst hh
  refine nm_r (nI_pred L.length) (And.intro (cq_vi hL) ?_)
  rw [nI_clamp (by omega), hs.1]
  exact H _ rfl
def cq_M (post : Int32 → St2 → Prop) (tm ac rn wc sz dp lo ex al : Int32) (a3 a4 a6 a7 a8 a9 a10 a11 a12 a13 a14 a15 a16 a17 a18 a19 a20 a21 a22 a23 a24 a26 a27 : Nat → Int32) (k at_ : Nat) (L : List Int32) (V R O : Nat → Int32) : Prop :=
  ∀ (x : Nat) (h : Int32) (st : Nat → Int32), x + k ≤ 1000 → h = nI L.length → cq_stk st L → wX_cycle_76 post k (nI at_) (nI x) tm ac rn wc sz dp lo ex h al 0 V R a3 a4 O a6 a7 a8 a9 a10 a11 a12 a13 a14 a15 a16 a17 a18 a19 a20 a21 a22 a23 a24 st a26 a27
theorem cq_mgo {post : Int32 → St2 → Prop} {tm ac rn wc sz dp lo ex hgt al : Int32} {a1 a2 a3 a4 a5 a6 a7 a8 a9 a10 a11 a12 a13 a14 a15 a16 a17 a18 a19 a20 a21 a22 a23 a24 a25 a26 a27 : Nat → Int32} {C : List (Nat × Int32 × Nat)} {k at_ x c g : Nat} {v : Int32} (hc : cq_code sz a15 a16 a17 C) (hC : C.length < 400) (hx : x + (k + 1) ≤ 1000) (he_ : C[at_]? = some (c, v, g))
    (H : vp_in (nI at_) 400 → (nI at_).toNatClampNeg = at_ → a15 at_ = cq_op c v → a16 at_ = cq_arg c v → a17 at_ = nI g → ∀ Q : Int32 → St2 → Prop, (∀ (r : Int32) {tm_1 ac_1 rn_1 wc_1 sz_1 dp_1 lo_1 ex_1 hgt_1 al_1 ov_1 : Int32} {a1_1 a2_1 a3_1 a4_1 a5_1 a6_1 a7_1 a8_1 a9_1 a10_1 a11_1 a12_1 a13_1 a14_1 a15_1 a16_1 a17_1 a18_1 a19_1 a20_1 a21_1 a22_1 a23_1 a24_1 a25_1 a26_1 a27_1 : Nat → Int32}, wX_cycle_76 post k r (nI (x + 1)) tm_1 ac_1 rn_1 wc_1 sz_1 dp_1 lo_1 ex_1 hgt_1 al_1 ov_1 a1_1 a2_1 a3_1 a4_1 a5_1 a6_1 a7_1 a8_1 a9_1 a10_1 a11_1 a12_1 a13_1 a14_1 a15_1 a16_1 a17_1 a18_1 a19_1 a20_1 a21_1 a22_1 a23_1 a24_1 a25_1 a26_1 a27_1 → Q r (tm_1, ac_1, rn_1, wc_1, sz_1, dp_1, lo_1, ex_1, hgt_1, al_1, ov_1, a1_1, a2_1, a3_1, a4_1, a5_1, a6_1, a7_1, a8_1, a9_1, a10_1, a11_1, a12_1, a13_1, a14_1, a15_1, a16_1, a17_1, a18_1, a19_1, a20_1, a21_1, a22_1, a23_1, a24_1, a25_1, a26_1, a27_1)) → wpX_carryOut Q (tm, ac, rn, wc, sz, dp, lo, ex, hgt, al, 0, a1, a2, a3, a4, a5, a6, a7, a8, a9, a10, a11, a12, a13, a14, a15, a16, a17, a18, a19, a20, a21, a22, a23, a24, a25, a26, a27) (nI at_)) : wX_cycle_76 post (k + 1) (nI at_) (nI x) tm ac rn wc sz dp lo ex hgt al 0 a1 a2 a3 a4 a5 a6 a7 a8 a9 a10 a11 a12 a13 a14 a15 a16 a17 a18 a19 a20 a21 a22 a23 a24 a25 a26 a27 := by
  have hlt := cq_some_lt he_
  obtain ⟨h1, h2, h3, _, _⟩ := hc.2 at_ c v g he_
  refine pk_le 200000 x (fun z => absurd z (by omega)) (fun _ => br_t rfl (br_f (by rw [hc.1]; exact nI_ge hlt (by omega)) ?_))
  refine H (cq_vi (by omega)) (nI_clamp (by omega)) h1 h2 h3 _ ?_
  intro r tm_1 ac_1 rn_1 wc_1 sz_1 dp_1 lo_1 ex_1 hgt_1 al_1 ov_1 a1_1 a2_1 a3_1 a4_1 a5_1 a6_1 a7_1 a8_1 a9_1 a10_1 a11_1 a12_1 a13_1 a14_1 a15_1 a16_1 a17_1 a18_1 a19_1 a20_1 a21_1 a22_1 a23_1 a24_1 a25_1 a26_1 a27_1 hw
  exact nm_r (nI_1 x) hw
theorem cq_sub (b i : Nat) : nI (b + i) - nI b = nI i := by rw [pk_sub (by omega), Nat.add_sub_cancel_left]
theorem cq_m_var {post : Int32 → St2 → Prop} {tm ac rn wc sz dp lo ex al : Int32} {a3 a4 a6 a7 a8 a9 a10 a11 a12 a13 a14 a15 a16 a17 a18 a19 a20 a21 a22 a23 a24 a26 a27 : Nat → Int32} {V R O : Nat → Int32} {C : List (Nat × Int32 × Nat)} {k at_ g : Nat} {L : List Int32} {i : Nat} (hc : cq_code sz a15 a16 a17 C) (hC : C.length < 400) (hL : L.length < 70) (hi : i < 16) (he_ : C[at_]? = some (0, nI (100 + i), g)) (hM : cq_M post tm ac rn wc sz dp lo ex al a3 a4 a6 a7 a8 a9 a10 a11 a12 a13 a14 a15 a16 a17 a18 a19 a20 a21 a22 a23 a24 a26 a27 k (at_ + 1) (V i :: L) V R O) : cq_M post tm ac rn wc sz dp lo ex al a3 a4 a6 a7 a8 a9 a10 a11 a12 a13 a14 a15 a16 a17 a18 a19 a20 a21 a22 a23 a24 a26 a27 (k + 1) at_ L V R O := by
  intro x h st hx hh hs
  have hl : L.length < 70 := hL
  refine cq_mgo hc hC hx he_ (fun hin ek e15 e16 e17 Q hQ => ?_)
  refine And.intro hin (nm_r (e' := nI (100 + i)) (by rw [ek, e15]; rfl) ?_)
  refine pk_le (100 + i) 300 (fun _ => pk_eq (100 + i) 300 (fun z => absurd z (by omega)) (fun _ => pk_lt 34 (100 + i) (fun _ => pk_le 100 (100 + i) (fun _ => pk_lt 128 (100 + i) (fun z => absurd z (by omega)) (fun _ => ?_)) (fun z => absurd z (by omega))) (fun z => absurd z (by omega)))) (fun z => absurd z (by omega))
  refine pk_le 120 (100 + i) (fun z => absurd z (by omega)) (fun _ => ?_)
  have e : nI (100 + i) - 100 = nI i := cq_sub 100 i
  rw [e, nI_clamp (by omega)]
  refine And.intro (pk_in i 16 hi) (cq_push_ok hh (by omega) hs (fun h' st' hh' hs' => ?_))
  have w := hM (x + 1) h' st' (by omega) hh' hs'
  rw [← nI_1 at_] at w
  exact hQ _ w
theorem cq_m_inp {post : Int32 → St2 → Prop} {tm ac rn wc sz dp lo ex al : Int32} {a3 a4 a6 a7 a8 a9 a10 a11 a12 a13 a14 a15 a16 a17 a18 a19 a20 a21 a22 a23 a24 a26 a27 : Nat → Int32} {V R O : Nat → Int32} {C : List (Nat × Int32 × Nat)} {k at_ g : Nat} {L : List Int32} {i : Nat} (hc : cq_code sz a15 a16 a17 C) (hC : C.length < 400) (hL : L.length < 70) (hi : i < 4) (he_ : C[at_]? = some (0, nI (120 + i), g)) (hM : cq_M post tm ac rn wc sz dp lo ex al a3 a4 a6 a7 a8 a9 a10 a11 a12 a13 a14 a15 a16 a17 a18 a19 a20 a21 a22 a23 a24 a26 a27 k (at_ + 1) (a4 i :: L) V R O) : cq_M post tm ac rn wc sz dp lo ex al a3 a4 a6 a7 a8 a9 a10 a11 a12 a13 a14 a15 a16 a17 a18 a19 a20 a21 a22 a23 a24 a26 a27 (k + 1) at_ L V R O := by
  intro x h st hx hh hs
  have hl : L.length < 70 := hL
  refine cq_mgo hc hC hx he_ (fun hin ek e15 e16 e17 Q hQ => ?_)
  refine And.intro hin (nm_r (e' := nI (120 + i)) (by rw [ek, e15]; rfl) ?_)
  refine pk_le (120 + i) 300 (fun _ => pk_eq (120 + i) 300 (fun z => absurd z (by omega)) (fun _ => pk_lt 34 (120 + i) (fun _ => pk_le 100 (120 + i) (fun _ => pk_lt 128 (120 + i) (fun z => absurd z (by omega)) (fun _ => ?_)) (fun z => absurd z (by omega))) (fun z => absurd z (by omega)))) (fun z => absurd z (by omega))
  refine pk_le 120 (120 + i) (fun _ => pk_le 124 (120 + i) (fun z => absurd z (by omega)) (fun _ => ?_)) (fun z => absurd z (by omega))
  have e : nI (120 + i) - 120 = nI i := cq_sub 120 i
  rw [e, nI_clamp (by omega)]
  refine And.intro (pk_in i 4 hi) (cq_push_ok hh (by omega) hs (fun h' st' hh' hs' => ?_))
  have w := hM (x + 1) h' st' (by omega) hh' hs'
  rw [← nI_1 at_] at w
  exact hQ _ w
theorem cq_m_out {post : Int32 → St2 → Prop} {tm ac rn wc sz dp lo ex al : Int32} {a3 a4 a6 a7 a8 a9 a10 a11 a12 a13 a14 a15 a16 a17 a18 a19 a20 a21 a22 a23 a24 a26 a27 : Nat → Int32} {V R O : Nat → Int32} {C : List (Nat × Int32 × Nat)} {k at_ g : Nat} {L : List Int32} {i : Nat} (hc : cq_code sz a15 a16 a17 C) (hC : C.length < 400) (hL : L.length < 70) (hi : i < 4) (he_ : C[at_]? = some (0, nI (124 + i), g)) (hM : cq_M post tm ac rn wc sz dp lo ex al a3 a4 a6 a7 a8 a9 a10 a11 a12 a13 a14 a15 a16 a17 a18 a19 a20 a21 a22 a23 a24 a26 a27 k (at_ + 1) (O i :: L) V R O) : cq_M post tm ac rn wc sz dp lo ex al a3 a4 a6 a7 a8 a9 a10 a11 a12 a13 a14 a15 a16 a17 a18 a19 a20 a21 a22 a23 a24 a26 a27 (k + 1) at_ L V R O := by
  intro x h st hx hh hs
  have hl : L.length < 70 := hL
  refine cq_mgo hc hC hx he_ (fun hin ek e15 e16 e17 Q hQ => ?_)
  refine And.intro hin (nm_r (e' := nI (124 + i)) (by rw [ek, e15]; rfl) ?_)
  refine pk_le (124 + i) 300 (fun _ => pk_eq (124 + i) 300 (fun z => absurd z (by omega)) (fun _ => pk_lt 34 (124 + i) (fun _ => pk_le 100 (124 + i) (fun _ => pk_lt 128 (124 + i) (fun z => absurd z (by omega)) (fun _ => ?_)) (fun z => absurd z (by omega))) (fun z => absurd z (by omega)))) (fun z => absurd z (by omega))
  refine pk_le 120 (124 + i) (fun _ => pk_le 124 (124 + i) (fun _ => pk_le 128 (124 + i) (fun z => absurd z (by omega)) (fun _ => ?_)) (fun z => absurd z (by omega))) (fun z => absurd z (by omega))
  have e : nI (124 + i) - 124 = nI i := cq_sub 124 i
  rw [e, nI_clamp (by omega)]
  refine And.intro (pk_in i 4 hi) (cq_push_ok hh (by omega) hs (fun h' st' hh' hs' => ?_))
  have w := hM (x + 1) h' st' (by omega) hh' hs'
  rw [← nI_1 at_] at w
  exact hQ _ w
theorem cq_m_cell {post : Int32 → St2 → Prop} {tm ac rn wc sz dp lo ex al : Int32} {a3 a4 a6 a7 a8 a9 a10 a11 a12 a13 a14 a15 a16 a17 a18 a19 a20 a21 a22 a23 a24 a26 a27 : Nat → Int32} {V R O : Nat → Int32} {C : List (Nat × Int32 × Nat)} {k at_ g : Nat} {L : List Int32} {y : Int32} (hc : cq_code sz a15 a16 a17 C) (hC : C.length < 400) (hL : L.length < 70)  (he_ : C[at_]? = some (5, nI 128, g)) (hM : cq_M post tm ac rn wc sz dp lo ex al a3 a4 a6 a7 a8 a9 a10 a11 a12 a13 a14 a15 a16 a17 a18 a19 a20 a21 a22 a23 a24 a26 a27 k (at_ + 1) (R (y &&& 7).toNatClampNeg :: L) V R O) : cq_M post tm ac rn wc sz dp lo ex al a3 a4 a6 a7 a8 a9 a10 a11 a12 a13 a14 a15 a16 a17 a18 a19 a20 a21 a22 a23 a24 a26 a27 (k + 1) at_ (y :: L) V R O := by
  intro x h st hx hh hs
  have hl : L.length < 70 := hL
  refine cq_mgo hc hC hx he_ (fun hin ek e15 e16 e17 Q hQ => ?_)
  refine And.intro hin (nm_r (e' := nI 128) (by rw [ek, e15]; rfl) ?_)
  refine pk_le (128) 300 (fun _ => pk_eq (128) 300 (fun z => absurd z (by omega)) (fun _ => pk_lt 34 (128) (fun _ => pk_le 100 (128) (fun _ => pk_lt 128 (128) (fun z => absurd z (by omega)) (fun _ => ?_)) (fun z => absurd z (by omega))) (fun z => absurd z (by omega)))) (fun z => absurd z (by omega))
  refine pk_le 120 128 (fun _ => pk_le 124 128 (fun _ => pk_le 128 128 (fun _ => ?_) (fun z => absurd z (by omega))) (fun z => absurd z (by omega))) (fun z => absurd z (by omega))
  refine cq_pop_ok hh (by omega) hs (fun h1 hh1 => nm_e (And.intro (pk_andIn y 3 (by decide) (by decide)) (cq_push_ok hh1 (by omega) hs.2 (fun h' st' hh' hs' => ?_))))
  have w := hM (x + 1) h' st' (by omega) hh' hs'
  rw [← nI_1 at_] at w
  exact hQ _ w
theorem cq_m_push {post : Int32 → St2 → Prop} {tm ac rn wc sz dp lo ex al : Int32} {a3 a4 a6 a7 a8 a9 a10 a11 a12 a13 a14 a15 a16 a17 a18 a19 a20 a21 a22 a23 a24 a26 a27 : Nat → Int32} {V R O : Nat → Int32} {C : List (Nat × Int32 × Nat)} {k at_ g : Nat} {L : List Int32} {v : Int32} (hc : cq_code sz a15 a16 a17 C) (hC : C.length < 400) (hL : L.length < 70)  (he_ : C[at_]? = some (21, v, g)) (hM : cq_M post tm ac rn wc sz dp lo ex al a3 a4 a6 a7 a8 a9 a10 a11 a12 a13 a14 a15 a16 a17 a18 a19 a20 a21 a22 a23 a24 a26 a27 k (at_ + 1) (v :: L) V R O) : cq_M post tm ac rn wc sz dp lo ex al a3 a4 a6 a7 a8 a9 a10 a11 a12 a13 a14 a15 a16 a17 a18 a19 a20 a21 a22 a23 a24 a26 a27 (k + 1) at_ L V R O := by
  intro x h st hx hh hs
  have hl : L.length < 70 := hL
  refine cq_mgo hc hC hx he_ (fun hin ek e15 e16 e17 Q hQ => ?_)
  refine And.intro hin (nm_r (e' := nI 300) (by rw [ek, e15]; rfl) ?_)
  refine pk_le 300 300 (fun _ => pk_eq 300 300 (fun _ => And.intro hin ?_) (fun z => absurd rfl z)) (fun z => absurd z (by omega))
  rw [ek, e16]
  refine cq_push_ok hh (by omega) hs (fun h' st' hh' hs' => ?_)
  have w := hM (x + 1) h' st' (by omega) hh' hs'
  rw [← nI_1 at_] at w
  exact hQ _ w
theorem cq_m_two {post : Int32 → St2 → Prop} {tm ac rn wc sz dp lo ex al : Int32} {a3 a4 a6 a7 a8 a9 a10 a11 a12 a13 a14 a15 a16 a17 a18 a19 a20 a21 a22 a23 a24 a26 a27 : Nat → Int32} {V R O : Nat → Int32} {C : List (Nat × Int32 × Nat)} {k at_ g : Nat} {L : List Int32} {v y z_ : Int32} (hc : cq_code sz a15 a16 a17 C) (hC : C.length < 400) (hL : L.length < 70) (hv : cq_tk 3 v) (he_ : C[at_]? = some (3, v, g)) (hM : cq_M post tm ac rn wc sz dp lo ex al a3 a4 a6 a7 a8 a9 a10 a11 a12 a13 a14 a15 a16 a17 a18 a19 a20 a21 a22 a23 a24 a26 a27 k (at_ + 1) (cq_two v z_ y :: L) V R O) : cq_M post tm ac rn wc sz dp lo ex al a3 a4 a6 a7 a8 a9 a10 a11 a12 a13 a14 a15 a16 a17 a18 a19 a20 a21 a22 a23 a24 a26 a27 (k + 1) at_ (y :: z_ :: L) V R O := by
  intro x h st hx hh hs
  have hl : L.length < 70 := hL
  refine cq_mgo hc hC hx he_ (fun hin ek e15 e16 e17 Q hQ => ?_)
  obtain ⟨n, hn, hcl, _, rfl⟩ := hv
  have hr := cq_t_3 n hn hcl
  refine And.intro hin (nm_r (e' := nI n) (by rw [ek, e15]; rfl) ?_)
  refine pk_le (n) 300 (fun _ => pk_eq (n) 300 (fun z => absurd z (by omega)) (fun _ => pk_lt 34 (n) (fun _ => pk_le 100 (n) (fun _ => pk_lt 128 (n) (fun _ => pk_lt 142 (n) (fun z => absurd z (by omega)) (fun _ => ?_)) (fun z => absurd z (by omega))) (fun z => absurd z (by omega))) (fun z => absurd z (by omega)))) (fun z => absurd z (by omega))
  unfold wpX_compute
  refine cq_pop_ok hh (by simp; omega) hs (fun h1 hh1 => pk_eq n 139 (fun z => absurd z (by omega)) (fun _ => ?_))
  refine cq_pop_ok hh1 (by omega) hs.2 (fun h2 hh2 => pk_eq n 142 (fun z => absurd z (by omega)) (fun _ => cq_two_w ?_))
  refine cq_push_ok hh2 (by omega) hs.2.2 (fun h' st' hh' hs' => ?_)
  have w := hM (x + 1) h' st' (by omega) hh' hs'
  rw [← nI_1 at_] at w
  exact hQ _ w
theorem cq_m_not {post : Int32 → St2 → Prop} {tm ac rn wc sz dp lo ex al : Int32} {a3 a4 a6 a7 a8 a9 a10 a11 a12 a13 a14 a15 a16 a17 a18 a19 a20 a21 a22 a23 a24 a26 a27 : Nat → Int32} {V R O : Nat → Int32} {C : List (Nat × Int32 × Nat)} {k at_ g : Nat} {L : List Int32} {y : Int32} (hc : cq_code sz a15 a16 a17 C) (hC : C.length < 400) (hL : L.length < 70)  (he_ : C[at_]? = some (2, nI 139, g)) (hM : cq_M post tm ac rn wc sz dp lo ex al a3 a4 a6 a7 a8 a9 a10 a11 a12 a13 a14 a15 a16 a17 a18 a19 a20 a21 a22 a23 a24 a26 a27 k (at_ + 1) ((if y = 0 then 1 else 0) :: L) V R O) : cq_M post tm ac rn wc sz dp lo ex al a3 a4 a6 a7 a8 a9 a10 a11 a12 a13 a14 a15 a16 a17 a18 a19 a20 a21 a22 a23 a24 a26 a27 (k + 1) at_ (y :: L) V R O := by
  intro x h st hx hh hs
  have hl : L.length < 70 := hL
  refine cq_mgo hc hC hx he_ (fun hin ek e15 e16 e17 Q hQ => ?_)
  refine And.intro hin (nm_r (e' := nI 139) (by rw [ek, e15]; rfl) ?_)
  refine pk_le (139) 300 (fun _ => pk_eq (139) 300 (fun z => absurd z (by omega)) (fun _ => pk_lt 34 (139) (fun _ => pk_le 100 (139) (fun _ => pk_lt 128 (139) (fun _ => pk_lt 142 (139) (fun z => absurd z (by omega)) (fun _ => ?_)) (fun z => absurd z (by omega))) (fun z => absurd z (by omega))) (fun z => absurd z (by omega)))) (fun z => absurd z (by omega))
  unfold wpX_compute
  refine cq_pop_ok hh (by omega) hs (fun h1 hh1 => br_t rfl ?_)
  refine cq_it (P := fun r => cq_M post tm ac rn wc sz dp lo ex al a3 a4 a6 a7 a8 a9 a10 a11 a12 a13 a14 a15 a16 a17 a18 a19 a20 a21 a22 a23 a24 a26 a27 k (at_ + 1) (r :: L) V R O) hM (fun hM => ?_) (fun hM => ?_)
  · refine cq_push_ok hh1 (by omega) hs.2 (fun h' st' hh' hs' => ?_)
    have w := hM (x + 1) h' st' (by omega) hh' hs'
    rw [← nI_1 at_] at w
    exact hQ _ w
  · refine cq_push_ok hh1 (by omega) hs.2 (fun h' st' hh' hs' => ?_)
    have w := hM (x + 1) h' st' (by omega) hh' hs'
    rw [← nI_1 at_] at w
    exact hQ _ w
theorem cq_m_choose {post : Int32 → St2 → Prop} {tm ac rn wc sz dp lo ex al : Int32} {a3 a4 a6 a7 a8 a9 a10 a11 a12 a13 a14 a15 a16 a17 a18 a19 a20 a21 a22 a23 a24 a26 a27 : Nat → Int32} {V R O : Nat → Int32} {C : List (Nat × Int32 × Nat)} {k at_ g : Nat} {L : List Int32} {y z_ w_ : Int32} (hc : cq_code sz a15 a16 a17 C) (hC : C.length < 400) (hL : L.length < 70)  (he_ : C[at_]? = some (4, nI 142, g)) (hM : cq_M post tm ac rn wc sz dp lo ex al a3 a4 a6 a7 a8 a9 a10 a11 a12 a13 a14 a15 a16 a17 a18 a19 a20 a21 a22 a23 a24 a26 a27 k (at_ + 1) ((if w_ = 0 then y else z_) :: L) V R O) : cq_M post tm ac rn wc sz dp lo ex al a3 a4 a6 a7 a8 a9 a10 a11 a12 a13 a14 a15 a16 a17 a18 a19 a20 a21 a22 a23 a24 a26 a27 (k + 1) at_ (y :: z_ :: w_ :: L) V R O := by
  intro x h st hx hh hs
  have hl : L.length < 70 := hL
  refine cq_mgo hc hC hx he_ (fun hin ek e15 e16 e17 Q hQ => ?_)
  refine And.intro hin (nm_r (e' := nI 142) (by rw [ek, e15]; rfl) ?_)
  refine pk_le (142) 300 (fun _ => pk_eq (142) 300 (fun z => absurd z (by omega)) (fun _ => pk_lt 34 (142) (fun _ => pk_le 100 (142) (fun _ => pk_lt 128 (142) (fun _ => pk_lt 142 (142) (fun z => absurd z (by omega)) (fun _ => ?_)) (fun z => absurd z (by omega))) (fun z => absurd z (by omega))) (fun z => absurd z (by omega)))) (fun z => absurd z (by omega))
  unfold wpX_compute
  refine cq_pop_ok hh (by simp; omega) hs (fun h1 hh1 => br_f (by decide) ?_)
  refine cq_pop_ok hh1 (by simp; omega) hs.2 (fun h2 hh2 => br_t rfl ?_)
  refine cq_pop_ok hh2 (by omega) hs.2.2 (fun h3 hh3 => ?_)
  refine cq_it (P := fun r => cq_M post tm ac rn wc sz dp lo ex al a3 a4 a6 a7 a8 a9 a10 a11 a12 a13 a14 a15 a16 a17 a18 a19 a20 a21 a22 a23 a24 a26 a27 k (at_ + 1) (r :: L) V R O) hM (fun hM => ?_) (fun hM => ?_)
  · refine cq_push_ok hh3 (by omega) hs.2.2.2 (fun h' st' hh' hs' => ?_)
    have w := hM (x + 1) h' st' (by omega) hh' hs'
    rw [← nI_1 at_] at w
    exact hQ _ w
  · refine cq_push_ok hh3 (by omega) hs.2.2.2 (fun h' st' hh' hs' => ?_)
    have w := hM (x + 1) h' st' (by omega) hh' hs'
    rw [← nI_1 at_] at w
    exact hQ _ w
theorem cq_m_asg {post : Int32 → St2 → Prop} {tm ac rn wc sz dp lo ex al : Int32} {a3 a4 a6 a7 a8 a9 a10 a11 a12 a13 a14 a15 a16 a17 a18 a19 a20 a21 a22 a23 a24 a26 a27 : Nat → Int32} {V R O : Nat → Int32} {C : List (Nat × Int32 × Nat)} {k at_ g : Nat} {L : List Int32} {i : Nat} {y : Int32} (hc : cq_code sz a15 a16 a17 C) (hC : C.length < 400) (hL : L.length < 70) (hi : i < 16) (he_ : C[at_]? = some (7, nI (10 + i), g)) (hM : cq_M post tm ac rn wc sz dp lo ex al a3 a4 a6 a7 a8 a9 a10 a11 a12 a13 a14 a15 a16 a17 a18 a19 a20 a21 a22 a23 a24 a26 a27 k (at_ + 1) L (upd V i y) R O) : cq_M post tm ac rn wc sz dp lo ex al a3 a4 a6 a7 a8 a9 a10 a11 a12 a13 a14 a15 a16 a17 a18 a19 a20 a21 a22 a23 a24 a26 a27 (k + 1) at_ (y :: L) V R O := by
  intro x h st hx hh hs
  have hl : L.length < 70 := hL
  refine cq_mgo hc hC hx he_ (fun hin ek e15 e16 e17 Q hQ => ?_)
  refine And.intro hin (nm_r (e' := nI (10 + i)) (by rw [ek, e15]; rfl) ?_)
  refine pk_le (10 + i) 300 (fun _ => pk_eq (10 + i) 300 (fun z => absurd z (by omega)) (fun _ => pk_lt 34 (10 + i) (fun z => absurd z (by omega)) (fun _ => ?_))) (fun z => absurd z (by omega))
  have e : nI (10 + i) - 10 = nI i := cq_sub 10 i
  unfold wpX_change
  refine cq_pop_ok hh (by omega) hs (fun h1 hh1 => ?_)
  refine pk_le 30 (10 + i) (fun z => absurd z (by omega)) (fun _ => ?_)
  rw [e]
  refine And.intro (pk_in i 16 hi) (nm_e ?_)
  rw [nI_clamp (by omega)]
  have w := hM (x + 1) h1 st (by omega) hh1 hs.2
  rw [← nI_1 at_] at w
  exact hQ _ w
theorem cq_m_put {post : Int32 → St2 → Prop} {tm ac rn wc sz dp lo ex al : Int32} {a3 a4 a6 a7 a8 a9 a10 a11 a12 a13 a14 a15 a16 a17 a18 a19 a20 a21 a22 a23 a24 a26 a27 : Nat → Int32} {V R O : Nat → Int32} {C : List (Nat × Int32 × Nat)} {k at_ g : Nat} {L : List Int32} {i : Nat} {y : Int32} (hc : cq_code sz a15 a16 a17 C) (hC : C.length < 400) (hL : L.length < 70) (hi : i < 4) (he_ : C[at_]? = some (7, nI (30 + i), g)) (hM : cq_M post tm ac rn wc sz dp lo ex al a3 a4 a6 a7 a8 a9 a10 a11 a12 a13 a14 a15 a16 a17 a18 a19 a20 a21 a22 a23 a24 a26 a27 k (at_ + 1) L V R (upd O i y)) : cq_M post tm ac rn wc sz dp lo ex al a3 a4 a6 a7 a8 a9 a10 a11 a12 a13 a14 a15 a16 a17 a18 a19 a20 a21 a22 a23 a24 a26 a27 (k + 1) at_ (y :: L) V R O := by
  intro x h st hx hh hs
  have hl : L.length < 70 := hL
  refine cq_mgo hc hC hx he_ (fun hin ek e15 e16 e17 Q hQ => ?_)
  refine And.intro hin (nm_r (e' := nI (30 + i)) (by rw [ek, e15]; rfl) ?_)
  refine pk_le (30 + i) 300 (fun _ => pk_eq (30 + i) 300 (fun z => absurd z (by omega)) (fun _ => pk_lt 34 (30 + i) (fun z => absurd z (by omega)) (fun _ => ?_))) (fun z => absurd z (by omega))
  have e : nI (30 + i) - 30 = nI i := cq_sub 30 i
  unfold wpX_change
  refine cq_pop_ok hh (by omega) hs (fun h1 hh1 => ?_)
  refine pk_le 30 (30 + i) (fun _ => pk_le 34 (30 + i) (fun z => absurd z (by omega)) (fun _ => ?_)) (fun z => absurd z (by omega))
  rw [e]
  refine And.intro (pk_in i 4 hi) (nm_e ?_)
  rw [nI_clamp (by omega)]
  have w := hM (x + 1) h1 st (by omega) hh1 hs.2
  rw [← nI_1 at_] at w
  exact hQ _ w
theorem cq_m_store {post : Int32 → St2 → Prop} {tm ac rn wc sz dp lo ex al : Int32} {a3 a4 a6 a7 a8 a9 a10 a11 a12 a13 a14 a15 a16 a17 a18 a19 a20 a21 a22 a23 a24 a26 a27 : Nat → Int32} {V R O : Nat → Int32} {C : List (Nat × Int32 × Nat)} {k at_ g : Nat} {L : List Int32} {y z_ : Int32} (hc : cq_code sz a15 a16 a17 C) (hC : C.length < 400) (hL : L.length < 70)  (he_ : C[at_]? = some (8, nI 34, g)) (hM : cq_M post tm ac rn wc sz dp lo ex al a3 a4 a6 a7 a8 a9 a10 a11 a12 a13 a14 a15 a16 a17 a18 a19 a20 a21 a22 a23 a24 a26 a27 k (at_ + 1) L V (upd R (z_ &&& 7).toNatClampNeg y) O) : cq_M post tm ac rn wc sz dp lo ex al a3 a4 a6 a7 a8 a9 a10 a11 a12 a13 a14 a15 a16 a17 a18 a19 a20 a21 a22 a23 a24 a26 a27 (k + 1) at_ (y :: z_ :: L) V R O := by
  intro x h st hx hh hs
  have hl : L.length < 70 := hL
  refine cq_mgo hc hC hx he_ (fun hin ek e15 e16 e17 Q hQ => ?_)
  refine And.intro hin (nm_r (e' := nI 34) (by rw [ek, e15]; rfl) ?_)
  refine pk_le (34) 300 (fun _ => pk_eq (34) 300 (fun z => absurd z (by omega)) (fun _ => pk_lt 34 (34) (fun z => absurd z (by omega)) (fun _ => ?_))) (fun z => absurd z (by omega))
  unfold wpX_change
  refine cq_pop_ok hh (by simp; omega) hs (fun h1 hh1 => pk_le 30 34 (fun _ => pk_le 34 34 (fun _ => ?_) (fun z => absurd z (by omega))) (fun z => absurd z (by omega)))
  refine cq_pop_ok hh1 (by omega) hs.2 (fun h2 hh2 => nm_e (And.intro (pk_andIn z_ 3 (by decide) (by decide)) (nm_e ?_)))
  have w := hM (x + 1) h2 st (by omega) hh2 hs.2.2
  rw [← nI_1 at_] at w
  exact hQ _ w
theorem cq_m_jump {post : Int32 → St2 → Prop} {tm ac rn wc sz dp lo ex al : Int32} {a3 a4 a6 a7 a8 a9 a10 a11 a12 a13 a14 a15 a16 a17 a18 a19 a20 a21 a22 a23 a24 a26 a27 : Nat → Int32} {V R O : Nat → Int32} {C : List (Nat × Int32 × Nat)} {k at_ g : Nat} {L : List Int32} {v : Int32} (hc : cq_code sz a15 a16 a17 C) (hC : C.length < 400) (hL : L.length < 70)  (he_ : C[at_]? = some (22, v, g)) (hM : cq_M post tm ac rn wc sz dp lo ex al a3 a4 a6 a7 a8 a9 a10 a11 a12 a13 a14 a15 a16 a17 a18 a19 a20 a21 a22 a23 a24 a26 a27 k g L V R O) : cq_M post tm ac rn wc sz dp lo ex al a3 a4 a6 a7 a8 a9 a10 a11 a12 a13 a14 a15 a16 a17 a18 a19 a20 a21 a22 a23 a24 a26 a27 (k + 1) at_ L V R O := by
  intro x h st hx hh hs
  have hl : L.length < 70 := hL
  refine cq_mgo hc hC hx he_ (fun hin ek e15 e16 e17 Q hQ => ?_)
  refine And.intro hin (nm_r (e' := nI 301) (by rw [ek, e15]; rfl) (pk_le 301 300 (fun z => absurd z (by omega)) (fun _ => ?_)))
  refine And.intro hin (nm_r (e' := nI 301) (by rw [ek, e15]; rfl) (And.intro hin (nm_r (e' := v) (by rw [ek, e16]; rfl) ?_)))
  refine br_t rfl (And.intro hin ?_)
  rw [ek, e17]
  exact hQ _ (hM (x + 1) h st (by omega) hh hs)
theorem cq_m_ju {post : Int32 → St2 → Prop} {tm ac rn wc sz dp lo ex al : Int32} {a3 a4 a6 a7 a8 a9 a10 a11 a12 a13 a14 a15 a16 a17 a18 a19 a20 a21 a22 a23 a24 a26 a27 : Nat → Int32} {V R O : Nat → Int32} {C : List (Nat × Int32 × Nat)} {k at_ g : Nat} {L : List Int32} {v y : Int32} (hc : cq_code sz a15 a16 a17 C) (hC : C.length < 400) (hL : L.length < 70) (hM : y = 0 → cq_M post tm ac rn wc sz dp lo ex al a3 a4 a6 a7 a8 a9 a10 a11 a12 a13 a14 a15 a16 a17 a18 a19 a20 a21 a22 a23 a24 a26 a27 k g L V R O) (hN : ¬ y = 0 → cq_M post tm ac rn wc sz dp lo ex al a3 a4 a6 a7 a8 a9 a10 a11 a12 a13 a14 a15 a16 a17 a18 a19 a20 a21 a22 a23 a24 a26 a27 k (at_ + 1) L V R O) (he_ : C[at_]? = some (23, v, g))  : cq_M post tm ac rn wc sz dp lo ex al a3 a4 a6 a7 a8 a9 a10 a11 a12 a13 a14 a15 a16 a17 a18 a19 a20 a21 a22 a23 a24 a26 a27 (k + 1) at_ (y :: L) V R O := by
  intro x h st hx hh hs
  have hl : L.length < 70 := hL
  refine cq_mgo hc hC hx he_ (fun hin ek e15 e16 e17 Q hQ => ?_)
  refine And.intro hin (nm_r (e' := nI 302) (by rw [ek, e15]; rfl) (pk_le 302 300 (fun z => absurd z (by omega)) (fun _ => ?_)))
  refine And.intro hin (nm_r (e' := nI 302) (by rw [ek, e15]; rfl) (And.intro hin (nm_r (e' := v) (by rw [ek, e16]; rfl) ?_)))
  refine br_f (by decide) (br_t rfl (cq_pop_ok hh (by omega) hs (fun h1 hh1 => br_c (fun z => And.intro hin ?_) (fun z => ?_))))
  · rw [ek, e17]
    exact hQ _ (hM z (x + 1) h1 st (by omega) hh1 hs.2)
  · have w := hN z (x + 1) h1 st (by omega) hh1 hs.2
    rw [← nI_1 at_] at w
    exact hQ _ w
theorem cq_m_jue {post : Int32 → St2 → Prop} {tm ac rn wc sz dp lo ex al : Int32} {a3 a4 a6 a7 a8 a9 a10 a11 a12 a13 a14 a15 a16 a17 a18 a19 a20 a21 a22 a23 a24 a26 a27 : Nat → Int32} {V R O : Nat → Int32} {C : List (Nat × Int32 × Nat)} {k at_ g : Nat} {L : List Int32} {v y : Int32} (hc : cq_code sz a15 a16 a17 C) (hC : C.length < 400) (hL : L.length < 70) (hM : y = v → cq_M post tm ac rn wc sz dp lo ex al a3 a4 a6 a7 a8 a9 a10 a11 a12 a13 a14 a15 a16 a17 a18 a19 a20 a21 a22 a23 a24 a26 a27 k (at_ + 1) L V R O) (hN : ¬ y = v → cq_M post tm ac rn wc sz dp lo ex al a3 a4 a6 a7 a8 a9 a10 a11 a12 a13 a14 a15 a16 a17 a18 a19 a20 a21 a22 a23 a24 a26 a27 k g (y :: L) V R O) (he_ : C[at_]? = some (24, v, g))  : cq_M post tm ac rn wc sz dp lo ex al a3 a4 a6 a7 a8 a9 a10 a11 a12 a13 a14 a15 a16 a17 a18 a19 a20 a21 a22 a23 a24 a26 a27 (k + 1) at_ (y :: L) V R O := by
  intro x h st hx hh hs
  have hl : L.length < 70 := hL
  refine cq_mgo hc hC hx he_ (fun hin ek e15 e16 e17 Q hQ => ?_)
  refine And.intro hin (nm_r (e' := nI 303) (by rw [ek, e15]; rfl) (pk_le 303 300 (fun z => absurd z (by omega)) (fun _ => ?_)))
  refine And.intro hin (nm_r (e' := nI 303) (by rw [ek, e15]; rfl) (And.intro hin (nm_r (e' := v) (by rw [ek, e16]; rfl) ?_)))
  refine br_f (by decide) (br_f (by decide) (br_t rfl ?_))
  have e1 : h - 1 = nI L.length := by rw [hh]; exact nI_pred L.length
  rw [e1, nI_clamp (by omega), hs.1]
  refine And.intro (cq_vi (by omega)) (br_c (fun z => ?_) (fun z => ?_))
  · refine br_f (by decide) (nm_r (e' := nI L.length) e1 (br_f (by decide) ?_))
    have w := hM z (x + 1) _ st (by omega) rfl hs.2
    rw [← nI_1 at_] at w
    exact hQ _ w
  · refine br_t rfl (nm_r (e' := h) (by rw [Int32.sub_zero]) (br_t rfl (And.intro hin ?_)))
    rw [ek, e17]
    exact hQ _ (hN z (x + 1) h st (by omega) hh hs)
theorem cq_m_drop {post : Int32 → St2 → Prop} {tm ac rn wc sz dp lo ex al : Int32} {a3 a4 a6 a7 a8 a9 a10 a11 a12 a13 a14 a15 a16 a17 a18 a19 a20 a21 a22 a23 a24 a26 a27 : Nat → Int32} {V R O : Nat → Int32} {C : List (Nat × Int32 × Nat)} {k at_ g : Nat} {L : List Int32} {v y : Int32} (hc : cq_code sz a15 a16 a17 C) (hC : C.length < 400) (hL : L.length < 70)  (he_ : C[at_]? = some (25, v, g)) (hM : cq_M post tm ac rn wc sz dp lo ex al a3 a4 a6 a7 a8 a9 a10 a11 a12 a13 a14 a15 a16 a17 a18 a19 a20 a21 a22 a23 a24 a26 a27 k (at_ + 1) L V R O) : cq_M post tm ac rn wc sz dp lo ex al a3 a4 a6 a7 a8 a9 a10 a11 a12 a13 a14 a15 a16 a17 a18 a19 a20 a21 a22 a23 a24 a26 a27 (k + 1) at_ (y :: L) V R O := by
  intro x h st hx hh hs
  have hl : L.length < 70 := hL
  refine cq_mgo hc hC hx he_ (fun hin ek e15 e16 e17 Q hQ => ?_)
  refine And.intro hin (nm_r (e' := nI 304) (by rw [ek, e15]; rfl) (pk_le 304 300 (fun z => absurd z (by omega)) (fun _ => ?_)))
  refine And.intro hin (nm_r (e' := nI 304) (by rw [ek, e15]; rfl) (And.intro hin (nm_r (e' := v) (by rw [ek, e16]; rfl) ?_)))
  have e1 : h - 1 = nI L.length := by rw [hh]; exact nI_pred L.length
  refine br_f (by decide) (br_f (by decide) (br_f (by decide) (br_f (by decide) (br_f (by decide) (br_f (by decide) (br_f (by decide) (br_f (by decide) (br_f (by decide) (br_t rfl (nm_r (e' := nI L.length) e1 ?_))))))))))
  have w := hM (x + 1) _ st (by omega) rfl hs.2
  rw [← nI_1 at_] at w
  exact hQ _ w
theorem cq_m_over {post : Int32 → St2 → Prop} {tm ac rn wc sz dp lo ex al : Int32} {a3 a4 a6 a7 a8 a9 a10 a11 a12 a13 a14 a15 a16 a17 a18 a19 a20 a21 a22 a23 a24 a26 a27 : Nat → Int32} {V R O : Nat → Int32} {C : List (Nat × Int32 × Nat)} {k at_ g : Nat} {L : List Int32} {v : Int32} (hc : cq_code sz a15 a16 a17 C) (hC : C.length < 400) (hL : L.length < 70) (H : ∀ h_ o_ s_, post 0 (tm, ac, rn, wc, sz, dp, lo, ex, h_, al, o_, V, R, a3, a4, O, a6, a7, a8, a9, a10, a11, a12, a13, a14, a15, a16, a17, a18, a19, a20, a21, a22, a23, a24, s_, a26, a27)) (he_ : C[at_]? = some (26, v, g))  : cq_M post tm ac rn wc sz dp lo ex al a3 a4 a6 a7 a8 a9 a10 a11 a12 a13 a14 a15 a16 a17 a18 a19 a20 a21 a22 a23 a24 a26 a27 ((k + 1) + 1) at_ L V R O := by
  intro x h st hx hh hs
  have hl : L.length < 70 := hL
  refine cq_mgo hc hC hx he_ (fun hin ek e15 e16 e17 Q hQ => ?_)
  refine And.intro hin (nm_r (e' := nI 311) (by rw [ek, e15]; rfl) (pk_le 311 300 (fun z => absurd z (by omega)) (fun _ => ?_)))
  refine And.intro hin (nm_r (e' := nI 311) (by rw [ek, e15]; rfl) (And.intro hin (nm_r (e' := v) (by rw [ek, e16]; rfl) ?_)))
  refine br_f (by decide) (br_f (by decide) (br_f (by decide) (br_f (by decide) (br_f (by decide) (br_f (by decide) (br_f (by decide) (br_f (by decide) (br_f (by decide) (br_f (by decide) ?_)))))))))
  refine hQ _ ?_
  exact pk_le 200000 (x + 1) (fun z => absurd z (by omega)) (fun _ => br_f (by decide) (H _ _ _))
theorem cq_cycle_ok {post : Int32 → St2 → Prop} {tm ac rn wc sz dp lo ex hgt al ov : Int32} {a1 a2 a3 a4 a5 a6 a7 a8 a9 a10 a11 a12 a13 a14 a15 a16 a17 a18 a19 a20 a21 a22 a23 a24 a25 a26 a27 : Nat → Int32} {p0 : Int32} {q k : Nat} (hp : p0 = nI q) (hq : q ≤ 100) (hr : ¬ rn = 0) (hk : k ≤ 1000)
    (H : ∀ f tk, (∀ j, j < 4 → tk j = a3 j) → cq_M post f ac rn wc sz dp lo ex 0 a3 tk a6 a7 a8 a9 a10 a11 a12 a13 a14 a15 a16 a17 a18 a19 a20 a21 a22 a23 a24 a26 a27 k 0 [] a1 a2 a5) : wpX_cycle post (tm, ac, rn, wc, sz, dp, lo, ex, hgt, al, ov, a1, a2, a3, a4, a5, a6, a7, a8, a9, a10, a11, a12, a13, a14, a15, a16, a17, a18, a19, a20, a21, a22, a23, a24, a25, a26, a27) p0 := by
  subst hp
  refine br_f (nI_pos (by omega)) (pk_le q 100 (fun _ => br_f hr (nm_e (Exists.intro 5 ?_))) (fun z => absurd z (by omega)))
  have h4 : ∀ (i : Nat), i < 4 → vp_in (nI i) 4 := fun i hi => pk_in i 4 hi
  refine br_f (by decide) (And.intro (h4 0 (by omega)) (And.intro (h4 0 (by omega)) (nm_e (nm_r (e' := nI 1) rfl ?_))))
  refine br_f (by decide) (And.intro (h4 1 (by omega)) (And.intro (h4 1 (by omega)) (nm_e (nm_r (e' := nI 2) rfl ?_))))
  refine br_f (by decide) (And.intro (h4 2 (by omega)) (And.intro (h4 2 (by omega)) (nm_e (nm_r (e' := nI 3) rfl ?_))))
  refine br_f (by decide) (And.intro (h4 3 (by omega)) (And.intro (h4 3 (by omega)) (nm_e (nm_r (e' := nI 4) rfl ?_))))
  refine br_t (by decide) (Exists.intro k (H _ _ ?_ 0 0 a25 (by omega) rfl trivial))
  intro j hj
  have hj' : j = 0 ∨ j = 1 ∨ j = 2 ∨ j = 3 := by omega
  rcases hj' with rfl | rfl | rfl | rfl <;> rfl
end
section
/-! the object as the law sees it -/
def cq_L (act run : Int32) (T0 T1 : List (Nat × Int32)) (V R I O : Nat → Int32) (ac rn : Int32) (a1 a2 a3 a5 a11 a12 : Nat → Int32) : Prop :=
  ac = act ∧ rn = run ∧ cq_toks 0 a11 a12 T0 ∧ cq_toks 1 a11 a12 T1 ∧ a1 = V ∧ a2 = R ∧ a3 = I ∧ a5 = O
def cq_fit (T : List Nat) (c : Nat) : Bool := match cq_scan T [1] with
  | some (w :: _) => (w == 1 && decide (6 ≤ c)) || (w == 0 && decide (c ≤ 5))
  | _ => false
theorem cq_fit_e {T : List Nat} {c : Nat} (h : cq_fit T c = true) : ∃ w W, cq_scan T [1] = some (w :: W) ∧ (w = 1 ∧ 6 ≤ c ∨ w = 0 ∧ c ≤ 5) := by
  unfold cq_fit at h
  split at h
  · rename_i w W hw
    exact ⟨w, W, hw, by simpa using h⟩
  · cases h
theorem cq_toks_add {p c : Nat} {v : Int32} {a11 a12 : Nat → Int32} {T : List (Nat × Int32)} (h : cq_toks p a11 a12 T) (hk : cq_tk c v) (hl : T.length ≤ 29) : cq_toks p (upd a11 (60 * p + T.length) v) (upd a12 p (nI (T.length + 1))) (T ++ [(c, v)]) := by
  refine ⟨?_, by simp; omega, fun j c' v' hj => ?_⟩
  · rw [pk_us]
    simp
  · by_cases hx : j = T.length
    · subst hx
      rw [List.getElem?_append_right (Nat.le_refl _), Nat.sub_self] at hj
      have e : (c, v) = (c', v') := by simpa using hj
      cases e
      exact ⟨hk, pk_us⟩
    · have hlt : j < T.length := by
        have := cq_some_lt hj
        simp at this
        omega
      rw [List.getElem?_append_left hlt] at hj
      rw [pk_un (by omega)]
      exact h.2.2 j c' v' hj
theorem cq_toks_other {p q i : Nat} {v x : Int32} {a11 a12 : Nat → Int32} {T : List (Nat × Int32)} (h : cq_toks q a11 a12 T) (hpq : p ≠ q) (hi : i ≤ 29) : cq_toks q (upd a11 (60 * p + i) v) (upd a12 p x) T := by
  have hl := h.2.1
  refine ⟨?_, hl, fun j c' v' hj => ?_⟩
  · rw [pk_un (fun z => hpq z.symm)]
    exact h.1
  · have hlt := cq_some_lt hj
    rw [pk_un (by omega)]
    exact h.2.2 j c' v' hj
theorem cq_toks_nil {p : Nat} {a11 a12 : Nat → Int32} : cq_toks p a11 (upd a12 p 0) [] :=
  ⟨pk_us, by simp, fun j c v hj => by simp at hj⟩
theorem cq_toks_nil2 {p q : Nat} {x : Int32} {a11 a12 : Nat → Int32} {T : List (Nat × Int32)} (h : cq_toks q a11 a12 T) (hpq : p ≠ q) : cq_toks q a11 (upd a12 p x) T :=
  ⟨by rw [pk_un (fun z => hpq z.symm)]; exact h.1, h.2.1, h.2.2⟩
theorem cq_lfeed {post : Int32 → St2 → Prop} {tm ac rn wc sz dp lo ex hgt al ov : Int32} {a1 a2 a3 a4 a5 a6 a7 a8 a9 a10 a11 a12 a13 a14 a15 a16 a17 a18 a19 a20 a21 a22 a23 a24 a25 a26 a27 : Nat → Int32} {act run : Int32} {T0 T1 : List (Nat × Int32)} {V R I O : Nat → Int32} {v : Int32} (c n : Nat) (h : cq_L act run T0 T1 V R I O ac rn a1 a2 a3 a5 a11 a12) (hfx : run = 0 ∨ ¬ nI 0 = act)
    (H : ∀ {tm_1 ac_1 rn_1 wc_1 sz_1 dp_1 lo_1 ex_1 hgt_1 al_1 ov_1 : Int32} {a1_1 a2_1 a3_1 a4_1 a5_1 a6_1 a7_1 a8_1 a9_1 a10_1 a11_1 a12_1 a13_1 a14_1 a15_1 a16_1 a17_1 a18_1 a19_1 a20_1 a21_1 a22_1 a23_1 a24_1 a25_1 a26_1 a27_1 : Nat → Int32}, cq_L act run (T0 ++ [(c, v)]) T1 V R I O ac_1 rn_1 a1_1 a2_1 a3_1 a5_1 a11_1 a12_1 → post (nI (T0.length + 1)) (tm_1, ac_1, rn_1, wc_1, sz_1, dp_1, lo_1, ex_1, hgt_1, al_1, ov_1, a1_1, a2_1, a3_1, a4_1, a5_1, a6_1, a7_1, a8_1, a9_1, a10_1, a11_1, a12_1, a13_1, a14_1, a15_1, a16_1, a17_1, a18_1, a19_1, a20_1, a21_1, a22_1, a23_1, a24_1, a25_1, a26_1, a27_1))
    (hs : cq_fit (T0.map Prod.fst) c = true := by rfl) (hv : v = nI n := by rfl) (hn : n < 291 := by decide) (hc : cq_cls n = c := by decide) (h9 : c ≠ 99 := by decide) (hl : T0.length ≤ 29 := by simp) : wpX_feed post (tm, ac, rn, wc, sz, dp, lo, ex, hgt, al, ov, a1, a2, a3, a4, a5, a6, a7, a8, a9, a10, a11, a12, a13, a14, a15, a16, a17, a18, a19, a20, a21, a22, a23, a24, a25, a26, a27) 0 v := by
  obtain ⟨rfl, rfl, h0, h1, rfl, rfl, rfl, rfl⟩ := h
  obtain ⟨w, W, hw, hf⟩ := cq_fit_e hs
  have hk : cq_tk c v := ⟨n, hn, hc, h9, hv⟩
  exact cq_feed_ok (p := 0) (by omega) hfx h0 hw hk hf (fun f b => H ⟨rfl, rfl, cq_toks_add h0 hk hl, cq_toks_other h1 (by omega) hl, rfl, rfl, rfl, rfl⟩)
theorem cq_lfeed1 {post : Int32 → St2 → Prop} {tm ac rn wc sz dp lo ex hgt al ov : Int32} {a1 a2 a3 a4 a5 a6 a7 a8 a9 a10 a11 a12 a13 a14 a15 a16 a17 a18 a19 a20 a21 a22 a23 a24 a25 a26 a27 : Nat → Int32} {act run : Int32} {T0 T1 : List (Nat × Int32)} {V R I O : Nat → Int32} {v : Int32} (c n : Nat) (h : cq_L act run T0 T1 V R I O ac rn a1 a2 a3 a5 a11 a12) (hfx : run = 0 ∨ ¬ nI 1 = act)
    (H : ∀ {tm_1 ac_1 rn_1 wc_1 sz_1 dp_1 lo_1 ex_1 hgt_1 al_1 ov_1 : Int32} {a1_1 a2_1 a3_1 a4_1 a5_1 a6_1 a7_1 a8_1 a9_1 a10_1 a11_1 a12_1 a13_1 a14_1 a15_1 a16_1 a17_1 a18_1 a19_1 a20_1 a21_1 a22_1 a23_1 a24_1 a25_1 a26_1 a27_1 : Nat → Int32}, cq_L act run T0 (T1 ++ [(c, v)]) V R I O ac_1 rn_1 a1_1 a2_1 a3_1 a5_1 a11_1 a12_1 → post (nI (T1.length + 1)) (tm_1, ac_1, rn_1, wc_1, sz_1, dp_1, lo_1, ex_1, hgt_1, al_1, ov_1, a1_1, a2_1, a3_1, a4_1, a5_1, a6_1, a7_1, a8_1, a9_1, a10_1, a11_1, a12_1, a13_1, a14_1, a15_1, a16_1, a17_1, a18_1, a19_1, a20_1, a21_1, a22_1, a23_1, a24_1, a25_1, a26_1, a27_1))
    (hs : cq_fit (T1.map Prod.fst) c = true := by rfl) (hv : v = nI n := by rfl) (hn : n < 291 := by decide) (hc : cq_cls n = c := by decide) (h9 : c ≠ 99 := by decide) (hl : T1.length ≤ 29 := by simp) : wpX_feed post (tm, ac, rn, wc, sz, dp, lo, ex, hgt, al, ov, a1, a2, a3, a4, a5, a6, a7, a8, a9, a10, a11, a12, a13, a14, a15, a16, a17, a18, a19, a20, a21, a22, a23, a24, a25, a26, a27) 1 v := by
  obtain ⟨rfl, rfl, h0, h1, rfl, rfl, rfl, rfl⟩ := h
  obtain ⟨w, W, hw, hf⟩ := cq_fit_e hs
  have hk : cq_tk c v := ⟨n, hn, hc, h9, hv⟩
  exact cq_feed_ok (p := 1) (by omega) hfx h1 hw hk hf (fun f b => H ⟨rfl, rfl, cq_toks_other h0 (by omega) hl, cq_toks_add h1 hk hl, rfl, rfl, rfl, rfl⟩)
theorem cq_lfull {post : Int32 → St2 → Prop} {tm ac rn wc sz dp lo ex hgt al ov : Int32} {a1 a2 a3 a4 a5 a6 a7 a8 a9 a10 a11 a12 a13 a14 a15 a16 a17 a18 a19 a20 a21 a22 a23 a24 a25 a26 a27 : Nat → Int32} {act run : Int32} {T0 T1 : List (Nat × Int32)} {V R I O : Nat → Int32} {v : Int32} (h : cq_L act run T0 T1 V R I O ac rn a1 a2 a3 a5 a11 a12) (hfx : run = 0 ∨ ¬ nI 0 = act)
    (H : ∀ {tm_1 ac_1 rn_1 wc_1 sz_1 dp_1 lo_1 ex_1 hgt_1 al_1 ov_1 : Int32} {a1_1 a2_1 a3_1 a4_1 a5_1 a6_1 a7_1 a8_1 a9_1 a10_1 a11_1 a12_1 a13_1 a14_1 a15_1 a16_1 a17_1 a18_1 a19_1 a20_1 a21_1 a22_1 a23_1 a24_1 a25_1 a26_1 a27_1 : Nat → Int32}, cq_L act run T0 T1 V R I O ac_1 rn_1 a1_1 a2_1 a3_1 a5_1 a11_1 a12_1 → post (-3) (tm_1, ac_1, rn_1, wc_1, sz_1, dp_1, lo_1, ex_1, hgt_1, al_1, ov_1, a1_1, a2_1, a3_1, a4_1, a5_1, a6_1, a7_1, a8_1, a9_1, a10_1, a11_1, a12_1, a13_1, a14_1, a15_1, a16_1, a17_1, a18_1, a19_1, a20_1, a21_1, a22_1, a23_1, a24_1, a25_1, a26_1, a27_1))
    (hs : cq_scan (T0.map Prod.fst) [1] = some [] := by rfl) : wpX_feed post (tm, ac, rn, wc, sz, dp, lo, ex, hgt, al, ov, a1, a2, a3, a4, a5, a6, a7, a8, a9, a10, a11, a12, a13, a14, a15, a16, a17, a18, a19, a20, a21, a22, a23, a24, a25, a26, a27) 0 v := by
  obtain ⟨rfl, rfl, h0, h1, rfl, rfl, rfl, rfl⟩ := h
  exact cq_feed_full (p := 0) (by omega) hfx h0 hs (fun f b => H ⟨rfl, rfl, h0, h1, rfl, rfl, rfl, rfl⟩)
theorem cq_lcomplete {post : Int32 → St2 → Prop} {tm ac rn wc sz dp lo ex hgt al ov : Int32} {a1 a2 a3 a4 a5 a6 a7 a8 a9 a10 a11 a12 a13 a14 a15 a16 a17 a18 a19 a20 a21 a22 a23 a24 a25 a26 a27 : Nat → Int32} {act run : Int32} {T0 T1 : List (Nat × Int32)} {V R I O : Nat → Int32} (h : cq_L act run T0 T1 V R I O ac rn a1 a2 a3 a5 a11 a12)
    (hs : cq_scan (T0.map Prod.fst) [1] = some [])
    (H : ∀ {tm_1 ac_1 rn_1 wc_1 sz_1 dp_1 lo_1 ex_1 hgt_1 al_1 ov_1 : Int32} {a1_1 a2_1 a3_1 a4_1 a5_1 a6_1 a7_1 a8_1 a9_1 a10_1 a11_1 a12_1 a13_1 a14_1 a15_1 a16_1 a17_1 a18_1 a19_1 a20_1 a21_1 a22_1 a23_1 a24_1 a25_1 a26_1 a27_1 : Nat → Int32}, cq_L act run T0 T1 V R I O ac_1 rn_1 a1_1 a2_1 a3_1 a5_1 a11_1 a12_1 → post 1 (tm_1, ac_1, rn_1, wc_1, sz_1, dp_1, lo_1, ex_1, hgt_1, al_1, ov_1, a1_1, a2_1, a3_1, a4_1, a5_1, a6_1, a7_1, a8_1, a9_1, a10_1, a11_1, a12_1, a13_1, a14_1, a15_1, a16_1, a17_1, a18_1, a19_1, a20_1, a21_1, a22_1, a23_1, a24_1, a25_1, a26_1, a27_1)) : wpX_complete post (tm, ac, rn, wc, sz, dp, lo, ex, hgt, al, ov, a1, a2, a3, a4, a5, a6, a7, a8, a9, a10, a11, a12, a13, a14, a15, a16, a17, a18, a19, a20, a21, a22, a23, a24, a25, a26, a27) 0 := by
  obtain ⟨rfl, rfl, h0, h1, rfl, rfl, rfl, rfl⟩ := h
  exact cq_complete_ok (p := 0) (by omega) h0 hs (fun f b => H ⟨rfl, rfl, h0, h1, rfl, rfl, rfl, rfl⟩)
theorem cq_lact {post : Int32 → St2 → Prop} {tm ac rn wc sz dp lo ex hgt al ov : Int32} {a1 a2 a3 a4 a5 a6 a7 a8 a9 a10 a11 a12 a13 a14 a15 a16 a17 a18 a19 a20 a21 a22 a23 a24 a25 a26 a27 : Nat → Int32} {act run : Int32} {T0 T1 : List (Nat × Int32)} {V R I O : Nat → Int32} {S : List Nat} {n : Nat} {Cf Ce : List (Nat × Int32 × Nat)} (h : cq_L act run T0 T1 V R I O ac rn a1 a2 a3 a5 a11 a12)
    (hs : cq_scan (T0.map Prod.fst) [1] = some []) (hS : cq_sp (T0.map Prod.fst) = some S) (hr : cq_crun T0 S n [] [(0, 0, none, none)] = some Cf) (hCf : Cf.length < 390) (hCe : cq_end Cf = Ce)
    (H : ∀ {tm_1 ac_1 rn_1 wc_1 sz_1 dp_1 lo_1 ex_1 hgt_1 al_1 ov_1 : Int32} {a1_1 a2_1 a3_1 a4_1 a5_1 a6_1 a7_1 a8_1 a9_1 a10_1 a11_1 a12_1 a13_1 a14_1 a15_1 a16_1 a17_1 a18_1 a19_1 a20_1 a21_1 a22_1 a23_1 a24_1 a25_1 a26_1 a27_1 : Nat → Int32}, cq_L 0 1 T0 T1 V R I O ac_1 rn_1 a1_1 a2_1 a3_1 a5_1 a11_1 a12_1 → cq_code sz_1 a15_1 a16_1 a17_1 Ce → post act (tm_1, ac_1, rn_1, wc_1, sz_1, dp_1, lo_1, ex_1, hgt_1, al_1, ov_1, a1_1, a2_1, a3_1, a4_1, a5_1, a6_1, a7_1, a8_1, a9_1, a10_1, a11_1, a12_1, a13_1, a14_1, a15_1, a16_1, a17_1, a18_1, a19_1, a20_1, a21_1, a22_1, a23_1, a24_1, a25_1, a26_1, a27_1)) : wpX_activate post (tm, ac, rn, wc, sz, dp, lo, ex, hgt, al, ov, a1, a2, a3, a4, a5, a6, a7, a8, a9, a10, a11, a12, a13, a14, a15, a16, a17, a18, a19, a20, a21, a22, a23, a24, a25, a26, a27) 0 := by
  obtain ⟨rfl, rfl, h0, h1, rfl, rfl, rfl, rfl⟩ := h
  exact cq_activate_ok (p := 0) (by omega) h0 hs hS hr hCf (fun f c s d l e b o a t oa ph x y hc => H ⟨rfl, rfl, h0, h1, rfl, rfl, rfl, rfl⟩ (by rw [← hCe]; exact hc))
theorem cq_lact1 {post : Int32 → St2 → Prop} {tm ac rn wc sz dp lo ex hgt al ov : Int32} {a1 a2 a3 a4 a5 a6 a7 a8 a9 a10 a11 a12 a13 a14 a15 a16 a17 a18 a19 a20 a21 a22 a23 a24 a25 a26 a27 : Nat → Int32} {act run : Int32} {T0 T1 : List (Nat × Int32)} {V R I O : Nat → Int32} {S : List Nat} {n : Nat} {Cf : List (Nat × Int32 × Nat)} (h : cq_L act run T0 T1 V R I O ac rn a1 a2 a3 a5 a11 a12)
    (hs : cq_scan (T1.map Prod.fst) [1] = some []) (hS : cq_sp (T1.map Prod.fst) = some S) (hr : cq_crun T1 S n [] [(0, 0, none, none)] = some Cf) (hCf : Cf.length < 390)
    (H : ∀ {tm_1 ac_1 rn_1 wc_1 sz_1 dp_1 lo_1 ex_1 hgt_1 al_1 ov_1 : Int32} {a1_1 a2_1 a3_1 a4_1 a5_1 a6_1 a7_1 a8_1 a9_1 a10_1 a11_1 a12_1 a13_1 a14_1 a15_1 a16_1 a17_1 a18_1 a19_1 a20_1 a21_1 a22_1 a23_1 a24_1 a25_1 a26_1 a27_1 : Nat → Int32}, cq_L 1 1 T0 T1 V R I O ac_1 rn_1 a1_1 a2_1 a3_1 a5_1 a11_1 a12_1 → post act (tm_1, ac_1, rn_1, wc_1, sz_1, dp_1, lo_1, ex_1, hgt_1, al_1, ov_1, a1_1, a2_1, a3_1, a4_1, a5_1, a6_1, a7_1, a8_1, a9_1, a10_1, a11_1, a12_1, a13_1, a14_1, a15_1, a16_1, a17_1, a18_1, a19_1, a20_1, a21_1, a22_1, a23_1, a24_1, a25_1, a26_1, a27_1)) : wpX_activate post (tm, ac, rn, wc, sz, dp, lo, ex, hgt, al, ov, a1, a2, a3, a4, a5, a6, a7, a8, a9, a10, a11, a12, a13, a14, a15, a16, a17, a18, a19, a20, a21, a22, a23, a24, a25, a26, a27) 1 := by
  obtain ⟨rfl, rfl, h0, h1, rfl, rfl, rfl, rfl⟩ := h
  exact cq_activate_ok (p := 1) (by omega) h1 hs hS hr hCf (fun f c s d l e b o a t oa ph x y hc => H ⟨rfl, rfl, h0, h1, rfl, rfl, rfl, rfl⟩)
/-- what a cycle of the code Ce makes of variables, row and outputs -/
def cq_runs (Ce : List (Nat × Int32 × Nat)) (k : Nat) (I V R O V' R' O' : Nat → Int32) : Prop :=
  ∀ (post : Int32 → St2 → Prop) (tm ac rn wc sz dp lo ex al : Int32) (a3 a4 a6 a7 a8 a9 a10 a11 a12 a13 a14 a15 a16 a17 a18 a19 a20 a21 a22 a23 a24 a26 a27 : Nat → Int32), cq_code sz a15 a16 a17 Ce → (∀ j, j < 4 → a4 j = I j) → (∀ h_ o_ s_, post 0 (tm, ac, rn, wc, sz, dp, lo, ex, h_, al, o_, V', R', a3, a4, O', a6, a7, a8, a9, a10, a11, a12, a13, a14, a15, a16, a17, a18, a19, a20, a21, a22, a23, a24, s_, a26, a27)) → cq_M post tm ac rn wc sz dp lo ex al a3 a4 a6 a7 a8 a9 a10 a11 a12 a13 a14 a15 a16 a17 a18 a19 a20 a21 a22 a23 a24 a26 a27 k 0 [] V R O
theorem cq_lcycle {post : Int32 → St2 → Prop} {tm ac rn wc sz dp lo ex hgt al ov : Int32} {a1 a2 a3 a4 a5 a6 a7 a8 a9 a10 a11 a12 a13 a14 a15 a16 a17 a18 a19 a20 a21 a22 a23 a24 a25 a26 a27 : Nat → Int32} {act run : Int32} {T0 T1 : List (Nat × Int32)} {V R I O : Nat → Int32} {V' R' O' : Nat → Int32} {Ce : List (Nat × Int32 × Nat)} {p0 : Int32} {k : Nat} (q : Nat) (h : cq_L act run T0 T1 V R I O ac rn a1 a2 a3 a5 a11 a12) (hc : cq_code sz a15 a16 a17 Ce) (hrun : cq_runs Ce k I V R O V' R' O') (hr : ¬ run = 0)
    (H : ∀ {tm_1 ac_1 rn_1 wc_1 sz_1 dp_1 lo_1 ex_1 hgt_1 al_1 ov_1 : Int32} {a1_1 a2_1 a3_1 a4_1 a5_1 a6_1 a7_1 a8_1 a9_1 a10_1 a11_1 a12_1 a13_1 a14_1 a15_1 a16_1 a17_1 a18_1 a19_1 a20_1 a21_1 a22_1 a23_1 a24_1 a25_1 a26_1 a27_1 : Nat → Int32}, cq_L act run T0 T1 V' R' I O' ac_1 rn_1 a1_1 a2_1 a3_1 a5_1 a11_1 a12_1 → post 0 (tm_1, ac_1, rn_1, wc_1, sz_1, dp_1, lo_1, ex_1, hgt_1, al_1, ov_1, a1_1, a2_1, a3_1, a4_1, a5_1, a6_1, a7_1, a8_1, a9_1, a10_1, a11_1, a12_1, a13_1, a14_1, a15_1, a16_1, a17_1, a18_1, a19_1, a20_1, a21_1, a22_1, a23_1, a24_1, a25_1, a26_1, a27_1)) (hp : p0 = nI q := by rfl) (hq : q ≤ 100 := by decide) (hk : k ≤ 1000 := by decide) : wpX_cycle post (tm, ac, rn, wc, sz, dp, lo, ex, hgt, al, ov, a1, a2, a3, a4, a5, a6, a7, a8, a9, a10, a11, a12, a13, a14, a15, a16, a17, a18, a19, a20, a21, a22, a23, a24, a25, a26, a27) p0 := by
  obtain ⟨rfl, rfl, h0, h1, rfl, rfl, rfl, rfl⟩ := h
  refine cq_cycle_ok hp hq hr hk (fun f tk htk => hrun _ _ _ _ _ _ _ _ _ _ _ _ _ _ _ _ _ _ _ _ _ _ _ _ _ _ _ _ _ _ _ _ _ hc htk (fun h_ o_ s_ => H ⟨rfl, rfl, h0, h1, rfl, rfl, rfl, rfl⟩))
theorem cq_lhalt {post : Int32 → St2 → Prop} {tm ac rn wc sz dp lo ex hgt al ov : Int32} {a1 a2 a3 a4 a5 a6 a7 a8 a9 a10 a11 a12 a13 a14 a15 a16 a17 a18 a19 a20 a21 a22 a23 a24 a25 a26 a27 : Nat → Int32} {act run : Int32} {T0 T1 : List (Nat × Int32)} {V R I O : Nat → Int32} (h : cq_L act run T0 T1 V R I O ac rn a1 a2 a3 a5 a11 a12) (H : ∀ {tm_1 ac_1 rn_1 wc_1 sz_1 dp_1 lo_1 ex_1 hgt_1 al_1 ov_1 : Int32} {a1_1 a2_1 a3_1 a4_1 a5_1 a6_1 a7_1 a8_1 a9_1 a10_1 a11_1 a12_1 a13_1 a14_1 a15_1 a16_1 a17_1 a18_1 a19_1 a20_1 a21_1 a22_1 a23_1 a24_1 a25_1 a26_1 a27_1 : Nat → Int32} (r : Int32), cq_L act 0 T0 T1 V R I O ac_1 rn_1 a1_1 a2_1 a3_1 a5_1 a11_1 a12_1 → post r (tm_1, ac_1, rn_1, wc_1, sz_1, dp_1, lo_1, ex_1, hgt_1, al_1, ov_1, a1_1, a2_1, a3_1, a4_1, a5_1, a6_1, a7_1, a8_1, a9_1, a10_1, a11_1, a12_1, a13_1, a14_1, a15_1, a16_1, a17_1, a18_1, a19_1, a20_1, a21_1, a22_1, a23_1, a24_1, a25_1, a26_1, a27_1)) : wpX_halt post (tm, ac, rn, wc, sz, dp, lo, ex, hgt, al, ov, a1, a2, a3, a4, a5, a6, a7, a8, a9, a10, a11, a12, a13, a14, a15, a16, a17, a18, a19, a20, a21, a22, a23, a24, a25, a26, a27) := by
  obtain ⟨rfl, rfl, h0, h1, rfl, rfl, rfl, rfl⟩ := h
  exact br_c (fun _ => H _ ⟨rfl, rfl, h0, h1, rfl, rfl, rfl, rfl⟩) (fun _ => H _ ⟨rfl, rfl, h0, h1, rfl, rfl, rfl, rfl⟩)
theorem cq_lerase {post : Int32 → St2 → Prop} {tm ac rn wc sz dp lo ex hgt al ov : Int32} {a1 a2 a3 a4 a5 a6 a7 a8 a9 a10 a11 a12 a13 a14 a15 a16 a17 a18 a19 a20 a21 a22 a23 a24 a25 a26 a27 : Nat → Int32} {act run : Int32} {T0 T1 : List (Nat × Int32)} {V R I O : Nat → Int32} (h : cq_L act run T0 T1 V R I O ac rn a1 a2 a3 a5 a11 a12) (hfx : run = 0 ∨ ¬ nI 0 = act) (H : ∀ {tm_1 ac_1 rn_1 wc_1 sz_1 dp_1 lo_1 ex_1 hgt_1 al_1 ov_1 : Int32} {a1_1 a2_1 a3_1 a4_1 a5_1 a6_1 a7_1 a8_1 a9_1 a10_1 a11_1 a12_1 a13_1 a14_1 a15_1 a16_1 a17_1 a18_1 a19_1 a20_1 a21_1 a22_1 a23_1 a24_1 a25_1 a26_1 a27_1 : Nat → Int32}, cq_L act run [] T1 V R I O ac_1 rn_1 a1_1 a2_1 a3_1 a5_1 a11_1 a12_1 → post (nI T0.length) (tm_1, ac_1, rn_1, wc_1, sz_1, dp_1, lo_1, ex_1, hgt_1, al_1, ov_1, a1_1, a2_1, a3_1, a4_1, a5_1, a6_1, a7_1, a8_1, a9_1, a10_1, a11_1, a12_1, a13_1, a14_1, a15_1, a16_1, a17_1, a18_1, a19_1, a20_1, a21_1, a22_1, a23_1, a24_1, a25_1, a26_1, a27_1)) : wpX_erase post (tm, ac, rn, wc, sz, dp, lo, ex, hgt, al, ov, a1, a2, a3, a4, a5, a6, a7, a8, a9, a10, a11, a12, a13, a14, a15, a16, a17, a18, a19, a20, a21, a22, a23, a24, a25, a26, a27) 0 := by
  obtain ⟨rfl, rfl, h0, h1, rfl, rfl, rfl, rfl⟩ := h
  unfold wpX_erase
  refine cq_prog_w (p := 0) (by omega) (br_f (by decide) (cq_fixed_w (p := 0) hfx (br_t rfl (And.intro (pk_in 0 2 (by omega)) (nm_r (e' := nI T0.length) ?_ (And.intro (pk_in 0 2 (by omega)) (nm_e ?_)))))))
  · exact h0.1
  · exact H ⟨rfl, rfl, cq_toks_nil (p := 0), cq_toks_nil2 (p := 0) h1 (by omega), rfl, rfl, rfl, rfl⟩
theorem cq_in_r {x : Int32} (i n : Nat) (hx : x = nI i) (hi : i < n) (hn : n < 1000) : cq_in x 0 (nI n) = 1 := by
  subst hx
  unfold cq_in
  have e : (0 : Int32) + nI n = nI n := by rw [Int32.zero_add]
  rw [if_neg (nI_pos (by omega)), e, if_neg (nI_ge hi (by omega))]
theorem cq_lvar {post : Int32 → Prop} {tm ac rn wc sz dp lo ex hgt al ov : Int32} {a1 a2 a3 a4 a5 a6 a7 a8 a9 a10 a11 a12 a13 a14 a15 a16 a17 a18 a19 a20 a21 a22 a23 a24 a25 a26 a27 : Nat → Int32} {act run : Int32} {T0 T1 : List (Nat × Int32)} {V R I O : Nat → Int32} {x : Int32} (i : Nat) (h : cq_L act run T0 T1 V R I O ac rn a1 a2 a3 a5 a11 a12) (H : post (V i)) (hx : x = nI i := by rfl) (hi : i < 16 := by decide) : wpX_variable post (tm, ac, rn, wc, sz, dp, lo, ex, hgt, al, ov, a1, a2, a3, a4, a5, a6, a7, a8, a9, a10, a11, a12, a13, a14, a15, a16, a17, a18, a19, a20, a21, a22, a23, a24, a25, a26, a27) x := by
  obtain ⟨rfl, rfl, h0, h1, rfl, rfl, rfl, rfl⟩ := h
  unfold wpX_variable
  refine cq_in_w ?_
  rw [show (16 : Int32) = nI 16 from rfl, cq_in_r i 16 hx hi (by omega)]
  subst hx
  refine br_f (by decide) (And.intro (pk_in i 16 hi) ?_)
  rw [nI_clamp (by omega)]
  exact H
theorem cq_loutp {post : Int32 → Prop} {tm ac rn wc sz dp lo ex hgt al ov : Int32} {a1 a2 a3 a4 a5 a6 a7 a8 a9 a10 a11 a12 a13 a14 a15 a16 a17 a18 a19 a20 a21 a22 a23 a24 a25 a26 a27 : Nat → Int32} {act run : Int32} {T0 T1 : List (Nat × Int32)} {V R I O : Nat → Int32} {x : Int32} (i : Nat) (h : cq_L act run T0 T1 V R I O ac rn a1 a2 a3 a5 a11 a12) (H : post (O i)) (hx : x = nI i := by rfl) (hi : i < 4 := by decide) : wpX_output post (tm, ac, rn, wc, sz, dp, lo, ex, hgt, al, ov, a1, a2, a3, a4, a5, a6, a7, a8, a9, a10, a11, a12, a13, a14, a15, a16, a17, a18, a19, a20, a21, a22, a23, a24, a25, a26, a27) x := by
  obtain ⟨rfl, rfl, h0, h1, rfl, rfl, rfl, rfl⟩ := h
  unfold wpX_output
  refine cq_in_w ?_
  rw [show (4 : Int32) = nI 4 from rfl, cq_in_r i 4 hx hi (by omega)]
  subst hx
  refine br_f (by decide) (And.intro (pk_in i 4 hi) ?_)
  rw [nI_clamp (by omega)]
  exact H
theorem cq_lcell {post : Int32 → Prop} {tm ac rn wc sz dp lo ex hgt al ov : Int32} {a1 a2 a3 a4 a5 a6 a7 a8 a9 a10 a11 a12 a13 a14 a15 a16 a17 a18 a19 a20 a21 a22 a23 a24 a25 a26 a27 : Nat → Int32} {act run : Int32} {T0 T1 : List (Nat × Int32)} {V R I O : Nat → Int32} {x : Int32} (i : Nat) (h : cq_L act run T0 T1 V R I O ac rn a1 a2 a3 a5 a11 a12) (H : post (R i)) (hx : x = nI i) (hi : i < 8) : wpX_cell post (tm, ac, rn, wc, sz, dp, lo, ex, hgt, al, ov, a1, a2, a3, a4, a5, a6, a7, a8, a9, a10, a11, a12, a13, a14, a15, a16, a17, a18, a19, a20, a21, a22, a23, a24, a25, a26, a27) x := by
  obtain ⟨rfl, rfl, h0, h1, rfl, rfl, rfl, rfl⟩ := h
  unfold wpX_cell
  refine cq_in_w ?_
  rw [show (8 : Int32) = nI 8 from rfl, cq_in_r i 8 hx hi (by omega)]
  subst hx
  refine br_f (by decide) (And.intro (pk_in i 8 hi) ?_)
  rw [nI_clamp (by omega)]
  exact H
theorem cq_lpoke {post : Int32 → St2 → Prop} {tm ac rn wc sz dp lo ex hgt al ov : Int32} {a1 a2 a3 a4 a5 a6 a7 a8 a9 a10 a11 a12 a13 a14 a15 a16 a17 a18 a19 a20 a21 a22 a23 a24 a25 a26 a27 : Nat → Int32} {act run : Int32} {T0 T1 : List (Nat × Int32)} {V R I O : Nat → Int32} {x y : Int32} (i : Nat) (h : cq_L act run T0 T1 V R I O ac rn a1 a2 a3 a5 a11 a12) (H : ∀ {tm_1 ac_1 rn_1 wc_1 sz_1 dp_1 lo_1 ex_1 hgt_1 al_1 ov_1 : Int32} {a1_1 a2_1 a3_1 a4_1 a5_1 a6_1 a7_1 a8_1 a9_1 a10_1 a11_1 a12_1 a13_1 a14_1 a15_1 a16_1 a17_1 a18_1 a19_1 a20_1 a21_1 a22_1 a23_1 a24_1 a25_1 a26_1 a27_1 : Nat → Int32}, cq_L act run T0 T1 (upd V i y) R I O ac_1 rn_1 a1_1 a2_1 a3_1 a5_1 a11_1 a12_1 → post 0 (tm_1, ac_1, rn_1, wc_1, sz_1, dp_1, lo_1, ex_1, hgt_1, al_1, ov_1, a1_1, a2_1, a3_1, a4_1, a5_1, a6_1, a7_1, a8_1, a9_1, a10_1, a11_1, a12_1, a13_1, a14_1, a15_1, a16_1, a17_1, a18_1, a19_1, a20_1, a21_1, a22_1, a23_1, a24_1, a25_1, a26_1, a27_1)) (hx : x = nI i := by rfl) (hi : i < 16 := by decide) : wpX_poke post (tm, ac, rn, wc, sz, dp, lo, ex, hgt, al, ov, a1, a2, a3, a4, a5, a6, a7, a8, a9, a10, a11, a12, a13, a14, a15, a16, a17, a18, a19, a20, a21, a22, a23, a24, a25, a26, a27) x y := by
  obtain ⟨rfl, rfl, h0, h1, rfl, rfl, rfl, rfl⟩ := h
  unfold wpX_poke
  refine cq_in_w ?_
  rw [show (16 : Int32) = nI 16 from rfl, cq_in_r i 16 hx hi (by omega)]
  subst hx
  refine br_f (by decide) (And.intro (pk_in i 16 hi) (nm_e ?_))
  rw [nI_clamp (by omega)]
  exact H ⟨rfl, rfl, h0, h1, rfl, rfl, rfl, rfl⟩
theorem cq_linput {post : Int32 → St2 → Prop} {tm ac rn wc sz dp lo ex hgt al ov : Int32} {a1 a2 a3 a4 a5 a6 a7 a8 a9 a10 a11 a12 a13 a14 a15 a16 a17 a18 a19 a20 a21 a22 a23 a24 a25 a26 a27 : Nat → Int32} {act run : Int32} {T0 T1 : List (Nat × Int32)} {V R I O : Nat → Int32} {x y : Int32} (i : Nat) (h : cq_L act run T0 T1 V R I O ac rn a1 a2 a3 a5 a11 a12) (H : ∀ {tm_1 ac_1 rn_1 wc_1 sz_1 dp_1 lo_1 ex_1 hgt_1 al_1 ov_1 : Int32} {a1_1 a2_1 a3_1 a4_1 a5_1 a6_1 a7_1 a8_1 a9_1 a10_1 a11_1 a12_1 a13_1 a14_1 a15_1 a16_1 a17_1 a18_1 a19_1 a20_1 a21_1 a22_1 a23_1 a24_1 a25_1 a26_1 a27_1 : Nat → Int32}, cq_L act run T0 T1 V R (upd I i y) O ac_1 rn_1 a1_1 a2_1 a3_1 a5_1 a11_1 a12_1 → post 0 (tm_1, ac_1, rn_1, wc_1, sz_1, dp_1, lo_1, ex_1, hgt_1, al_1, ov_1, a1_1, a2_1, a3_1, a4_1, a5_1, a6_1, a7_1, a8_1, a9_1, a10_1, a11_1, a12_1, a13_1, a14_1, a15_1, a16_1, a17_1, a18_1, a19_1, a20_1, a21_1, a22_1, a23_1, a24_1, a25_1, a26_1, a27_1)) (hx : x = nI i := by rfl) (hi : i < 4 := by decide) : wpX_input post (tm, ac, rn, wc, sz, dp, lo, ex, hgt, al, ov, a1, a2, a3, a4, a5, a6, a7, a8, a9, a10, a11, a12, a13, a14, a15, a16, a17, a18, a19, a20, a21, a22, a23, a24, a25, a26, a27) x y := by
  obtain ⟨rfl, rfl, h0, h1, rfl, rfl, rfl, rfl⟩ := h
  unfold wpX_input
  refine cq_in_w ?_
  rw [show (4 : Int32) = nI 4 from rfl, cq_in_r i 4 hx hi (by omega)]
  subst hx
  refine br_f (by decide) (And.intro (pk_in i 4 hi) (nm_e ?_))
  rw [nI_clamp (by omega)]
  exact H ⟨rfl, rfl, h0, h1, rfl, rfl, rfl, rfl⟩
end
section
/-! the law's programs: their code, and what a cycle of it makes -/
theorem cq_p1_22_scan  : cq_scan (List.map Prod.fst ([(6, nI 1), (7, nI 10), (2, nI 139), (0, nI 105), (7, nI 30), (2, nI 139), (0, nI 100)] : List (Nat × Int32))) [1] = some [] := by rfl
theorem cq_p1_22_sp  : cq_sp (List.map Prod.fst ([(6, nI 1), (7, nI 10), (2, nI 139), (0, nI 105), (7, nI 30), (2, nI 139), (0, nI 100)] : List (Nat × Int32))) = some [7, 3, 2, 1, 3, 2, 1] := by rfl
theorem cq_p1_22_crun  : cq_crun [(6, nI 1), (7, nI 10), (2, nI 139), (0, nI 105), (7, nI 30), (2, nI 139), (0, nI 100)] [7, 3, 2, 1, 3, 2, 1] 14 [] [(0, 0, none, none)] = some [(0, nI 105, 0), (2, nI 139, 1), (7, nI 10, 2), (0, nI 100, 3), (2, nI 139, 4), (7, nI 30, 5)] := by rfl
theorem cq_p1_22_end  : cq_end [(0, nI 105, 0), (2, nI 139, 1), (7, nI 10, 2), (0, nI 100, 3), (2, nI 139, 4), (7, nI 30, 5)] = [(0, nI 105, 0), (2, nI 139, 1), (7, nI 10, 2), (0, nI 100, 3), (2, nI 139, 4), (7, nI 30, 5), (26, 0, 6)] := by rfl
theorem cq_p1_22_runs  (I V R O : Nat → Int32) : cq_runs [(0, nI 105, 0), (2, nI 139, 1), (7, nI 10, 2), (0, nI 100, 3), (2, nI 139, 4), (7, nI 30, 5), (26, 0, 6)] 8 I V R O (upd V 0 (if V 5 = 0 then 1 else 0)) R (upd O 0 (if (upd V 0 (if V 5 = 0 then 1 else 0)) 0 = 0 then 1 else 0)) := by
  intro post tm ac rn wc sz dp lo ex al a3 a4 a6 a7 a8 a9 a10 a11 a12 a13 a14 a15 a16 a17 a18 a19 a20 a21 a22 a23 a24 a26 a27 hc hI H
  have h2 : a4 2 = I 2 := hI 2 (by omega)
  refine cq_m_var (i := 5) hc (by simp) (by simp) (by decide) rfl ?_
  refine cq_m_not hc (by simp) (by simp) rfl ?_
  refine cq_m_asg (i := 0) hc (by simp) (by simp) (by decide) rfl ?_
  refine cq_m_var (i := 0) hc (by simp) (by simp) (by decide) rfl ?_
  refine cq_m_not hc (by simp) (by simp) rfl ?_
  refine cq_m_put (i := 0) hc (by simp) (by simp) (by decide) rfl ?_
  exact cq_m_over hc (by simp) (by simp) H rfl
theorem cq_p1_23_scan (u : Int32) (w : Int32) : cq_scan (List.map Prod.fst ([(6, nI 1), (7, nI 10), (2, nI 139), (0, nI 105), (7, nI 30), (3, u), (0, nI 100), (1, w)] : List (Nat × Int32))) [1] = some [] := by rfl
theorem cq_p1_23_sp (u : Int32) (w : Int32) : cq_sp (List.map Prod.fst ([(6, nI 1), (7, nI 10), (2, nI 139), (0, nI 105), (7, nI 30), (3, u), (0, nI 100), (1, w)] : List (Nat × Int32))) = some [8, 3, 2, 1, 4, 3, 1, 1] := by rfl
theorem cq_p1_23_crun (u : Int32) (w : Int32) : cq_crun [(6, nI 1), (7, nI 10), (2, nI 139), (0, nI 105), (7, nI 30), (3, u), (0, nI 100), (1, w)] [8, 3, 2, 1, 4, 3, 1, 1] 16 [] [(0, 0, none, none)] = some [(0, nI 105, 0), (2, nI 139, 1), (7, nI 10, 2), (0, nI 100, 3), (21, (w - 250), 4), (3, u, 5), (7, nI 30, 6)] := by rfl
theorem cq_p1_23_end (u : Int32) (w : Int32) : cq_end [(0, nI 105, 0), (2, nI 139, 1), (7, nI 10, 2), (0, nI 100, 3), (21, (w - 250), 4), (3, u, 5), (7, nI 30, 6)] = [(0, nI 105, 0), (2, nI 139, 1), (7, nI 10, 2), (0, nI 100, 3), (21, (w - 250), 4), (3, u, 5), (7, nI 30, 6), (26, 0, 7)] := by rfl
theorem cq_p1_23_runs (u : Int32) (w : Int32) (hu : cq_tk 3 u) (I V R O : Nat → Int32) : cq_runs [(0, nI 105, 0), (2, nI 139, 1), (7, nI 10, 2), (0, nI 100, 3), (21, (w - 250), 4), (3, u, 5), (7, nI 30, 6), (26, 0, 7)] 9 I V R O (upd V 0 (if V 5 = 0 then 1 else 0)) R (upd O 0 (cq_two u ((upd V 0 (if V 5 = 0 then 1 else 0)) 0) (w - 250))) := by
  intro post tm ac rn wc sz dp lo ex al a3 a4 a6 a7 a8 a9 a10 a11 a12 a13 a14 a15 a16 a17 a18 a19 a20 a21 a22 a23 a24 a26 a27 hc hI H
  have h2 : a4 2 = I 2 := hI 2 (by omega)
  refine cq_m_var (i := 5) hc (by simp) (by simp) (by decide) rfl ?_
  refine cq_m_not hc (by simp) (by simp) rfl ?_
  refine cq_m_asg (i := 0) hc (by simp) (by simp) (by decide) rfl ?_
  refine cq_m_var (i := 0) hc (by simp) (by simp) (by decide) rfl ?_
  refine cq_m_push hc (by simp) (by simp) rfl ?_
  refine cq_m_two hc (by simp) (by simp) hu rfl ?_
  refine cq_m_put (i := 0) hc (by simp) (by simp) (by decide) rfl ?_
  exact cq_m_over hc (by simp) (by simp) H rfl
theorem cq_p1_24_scan (w : Int32) : cq_scan (List.map Prod.fst ([(6, nI 1), (7, nI 10), (2, nI 139), (0, nI 105), (7, nI 30), (4, nI 142), (0, nI 100), (1, w), (0, nI 105)] : List (Nat × Int32))) [1] = some [] := by rfl
theorem cq_p1_24_sp (w : Int32) : cq_sp (List.map Prod.fst ([(6, nI 1), (7, nI 10), (2, nI 139), (0, nI 105), (7, nI 30), (4, nI 142), (0, nI 100), (1, w), (0, nI 105)] : List (Nat × Int32))) = some [9, 3, 2, 1, 5, 4, 1, 1, 1] := by rfl
theorem cq_p1_24_crun (w : Int32) : cq_crun [(6, nI 1), (7, nI 10), (2, nI 139), (0, nI 105), (7, nI 30), (4, nI 142), (0, nI 100), (1, w), (0, nI 105)] [9, 3, 2, 1, 5, 4, 1, 1, 1] 18 [] [(0, 0, none, none)] = some [(0, nI 105, 0), (2, nI 139, 1), (7, nI 10, 2), (0, nI 100, 3), (21, (w - 250), 4), (0, nI 105, 5), (4, nI 142, 6), (7, nI 30, 7)] := by rfl
theorem cq_p1_24_end (w : Int32) : cq_end [(0, nI 105, 0), (2, nI 139, 1), (7, nI 10, 2), (0, nI 100, 3), (21, (w - 250), 4), (0, nI 105, 5), (4, nI 142, 6), (7, nI 30, 7)] = [(0, nI 105, 0), (2, nI 139, 1), (7, nI 10, 2), (0, nI 100, 3), (21, (w - 250), 4), (0, nI 105, 5), (4, nI 142, 6), (7, nI 30, 7), (26, 0, 8)] := by rfl
theorem cq_p1_24_runs (w : Int32) (I V R O : Nat → Int32) : cq_runs [(0, nI 105, 0), (2, nI 139, 1), (7, nI 10, 2), (0, nI 100, 3), (21, (w - 250), 4), (0, nI 105, 5), (4, nI 142, 6), (7, nI 30, 7), (26, 0, 8)] 10 I V R O (upd V 0 (if V 5 = 0 then 1 else 0)) R (upd O 0 (if (upd V 0 (if V 5 = 0 then 1 else 0)) 0 = 0 then (upd V 0 (if V 5 = 0 then 1 else 0)) 5 else (w - 250))) := by
  intro post tm ac rn wc sz dp lo ex al a3 a4 a6 a7 a8 a9 a10 a11 a12 a13 a14 a15 a16 a17 a18 a19 a20 a21 a22 a23 a24 a26 a27 hc hI H
  have h2 : a4 2 = I 2 := hI 2 (by omega)
  refine cq_m_var (i := 5) hc (by simp) (by simp) (by decide) rfl ?_
  refine cq_m_not hc (by simp) (by simp) rfl ?_
  refine cq_m_asg (i := 0) hc (by simp) (by simp) (by decide) rfl ?_
  refine cq_m_var (i := 0) hc (by simp) (by simp) (by decide) rfl ?_
  refine cq_m_push hc (by simp) (by simp) rfl ?_
  refine cq_m_var (i := 5) hc (by simp) (by simp) (by decide) rfl ?_
  refine cq_m_choose hc (by simp) (by simp) rfl ?_
  refine cq_m_put (i := 0) hc (by simp) (by simp) (by decide) rfl ?_
  exact cq_m_over hc (by simp) (by simp) H rfl
theorem cq_p1_32_scan (t : Int32) : cq_scan (List.map Prod.fst ([(6, nI 1), (7, nI 10), (3, t), (0, nI 105), (0, nI 122), (7, nI 30), (2, nI 139), (0, nI 100)] : List (Nat × Int32))) [1] = some [] := by rfl
theorem cq_p1_32_sp (t : Int32) : cq_sp (List.map Prod.fst ([(6, nI 1), (7, nI 10), (3, t), (0, nI 105), (0, nI 122), (7, nI 30), (2, nI 139), (0, nI 100)] : List (Nat × Int32))) = some [8, 4, 3, 1, 1, 3, 2, 1] := by rfl
theorem cq_p1_32_crun (t : Int32) : cq_crun [(6, nI 1), (7, nI 10), (3, t), (0, nI 105), (0, nI 122), (7, nI 30), (2, nI 139), (0, nI 100)] [8, 4, 3, 1, 1, 3, 2, 1] 16 [] [(0, 0, none, none)] = some [(0, nI 105, 0), (0, nI 122, 1), (3, t, 2), (7, nI 10, 3), (0, nI 100, 4), (2, nI 139, 5), (7, nI 30, 6)] := by rfl
theorem cq_p1_32_end (t : Int32) : cq_end [(0, nI 105, 0), (0, nI 122, 1), (3, t, 2), (7, nI 10, 3), (0, nI 100, 4), (2, nI 139, 5), (7, nI 30, 6)] = [(0, nI 105, 0), (0, nI 122, 1), (3, t, 2), (7, nI 10, 3), (0, nI 100, 4), (2, nI 139, 5), (7, nI 30, 6), (26, 0, 7)] := by rfl
theorem cq_p1_32_runs (t : Int32) (ht : cq_tk 3 t) (I V R O : Nat → Int32) : cq_runs [(0, nI 105, 0), (0, nI 122, 1), (3, t, 2), (7, nI 10, 3), (0, nI 100, 4), (2, nI 139, 5), (7, nI 30, 6), (26, 0, 7)] 9 I V R O (upd V 0 (cq_two t (V 5) (I 2))) R (upd O 0 (if (upd V 0 (cq_two t (V 5) (I 2))) 0 = 0 then 1 else 0)) := by
  intro post tm ac rn wc sz dp lo ex al a3 a4 a6 a7 a8 a9 a10 a11 a12 a13 a14 a15 a16 a17 a18 a19 a20 a21 a22 a23 a24 a26 a27 hc hI H
  have h2 : a4 2 = I 2 := hI 2 (by omega)
  refine cq_m_var (i := 5) hc (by simp) (by simp) (by decide) rfl ?_
  refine cq_m_inp (i := 2) hc (by simp) (by simp) (by decide) rfl ?_
  rw [h2]
  refine cq_m_two hc (by simp) (by simp) ht rfl ?_
  refine cq_m_asg (i := 0) hc (by simp) (by simp) (by decide) rfl ?_
  refine cq_m_var (i := 0) hc (by simp) (by simp) (by decide) rfl ?_
  refine cq_m_not hc (by simp) (by simp) rfl ?_
  refine cq_m_put (i := 0) hc (by simp) (by simp) (by decide) rfl ?_
  exact cq_m_over hc (by simp) (by simp) H rfl
theorem cq_p1_33_scan (t : Int32) (u : Int32) (w : Int32) : cq_scan (List.map Prod.fst ([(6, nI 1), (7, nI 10), (3, t), (0, nI 105), (0, nI 122), (7, nI 30), (3, u), (0, nI 100), (1, w)] : List (Nat × Int32))) [1] = some [] := by rfl
theorem cq_p1_33_sp (t : Int32) (u : Int32) (w : Int32) : cq_sp (List.map Prod.fst ([(6, nI 1), (7, nI 10), (3, t), (0, nI 105), (0, nI 122), (7, nI 30), (3, u), (0, nI 100), (1, w)] : List (Nat × Int32))) = some [9, 4, 3, 1, 1, 4, 3, 1, 1] := by rfl
theorem cq_p1_33_crun (t : Int32) (u : Int32) (w : Int32) : cq_crun [(6, nI 1), (7, nI 10), (3, t), (0, nI 105), (0, nI 122), (7, nI 30), (3, u), (0, nI 100), (1, w)] [9, 4, 3, 1, 1, 4, 3, 1, 1] 18 [] [(0, 0, none, none)] = some [(0, nI 105, 0), (0, nI 122, 1), (3, t, 2), (7, nI 10, 3), (0, nI 100, 4), (21, (w - 250), 5), (3, u, 6), (7, nI 30, 7)] := by rfl
theorem cq_p1_33_end (t : Int32) (u : Int32) (w : Int32) : cq_end [(0, nI 105, 0), (0, nI 122, 1), (3, t, 2), (7, nI 10, 3), (0, nI 100, 4), (21, (w - 250), 5), (3, u, 6), (7, nI 30, 7)] = [(0, nI 105, 0), (0, nI 122, 1), (3, t, 2), (7, nI 10, 3), (0, nI 100, 4), (21, (w - 250), 5), (3, u, 6), (7, nI 30, 7), (26, 0, 8)] := by rfl
theorem cq_p1_33_runs (t : Int32) (u : Int32) (w : Int32) (ht : cq_tk 3 t) (hu : cq_tk 3 u) (I V R O : Nat → Int32) : cq_runs [(0, nI 105, 0), (0, nI 122, 1), (3, t, 2), (7, nI 10, 3), (0, nI 100, 4), (21, (w - 250), 5), (3, u, 6), (7, nI 30, 7), (26, 0, 8)] 10 I V R O (upd V 0 (cq_two t (V 5) (I 2))) R (upd O 0 (cq_two u ((upd V 0 (cq_two t (V 5) (I 2))) 0) (w - 250))) := by
  intro post tm ac rn wc sz dp lo ex al a3 a4 a6 a7 a8 a9 a10 a11 a12 a13 a14 a15 a16 a17 a18 a19 a20 a21 a22 a23 a24 a26 a27 hc hI H
  have h2 : a4 2 = I 2 := hI 2 (by omega)
  refine cq_m_var (i := 5) hc (by simp) (by simp) (by decide) rfl ?_
  refine cq_m_inp (i := 2) hc (by simp) (by simp) (by decide) rfl ?_
  rw [h2]
  refine cq_m_two hc (by simp) (by simp) ht rfl ?_
  refine cq_m_asg (i := 0) hc (by simp) (by simp) (by decide) rfl ?_
  refine cq_m_var (i := 0) hc (by simp) (by simp) (by decide) rfl ?_
  refine cq_m_push hc (by simp) (by simp) rfl ?_
  refine cq_m_two hc (by simp) (by simp) hu rfl ?_
  refine cq_m_put (i := 0) hc (by simp) (by simp) (by decide) rfl ?_
  exact cq_m_over hc (by simp) (by simp) H rfl
theorem cq_p1_34_scan (t : Int32) (w : Int32) : cq_scan (List.map Prod.fst ([(6, nI 1), (7, nI 10), (3, t), (0, nI 105), (0, nI 122), (7, nI 30), (4, nI 142), (0, nI 100), (1, w), (0, nI 105)] : List (Nat × Int32))) [1] = some [] := by rfl
theorem cq_p1_34_sp (t : Int32) (w : Int32) : cq_sp (List.map Prod.fst ([(6, nI 1), (7, nI 10), (3, t), (0, nI 105), (0, nI 122), (7, nI 30), (4, nI 142), (0, nI 100), (1, w), (0, nI 105)] : List (Nat × Int32))) = some [10, 4, 3, 1, 1, 5, 4, 1, 1, 1] := by rfl
theorem cq_p1_34_crun (t : Int32) (w : Int32) : cq_crun [(6, nI 1), (7, nI 10), (3, t), (0, nI 105), (0, nI 122), (7, nI 30), (4, nI 142), (0, nI 100), (1, w), (0, nI 105)] [10, 4, 3, 1, 1, 5, 4, 1, 1, 1] 20 [] [(0, 0, none, none)] = some [(0, nI 105, 0), (0, nI 122, 1), (3, t, 2), (7, nI 10, 3), (0, nI 100, 4), (21, (w - 250), 5), (0, nI 105, 6), (4, nI 142, 7), (7, nI 30, 8)] := by rfl
theorem cq_p1_34_end (t : Int32) (w : Int32) : cq_end [(0, nI 105, 0), (0, nI 122, 1), (3, t, 2), (7, nI 10, 3), (0, nI 100, 4), (21, (w - 250), 5), (0, nI 105, 6), (4, nI 142, 7), (7, nI 30, 8)] = [(0, nI 105, 0), (0, nI 122, 1), (3, t, 2), (7, nI 10, 3), (0, nI 100, 4), (21, (w - 250), 5), (0, nI 105, 6), (4, nI 142, 7), (7, nI 30, 8), (26, 0, 9)] := by rfl
theorem cq_p1_34_runs (t : Int32) (w : Int32) (ht : cq_tk 3 t) (I V R O : Nat → Int32) : cq_runs [(0, nI 105, 0), (0, nI 122, 1), (3, t, 2), (7, nI 10, 3), (0, nI 100, 4), (21, (w - 250), 5), (0, nI 105, 6), (4, nI 142, 7), (7, nI 30, 8), (26, 0, 9)] 11 I V R O (upd V 0 (cq_two t (V 5) (I 2))) R (upd O 0 (if (upd V 0 (cq_two t (V 5) (I 2))) 0 = 0 then (upd V 0 (cq_two t (V 5) (I 2))) 5 else (w - 250))) := by
  intro post tm ac rn wc sz dp lo ex al a3 a4 a6 a7 a8 a9 a10 a11 a12 a13 a14 a15 a16 a17 a18 a19 a20 a21 a22 a23 a24 a26 a27 hc hI H
  have h2 : a4 2 = I 2 := hI 2 (by omega)
  refine cq_m_var (i := 5) hc (by simp) (by simp) (by decide) rfl ?_
  refine cq_m_inp (i := 2) hc (by simp) (by simp) (by decide) rfl ?_
  rw [h2]
  refine cq_m_two hc (by simp) (by simp) ht rfl ?_
  refine cq_m_asg (i := 0) hc (by simp) (by simp) (by decide) rfl ?_
  refine cq_m_var (i := 0) hc (by simp) (by simp) (by decide) rfl ?_
  refine cq_m_push hc (by simp) (by simp) rfl ?_
  refine cq_m_var (i := 5) hc (by simp) (by simp) (by decide) rfl ?_
  refine cq_m_choose hc (by simp) (by simp) rfl ?_
  refine cq_m_put (i := 0) hc (by simp) (by simp) (by decide) rfl ?_
  exact cq_m_over hc (by simp) (by simp) H rfl
theorem cq_p1_42_scan  : cq_scan (List.map Prod.fst ([(6, nI 1), (7, nI 10), (4, nI 142), (0, nI 105), (0, nI 122), (0, nI 103), (7, nI 30), (2, nI 139), (0, nI 100)] : List (Nat × Int32))) [1] = some [] := by rfl
theorem cq_p1_42_sp  : cq_sp (List.map Prod.fst ([(6, nI 1), (7, nI 10), (4, nI 142), (0, nI 105), (0, nI 122), (0, nI 103), (7, nI 30), (2, nI 139), (0, nI 100)] : List (Nat × Int32))) = some [9, 5, 4, 1, 1, 1, 3, 2, 1] := by rfl
theorem cq_p1_42_crun  : cq_crun [(6, nI 1), (7, nI 10), (4, nI 142), (0, nI 105), (0, nI 122), (0, nI 103), (7, nI 30), (2, nI 139), (0, nI 100)] [9, 5, 4, 1, 1, 1, 3, 2, 1] 18 [] [(0, 0, none, none)] = some [(0, nI 105, 0), (0, nI 122, 1), (0, nI 103, 2), (4, nI 142, 3), (7, nI 10, 4), (0, nI 100, 5), (2, nI 139, 6), (7, nI 30, 7)] := by rfl
theorem cq_p1_42_end  : cq_end [(0, nI 105, 0), (0, nI 122, 1), (0, nI 103, 2), (4, nI 142, 3), (7, nI 10, 4), (0, nI 100, 5), (2, nI 139, 6), (7, nI 30, 7)] = [(0, nI 105, 0), (0, nI 122, 1), (0, nI 103, 2), (4, nI 142, 3), (7, nI 10, 4), (0, nI 100, 5), (2, nI 139, 6), (7, nI 30, 7), (26, 0, 8)] := by rfl
theorem cq_p1_42_runs  (I V R O : Nat → Int32) : cq_runs [(0, nI 105, 0), (0, nI 122, 1), (0, nI 103, 2), (4, nI 142, 3), (7, nI 10, 4), (0, nI 100, 5), (2, nI 139, 6), (7, nI 30, 7), (26, 0, 8)] 10 I V R O (upd V 0 (if V 5 = 0 then V 3 else I 2)) R (upd O 0 (if (upd V 0 (if V 5 = 0 then V 3 else I 2)) 0 = 0 then 1 else 0)) := by
  intro post tm ac rn wc sz dp lo ex al a3 a4 a6 a7 a8 a9 a10 a11 a12 a13 a14 a15 a16 a17 a18 a19 a20 a21 a22 a23 a24 a26 a27 hc hI H
  have h2 : a4 2 = I 2 := hI 2 (by omega)
  refine cq_m_var (i := 5) hc (by simp) (by simp) (by decide) rfl ?_
  refine cq_m_inp (i := 2) hc (by simp) (by simp) (by decide) rfl ?_
  rw [h2]
  refine cq_m_var (i := 3) hc (by simp) (by simp) (by decide) rfl ?_
  refine cq_m_choose hc (by simp) (by simp) rfl ?_
  refine cq_m_asg (i := 0) hc (by simp) (by simp) (by decide) rfl ?_
  refine cq_m_var (i := 0) hc (by simp) (by simp) (by decide) rfl ?_
  refine cq_m_not hc (by simp) (by simp) rfl ?_
  refine cq_m_put (i := 0) hc (by simp) (by simp) (by decide) rfl ?_
  exact cq_m_over hc (by simp) (by simp) H rfl
theorem cq_p1_43_scan (u : Int32) (w : Int32) : cq_scan (List.map Prod.fst ([(6, nI 1), (7, nI 10), (4, nI 142), (0, nI 105), (0, nI 122), (0, nI 103), (7, nI 30), (3, u), (0, nI 100), (1, w)] : List (Nat × Int32))) [1] = some [] := by rfl
theorem cq_p1_43_sp (u : Int32) (w : Int32) : cq_sp (List.map Prod.fst ([(6, nI 1), (7, nI 10), (4, nI 142), (0, nI 105), (0, nI 122), (0, nI 103), (7, nI 30), (3, u), (0, nI 100), (1, w)] : List (Nat × Int32))) = some [10, 5, 4, 1, 1, 1, 4, 3, 1, 1] := by rfl
theorem cq_p1_43_crun (u : Int32) (w : Int32) : cq_crun [(6, nI 1), (7, nI 10), (4, nI 142), (0, nI 105), (0, nI 122), (0, nI 103), (7, nI 30), (3, u), (0, nI 100), (1, w)] [10, 5, 4, 1, 1, 1, 4, 3, 1, 1] 20 [] [(0, 0, none, none)] = some [(0, nI 105, 0), (0, nI 122, 1), (0, nI 103, 2), (4, nI 142, 3), (7, nI 10, 4), (0, nI 100, 5), (21, (w - 250), 6), (3, u, 7), (7, nI 30, 8)] := by rfl
theorem cq_p1_43_end (u : Int32) (w : Int32) : cq_end [(0, nI 105, 0), (0, nI 122, 1), (0, nI 103, 2), (4, nI 142, 3), (7, nI 10, 4), (0, nI 100, 5), (21, (w - 250), 6), (3, u, 7), (7, nI 30, 8)] = [(0, nI 105, 0), (0, nI 122, 1), (0, nI 103, 2), (4, nI 142, 3), (7, nI 10, 4), (0, nI 100, 5), (21, (w - 250), 6), (3, u, 7), (7, nI 30, 8), (26, 0, 9)] := by rfl
theorem cq_p1_43_runs (u : Int32) (w : Int32) (hu : cq_tk 3 u) (I V R O : Nat → Int32) : cq_runs [(0, nI 105, 0), (0, nI 122, 1), (0, nI 103, 2), (4, nI 142, 3), (7, nI 10, 4), (0, nI 100, 5), (21, (w - 250), 6), (3, u, 7), (7, nI 30, 8), (26, 0, 9)] 11 I V R O (upd V 0 (if V 5 = 0 then V 3 else I 2)) R (upd O 0 (cq_two u ((upd V 0 (if V 5 = 0 then V 3 else I 2)) 0) (w - 250))) := by
  intro post tm ac rn wc sz dp lo ex al a3 a4 a6 a7 a8 a9 a10 a11 a12 a13 a14 a15 a16 a17 a18 a19 a20 a21 a22 a23 a24 a26 a27 hc hI H
  have h2 : a4 2 = I 2 := hI 2 (by omega)
  refine cq_m_var (i := 5) hc (by simp) (by simp) (by decide) rfl ?_
  refine cq_m_inp (i := 2) hc (by simp) (by simp) (by decide) rfl ?_
  rw [h2]
  refine cq_m_var (i := 3) hc (by simp) (by simp) (by decide) rfl ?_
  refine cq_m_choose hc (by simp) (by simp) rfl ?_
  refine cq_m_asg (i := 0) hc (by simp) (by simp) (by decide) rfl ?_
  refine cq_m_var (i := 0) hc (by simp) (by simp) (by decide) rfl ?_
  refine cq_m_push hc (by simp) (by simp) rfl ?_
  refine cq_m_two hc (by simp) (by simp) hu rfl ?_
  refine cq_m_put (i := 0) hc (by simp) (by simp) (by decide) rfl ?_
  exact cq_m_over hc (by simp) (by simp) H rfl
theorem cq_p1_44_scan (w : Int32) : cq_scan (List.map Prod.fst ([(6, nI 1), (7, nI 10), (4, nI 142), (0, nI 105), (0, nI 122), (0, nI 103), (7, nI 30), (4, nI 142), (0, nI 100), (1, w), (0, nI 105)] : List (Nat × Int32))) [1] = some [] := by rfl
theorem cq_p1_44_sp (w : Int32) : cq_sp (List.map Prod.fst ([(6, nI 1), (7, nI 10), (4, nI 142), (0, nI 105), (0, nI 122), (0, nI 103), (7, nI 30), (4, nI 142), (0, nI 100), (1, w), (0, nI 105)] : List (Nat × Int32))) = some [11, 5, 4, 1, 1, 1, 5, 4, 1, 1, 1] := by rfl
theorem cq_p1_44_crun (w : Int32) : cq_crun [(6, nI 1), (7, nI 10), (4, nI 142), (0, nI 105), (0, nI 122), (0, nI 103), (7, nI 30), (4, nI 142), (0, nI 100), (1, w), (0, nI 105)] [11, 5, 4, 1, 1, 1, 5, 4, 1, 1, 1] 22 [] [(0, 0, none, none)] = some [(0, nI 105, 0), (0, nI 122, 1), (0, nI 103, 2), (4, nI 142, 3), (7, nI 10, 4), (0, nI 100, 5), (21, (w - 250), 6), (0, nI 105, 7), (4, nI 142, 8), (7, nI 30, 9)] := by rfl
theorem cq_p1_44_end (w : Int32) : cq_end [(0, nI 105, 0), (0, nI 122, 1), (0, nI 103, 2), (4, nI 142, 3), (7, nI 10, 4), (0, nI 100, 5), (21, (w - 250), 6), (0, nI 105, 7), (4, nI 142, 8), (7, nI 30, 9)] = [(0, nI 105, 0), (0, nI 122, 1), (0, nI 103, 2), (4, nI 142, 3), (7, nI 10, 4), (0, nI 100, 5), (21, (w - 250), 6), (0, nI 105, 7), (4, nI 142, 8), (7, nI 30, 9), (26, 0, 10)] := by rfl
theorem cq_p1_44_runs (w : Int32) (I V R O : Nat → Int32) : cq_runs [(0, nI 105, 0), (0, nI 122, 1), (0, nI 103, 2), (4, nI 142, 3), (7, nI 10, 4), (0, nI 100, 5), (21, (w - 250), 6), (0, nI 105, 7), (4, nI 142, 8), (7, nI 30, 9), (26, 0, 10)] 12 I V R O (upd V 0 (if V 5 = 0 then V 3 else I 2)) R (upd O 0 (if (upd V 0 (if V 5 = 0 then V 3 else I 2)) 0 = 0 then (upd V 0 (if V 5 = 0 then V 3 else I 2)) 5 else (w - 250))) := by
  intro post tm ac rn wc sz dp lo ex al a3 a4 a6 a7 a8 a9 a10 a11 a12 a13 a14 a15 a16 a17 a18 a19 a20 a21 a22 a23 a24 a26 a27 hc hI H
  have h2 : a4 2 = I 2 := hI 2 (by omega)
  refine cq_m_var (i := 5) hc (by simp) (by simp) (by decide) rfl ?_
  refine cq_m_inp (i := 2) hc (by simp) (by simp) (by decide) rfl ?_
  rw [h2]
  refine cq_m_var (i := 3) hc (by simp) (by simp) (by decide) rfl ?_
  refine cq_m_choose hc (by simp) (by simp) rfl ?_
  refine cq_m_asg (i := 0) hc (by simp) (by simp) (by decide) rfl ?_
  refine cq_m_var (i := 0) hc (by simp) (by simp) (by decide) rfl ?_
  refine cq_m_push hc (by simp) (by simp) rfl ?_
  refine cq_m_var (i := 5) hc (by simp) (by simp) (by decide) rfl ?_
  refine cq_m_choose hc (by simp) (by simp) rfl ?_
  refine cq_m_put (i := 0) hc (by simp) (by simp) (by decide) rfl ?_
  exact cq_m_over hc (by simp) (by simp) H rfl
theorem cq_p2_scan (w : Int32) : cq_scan (List.map Prod.fst ([(6, nI 1), (8, nI 34), (0, nI 105), (0, nI 122), (6, nI 1), (7, nI 17), (5, nI 128), (0, nI 105), (7, nI 33), (3, nI 130), (0, nI 124), (5, nI 128), (1, w)] : List (Nat × Int32))) [1] = some [] := by rfl
theorem cq_p2_sp (w : Int32) : cq_sp (List.map Prod.fst ([(6, nI 1), (8, nI 34), (0, nI 105), (0, nI 122), (6, nI 1), (7, nI 17), (5, nI 128), (0, nI 105), (7, nI 33), (3, nI 130), (0, nI 124), (5, nI 128), (1, w)] : List (Nat × Int32))) = some [13, 3, 1, 1, 9, 3, 2, 1, 5, 4, 1, 2, 1] := by rfl
theorem cq_p2_crun (w : Int32) : cq_crun [(6, nI 1), (8, nI 34), (0, nI 105), (0, nI 122), (6, nI 1), (7, nI 17), (5, nI 128), (0, nI 105), (7, nI 33), (3, nI 130), (0, nI 124), (5, nI 128), (1, w)] [13, 3, 1, 1, 9, 3, 2, 1, 5, 4, 1, 2, 1] 26 [] [(0, 0, none, none)] = some [(0, nI 105, 0), (0, nI 122, 1), (8, nI 34, 2), (0, nI 105, 3), (5, nI 128, 4), (7, nI 17, 5), (0, nI 124, 6), (21, (w - 250), 7), (5, nI 128, 8), (3, nI 130, 9), (7, nI 33, 10)] := by rfl
theorem cq_p2_end (w : Int32) : cq_end [(0, nI 105, 0), (0, nI 122, 1), (8, nI 34, 2), (0, nI 105, 3), (5, nI 128, 4), (7, nI 17, 5), (0, nI 124, 6), (21, (w - 250), 7), (5, nI 128, 8), (3, nI 130, 9), (7, nI 33, 10)] = [(0, nI 105, 0), (0, nI 122, 1), (8, nI 34, 2), (0, nI 105, 3), (5, nI 128, 4), (7, nI 17, 5), (0, nI 124, 6), (21, (w - 250), 7), (5, nI 128, 8), (3, nI 130, 9), (7, nI 33, 10), (26, 0, 11)] := by rfl
theorem cq_p2_runs (w : Int32) (I V R O : Nat → Int32) : cq_runs [(0, nI 105, 0), (0, nI 122, 1), (8, nI 34, 2), (0, nI 105, 3), (5, nI 128, 4), (7, nI 17, 5), (0, nI 124, 6), (21, (w - 250), 7), (5, nI 128, 8), (3, nI 130, 9), (7, nI 33, 10), (26, 0, 11)] 13 I V R O (upd V 7 ((upd R (V 5 &&& 7).toNatClampNeg (I 2)) (V 5 &&& 7).toNatClampNeg)) (upd R (V 5 &&& 7).toNatClampNeg (I 2)) (upd O 3 (O 0 + (upd R (V 5 &&& 7).toNatClampNeg (I 2)) ((w - 250) &&& 7).toNatClampNeg)) := by
  intro post tm ac rn wc sz dp lo ex al a3 a4 a6 a7 a8 a9 a10 a11 a12 a13 a14 a15 a16 a17 a18 a19 a20 a21 a22 a23 a24 a26 a27 hc hI H
  have h2 : a4 2 = I 2 := hI 2 (by omega)
  refine cq_m_var (i := 5) hc (by simp) (by simp) (by decide) rfl ?_
  refine cq_m_inp (i := 2) hc (by simp) (by simp) (by decide) rfl ?_
  rw [h2]
  refine cq_m_store hc (by simp) (by simp) rfl ?_
  refine cq_m_var (i := 5) hc (by simp) (by simp) (by decide) rfl ?_
  refine cq_m_cell hc (by simp) (by simp) rfl ?_
  refine cq_m_asg (i := 7) hc (by simp) (by simp) (by decide) rfl ?_
  refine cq_m_out (i := 0) hc (by simp) (by simp) (by decide) rfl ?_
  refine cq_m_push hc (by simp) (by simp) rfl ?_
  refine cq_m_cell hc (by simp) (by simp) rfl ?_
  refine cq_m_two hc (by simp) (by simp) ⟨130, by decide, by decide, by decide, rfl⟩ rfl ?_
  refine cq_m_put (i := 3) hc (by simp) (by simp) (by decide) rfl ?_
  exact cq_m_over hc (by simp) (by simp) H rfl
theorem cq_p3_scan  : cq_scan (List.map Prod.fst ([(10, nI 56), (0, nI 105), (9, nI 35), (0, nI 122), (7, nI 18), (1, nI 251), (7, nI 18), (1, nI 261), (9, nI 35), (0, nI 122), (7, nI 18), (1, nI 252), (7, nI 18), (1, nI 262), (9, nI 35), (0, nI 122), (7, nI 18), (1, nI 253), (7, nI 18), (1, nI 263)] : List (Nat × Int32))) [1] = some [] := by rfl
theorem cq_p3_sp  : cq_sp (List.map Prod.fst ([(10, nI 56), (0, nI 105), (9, nI 35), (0, nI 122), (7, nI 18), (1, nI 251), (7, nI 18), (1, nI 261), (9, nI 35), (0, nI 122), (7, nI 18), (1, nI 252), (7, nI 18), (1, nI 262), (9, nI 35), (0, nI 122), (7, nI 18), (1, nI 253), (7, nI 18), (1, nI 263)] : List (Nat × Int32))) = some [20, 1, 6, 1, 2, 1, 2, 1, 6, 1, 2, 1, 2, 1, 6, 1, 2, 1, 2, 1] := by rfl
theorem cq_p3_crun  : cq_crun [(10, nI 56), (0, nI 105), (9, nI 35), (0, nI 122), (7, nI 18), (1, nI 251), (7, nI 18), (1, nI 261), (9, nI 35), (0, nI 122), (7, nI 18), (1, nI 252), (7, nI 18), (1, nI 262), (9, nI 35), (0, nI 122), (7, nI 18), (1, nI 253), (7, nI 18), (1, nI 263)] [20, 1, 6, 1, 2, 1, 2, 1, 6, 1, 2, 1, 2, 1, 6, 1, 2, 1, 2, 1] 40 [] [(0, 0, none, none)] = some [(0, nI 105, 0), (24, 0, 10), (0, nI 122, 2), (23, 0, 7), (21, (nI 251 - 250), 4), (7, nI 18, 5), (22, 0, 9), (21, (nI 261 - 250), 7), (7, nI 18, 8), (22, 0, 27), (24, 1, 19), (0, nI 122, 11), (23, 0, 16), (21, (nI 252 - 250), 13), (7, nI 18, 14), (22, 0, 18), (21, (nI 262 - 250), 16), (7, nI 18, 17), (22, 0, 27), (25, 0, 19), (0, nI 122, 20), (23, 0, 25), (21, (nI 253 - 250), 22), (7, nI 18, 23), (22, 0, 27), (21, (nI 263 - 250), 25), (7, nI 18, 26)] := by rfl
theorem cq_p3_end  : cq_end [(0, nI 105, 0), (24, 0, 10), (0, nI 122, 2), (23, 0, 7), (21, (nI 251 - 250), 4), (7, nI 18, 5), (22, 0, 9), (21, (nI 261 - 250), 7), (7, nI 18, 8), (22, 0, 27), (24, 1, 19), (0, nI 122, 11), (23, 0, 16), (21, (nI 252 - 250), 13), (7, nI 18, 14), (22, 0, 18), (21, (nI 262 - 250), 16), (7, nI 18, 17), (22, 0, 27), (25, 0, 19), (0, nI 122, 20), (23, 0, 25), (21, (nI 253 - 250), 22), (7, nI 18, 23), (22, 0, 27), (21, (nI 263 - 250), 25), (7, nI 18, 26)] = [(0, nI 105, 0), (24, 0, 10), (0, nI 122, 2), (23, 0, 7), (21, (nI 251 - 250), 4), (7, nI 18, 5), (22, 0, 27), (21, (nI 261 - 250), 7), (7, nI 18, 8), (22, 0, 27), (24, 1, 19), (0, nI 122, 11), (23, 0, 16), (21, (nI 252 - 250), 13), (7, nI 18, 14), (22, 0, 27), (21, (nI 262 - 250), 16), (7, nI 18, 17), (22, 0, 27), (25, 0, 19), (0, nI 122, 20), (23, 0, 25), (21, (nI 253 - 250), 22), (7, nI 18, 23), (22, 0, 27), (21, (nI 263 - 250), 25), (7, nI 18, 26), (26, 0, 27)] := by rfl
def cq_way (e f : Int32) : Int32 := if e = 0 then (if f = 0 then 11 else 1) else if e = 1 then (if f = 0 then 12 else 2) else (if f = 0 then 13 else 3)
theorem cq_p3_runs (I V R O : Nat → Int32) : cq_runs [(0, nI 105, 0), (24, 0, 10), (0, nI 122, 2), (23, 0, 7), (21, (nI 251 - 250), 4), (7, nI 18, 5), (22, 0, 27), (21, (nI 261 - 250), 7), (7, nI 18, 8), (22, 0, 27), (24, 1, 19), (0, nI 122, 11), (23, 0, 16), (21, (nI 252 - 250), 13), (7, nI 18, 14), (22, 0, 27), (21, (nI 262 - 250), 16), (7, nI 18, 17), (22, 0, 27), (25, 0, 19), (0, nI 122, 20), (23, 0, 25), (21, (nI 253 - 250), 22), (7, nI 18, 23), (22, 0, 27), (21, (nI 263 - 250), 25), (7, nI 18, 26), (26, 0, 27)] 30 I V R O (upd V 8 (cq_way (V 5) (I 2))) R O := by
  intro post tm ac rn wc sz dp lo ex al a3 a4 a6 a7 a8 a9 a10 a11 a12 a13 a14 a15 a16 a17 a18 a19 a20 a21 a22 a23 a24 a26 a27 hc hI H
  have h2 : a4 2 = I 2 := hI 2 (by omega)
  refine cq_m_var (i := 5) hc (by simp) (by simp) (by decide) rfl ?_
  refine cq_m_jue hc (by simp) (by simp) (fun z0 => ?_) (fun z0 => ?_) rfl
  · skip
    refine cq_m_inp (i := 2) hc (by simp) (by simp) (by decide) rfl ?_
    rw [h2]
    refine cq_m_ju hc (by simp) (by simp) (fun z1 => ?_) (fun z1 => ?_) rfl
    · skip
      refine cq_m_push hc (by simp) (by simp) rfl ?_
      refine cq_m_asg (i := 8) hc (by simp) (by simp) (by decide) rfl ?_
      refine cq_m_jump hc (by simp) (by simp) rfl ?_
      unfold cq_way at H
      rw [if_pos z0, if_pos z1] at H
      exact cq_m_over hc (by simp) (by simp) H rfl
    · skip
      refine cq_m_push hc (by simp) (by simp) rfl ?_
      refine cq_m_asg (i := 8) hc (by simp) (by simp) (by decide) rfl ?_
      refine cq_m_jump hc (by simp) (by simp) rfl ?_
      unfold cq_way at H
      rw [if_pos z0, if_neg z1] at H
      exact cq_m_over hc (by simp) (by simp) H rfl
  · skip
    refine cq_m_jue hc (by simp) (by simp) (fun z1 => ?_) (fun z1 => ?_) rfl
    · skip
      refine cq_m_inp (i := 2) hc (by simp) (by simp) (by decide) rfl ?_
      rw [h2]
      refine cq_m_ju hc (by simp) (by simp) (fun z2 => ?_) (fun z2 => ?_) rfl
      · skip
        refine cq_m_push hc (by simp) (by simp) rfl ?_
        refine cq_m_asg (i := 8) hc (by simp) (by simp) (by decide) rfl ?_
        refine cq_m_jump hc (by simp) (by simp) rfl ?_
        unfold cq_way at H
        rw [if_neg z0, if_pos z1, if_pos z2] at H
        exact cq_m_over hc (by simp) (by simp) H rfl
      · skip
        refine cq_m_push hc (by simp) (by simp) rfl ?_
        refine cq_m_asg (i := 8) hc (by simp) (by simp) (by decide) rfl ?_
        refine cq_m_jump hc (by simp) (by simp) rfl ?_
        unfold cq_way at H
        rw [if_neg z0, if_pos z1, if_neg z2] at H
        exact cq_m_over hc (by simp) (by simp) H rfl
    · skip
      refine cq_m_drop hc (by simp) (by simp) rfl ?_
      refine cq_m_inp (i := 2) hc (by simp) (by simp) (by decide) rfl ?_
      rw [h2]
      refine cq_m_ju hc (by simp) (by simp) (fun z2 => ?_) (fun z2 => ?_) rfl
      · skip
        refine cq_m_push hc (by simp) (by simp) rfl ?_
        refine cq_m_asg (i := 8) hc (by simp) (by simp) (by decide) rfl ?_
        unfold cq_way at H
        rw [if_neg z0, if_neg z1, if_pos z2] at H
        exact cq_m_over hc (by simp) (by simp) H rfl
      · skip
        refine cq_m_push hc (by simp) (by simp) rfl ?_
        refine cq_m_asg (i := 8) hc (by simp) (by simp) (by decide) rfl ?_
        refine cq_m_jump hc (by simp) (by simp) rfl ?_
        unfold cq_way at H
        rw [if_neg z0, if_neg z1, if_neg z2] at H
        exact cq_m_over hc (by simp) (by simp) H rfl
theorem cq_p4_scan  : cq_scan (List.map Prod.fst ([(11, nI 2)] : List (Nat × Int32))) [1] = some [] := by rfl
theorem cq_p4_sp  : cq_sp (List.map Prod.fst ([(11, nI 2)] : List (Nat × Int32))) = some [1] := by rfl
theorem cq_p4_crun  : cq_crun [(11, nI 2)] [1] 2 [] [(0, 0, none, none)] = some [] := by rfl
theorem cq_p4_end  : cq_end [] = [(26, 0, 0)] := by rfl
end
section
/-! the law -/
theorem cq_784 {post : Int32 → St0 → Prop} {mc ms kc ks : Nat} {tm ac rn wc sz dp lo ex hgt al ov : Int32} {a1 a2 a3 a4 a5 a6 a7 a8 a9 a10 a11 a12 a13 a14 a15 a16 a17 a18 a19 a20 a21 a22 a23 a24 a25 a26 a27 : Nat → Int32} {z0 z1 : Int32} {V R I O : Nat → Int32} (hp : post 1 ()) (hz : z1 = z0) (h : cq_L 0 1 [(10, nI 56), (0, nI 105), (9, nI 35), (0, nI 122), (7, nI 18), (1, nI 251), (7, nI 18), (1, nI 261), (9, nI 35), (0, nI 122), (7, nI 18), (1, nI 252), (7, nI 18), (1, nI 262), (9, nI 35), (0, nI 122), (7, nI 18), (1, nI 253), (7, nI 18), (1, nI 263)] [] V R I O ac rn a1 a2 a3 a5 a11 a12) : wL_lawOf_784 post mc ms z0 z1 kc ks tm ac rn wc sz dp lo ex hgt al ov a1 a2 a3 a4 a5 a6 a7 a8 a9 a10 a11 a12 a13 a14 a15 a16 a17 a18 a19 a20 a21 a22 a23 a24 a25 a26 a27 := by
  refine br_t hz (cq_lfeed1 11 2 h (Or.inr (by decide)) (fun h => br_t rfl ?_))
  refine cq_lact1 h cq_p4_scan cq_p4_sp cq_p4_crun (by simp) (fun h => br_t rfl ?_)
  refine cq_lfull h (Or.inr (by decide)) (fun h => br_t rfl ?_)
  exact cq_lerase h (Or.inr (by decide)) (fun h => br_t rfl hp)
theorem cq_731 {post : Int32 → St0 → Prop} {mc ms kc ks : Nat} {tm ac rn wc sz dp lo ex hgt al ov : Int32} {a1 a2 a3 a4 a5 a6 a7 a8 a9 a10 a11 a12 a13 a14 a15 a16 a17 a18 a19 a20 a21 a22 a23 a24 a25 a26 a27 : Nat → Int32} {x8 x9 z0 : Int32} {V R I O : Nat → Int32} (hp : post 1 ()) (e5 : V 5 = x8) (eI : I 2 = x9) (hz0 : x9 = 0 → cq_way x8 x9 = z0 + 10) (hz1 : ¬ x9 = 0 → cq_way x8 x9 = z0) (h : cq_L 0 0 [(10, nI 56), (0, nI 105), (9, nI 35), (0, nI 122), (7, nI 18), (1, nI 251), (7, nI 18), (1, nI 261), (9, nI 35), (0, nI 122), (7, nI 18), (1, nI 252), (7, nI 18), (1, nI 262), (9, nI 35), (0, nI 122), (7, nI 18), (1, nI 253), (7, nI 18), (1, nI 263)] [] V R I O ac rn a1 a2 a3 a5 a11 a12) : wL_lawOf_731 post mc ms x9 z0 kc ks tm ac rn wc sz dp lo ex hgt al ov a1 a2 a3 a4 a5 a6 a7 a8 a9 a10 a11 a12 a13 a14 a15 a16 a17 a18 a19 a20 a21 a22 a23 a24 a25 a26 a27 := by
  refine cq_lcomplete h cq_p3_scan (fun h => br_t rfl ?_)
  refine cq_lact h cq_p3_scan cq_p3_sp cq_p3_crun (by simp) cq_p3_end (fun h hc => br_t rfl ?_)
  refine cq_lcycle 100 h hc (cq_p3_runs I V R O) (by decide) (fun h => br_t rfl ?_)
  have e : upd V 8 (cq_way (V 5) (I 2)) 8 = cq_way x8 x9 := by rw [pk_us, e5, eI]
  refine cq_lvar 8 h ?_
  rw [e]
  exact br_c (fun z => cq_784 hp (hz0 z) h) (fun z => cq_784 hp (hz1 z) h)
theorem cq_way_z {e f z : Int32} (a b : Int32) (h : cq_way e f = if f = 0 then a else b) (ha : a = z + 10) (hb : b = z) : (f = 0 → cq_way e f = z + 10) ∧ (¬ f = 0 → cq_way e f = z) :=
  ⟨fun c => by rw [h, if_pos c, ha], fun c => by rw [h, if_neg c, hb]⟩
theorem cq_597 {post : Int32 → St0 → Prop} {mc ms kc ks : Nat} {tm ac rn wc sz dp lo ex hgt al ov : Int32} {a1 a2 a3 a4 a5 a6 a7 a8 a9 a10 a11 a12 a13 a14 a15 a16 a17 a18 a19 a20 a21 a22 a23 a24 a25 a26 a27 : Nat → Int32} {x8 x9 z0 z1 z2 : Int32} {T : List (Nat × Int32)} {V R I O : Nat → Int32} (hp : post 1 ()) (e5 : V 5 = x8) (eI : I 2 = x9) (hz : z2 = z1 + z0) (h : cq_L 0 1 T [] V R I O ac rn a1 a2 a3 a5 a11 a12) : wL_lawOf_597 post mc ms x8 x9 z0 z1 z2 kc ks tm ac rn wc sz dp lo ex hgt al ov a1 a2 a3 a4 a5 a6 a7 a8 a9 a10 a11 a12 a13 a14 a15 a16 a17 a18 a19 a20 a21 a22 a23 a24 a25 a26 a27 := by
  refine br_t hz (cq_lhalt h (fun r h => ?_))
  refine cq_lerase h (Or.inl rfl) (fun h => ?_)
  refine cq_lfeed 10 56 h (Or.inl rfl) (fun h => ?_)
  refine cq_lfeed 0 105 h (Or.inl rfl) (fun h => ?_)
  refine Exists.intro 4 ?_
  refine br_f (by decide) ?_
  refine cq_lfeed 9 35 h (Or.inl rfl) (fun h => ?_)
  refine cq_lfeed 0 122 h (Or.inl rfl) (fun h => ?_)
  refine cq_lfeed 7 18 h (Or.inl rfl) (fun h => ?_)
  refine cq_lfeed 1 251 h (Or.inl rfl) (fun h => ?_)
  refine cq_lfeed 7 18 h (Or.inl rfl) (fun h => ?_)
  refine cq_lfeed 1 261 h (Or.inl rfl) (fun h => nm_r (e' := nI 1) rfl ?_)
  refine br_f (by decide) ?_
  refine cq_lfeed 9 35 h (Or.inl rfl) (fun h => ?_)
  refine cq_lfeed 0 122 h (Or.inl rfl) (fun h => ?_)
  refine cq_lfeed 7 18 h (Or.inl rfl) (fun h => ?_)
  refine cq_lfeed 1 252 h (Or.inl rfl) (fun h => ?_)
  refine cq_lfeed 7 18 h (Or.inl rfl) (fun h => ?_)
  refine cq_lfeed 1 262 h (Or.inl rfl) (fun h => nm_r (e' := nI 2) rfl ?_)
  refine br_f (by decide) ?_
  refine cq_lfeed 9 35 h (Or.inl rfl) (fun h => ?_)
  refine cq_lfeed 0 122 h (Or.inl rfl) (fun h => ?_)
  refine cq_lfeed 7 18 h (Or.inl rfl) (fun h => ?_)
  refine cq_lfeed 1 253 h (Or.inl rfl) (fun h => ?_)
  refine cq_lfeed 7 18 h (Or.inl rfl) (fun h => ?_)
  refine cq_lfeed 1 263 h (Or.inl rfl) (fun h => nm_r (e' := nI 3) rfl ?_)
  have h' : cq_L 0 0 [(10, nI 56), (0, nI 105), (9, nI 35), (0, nI 122), (7, nI 18), (1, nI 251), (7, nI 18), (1, nI 261), (9, nI 35), (0, nI 122), (7, nI 18), (1, nI 252), (7, nI 18), (1, nI 262), (9, nI 35), (0, nI 122), (7, nI 18), (1, nI 253), (7, nI 18), (1, nI 263)] [] V R I O _ _ _ _ _ _ _ _ := h
  refine br_t (by decide) (br_c (fun z => ?_) (fun z => br_c (fun z' => ?_) (fun z' => ?_)))
  · have hw := cq_way_z (e := x8) (f := x9) (z := 1) 11 1 (by unfold cq_way; rw [if_pos z]) (by decide) rfl
    exact cq_731 hp e5 eI hw.1 hw.2 h'
  · have hw := cq_way_z (e := x8) (f := x9) (z := 2) 12 2 (by unfold cq_way; rw [if_neg z, if_pos z']) (by decide) rfl
    exact cq_731 hp e5 eI hw.1 hw.2 h'
  · have hw := cq_way_z (e := x8) (f := x9) (z := 3) 13 3 (by unfold cq_way; rw [if_neg z, if_neg z']) (by decide) rfl
    exact cq_731 hp e5 eI hw.1 hw.2 h'
theorem cq_t_1 : ∀ m, m < 81 → cq_cls (210 + m) = 1 := by decide +kernel
theorem cq_wsub (y : Int32) : (210 + y) - 250 = y - 40 := by grind
theorem cq_269 {post : Int32 → St0 → Prop} {mc ms kc ks : Nat} {tm ac rn wc sz dp lo ex hgt al ov : Int32} {a1 a2 a3 a4 a5 a6 a7 a8 a9 a10 a11 a12 a13 a14 a15 a16 a17 a18 a19 a20 a21 a22 a23 a24 a25 a26 a27 : Nat → Int32} {x2 x3 x5 x6 x7 x8 x9 : Int32} {T : List (Nat × Int32)} {S : List Nat} {Cf Ce : List (Nat × Int32 × Nat)} {n k : Nat} {V V' I O O' : Nat → Int32} (hp : post 1 ()) (h : cq_L 0 0 T [] V (fun _ => 0) I O ac rn a1 a2 a3 a5 a11 a12)
    (hs : cq_scan (T.map Prod.fst) [1] = some []) (hS : cq_sp (T.map Prod.fst) = some S) (hr : cq_crun T S n [] [(0, 0, none, none)] = some Cf) (hCf : Cf.length < 390) (hCe : cq_end Cf = Ce) (hrun : cq_runs Ce k I V (fun _ => 0) O V' (fun _ => 0) O') (hk : k ≤ 1000)
    (e0 : V' 0 = cq_due x5 x8 x9 x2) (e1 : O' 0 = cq_due x6 (cq_due x5 x8 x9 x2) x7 x8) (e5 : V' 5 = x8) (e3 : V' 3 = x2) (eI : I 2 = x9) : wL_lawOf_269 post mc ms x2 x3 x5 x6 x7 x8 x9 kc ks tm ac rn wc sz dp lo ex hgt al ov a1 a2 a3 a4 a5 a6 a7 a8 a9 a10 a11 a12 a13 a14 a15 a16 a17 a18 a19 a20 a21 a22 a23 a24 a25 a26 a27 := by
  refine cq_lcomplete h hs (fun h => br_t rfl ?_)
  refine cq_lact h hs hS hr hCf hCe (fun h hc => br_t rfl ?_)
  refine cq_lcycle 3 h hc hrun (by decide) (fun h => br_t rfl ?_) rfl (by decide) hk
  refine cq_due_w (cq_due_w ?_)
  refine cq_lvar 0 h (br_t e0 ?_)
  refine cq_loutp 0 h (br_t e1 ?_)
  refine cq_lvar 5 h (br_t e5 ?_)
  refine cq_lvar 3 h (br_t e3 ?_)
  refine cq_lhalt h (fun r h => ?_)
  refine cq_lerase h (Or.inl rfl) (fun h => ?_)
  refine cq_lfeed 6 1 h (Or.inl rfl) (fun h => ?_)
  refine cq_lfeed 8 34 h (Or.inl rfl) (fun h => ?_)
  refine cq_lfeed 0 105 h (Or.inl rfl) (fun h => ?_)
  refine cq_lfeed 0 122 h (Or.inl rfl) (fun h => ?_)
  refine cq_lfeed 6 1 h (Or.inl rfl) (fun h => ?_)
  refine cq_lfeed 7 17 h (Or.inl rfl) (fun h => ?_)
  refine cq_lfeed 5 128 h (Or.inl rfl) (fun h => ?_)
  refine cq_lfeed 0 105 h (Or.inl rfl) (fun h => ?_)
  refine cq_lfeed 7 33 h (Or.inl rfl) (fun h => ?_)
  refine cq_lfeed 3 130 h (Or.inl rfl) (fun h => ?_)
  refine cq_lfeed 0 124 h (Or.inl rfl) (fun h => ?_)
  refine cq_lfeed 5 128 h (Or.inl rfl) (fun h => ?_)
  obtain ⟨j, hj, ej⟩ := pk_andE (x3 >>> ((20 : Int32) &&& 31)) (m := 63) 6 (by decide)
  refine cq_lfeed 1 (210 + j) h (Or.inl rfl) (fun h => br_f (nI_pos (by simp)) ?_) rfl (by rw [ej]; exact nI_add 210 j) (by omega) (cq_t_1 j (by omega)) (by decide) (by simp)
  have h' : cq_L 0 0 [(6, nI 1), (8, nI 34), (0, nI 105), (0, nI 122), (6, nI 1), (7, nI 17), (5, nI 128), (0, nI 105), (7, nI 33), (3, nI 130), (0, nI 124), (5, nI 128), (1, 210 + ((x3 >>> ((20 : Int32) &&& 31)) &&& 63))] [] V' (fun _ => 0) I O' _ _ _ _ _ _ _ _ := h
  refine cq_lact h' (cq_p2_scan _) (cq_p2_sp _) (cq_p2_crun _) (by simp) (cq_p2_end _) (fun h hc => br_t rfl ?_)
  obtain ⟨i, hi, ei⟩ := pk_andE x8 (m := 7) 3 (by decide)
  obtain ⟨l, hl, el⟩ := pk_andE (((x3 >>> ((20 : Int32) &&& 31)) &&& 63) - 40) (m := 7) 3 (by decide)
  have hrun2 := cq_p2_runs (210 + ((x3 >>> ((20 : Int32) &&& 31)) &&& 63)) I V' (fun _ => 0) O'
  have el' : ((210 + ((x3 >>> ((20 : Int32) &&& 31)) &&& 63)) - 250) &&& 7 = nI l := by rw [cq_wsub]; exact el
  rw [e5, ei, eI, el', nI_clamp (show i < 2 ^ 31 by omega), nI_clamp (show l < 2 ^ 31 by omega), pk_us] at hrun2
  refine cq_lcycle 0 h hc hrun2 (by decide) (fun h => br_t rfl (nm_e ?_))
  refine cq_lcell i h (br_t pk_us ?_) ei hi
  refine cq_lvar 7 h (br_t pk_us ?_)
  refine cq_loutp 3 h ?_
  have e5' : upd V' 7 x9 5 = x8 := e5
  rw [pk_us, e1, el, ei]
  refine pk_eq l i (fun z => ?_) (fun z => ?_)
  · exact cq_597 hp e5' eI (by rw [z, pk_us]) h
  · exact cq_597 hp e5' eI (by rw [pk_un z]) h
theorem cq_w7 (y : Int32) : (250 + y) - 250 = y := by grind
theorem cq_t_op : ∀ m, m < 13 → nI (130 + m) = nI 139 ∨ nI (130 + m) = nI 142 ∨ (cq_cls (130 + m) = 3 ∧ ¬ nI (130 + m) = 139 ∧ ¬ nI (130 + m) = 142) := by decide +kernel
theorem cq_op3 {x : Int32} (h : ∃ m, m < 13 ∧ x = nI (130 + m)) : x = nI 139 ∨ x = nI 142 ∨ (cq_tk 3 x ∧ (∃ n, n < 291 ∧ cq_cls n = 3 ∧ x = nI n) ∧ ¬ x = 139 ∧ ¬ x = 142) := by
  obtain ⟨m, hm, rfl⟩ := h
  rcases cq_t_op m hm with z | z | ⟨z1, z2, z3⟩
  · exact Or.inl z
  · exact Or.inr (Or.inl z)
  · exact Or.inr (Or.inr ⟨⟨_, by omega, z1, by decide, rfl⟩, ⟨_, by omega, z1, rfl⟩, z2, z3⟩)
theorem cq_204_2 {post : Int32 → St0 → Prop} {mc ms kc ks : Nat} {tm ac rn wc sz dp lo ex hgt al ov : Int32} {a1 a2 a3 a4 a5 a6 a7 a8 a9 a10 a11 a12 a13 a14 a15 a16 a17 a18 a19 a20 a21 a22 a23 a24 a25 a26 a27 : Nat → Int32} {x2 x3 x6 x7 x8 x9 : Int32} (hp : post 1 ()) (h6 : ∃ m, m < 13 ∧ x6 = nI (130 + m)) (h7 : ∃ m, m < 81 ∧ 250 + x7 = nI (210 + m)) (h : cq_L 0 0 [(6, nI 1), (7, nI 10), (2, nI 139), (0, nI 105)] [] (upd (upd (fun _ => 0) 5 x8) 3 x2) (fun _ => 0) (upd (fun _ => 0) 2 x9) (fun _ => 0) ac rn a1 a2 a3 a5 a11 a12) : wL_lawOf_204 post mc ms x2 x3 (nI 139) x6 x7 x8 x9 kc ks tm ac rn wc sz dp lo ex hgt al ov a1 a2 a3 a4 a5 a6 a7 a8 a9 a10 a11 a12 a13 a14 a15 a16 a17 a18 a19 a20 a21 a22 a23 a24 a25 a26 a27 := by
  have E0 : upd (upd (upd (fun _ => 0) 5 x8) 3 x2) 0 (if (upd (upd (fun _ => 0) 5 x8) 3 x2) 5 = 0 then 1 else 0) 0 = cq_due (nI 139) x8 x9 x2 := rfl
  have ew := cq_w7 x7
  obtain ⟨m7, hm7, e7⟩ := h7
  refine cq_lfeed 7 30 h (Or.inl rfl) (fun h => ?_)
  rcases cq_op3 h6 with rfl | rfl | ⟨hk6, ⟨n6, hn6, hc6, e6⟩, g1, g2⟩
  · refine cq_lfeed 2 139 h (Or.inl rfl) (fun h => ?_)
    refine cq_lfeed 0 100 h (Or.inl rfl) (fun h => ?_)
    refine br_t rfl (br_f (by decide) ?_)
    have h' : cq_L 0 0 [(6, nI 1), (7, nI 10), (2, nI 139), (0, nI 105), (7, nI 30), (2, nI 139), (0, nI 100)] [] (upd (upd (fun _ => 0) 5 x8) 3 x2) (fun _ => 0) (upd (fun _ => 0) 2 x9) (fun _ => 0) _ _ _ _ _ _ _ _ := h
    refine cq_269 hp h' (cq_p1_22_scan ) (cq_p1_22_sp ) (cq_p1_22_crun ) (by simp) (cq_p1_22_end ) (cq_p1_22_runs  _ _ _ _) (by decide) E0 ?_ rfl rfl rfl
    rw [pk_us, E0]
    rfl
  · refine cq_lfeed 4 142 h (Or.inl rfl) (fun h => ?_)
    refine cq_lfeed 0 100 h (Or.inl rfl) (fun h => ?_)
    refine br_f (by decide) (cq_lfeed 1 (210 + m7) h (Or.inl rfl) (fun h => ?_) rfl e7 (by omega) (cq_t_1 m7 hm7))
    refine br_t rfl (cq_lfeed 0 105 h (Or.inl rfl) (fun h => ?_))
    have h' : cq_L 0 0 [(6, nI 1), (7, nI 10), (2, nI 139), (0, nI 105), (7, nI 30), (4, nI 142), (0, nI 100), (1, 250 + x7), (0, nI 105)] [] (upd (upd (fun _ => 0) 5 x8) 3 x2) (fun _ => 0) (upd (fun _ => 0) 2 x9) (fun _ => 0) _ _ _ _ _ _ _ _ := h
    refine cq_269 hp h' (cq_p1_24_scan (250 + x7)) (cq_p1_24_sp (250 + x7)) (cq_p1_24_crun (250 + x7)) (by simp) (cq_p1_24_end (250 + x7)) (cq_p1_24_runs (250 + x7) _ _ _ _) (by decide) E0 ?_ rfl rfl rfl
    rw [pk_us, E0, ew]
    rfl
  · refine cq_lfeed 3 n6 h (Or.inl rfl) (fun h => ?_) rfl e6 hn6 hc6
    refine cq_lfeed 0 100 h (Or.inl rfl) (fun h => ?_)
    refine br_f g1 (cq_lfeed 1 (210 + m7) h (Or.inl rfl) (fun h => ?_) rfl e7 (by omega) (cq_t_1 m7 hm7))
    refine br_f g2 ?_
    have h' : cq_L 0 0 [(6, nI 1), (7, nI 10), (2, nI 139), (0, nI 105), (7, nI 30), (3, x6), (0, nI 100), (1, 250 + x7)] [] (upd (upd (fun _ => 0) 5 x8) 3 x2) (fun _ => 0) (upd (fun _ => 0) 2 x9) (fun _ => 0) _ _ _ _ _ _ _ _ := h
    refine cq_269 hp h' (cq_p1_23_scan x6 (250 + x7)) (cq_p1_23_sp x6 (250 + x7)) (cq_p1_23_crun x6 (250 + x7)) (by simp) (cq_p1_23_end x6 (250 + x7)) (cq_p1_23_runs x6 (250 + x7) hk6 _ _ _ _) (by decide) E0 ?_ rfl rfl rfl
    rw [pk_us, E0, ew]
    exact cq_two_due x8 hk6
theorem cq_204_3 {post : Int32 → St0 → Prop} {mc ms kc ks : Nat} {tm ac rn wc sz dp lo ex hgt al ov : Int32} {a1 a2 a3 a4 a5 a6 a7 a8 a9 a10 a11 a12 a13 a14 a15 a16 a17 a18 a19 a20 a21 a22 a23 a24 a25 a26 a27 : Nat → Int32} {x2 x3 x6 x7 x8 x9 : Int32} {x5 : Int32} (hp : post 1 ()) (h5 : cq_tk 3 x5) (h6 : ∃ m, m < 13 ∧ x6 = nI (130 + m)) (h7 : ∃ m, m < 81 ∧ 250 + x7 = nI (210 + m)) (h : cq_L 0 0 [(6, nI 1), (7, nI 10), (3, x5), (0, nI 105), (0, nI 122)] [] (upd (upd (fun _ => 0) 5 x8) 3 x2) (fun _ => 0) (upd (fun _ => 0) 2 x9) (fun _ => 0) ac rn a1 a2 a3 a5 a11 a12) : wL_lawOf_204 post mc ms x2 x3 (x5) x6 x7 x8 x9 kc ks tm ac rn wc sz dp lo ex hgt al ov a1 a2 a3 a4 a5 a6 a7 a8 a9 a10 a11 a12 a13 a14 a15 a16 a17 a18 a19 a20 a21 a22 a23 a24 a25 a26 a27 := by
  have E0 : upd (upd (upd (fun _ => 0) 5 x8) 3 x2) 0 (cq_two x5 ((upd (upd (fun _ => 0) 5 x8) 3 x2) 5) ((upd (fun _ => 0) 2 x9) 2)) 0 = cq_due (x5) x8 x9 x2 := (by rw [pk_us]; exact cq_two_due x2 h5)
  have ew := cq_w7 x7
  obtain ⟨m7, hm7, e7⟩ := h7
  refine cq_lfeed 7 30 h (Or.inl rfl) (fun h => ?_)
  rcases cq_op3 h6 with rfl | rfl | ⟨hk6, ⟨n6, hn6, hc6, e6⟩, g1, g2⟩
  · refine cq_lfeed 2 139 h (Or.inl rfl) (fun h => ?_)
    refine cq_lfeed 0 100 h (Or.inl rfl) (fun h => ?_)
    refine br_t rfl (br_f (by decide) ?_)
    have h' : cq_L 0 0 [(6, nI 1), (7, nI 10), (3, x5), (0, nI 105), (0, nI 122), (7, nI 30), (2, nI 139), (0, nI 100)] [] (upd (upd (fun _ => 0) 5 x8) 3 x2) (fun _ => 0) (upd (fun _ => 0) 2 x9) (fun _ => 0) _ _ _ _ _ _ _ _ := h
    refine cq_269 hp h' (cq_p1_32_scan x5) (cq_p1_32_sp x5) (cq_p1_32_crun x5) (by simp) (cq_p1_32_end x5) (cq_p1_32_runs x5 h5 _ _ _ _) (by decide) E0 ?_ rfl rfl rfl
    rw [pk_us, E0]
    rfl
  · refine cq_lfeed 4 142 h (Or.inl rfl) (fun h => ?_)
    refine cq_lfeed 0 100 h (Or.inl rfl) (fun h => ?_)
    refine br_f (by decide) (cq_lfeed 1 (210 + m7) h (Or.inl rfl) (fun h => ?_) rfl e7 (by omega) (cq_t_1 m7 hm7))
    refine br_t rfl (cq_lfeed 0 105 h (Or.inl rfl) (fun h => ?_))
    have h' : cq_L 0 0 [(6, nI 1), (7, nI 10), (3, x5), (0, nI 105), (0, nI 122), (7, nI 30), (4, nI 142), (0, nI 100), (1, 250 + x7), (0, nI 105)] [] (upd (upd (fun _ => 0) 5 x8) 3 x2) (fun _ => 0) (upd (fun _ => 0) 2 x9) (fun _ => 0) _ _ _ _ _ _ _ _ := h
    refine cq_269 hp h' (cq_p1_34_scan x5 (250 + x7)) (cq_p1_34_sp x5 (250 + x7)) (cq_p1_34_crun x5 (250 + x7)) (by simp) (cq_p1_34_end x5 (250 + x7)) (cq_p1_34_runs x5 (250 + x7) h5 _ _ _ _) (by decide) E0 ?_ rfl rfl rfl
    rw [pk_us, E0, ew]
    rfl
  · refine cq_lfeed 3 n6 h (Or.inl rfl) (fun h => ?_) rfl e6 hn6 hc6
    refine cq_lfeed 0 100 h (Or.inl rfl) (fun h => ?_)
    refine br_f g1 (cq_lfeed 1 (210 + m7) h (Or.inl rfl) (fun h => ?_) rfl e7 (by omega) (cq_t_1 m7 hm7))
    refine br_f g2 ?_
    have h' : cq_L 0 0 [(6, nI 1), (7, nI 10), (3, x5), (0, nI 105), (0, nI 122), (7, nI 30), (3, x6), (0, nI 100), (1, 250 + x7)] [] (upd (upd (fun _ => 0) 5 x8) 3 x2) (fun _ => 0) (upd (fun _ => 0) 2 x9) (fun _ => 0) _ _ _ _ _ _ _ _ := h
    refine cq_269 hp h' (cq_p1_33_scan x5 x6 (250 + x7)) (cq_p1_33_sp x5 x6 (250 + x7)) (cq_p1_33_crun x5 x6 (250 + x7)) (by simp) (cq_p1_33_end x5 x6 (250 + x7)) (cq_p1_33_runs x5 x6 (250 + x7) h5 hk6 _ _ _ _) (by decide) E0 ?_ rfl rfl rfl
    rw [pk_us, E0, ew]
    exact cq_two_due x8 hk6
theorem cq_204_4 {post : Int32 → St0 → Prop} {mc ms kc ks : Nat} {tm ac rn wc sz dp lo ex hgt al ov : Int32} {a1 a2 a3 a4 a5 a6 a7 a8 a9 a10 a11 a12 a13 a14 a15 a16 a17 a18 a19 a20 a21 a22 a23 a24 a25 a26 a27 : Nat → Int32} {x2 x3 x6 x7 x8 x9 : Int32} (hp : post 1 ()) (h6 : ∃ m, m < 13 ∧ x6 = nI (130 + m)) (h7 : ∃ m, m < 81 ∧ 250 + x7 = nI (210 + m)) (h : cq_L 0 0 [(6, nI 1), (7, nI 10), (4, nI 142), (0, nI 105), (0, nI 122), (0, nI 103)] [] (upd (upd (fun _ => 0) 5 x8) 3 x2) (fun _ => 0) (upd (fun _ => 0) 2 x9) (fun _ => 0) ac rn a1 a2 a3 a5 a11 a12) : wL_lawOf_204 post mc ms x2 x3 (nI 142) x6 x7 x8 x9 kc ks tm ac rn wc sz dp lo ex hgt al ov a1 a2 a3 a4 a5 a6 a7 a8 a9 a10 a11 a12 a13 a14 a15 a16 a17 a18 a19 a20 a21 a22 a23 a24 a25 a26 a27 := by
  have E0 : upd (upd (upd (fun _ => 0) 5 x8) 3 x2) 0 (if (upd (upd (fun _ => 0) 5 x8) 3 x2) 5 = 0 then (upd (upd (fun _ => 0) 5 x8) 3 x2) 3 else (upd (fun _ => 0) 2 x9) 2) 0 = cq_due (nI 142) x8 x9 x2 := rfl
  have ew := cq_w7 x7
  obtain ⟨m7, hm7, e7⟩ := h7
  refine cq_lfeed 7 30 h (Or.inl rfl) (fun h => ?_)
  rcases cq_op3 h6 with rfl | rfl | ⟨hk6, ⟨n6, hn6, hc6, e6⟩, g1, g2⟩
  · refine cq_lfeed 2 139 h (Or.inl rfl) (fun h => ?_)
    refine cq_lfeed 0 100 h (Or.inl rfl) (fun h => ?_)
    refine br_t rfl (br_f (by decide) ?_)
    have h' : cq_L 0 0 [(6, nI 1), (7, nI 10), (4, nI 142), (0, nI 105), (0, nI 122), (0, nI 103), (7, nI 30), (2, nI 139), (0, nI 100)] [] (upd (upd (fun _ => 0) 5 x8) 3 x2) (fun _ => 0) (upd (fun _ => 0) 2 x9) (fun _ => 0) _ _ _ _ _ _ _ _ := h
    refine cq_269 hp h' (cq_p1_42_scan ) (cq_p1_42_sp ) (cq_p1_42_crun ) (by simp) (cq_p1_42_end ) (cq_p1_42_runs  _ _ _ _) (by decide) E0 ?_ rfl rfl rfl
    rw [pk_us, E0]
    rfl
  · refine cq_lfeed 4 142 h (Or.inl rfl) (fun h => ?_)
    refine cq_lfeed 0 100 h (Or.inl rfl) (fun h => ?_)
    refine br_f (by decide) (cq_lfeed 1 (210 + m7) h (Or.inl rfl) (fun h => ?_) rfl e7 (by omega) (cq_t_1 m7 hm7))
    refine br_t rfl (cq_lfeed 0 105 h (Or.inl rfl) (fun h => ?_))
    have h' : cq_L 0 0 [(6, nI 1), (7, nI 10), (4, nI 142), (0, nI 105), (0, nI 122), (0, nI 103), (7, nI 30), (4, nI 142), (0, nI 100), (1, 250 + x7), (0, nI 105)] [] (upd (upd (fun _ => 0) 5 x8) 3 x2) (fun _ => 0) (upd (fun _ => 0) 2 x9) (fun _ => 0) _ _ _ _ _ _ _ _ := h
    refine cq_269 hp h' (cq_p1_44_scan (250 + x7)) (cq_p1_44_sp (250 + x7)) (cq_p1_44_crun (250 + x7)) (by simp) (cq_p1_44_end (250 + x7)) (cq_p1_44_runs (250 + x7) _ _ _ _) (by decide) E0 ?_ rfl rfl rfl
    rw [pk_us, E0, ew]
    rfl
  · refine cq_lfeed 3 n6 h (Or.inl rfl) (fun h => ?_) rfl e6 hn6 hc6
    refine cq_lfeed 0 100 h (Or.inl rfl) (fun h => ?_)
    refine br_f g1 (cq_lfeed 1 (210 + m7) h (Or.inl rfl) (fun h => ?_) rfl e7 (by omega) (cq_t_1 m7 hm7))
    refine br_f g2 ?_
    have h' : cq_L 0 0 [(6, nI 1), (7, nI 10), (4, nI 142), (0, nI 105), (0, nI 122), (0, nI 103), (7, nI 30), (3, x6), (0, nI 100), (1, 250 + x7)] [] (upd (upd (fun _ => 0) 5 x8) 3 x2) (fun _ => 0) (upd (fun _ => 0) 2 x9) (fun _ => 0) _ _ _ _ _ _ _ _ := h
    refine cq_269 hp h' (cq_p1_43_scan x6 (250 + x7)) (cq_p1_43_sp x6 (250 + x7)) (cq_p1_43_crun x6 (250 + x7)) (by simp) (cq_p1_43_end x6 (250 + x7)) (cq_p1_43_runs x6 (250 + x7) hk6 _ _ _ _) (by decide) E0 ?_ rfl rfl rfl
    rw [pk_us, E0, ew]
    exact cq_two_due x8 hk6
theorem cq_86 {post : Int32 → St0 → Prop} {mc ms kc ks : Nat} {tm ac rn wc sz dp lo ex hgt al ov : Int32} {a1 a2 a3 a4 a5 a6 a7 a8 a9 a10 a11 a12 a13 a14 a15 a16 a17 a18 a19 a20 a21 a22 a23 a24 a25 a26 a27 : Nat → Int32} {x2 x3 x5 x6 x7 x8 x9 : Int32} (hp : post 1 ()) (h5 : ∃ m, m < 13 ∧ x5 = nI (130 + m)) (h6 : ∃ m, m < 13 ∧ x6 = nI (130 + m)) (h7 : ∃ m, m < 81 ∧ 250 + x7 = nI (210 + m)) (h : cq_L 0 0 [] [] (fun _ => 0) (fun _ => 0) (fun _ => 0) (fun _ => 0) ac rn a1 a2 a3 a5 a11 a12) : wL_lawOf_86 post mc ms x2 x3 x5 x6 x7 x8 x9 kc ks tm ac rn wc sz dp lo ex hgt al ov a1 a2 a3 a4 a5 a6 a7 a8 a9 a10 a11 a12 a13 a14 a15 a16 a17 a18 a19 a20 a21 a22 a23 a24 a25 a26 a27 := by
  refine cq_lpoke 5 h (fun h => ?_)
  refine cq_linput 2 h (fun h => ?_)
  refine cq_lpoke 3 h (fun h => ?_)
  refine cq_lfeed 6 1 h (Or.inl rfl) (fun h => br_t rfl ?_)
  refine cq_lfeed 7 10 h (Or.inl rfl) (fun h => br_t rfl ?_)
  rcases cq_op3 h5 with rfl | rfl | ⟨hk5, ⟨n5, hn5, hc5, e5⟩, g1, g2⟩
  · refine cq_lfeed 2 139 h (Or.inl rfl) (fun h => br_t rfl ?_)
    refine cq_lfeed 0 105 h (Or.inl rfl) (fun h => br_t rfl ?_)
    exact br_t rfl (br_f (by decide) (cq_204_2 hp h6 h7 h))
  · refine cq_lfeed 4 142 h (Or.inl rfl) (fun h => br_t rfl ?_)
    refine cq_lfeed 0 105 h (Or.inl rfl) (fun h => br_t rfl ?_)
    refine br_f (by decide) (cq_lfeed 0 122 h (Or.inl rfl) (fun h => br_t rfl ?_))
    refine br_t rfl (cq_lfeed 0 103 h (Or.inl rfl) (fun h => br_t rfl ?_))
    exact cq_204_4 hp h6 h7 h
  · refine cq_lfeed 3 n5 h (Or.inl rfl) (fun h => br_t rfl ?_) rfl e5 hn5 hc5
    refine cq_lfeed 0 105 h (Or.inl rfl) (fun h => br_t rfl ?_)
    refine br_f g1 (cq_lfeed 0 122 h (Or.inl rfl) (fun h => br_t rfl ?_))
    exact br_f g2 (cq_204_3 hp hk5 h6 h7 h)
theorem cq_mod (x : Int32) (d : Nat) (h0 : 0 < d) (hd : d < 1000) : ∃ m, m < d ∧ (x &&& 255) - (x &&& 255) / nI d * nI d = nI m := by
  obtain ⟨a, ha, e⟩ := pk_andE x (m := 255) 8 (by decide)
  rw [e, pk_rem (by omega) h0 (by omega)]
  exact ⟨_, Nat.mod_lt _ h0, rfl⟩
theorem cq_w40 (y : Int32) : 250 + (y - 40) = 210 + y := by grind
theorem cq_lawOf {post : Int32 → St0 → Prop} {mc ms : Nat} {p0 p1 p2 p3 : Int32} (hp : post 1 ()) (hmc : 28 ≤ mc) (hms : 2173 ≤ ms) : wpL_lawOf post mc ms () p0 p1 p2 p3 := by
  refine And.intro (by omega) (And.intro (by omega) (Exists.intro 27 (Exists.intro 2135 (And.intro (by omega) (And.intro (by omega) ?_)))))
  refine And.intro (by decide) (And.intro (by decide) (And.intro (by decide) (And.intro (by decide) (And.intro (by decide) (And.intro (by decide) (And.intro (by decide) (And.intro (by decide) (And.intro (by decide) (And.intro (by decide) (And.intro (by decide) (And.intro (by decide) (And.intro (by decide) (And.intro (by decide) (And.intro (by decide) (And.intro (by decide) (And.intro (by decide) (And.intro (by decide) (And.intro (by decide) (And.intro (by decide) (And.intro (by decide) (And.intro (by decide) (And.intro (by decide) (And.intro (by decide) (And.intro (by decide) (And.intro (by decide) (And.intro (by decide) (And.intro (by decide) (And.intro (by decide) (And.intro (by decide) (And.intro (by decide) (And.intro (by decide) (And.intro (by decide) (And.intro (by decide) (And.intro (by decide) (And.intro (by decide) (And.intro (by decide) (And.intro (by decide) (And.intro (by decide) (And.intro (by decide) (And.intro (by decide) (And.intro (by decide) (And.intro (by decide) (And.intro (by decide) (And.intro (by decide) (And.intro (by decide) (And.intro (by decide) (And.intro (by decide) (And.intro (by decide) (And.intro (by decide) (And.intro (by decide) (And.intro (by decide) (And.intro (by decide) (And.intro (by decide) (?_))))))))))))))))))))))))))))))))))))))))))))))))))))))
  obtain ⟨m5, hm5, e5⟩ := cq_mod p3 13 (by decide) (by decide)
  obtain ⟨m6, hm6, e6⟩ := cq_mod (p3 >>> ((8 : Int32) &&& 31)) 13 (by decide) (by decide)
  obtain ⟨m7, hm7, e7⟩ := cq_mod (p3 >>> ((16 : Int32) &&& 31)) 81 (by decide) (by decide)
  refine And.intro (by decide) (nm_r (e' := nI (130 + m5)) ?_ (And.intro (by decide) (nm_r (e' := nI (130 + m6)) ?_ (And.intro (by decide) (nm_r (e' := nI m7 - 40) ?_ ?_)))))
  · rw [← nI_add]
    exact congrArg (fun z => (130 : Int32) + z) e5
  · rw [← nI_add]
    exact congrArg (fun z => (130 : Int32) + z) e6
  · exact congrArg (fun z => z - (40 : Int32)) e7
  have h7 : ∃ m, m < 81 ∧ 250 + (nI m7 - 40) = nI (210 + m) := ⟨m7, hm7, by rw [cq_w40, ← nI_add]; rfl⟩
  have h5 : ∃ m, m < 13 ∧ nI (130 + m5) = nI (130 + m) := ⟨m5, hm5, rfl⟩
  have h6 : ∃ m, m < 13 ∧ nI (130 + m6) = nI (130 + m) := ⟨m6, hm6, rfl⟩
  have hL : cq_L 0 0 [] [] (fun _ => 0) (fun _ => 0) (fun _ => 0) (fun _ => 0) 0 0 (fun _ => 0) (fun _ => 0) (fun _ => 0) (fun _ => 0) (fun _ => 0) (fun _ => 0) :=
    ⟨rfl, rfl, ⟨rfl, by simp, fun j c v hj => by simp at hj⟩, ⟨rfl, by simp, fun j c v hj => by simp at hj⟩, rfl, rfl, rfl, rfl⟩
  exact br_c (fun _ => br_c (fun _ => cq_86 hp h5 h6 h7 hL) (fun _ => And.intro (by decide) (cq_86 hp h5 h6 h7 hL))) (fun _ => And.intro (by decide) (br_c (fun _ => cq_86 hp h5 h6 h7 hL) (fun _ => And.intro (by decide) (cq_86 hp h5 h6 h7 hL))))
theorem cq_cell_w {post : Int32 → Prop} {L : Nat} {xs : Nat → Int32} (k : Nat) (hL : L ≤ 4) (hk : k < 100) {p : Int32} (hp : p = nI k) (H : ∀ r, post r) : wpL_cellAt post L xs () p := by
  subst hp
  exact pk_le L k (fun _ => H 0) (fun z => And.intro (pk_in k L z) (H _))
theorem i_vc (xs : Nat → Int32) (L : Nat) (hL : L ≤ 4) : wpL_law (fun r => r = 1) L xs :=
  cq_cell_w 0 hL (by decide) rfl (fun _ => cq_cell_w 1 hL (by decide) rfl (fun _ => cq_cell_w 2 hL (by decide) rfl (fun _ => cq_cell_w 3 hL (by decide) rfl (fun _ =>
    Exists.intro 1142 (Exists.intro 18256 (And.intro (by decide) (And.intro (by decide) (cq_lawOf rfl (by decide) (by decide)))))))))
end
