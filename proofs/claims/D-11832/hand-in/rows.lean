section
/-! the pure search for tables -/
def ct_iv (l : Nat) : Nat := if l % 2 = 0 then l + 1 else l - 1
def ct_bk (c i : Nat) : Nat := 4 * i + ct_iv (c % 4)
def ct_st (T : Nat → Nat) (c v : Nat) : Nat → Nat := fun j => if j = c then v else T j
def ct_pT (T : Nat → Nat) (c i : Nat) : Nat → Nat := ct_st (ct_st T c (i + 1)) (ct_bk c i) (c / 4 + 1)
def ct_pP (P i : Nat) : Nat := if i = P then P + 1 else P
def ct_nfA (T : Nat → Nat) (c : Nat) : Nat → Nat → Option Nat
  | 0, _ => none
  | k + 1, i => if T (ct_bk c i) = 0 then some i else ct_nfA T c k (i + 1)
def ct_nfE (n P fr : Nat) : Option Nat := if fr ≤ P ∧ P < n then some P else none
def ct_nf (T : Nat → Nat) (c n P fr : Nat) : Option Nat := (ct_nfA T c (P - fr) fr).or (ct_nfE n P fr)
def ct_foA (T : Nat → Nat) : Nat → Nat → Option Nat
  | 0, _ => none
  | k + 1, c => if T c = 0 then some c else ct_foA T k (c + 1)
def ct_fo (P : Nat) (T : Nat → Nat) : Option Nat := ct_foA T (4 * P) 0
def ct_fw (T : Nat → Nat) : List Nat → Nat → Option Nat
  | [], p => some p
  | l :: w, p => if T (4 * p + l) = 0 then none else ct_fw T w (T (4 * p + l) - 1)
def ct_ck (p : Nat) (o : Option Nat) : Bool := match o with
  | none => true
  | some q => q == p
def ct_fit (R : List (List Nat)) (P : Nat) (T : Nat → Nat) : Bool := R.all (fun w => (List.range P).all (fun p => ct_ck p (ct_fw T w p)))
/-- digits of 8, the first highest -/
def ct_pkD (D : Nat → Nat) (P : Nat) : Nat → Nat
  | 0 => 0
  | c + 1 => 8 * ct_pkD D P c + (if c < 4 * P then D c else 0)
def ct_pk (P : Nat) (T : Nat → Nat) : Nat := ct_pkD (fun c => T c - 1) P 20
def ct_gen (R : List (List Nat)) (n : Nat) : Nat → Nat → (Nat → Nat) → Nat → Nat → List Nat
  | 0, _, _, _, _ => []
  | f + 1, P, T, c, fr => match ct_nf T c n P fr with
    | none => []
    | some i => (if ct_fit R (ct_pP P i) (ct_pT T c i) = true then (match ct_fo (ct_pP P i) (ct_pT T c i) with
        | none => if ct_pP P i = n then [ct_pk (ct_pP P i) (ct_pT T c i)] else []
        | some c' => ct_gen R n f (ct_pP P i) (ct_pT T c i) c' 0) else []) ++ ct_gen R n f P T c (i + 1)
def ct_z : Nat → Nat := fun _ => 0
def ct_all (R : List (List Nat)) (n : Nat) : List Nat := (ct_gen R n 80 1 ct_z 0 0).take 500
/-- image of p under l in a packed table -/
def ct_im (t p l : Nat) : Nat := t / 8 ^ (19 - (4 * p + l)) % 8
def ct_run (t : Nat) : List Nat → Nat → Nat
  | [], p => p
  | l :: w, p => ct_run t w (ct_im t p l)
def ct_ok (R : List (List Nat)) (n t : Nat) : Bool := R.all (fun w => (List.range n).all (fun p => ct_run t w p == p))
def ct_W (w : List Nat) : Prop := ∀ l, l ∈ w → l < 4
def ct_WR (R : List (List Nat)) : Prop := ∀ w, w ∈ R → ct_W w

/-! small facts -/
theorem ct_iv_lt {l : Nat} (h : l < 4) : ct_iv l < 4 := by
  unfold ct_iv; split <;> omega
theorem ct_iv_ne (l : Nat) : ct_iv l ≠ l := by
  unfold ct_iv; split <;> omega
theorem ct_bk_lt {c i P : Nat} (h : i < P) : ct_bk c i < 4 * P := by
  have := @ct_iv_lt (c % 4) (by omega)
  unfold ct_bk; omega
theorem ct_bk_ne (c i : Nat) : ct_bk c i ≠ c := by
  have h1 := @ct_iv_lt (c % 4) (by omega)
  have h2 := ct_iv_ne (c % 4)
  unfold ct_bk; omega
theorem ct_bk_ge (c i : Nat) : 4 * i ≤ ct_bk c i := by
  unfold ct_bk; omega
theorem ct_pT_c (T : Nat → Nat) (c i : Nat) : ct_pT T c i c = i + 1 := by
  unfold ct_pT ct_st
  rw [if_neg (fun h => ct_bk_ne c i h.symm), if_pos rfl]
theorem ct_pT_b (T : Nat → Nat) (c i : Nat) : ct_pT T c i (ct_bk c i) = c / 4 + 1 := by
  unfold ct_pT ct_st
  rw [if_pos rfl]
theorem ct_pT_o {T : Nat → Nat} {c i j : Nat} (h : j ≠ c) (h2 : j ≠ ct_bk c i) : ct_pT T c i j = T j := by
  unfold ct_pT ct_st
  rw [if_neg h2, if_neg h]
theorem ct_nfA_s {T : Nat → Nat} {c : Nat} : ∀ (k i j : Nat), ct_nfA T c k i = some j → i ≤ j ∧ j < i + k ∧ T (ct_bk c j) = 0 := by
  intro k
  induction k with
  | zero => intro i j h; exact absurd h (by simp [ct_nfA])
  | succ k ih =>
    intro i j h
    unfold ct_nfA at h
    split at h
    · rename_i e
      have : i = j := by simpa using h
      subst this
      exact ⟨by omega, by omega, e⟩
    · have := ih (i + 1) j h
      exact ⟨by omega, by omega, this.2.2⟩
/-- a put is allowed: image i for cell c -/
def ct_A (n P : Nat) (T : Nat → Nat) (c i : Nat) : Prop := c < 4 * P ∧ T c = 0 ∧ i ≤ P ∧ (i = P → P < n) ∧ T (ct_bk c i) = 0
def ct_V (n P : Nat) (T : Nat → Nat) : Prop := 1 ≤ P ∧ P ≤ n ∧ n ≤ 5 ∧ (∀ c, c < 4 * P → T c ≤ P) ∧ (∀ c, 4 * P ≤ c → T c = 0)
theorem ct_nf_s {T : Nat → Nat} {c n P fr i : Nat} (V : ct_V n P T) (hc : c < 4 * P) (h0 : T c = 0) (h : ct_nf T c n P fr = some i) : ct_A n P T c i ∧ fr ≤ i := by
  unfold ct_nf at h
  cases e : ct_nfA T c (P - fr) fr with
  | none =>
    rw [e, Option.none_or] at h
    unfold ct_nfE at h
    split at h
    · rename_i g
      have : P = i := by simpa using h
      subst this
      exact ⟨⟨hc, h0, by omega, fun _ => g.2, V.2.2.2.2 _ (ct_bk_ge c P)⟩, g.1⟩
    · exact absurd h (by simp)
  | some j =>
    rw [e, Option.some_or] at h
    have : j = i := by simpa using h
    subst this
    have := ct_nfA_s _ _ _ e
    exact ⟨⟨hc, h0, by omega, fun _ => by omega, this.2.2⟩, this.1⟩
theorem ct_pP_cases {n P i : Nat} (h : i ≤ P) : (i = P ∧ ct_pP P i = P + 1) ∨ (i < P ∧ ct_pP P i = P) := by
  unfold ct_pP
  split
  · exact Or.inl ⟨by assumption, rfl⟩
  · exact Or.inr ⟨by omega, rfl⟩
theorem ct_V_put {n P : Nat} {T : Nat → Nat} {c i : Nat} (V : ct_V n P T) (A : ct_A n P T c i) : ct_V n (ct_pP P i) (ct_pT T c i) := by
  obtain ⟨v1, v2, v3, v4, v5⟩ := V
  obtain ⟨b1, b2, b3, b4, b5⟩ := A
  have hb : ct_bk c i < 4 * (i + 1) := ct_bk_lt (by omega)
  rcases ct_pP_cases (n := n) b3 with ⟨e, e2⟩ | ⟨e, e2⟩
  · have := b4 e
    refine ⟨by omega, by omega, v3, fun d hd => ?_, fun d hd => ?_⟩
    · by_cases g1 : d = ct_bk c i
      · rw [g1, ct_pT_b]; omega
      · by_cases g2 : d = c
        · rw [g2, ct_pT_c]; omega
        · rw [ct_pT_o g2 g1]
          by_cases g3 : d < 4 * P
          · have := v4 d g3; omega
          · rw [v5 d (by omega)]; omega
    · rw [ct_pT_o (by omega) (by omega)]
      exact v5 d (by omega)
  · refine ⟨by omega, by omega, v3, fun d hd => ?_, fun d hd => ?_⟩
    · by_cases g1 : d = ct_bk c i
      · rw [g1, ct_pT_b]; omega
      · by_cases g2 : d = c
        · rw [g2, ct_pT_c]; omega
        · rw [ct_pT_o g2 g1, e2]
          exact v4 d (by omega)
    · rw [ct_pT_o (by omega) (by omega)]
      exact v5 d (by omega)
theorem ct_foA_s {T : Nat → Nat} : ∀ (k i j : Nat), ct_foA T k i = some j → i ≤ j ∧ j < i + k ∧ T j = 0 := by
  intro k
  induction k with
  | zero => intro i j h; exact absurd h (by simp [ct_foA])
  | succ k ih =>
    intro i j h
    unfold ct_foA at h
    split at h
    · rename_i e
      have : i = j := by simpa using h
      subst this
      exact ⟨by omega, by omega, e⟩
    · have := ih (i + 1) j h
      exact ⟨by omega, by omega, this.2.2⟩
theorem ct_foA_n {T : Nat → Nat} : ∀ (k i : Nat), ct_foA T k i = none → ∀ j, i ≤ j → j < i + k → T j ≠ 0 := by
  intro k
  induction k with
  | zero => intro i h j h1 h2; omega
  | succ k ih =>
    intro i h j h1 h2
    unfold ct_foA at h
    split at h
    · exact absurd h (by simp)
    · rename_i e
      by_cases g : j = i
      · rw [g]; exact e
      · exact ih (i + 1) h j (by omega) (by omega)
theorem ct_fo_s {P : Nat} {T : Nat → Nat} {j : Nat} (h : ct_fo P T = some j) : j < 4 * P ∧ T j = 0 := by
  have := ct_foA_s _ _ _ h
  exact ⟨by omega, this.2.2⟩
theorem ct_fo_n {P : Nat} {T : Nat → Nat} (h : ct_fo P T = none) : ∀ j, j < 4 * P → T j ≠ 0 :=
  fun j hj => ct_foA_n _ _ h j (by omega) (by omega)
/-- T' goes on from T -/
def ct_E (T T' : Nat → Nat) : Prop := ∀ c, T c ≠ 0 → T' c = T c
theorem ct_E_put {n P : Nat} {T : Nat → Nat} {c i : Nat} (A : ct_A n P T c i) : ct_E T (ct_pT T c i) := by
  intro d hd
  refine ct_pT_o (fun e => hd (by rw [e]; exact A.2.1)) (fun e => hd (by rw [e]; exact A.2.2.2.2))
theorem ct_E_tr {T T' T'' : Nat → Nat} (h : ct_E T T') (h' : ct_E T' T'') : ct_E T T'' := by
  intro c hc
  have e := h c hc
  rw [← e]
  exact h' c (by rw [e]; exact hc)
theorem ct_fw_E {T T' : Nat → Nat} (h : ct_E T T') : ∀ (w : List Nat) (p q : Nat), ct_fw T w p = some q → ct_fw T' w p = some q := by
  intro w
  induction w with
  | nil => intro p q e; exact e
  | cons l w ih =>
    intro p q e
    unfold ct_fw at e ⊢
    split at e
    · exact absurd e (by simp)
    · rename_i g
      rw [h _ g, if_neg g]
      exact ih _ _ e
theorem ct_fit_iff {R : List (List Nat)} {P : Nat} {T : Nat → Nat} : ct_fit R P T = true ↔ ∀ w, w ∈ R → ∀ p, p < P → ct_ck p (ct_fw T w p) = true := by
  unfold ct_fit
  simp only [List.all_eq_true, List.mem_range]
theorem ct_ok_iff {R : List (List Nat)} {n t : Nat} : ct_ok R n t = true ↔ ∀ w, w ∈ R → ∀ p, p < n → ct_run t w p = p := by
  unfold ct_ok
  simp only [List.all_eq_true, List.mem_range, beq_iff_eq]
theorem ct_fit_E {R : List (List Nat)} {P n : Nat} {T T' : Nat → Nat} (h : ct_E T T') (hP : P ≤ n) (hf : ct_fit R n T' = true) : ct_fit R P T = true := by
  rw [ct_fit_iff] at hf ⊢
  intro w hw p hp
  cases e : ct_fw T w p with
  | none => rfl
  | some q =>
    have := hf w hw p (by omega)
    rw [ct_fw_E h w p q e] at this
    exact this
/-! digits -/
theorem ct_pkD_dig {D : Nat → Nat} {P : Nat} (hD : ∀ c, c < 4 * P → D c < 8) : ∀ (k j : Nat), j < k → ct_pkD D P k / 8 ^ (k - 1 - j) % 8 = if j < 4 * P then D j else 0 := by
  intro k
  induction k with
  | zero => intro j hj; omega
  | succ k ih =>
    intro j hj
    have hd : (if k < 4 * P then D k else 0) < 8 := by
      split
      · exact hD k (by assumption)
      · omega
    unfold ct_pkD
    by_cases e : j = k
    · subst e
      rw [show j + 1 - 1 - j = 0 by omega, Nat.pow_zero, Nat.div_one]
      omega
    · rw [show k + 1 - 1 - j = 1 + (k - 1 - j) by omega, Nat.pow_add, Nat.pow_one, ← Nat.div_div_eq_div_mul]
      rw [show (8 * ct_pkD D P k + if k < 4 * P then D k else 0) / 8 = ct_pkD D P k by omega]
      exact ih j (by omega)
theorem ct_pkD_lt {D : Nat → Nat} {P : Nat} (hD : ∀ c, c < 4 * P → D c < 8) : ∀ (k : Nat), ct_pkD D P k < 8 ^ k := by
  intro k
  induction k with
  | zero => exact Nat.one_pos
  | succ k ih =>
    have hd : (if k < 4 * P then D k else 0) < 8 := by
      split
      · exact hD k (by assumption)
      · omega
    unfold ct_pkD
    rw [Nat.pow_succ]
    omega
theorem ct_V_lt {n P : Nat} {T : Nat → Nat} (V : ct_V n P T) : ∀ c, c < 4 * P → T c - 1 < 8 := by
  intro c hc
  have := V.2.2.2.1 c hc
  have := V.2.1
  have := V.2.2.1
  omega
theorem ct_im_pk {n P : Nat} {T : Nat → Nat} (V : ct_V n P T) {p l : Nat} (hp : p < P) (hl : l < 4) : ct_im (ct_pk P T) p l = T (4 * p + l) - 1 := by
  have h := ct_pkD_dig (D := fun c => T c - 1) (ct_V_lt V) 20 (4 * p + l) (by have := V.2.1; have := V.2.2.1; omega)
  rw [if_pos (by omega)] at h
  exact h
/-- a full table and its packed form -/
theorem ct_fw_run {n : Nat} {T : Nat → Nat} (V : ct_V n n T) (hf : ∀ c, c < 4 * n → T c ≠ 0) : ∀ (w : List Nat), ct_W w → ∀ p, p < n → ct_fw T w p = some (ct_run (ct_pk n T) w p) ∧ ct_run (ct_pk n T) w p < n := by
  intro w
  induction w with
  | nil => intro _ p hp; exact ⟨rfl, hp⟩
  | cons l w ih =>
    intro hw p hp
    have hl : l < 4 := hw l (List.mem_cons_self ..)
    have hn := hf (4 * p + l) (by omega)
    have hb := V.2.2.2.1 (4 * p + l) (by omega)
    unfold ct_fw ct_run
    rw [if_neg hn, ct_im_pk V hp hl]
    exact ih (fun x hx => hw x (List.mem_cons_of_mem _ hx)) _ (by omega)
theorem ct_ok_fit {R : List (List Nat)} (hR : ct_WR R) {n : Nat} {T : Nat → Nat} (V : ct_V n n T) (hf : ∀ c, c < 4 * n → T c ≠ 0) : ct_ok R n (ct_pk n T) = ct_fit R n T := by
  rw [Bool.eq_iff_iff, ct_ok_iff, ct_fit_iff]
  constructor
  · intro h w hw p hp
    rw [(ct_fw_run V hf w (hR w hw) p hp).1, h w hw p hp]
    unfold ct_ck
    simp
  · intro h w hw p hp
    have := h w hw p hp
    rw [(ct_fw_run V hf w (hR w hw) p hp).1] at this
    unfold ct_ck at this
    simpa using this
theorem ct_gen_mem {R : List (List Nat)} {n t : Nat} : ∀ (f P : Nat) (T : Nat → Nat) (c fr : Nat), ct_V n P T → c < 4 * P → T c = 0 → t ∈ ct_gen R n f P T c fr →
    ∃ T', ct_V n n T' ∧ (∀ c, c < 4 * n → T' c ≠ 0) ∧ t = ct_pk n T' ∧ ct_E T T' ∧ ct_fit R n T' = true := by
  intro f
  induction f with
  | zero => intro P T c fr _ _ _ h; exact absurd h (by simp [ct_gen])
  | succ f ih =>
    intro P T c fr V hc h0 h
    unfold ct_gen at h
    cases e : ct_nf T c n P fr with
    | none => rw [e] at h; exact absurd h (by simp)
    | some i =>
      rw [e] at h
      have A := (ct_nf_s V hc h0 e).1
      have V' := ct_V_put V A
      rcases List.mem_append.mp h with h1 | h1
      · by_cases g : ct_fit R (ct_pP P i) (ct_pT T c i) = true
        · rw [if_pos g] at h1
          cases e2 : ct_fo (ct_pP P i) (ct_pT T c i) with
          | none =>
            rw [e2] at h1
            by_cases g2 : ct_pP P i = n
            · simp only [if_pos g2, List.mem_singleton] at h1
              refine ⟨ct_pT T c i, ?_, ?_, ?_, ct_E_put A, ?_⟩
              · rw [g2] at V'; exact V'
              · have := ct_fo_n e2; rw [g2] at this; exact this
              · rw [h1, g2]
              · rw [g2] at g; exact g
            · simp only [if_neg g2] at h1
              exact absurd h1 (by simp)
          | some c' =>
            rw [e2] at h1
            have hs := ct_fo_s e2
            obtain ⟨T', t1, t2, t3, t4, t5⟩ := ih _ _ _ _ V' hs.1 hs.2 h1
            exact ⟨T', t1, t2, t3, ct_E_tr (ct_E_put A) t4, t5⟩
        · rw [if_neg g] at h1
          exact absurd h1 (by simp)
      · exact ih _ _ _ _ V hc h0 h1
theorem ct_fit_nil (P : Nat) (T : Nat → Nat) : ct_fit [] P T = true := rfl
theorem ct_gen_filter {R : List (List Nat)} (hR : ct_WR R) {n : Nat} : ∀ (f P : Nat) (T : Nat → Nat) (c fr : Nat), ct_V n P T → c < 4 * P → T c = 0 →
    ct_gen R n f P T c fr = (ct_gen [] n f P T c fr).filter (ct_ok R n) := by
  intro f
  induction f with
  | zero => intro P T c fr _ _ _; rfl
  | succ f ih =>
    intro P T c fr V hc h0
    unfold ct_gen
    cases e : ct_nf T c n P fr with
    | none => rfl
    | some i =>
      have A := (ct_nf_s V hc h0 e).1
      have V' := ct_V_put V A
      dsimp only
      rw [List.filter_append, ← ih P T c (i + 1) V hc h0, if_pos (ct_fit_nil _ _)]
      congr 1
      cases e2 : ct_fo (ct_pP P i) (ct_pT T c i) with
      | none =>
        dsimp only
        by_cases g2 : ct_pP P i = n
        · have V2 := V'
          rw [g2] at V2
          have hfu := ct_fo_n e2
          rw [g2] at hfu
          have hk := ct_ok_fit hR V2 hfu
          rw [if_pos g2, g2]
          cases g : ct_fit R n (ct_pT T c i) with
          | true =>
            rw [if_pos rfl, List.filter_cons_of_pos (by rw [hk, g])]
            rfl
          | false =>
            rw [if_neg (by simp), List.filter_cons_of_neg (by rw [hk, g]; simp)]
            rfl
        · rw [if_neg g2]
          split <;> rfl
      | some c' =>
        dsimp only
        have hs := ct_fo_s e2
        by_cases g : ct_fit R (ct_pP P i) (ct_pT T c i) = true
        · rw [if_pos g]
          exact ih _ _ _ _ V' hs.1 hs.2
        · rw [if_neg g]
          symm
          rw [List.filter_eq_nil_iff]
          intro t ht hk
          obtain ⟨T', t1, t2, t3, t4, t5⟩ := ct_gen_mem _ _ _ _ _ V' hs.1 hs.2 ht
          rw [t3, ct_ok_fit hR t1 t2] at hk
          exact g (ct_fit_E t4 V'.2.1 hk)
theorem ct_V0 {n : Nat} (h1 : 1 ≤ n) (h5 : n ≤ 5) : ct_V n 1 ct_z := ⟨by omega, h1, h5, fun _ _ => Nat.zero_le _, fun _ _ => rfl⟩
theorem ct_all_f {R : List (List Nat)} (hR : ct_WR R) {n : Nat} (h1 : 1 ≤ n) (h5 : n ≤ 5) : ct_all R n = ((ct_gen [] n 80 1 ct_z 0 0).filter (ct_ok R n)).take 500 := by
  unfold ct_all
  rw [ct_gen_filter hR 80 1 ct_z 0 0 (ct_V0 h1 h5) (by omega) rfl]
/-- what a kept table is -/
theorem ct_all_mem {R : List (List Nat)} (hR : ct_WR R) {n t : Nat} (h1 : 1 ≤ n) (h5 : n ≤ 5) (h : t ∈ ct_all R n) : t < 2 ^ 60 ∧ (∀ p l, p < n → l < 4 → ct_im t p l < n) ∧ ct_ok R n t = true := by
  obtain ⟨T', t1, t2, t3, t4, t5⟩ := ct_gen_mem _ _ _ _ _ (ct_V0 h1 h5) (by omega) rfl (List.mem_of_mem_take h)
  subst t3
  refine ⟨?_, ?_, ?_⟩
  · have := ct_pkD_lt (ct_V_lt t1) 20
    exact Nat.lt_of_lt_of_le this (by decide)
  · intro p l hp hl
    rw [ct_im_pk t1 hp hl]
    have := t1.2.2.2.1 (4 * p + l) (by omega)
    have := t2 (4 * p + l) (by omega)
    omega
  · rw [ct_ok_fit hR t1 t2]; exact t5
theorem ct_run_lt {t n : Nat} (h : ∀ p l, p < n → l < 4 → ct_im t p l < n) : ∀ (w : List Nat), ct_W w → ∀ p, p < n → ct_run t w p < n := by
  intro w
  induction w with
  | nil => intro _ p hp; exact hp
  | cons l w ih =>
    intro hw p hp
    exact ih (fun x hx => hw x (List.mem_cons_of_mem _ hx)) _ (h p l hp (hw l (List.mem_cons_self ..)))
theorem ct_run_app (t : Nat) : ∀ (w v : List Nat) (p : Nat), ct_run t (w ++ v) p = ct_run t v (ct_run t w p) := by
  intro w
  induction w with
  | nil => intro v p; rfl
  | cons l w ih => intro v p; exact ih v _
end
section
/-! numbers -/
def ct_v (x : Nat) : Int32 := if x = 0 then -1 else nI (x - 1)
def ct_o (o : Option Nat) : Int32 := match o with
  | none => -1
  | some i => nI i
theorem nb_4 (p : Nat) : (4 : Int32) * nI p = nI (4 * p) := pk_mul 4 p
theorem nb_ix (p i : Nat) : (4 : Int32) * nI p + nI i = nI (4 * p + i) := by rw [nb_4, nI_add]
theorem nb_ix8 (p i : Nat) : (8 : Int32) * nI p + nI i = nI (8 * p + i) := by
  rw [show (8 : Int32) * nI p = nI (8 * p) from pk_mul 8 p, nI_add]
theorem nb_and3 {c : Nat} (h : c < 2 ^ 31) : nI c &&& 3 = nI (c % 4) := pk_andN (by omega) 2 (by decide)
theorem nb_xor1 : ∀ l, l < 4 → nI l ^^^ 1 = nI (ct_iv l) := by decide +kernel
theorem nb_bk {c : Nat} (i : Nat) (h : c < 2 ^ 31) : (4 : Int32) * nI i + ((nI c &&& 3) ^^^ 1) = nI (ct_bk c i) := by
  rw [nb_and3 h, nb_xor1 _ (by omega), nb_ix]
  rfl
theorem nb_i8 : ∀ x, x < 128 → (nI x).toInt8.toInt32 = nI x := by decide +kernel
theorem nb_sh2 {c : Nat} (h : c < 2 ^ 31) : nI c >>> ((2 : Int32) &&& 31) = nI (c / 4) := pk_shrN h _ 2 (by decide)
theorem nb_v0 {x : Nat} (h : x = 0) : ¬ 0 ≤ ct_v x := by
  subst h; decide
theorem nb_v1 {x : Nat} (h : x ≠ 0) (h8 : x ≤ 8) : 0 ≤ ct_v x := by
  unfold ct_v
  rw [if_neg h]
  exact nI_pos' (by omega)
theorem nb_vs {x : Nat} (h : x ≠ 0) : ct_v x = nI (x - 1) := by
  unfold ct_v
  rw [if_neg h]
theorem nb_bool1 : vp_nar .boolean 1 = 1 := by decide
theorem nb_bool0 : vp_nar .boolean 0 = 0 := by decide
theorem nb_byte {x : Nat} (h : x < 128) : vp_nar .byte (nI x) = nI x := by
  rw [vp_nar_byte, nb_i8 x h]
theorem nb_acc (y : Nat) {i : Nat} (h : i < 2 ^ 31) : (8 : Int64) * lN y + (nI i).toInt64 = lN (8 * y + i) := by
  rw [nI_l h, show (8 : Int64) * lN y = lN (8 * y) from lN_mul 8 y, lN_add]
theorem nb_lI {a : Nat} (h : a < 2 ^ 63) : (lN a).toInt = (a : Int) := pk_lT h
theorem nb_cnt : ∀ c, c < 20 → ((((3 : Int32) * (19 - nI c)).toInt64 &&& 63).toBitVec.smod 64).toNat = 3 * (19 - c) := by decide +kernel
theorem nb_shr {a d : Nat} {D : Int64} (hD : (D.toBitVec.smod 64).toNat = d) (h : a < 2 ^ 62) : lN a >>> D = lN (a / 2 ^ d) := by
  have hb : a / 2 ^ d < 2 ^ 63 := Nat.lt_of_le_of_lt (Nat.div_le_self ..) (by omega)
  apply Int64.toInt_inj.mp
  rw [nb_lI hb, ← Int64.toInt_toBitVec, Int64.toBitVec_shiftRight]
  show (BitVec.sshiftRight _ _).toInt = _
  rw [BitVec.toInt_sshiftRight, hD, Int64.toInt_toBitVec, nb_lI (by omega)]
  exact Int.shiftRight_eq_div_pow _ _
theorem nb_and7 {a : Nat} (h : a < 2 ^ 63) : lN a &&& 7 = lN (a % 8) := by
  apply Int64.toBitVec_inj.mp
  rw [Int64.toBitVec_and]
  apply BitVec.eq_of_toNat_eq
  rw [BitVec.toNat_and]
  have h1 : (lN a).toBitVec.toNat = a := by
    show (BitVec.ofNat 64 a).toNat = a
    rw [BitVec.toNat_ofNat, Nat.mod_eq_of_lt (by omega)]
  have h2 : (lN (a % 8)).toBitVec.toNat = a % 8 := by
    show (BitVec.ofNat 64 (a % 8)).toNat = a % 8
    rw [BitVec.toNat_ofNat, Nat.mod_eq_of_lt (by omega)]
  rw [h1, h2, show (7 : Int64).toBitVec.toNat = 2 ^ 3 - 1 by decide, Nat.and_two_pow_sub_one_eq_mod]
theorem nb_img {t p l : Nat} (ht : t < 2 ^ 60) (h : 4 * p + l < 20) : ((lN t >>> ((3 * (19 - ((4 : Int32) * nI p + nI l))).toInt64 &&& 63)) &&& 7).toInt32 = nI (ct_im t p l) := by
  have hb : t / 2 ^ (3 * (19 - (4 * p + l))) < 2 ^ 63 := Nat.lt_of_le_of_lt (Nat.div_le_self ..) (by omega)
  rw [nb_ix, nb_shr (nb_cnt _ h) (by omega), nb_and7 hb, lN_i]
  unfold ct_im
  rw [show (8 : Nat) ^ (19 - (4 * p + l)) = 2 ^ (3 * (19 - (4 * p + l))) by rw [show (8 : Nat) = 2 ^ 3 by rfl, ← Nat.pow_mul]]
/-! lists -/
theorem nb_drop {w r : List Nat} {l i : Nat} (e : w.drop i = l :: r) : i < w.length ∧ w.getD i 0 = l ∧ w.drop (i + 1) = r := by
  have h : i < w.length := by
    rcases Nat.lt_or_ge i w.length with h | h
    · exact h
    · rw [List.drop_eq_nil_of_le h] at e
      exact absurd e (by simp)
  rw [List.drop_eq_getElem_cons h] at e
  injection e with e1 e2
  refine ⟨h, ?_, e2⟩
  rw [List.getD_eq_getElem?_getD, List.getElem?_eq_getElem h]
  exact e1
theorem nb_dropn {w : List Nat} {i : Nat} (e : w.drop i = []) : w.length ≤ i := List.drop_eq_nil_iff.mp e
theorem nb_getD_mem {α : Type} {w : List α} {i : Nat} {d : α} (h : i < w.length) : w.getD i d ∈ w := by
  rw [List.getD_eq_getElem?_getD, List.getElem?_eq_getElem h]
  exact List.getElem_mem h
theorem nb_mem_getD {α : Type} {w : List α} {x : α} (d : α) (h : x ∈ w) : ∃ i, i < w.length ∧ w.getD i d = x := by
  obtain ⟨i, hi, e⟩ := List.getElem_of_mem h
  refine ⟨i, hi, ?_⟩
  rw [List.getD_eq_getElem?_getD, List.getElem?_eq_getElem hi]
  exact e
theorem nb_getD_app1 {α : Type} {w v : List α} {i : Nat} {d : α} (h : i < w.length) : (w ++ v).getD i d = w.getD i d := by
  rw [List.getD_eq_getElem?_getD, List.getD_eq_getElem?_getD, List.getElem?_append_left h]
theorem nb_getD_app2 {α : Type} {w : List α} {x d : α} : (w ++ [x]).getD w.length d = x := by
  rw [List.getD_eq_getElem?_getD, List.getElem?_append_right (Nat.le_refl _), Nat.sub_self]
  rfl
theorem nb_take {X B : List Nat} : (X.take 500 ++ B).take 500 = (X ++ B).take 500 := by
  rcases Nat.le_total X.length 500 with h | h
  · rw [List.take_of_length_le h]
  · rw [List.take_append_of_le_length (by rw [List.length_take]; omega), List.take_append_of_le_length h, List.take_take, Nat.min_self]
/-! how many cells are filled -/
def ct_cnt (T : Nat → Nat) : Nat → Nat
  | 0 => 0
  | k + 1 => ct_cnt T k + (if T k = 0 then 0 else 1)
theorem ct_cnt_le (T : Nat → Nat) : ∀ k, ct_cnt T k ≤ k := by
  intro k
  induction k with
  | zero => exact Nat.le_refl 0
  | succ k ih => unfold ct_cnt; split <;> omega
theorem ct_cnt_hi {T : Nat → Nat} {c v : Nat} : ∀ k, k ≤ c → ct_cnt (ct_st T c v) k = ct_cnt T k := by
  intro k
  induction k with
  | zero => intro _; rfl
  | succ k ih =>
    intro h
    unfold ct_cnt
    rw [ih (by omega), show ct_st T c v k = T k by unfold ct_st; rw [if_neg (by omega)]]
theorem ct_cnt_st {T : Nat → Nat} {c v : Nat} (h0 : T c = 0) (hv : v ≠ 0) : ∀ k, c < k → ct_cnt (ct_st T c v) k = ct_cnt T k + 1 := by
  intro k
  induction k with
  | zero => intro h; omega
  | succ k ih =>
    intro h
    unfold ct_cnt
    by_cases e : k = c
    · subst e
      rw [ct_cnt_hi k (Nat.le_refl k), show ct_st T k v k = v by unfold ct_st; rw [if_pos rfl], if_neg hv, if_pos h0]
    · rw [ih (by omega), show ct_st T c v k = T k by unfold ct_st; rw [if_neg e]]
      omega
theorem ct_cnt_put {n P : Nat} {T : Nat → Nat} {c i : Nat} (V : ct_V n P T) (A : ct_A n P T c i) : ct_cnt (ct_pT T c i) 20 = ct_cnt T 20 + 2 := by
  obtain ⟨v1, v2, v3, v4, v5⟩ := V
  obtain ⟨b1, b2, b3, b4, b5⟩ := A
  have hi : i < 5 := by
    rcases Nat.lt_or_ge i P with h | h
    · omega
    · have := b4 (by omega); omega
  have hb : ct_bk c i < 4 * 5 := ct_bk_lt hi
  unfold ct_pT
  rw [ct_cnt_st ?_ (by omega) 20 (by omega), ct_cnt_st b2 (by omega) 20 (by omega)]
  unfold ct_st
  rw [if_neg (ct_bk_ne c i)]
  exact b5
theorem ct_i5 {n P : Nat} {T : Nat → Nat} {c i : Nat} (V : ct_V n P T) (A : ct_A n P T c i) : i < 5 ∧ c < 20 ∧ ct_bk c i < 20 ∧ ct_pP P i ≤ 5 ∧ P ≤ 5 := by
  have hV := ct_V_put V A
  obtain ⟨v1, v2, v3, v4, v5⟩ := V
  obtain ⟨b1, b2, b3, b4, b5⟩ := A
  have hi : i < 5 := by
    rcases Nat.lt_or_ge i P with h | h
    · omega
    · have := b4 (by omega); omega
  have hb : ct_bk c i < 4 * 5 := ct_bk_lt hi
  exact ⟨hi, by omega, by omega, by have := hV.2.1; omega, by omega⟩
theorem ct_dep {n P : Nat} {T : Nat → Nat} {c i d : Nat} (V : ct_V n P T) (A : ct_A n P T c i) (hd : ct_cnt T 20 = 2 * d) : d < 10 ∧ ct_cnt (ct_pT T c i) 20 = 2 * (d + 1) := by
  have h1 := ct_cnt_put V A
  have h2 := ct_cnt_le (ct_pT T c i) 20
  omega
end
section
/-! the small methods of the search -/
theorem wk_open {f0 f1 f2 f3 f4 f5 : Int32} {a1 a2 a3 a4 a5 a6 a7 : Nat → Int32} {a8 : Nat → Int64} {a9 a10 a11 a12 a13 : Nat → Int32} {post : St2 → Prop} {p : Nat} (hp : p < 5) (H : ∀ b : Nat → Int32, (∀ j, b j = if 4 * p ≤ j ∧ j < 4 * p + 4 then -1 else a4 j) → post (f0, f1, f2, f3, f4, f5, a1, a2, a3, b, a5, a6, a7, a8, a9, a10, a11, a12, a13)) : wpX_openPoint post (f0, f1, f2, f3, f4, f5, a1, a2, a3, a4, a5, a6, a7, a8, a9, a10, a11, a12, a13) (nI p) := by
  refine pk_loop (fun n i s => wX_openPoint_2 post (nI p) f0 f1 f2 f3 f4 f5 n (nI i) a1 a2 a3 s a5 a6 a7 a8 a9 a10 a11 a12 a13) (fun i s => ∀ j, s j = if 4 * p ≤ j ∧ j < 4 * p + i then -1 else a4 j) 4 0 a4 (by omega) ?_ ?_ ?_
  · intro j
    rw [if_neg (by omega)]
  · intro n s h
    exact pk_le 4 4 (fun _ => H s h) (fun z => absurd z (by omega))
  · intro n i s hi h hw
    refine pk_le 4 i (fun z => absurd z (by omega)) (fun _ => ?_)
    refine ⟨by rw [nb_ix]; exact vp_in_nI (by omega) (by omega), fun b hb x hx => ?_⟩
    rw [nI_1] at hx
    rw [nb_ix, nI_clamp (by omega)] at hb
    subst hx hb
    refine hw _ (fun j => ?_)
    unfold upd
    by_cases e : j = 4 * p + i
    · rw [if_pos e, if_pos (by omega)]
    · rw [if_neg e, h j]
      by_cases g : 4 * p ≤ j ∧ j < 4 * p + i
      · rw [if_pos g, if_pos (by omega)]
      · rw [if_neg g, if_neg (by omega)]
theorem wk_next {f0 f1 f2 f3 f4 f5 : Int32} {a1 a2 a3 a4 a5 a6 a7 : Nat → Int32} {a8 : Nat → Int64} {a9 a10 a11 a12 a13 : Nat → Int32} {post : Int32 → Prop} {T : Nat → Nat} {c n P fr : Nat} (V : ct_V n P T) (hc : c < 4 * P) (hfr : fr ≤ 10) (hf : f2 = nI P) (hT : ∀ j, j < 4 * P → a4 j = ct_v (T j)) (H : post (ct_o (ct_nf T c n P fr))) : wpX_nextFree post (f0, f1, f2, f3, f4, f5, a1, a2, a3, a4, a5, a6, a7, a8, a9, a10, a11, a12, a13) (nI c) (nI fr) (nI n) := by
  obtain ⟨v1, v2, v3, v4, v5⟩ := V
  subst hf
  have key : ∀ k i, k = P - i → i ≤ 10 → post (ct_o ((ct_nfA T c k i).or (ct_nfE n P fr))) → wX_nextFree_3 post (nI c) (nI fr) (nI n) f0 f1 (nI P) f3 f4 f5 a1 a2 a3 a4 a5 a6 a7 a8 a9 a10 a11 a12 a13 (k + 1) (nI i) := by
    intro k
    induction k with
    | zero =>
      intro i hi h10 h
      refine pk_le P i (fun _ => ?_) (fun z => absurd z (by omega))
      unfold ct_nfA ct_nfE at h
      rw [Option.none_or] at h
      refine pk_lt P fr (fun z => ?_) (fun z => pk_le n P (fun z2 => ?_) (fun z2 => ?_))
      · rw [if_neg (by omega)] at h; exact h
      · rw [if_neg (by omega)] at h; exact h
      · rw [if_pos (by omega)] at h; exact h
    | succ k ih =>
      intro i hi h10 h
      have hb : ct_bk c i < 4 * P := ct_bk_lt (by omega)
      refine pk_le P i (fun z => absurd z (by omega)) (fun _ => ?_)
      rw [nb_bk i (by omega), nI_clamp (by omega), hT _ hb]
      refine ⟨vp_in_nI (by omega) (by omega), ?_⟩
      unfold ct_nfA at h
      by_cases g : T (ct_bk c i) = 0
      · rw [if_pos g] at h
        exact br_f (nb_v0 g) h
      · rw [if_neg g] at h
        refine br_t (nb_v1 g (by have := v4 _ hb; omega)) (fun x hx => ?_)
        rw [nI_1] at hx
        subst hx
        exact ih (i + 1) (by omega) (by omega) h
  exact ⟨_, key (P - fr) fr rfl hfr H⟩
theorem wk_first {f0 f1 f2 f3 f4 f5 : Int32} {a1 a2 a3 a4 a5 a6 a7 : Nat → Int32} {a8 : Nat → Int64} {a9 a10 a11 a12 a13 : Nat → Int32} {post : Int32 → Prop} {T : Nat → Nat} {n P : Nat} (V : ct_V n P T) (hf : f2 = nI P) (hT : ∀ j, j < 4 * P → a4 j = ct_v (T j)) (H : post (ct_o (ct_fo P T))) : wpX_firstOpen post (f0, f1, f2, f3, f4, f5, a1, a2, a3, a4, a5, a6, a7, a8, a9, a10, a11, a12, a13) := by
  obtain ⟨v1, v2, v3, v4, v5⟩ := V
  subst hf
  have key : ∀ k i, k + i = 4 * P → post (ct_o (ct_foA T k i)) → wX_firstOpen_2 post f0 f1 (nI P) f3 f4 f5 a1 a2 a3 a4 a5 a6 a7 a8 a9 a10 a11 a12 a13 (k + 1) (nI i) := by
    intro k
    induction k with
    | zero =>
      intro i hi h
      exact pk_le (4 * P) i (fun _ => h) (fun z => absurd z (by omega)) (hx := nb_4 P)
    | succ k ih =>
      intro i hi h
      refine pk_le (4 * P) i (fun z => absurd z (by omega)) (fun _ => ?_) (hx := nb_4 P)
      rw [nI_clamp (by omega), hT i (by omega)]
      refine ⟨vp_in_nI (by omega) (by omega), ?_⟩
      unfold ct_foA at h
      by_cases g : T i = 0
      · rw [if_pos g] at h
        exact br_f (nb_v0 g) h
      · rw [if_neg g] at h
        refine br_t (nb_v1 g (by have := v4 i (by omega); omega)) (fun x hx => ?_)
        rw [nI_1] at hx
        subst hx
        exact ih (i + 1) (by omega) h
  exact ⟨_, key (4 * P) 0 rfl H⟩
/-- the relators as they lie in the arrays -/
def ct_Rl (R : List (List Nat)) (r : Int32) (A2 A3 : Nat → Int32) : Prop := R.length ≤ 4 ∧ r = nI R.length ∧ ∀ k, k < R.length → A2 k = nI (R.getD k []).length ∧ (R.getD k []).length ≤ 8 ∧ ∀ i, i < (R.getD k []).length → (R.getD k []).getD i 0 < 4 ∧ A3 (8 * k + i) = nI ((R.getD k []).getD i 0)
theorem ct_Rl_W {R : List (List Nat)} {r : Int32} {A2 A3 : Nat → Int32} (h : ct_Rl R r A2 A3) : ct_WR R := by
  intro w hw l hl
  obtain ⟨k, hk, e⟩ := nb_mem_getD [] hw
  obtain ⟨i, hi, e2⟩ := nb_mem_getD 0 hl
  have := (h.2.2 k hk).2.2 i (by rw [e]; exact hi)
  rw [e, e2] at this
  exact this.1
theorem wk_follow {f0 f1 f2 f3 f4 f5 : Int32} {a1 a2 a3 a4 a5 a6 a7 : Nat → Int32} {a8 : Nat → Int64} {a9 a10 a11 a12 a13 : Nat → Int32} {post : Int32 → Prop} {R : List (List Nat)} {T : Nat → Nat} {n P k p : Nat} (V : ct_V n P T) (hR : ct_Rl R f1 a2 a3) (hk : k < R.length) (hp : p < P) (hT : ∀ j, j < 4 * P → a4 j = ct_v (T j)) (H : post (ct_o (ct_fw T (R.getD k []) p))) : wpX_follow post (f0, f1, f2, f3, f4, f5, a1, a2, a3, a4, a5, a6, a7, a8, a9, a10, a11, a12, a13) (nI k) (nI p) := by
  obtain ⟨v1, v2, v3, v4, v5⟩ := V
  obtain ⟨r1, r2, r3⟩ := hR
  obtain ⟨r4, r5, r6⟩ := r3 k hk
  have key : ∀ (r : List Nat) (i q : Nat), (R.getD k []).drop i = r → i ≤ 8 → q < P → post (ct_o (ct_fw T r q)) → wX_follow_5 post (nI k) f0 f1 f2 f3 f4 f5 a1 a2 a3 a4 a5 a6 a7 a8 a9 a10 a11 a12 a13 (r.length + 2) (nI q) (nI i) := by
    intro r
    induction r with
    | nil =>
      intro i q hr hi hq h
      have := nb_dropn hr
      refine ⟨vp_in_nI (by omega) (by omega), ?_⟩
      rw [nI_clamp (by omega), r4]
      exact pk_le (R.getD k []).length i (fun _ => h) (fun z => absurd z (by omega))
    | cons l r ih =>
      intro i q hr hi hq h
      obtain ⟨d1, d2, d3⟩ := nb_drop hr
      obtain ⟨s1, s2⟩ := r6 i d1
      rw [d2] at s1 s2
      show wX_follow_5 post (nI k) f0 f1 f2 f3 f4 f5 a1 a2 a3 a4 a5 a6 a7 a8 a9 a10 a11 a12 a13 ((r.length + 2) + 1) (nI q) (nI i)
      refine ⟨vp_in_nI (by omega) (by omega), ?_⟩
      rw [nI_clamp (show k < 2 ^ 31 by omega), r4]
      refine pk_le (R.getD k []).length i (fun z => absurd z (by omega)) (fun _ => br_f (nI_pos (by omega)) ?_)
      rw [nb_ix8, nI_clamp (show 8 * k + i < 2 ^ 31 by omega), s2, nb_ix, nI_clamp (show 4 * q + l < 2 ^ 31 by omega), hT _ (by omega)]
      refine ⟨vp_in_nI (by omega) (by omega), vp_in_nI (by omega) (by omega), fun x hx y hy => ?_⟩
      rw [nI_1] at hy
      subst hy
      unfold ct_fw at h
      by_cases g : T (4 * q + l) = 0
      · rw [if_pos g] at h
        rw [g] at hx
        have hx' : x = -1 := hx
        subst hx'
        refine ⟨vp_in_nI (by omega) (by omega), br_c (fun _ => h) (fun _ => br_t (by decide) h)⟩
      · rw [if_neg g] at h
        rw [nb_vs g] at hx
        subst hx
        have := v4 (4 * q + l) (by omega)
        exact ih (i + 1) _ d3 (by omega) (by omega) h
  exact ⟨_, key _ 0 p rfl (by omega) hp H⟩
theorem wk_fits {f0 f1 f2 f3 f4 f5 : Int32} {a1 a2 a3 a4 a5 a6 a7 : Nat → Int32} {a8 : Nat → Int64} {a9 a10 a11 a12 a13 : Nat → Int32} {post : Int32 → Prop} {R : List (List Nat)} {T : Nat → Nat} {n P : Nat} (V : ct_V n P T) (hR : ct_Rl R f1 a2 a3) (hf : f2 = nI P) (hT : ∀ j, j < 4 * P → a4 j = ct_v (T j)) (H : post (if ct_fit R P T = true then 1 else 0)) : wpX_fits post (f0, f1, f2, f3, f4, f5, a1, a2, a3, a4, a5, a6, a7, a8, a9, a10, a11, a12, a13) := by
  have hV := V
  obtain ⟨v1, v2, v3, v4, v5⟩ := V
  have hR' := hR
  obtain ⟨r1, r2, r3⟩ := hR
  subst hf r2
  have hb : R.length * P ≤ 4 * 5 := Nat.mul_le_mul r1 (by omega)
  have key : ∀ k q, q + k = R.length * P → (∀ j, j < q → ct_ck (j % P) (ct_fw T (R.getD (j / P) []) (j % P)) = true) → wX_fits_2 post f0 (nI R.length) (nI P) f3 f4 f5 a1 a2 a3 a4 a5 a6 a7 a8 a9 a10 a11 a12 a13 (k + 1) (nI q) := by
    intro k
    induction k with
    | zero =>
      intro q hq hall
      refine pk_le (R.length * P) q (fun _ => ?_) (fun z => absurd z (by omega)) (hx := pk_mul _ _)
      rw [if_pos] at H
      · exact H
      · rw [ct_fit_iff]
        intro w hw p hp
        obtain ⟨k, hk, e⟩ := nb_mem_getD [] hw
        have hlt : k * P + p < R.length * P := by
          have : (k + 1) * P ≤ R.length * P := Nat.mul_le_mul_right P hk
          rw [Nat.add_mul] at this
          omega
        have h := hall (k * P + p) (by omega)
        have e1 : (k * P + p) % P = p := by rw [Nat.mul_comm, Nat.mul_add_mod, Nat.mod_eq_of_lt hp]
        have e2 : (k * P + p) / P = k := by
          rw [Nat.mul_comm, Nat.mul_add_div (by omega), Nat.div_eq_of_lt hp, Nat.add_zero]
        rw [e1, e2, e] at h
        exact h
    | succ k ih =>
      intro q hq hall
      refine pk_le (R.length * P) q (fun z => absurd z (by omega)) (fun _ => ?_) (hx := pk_mul _ _)
      have hk : q / P < R.length := (Nat.div_lt_iff_lt_mul (by omega)).mpr (by omega)
      have hm : q % P < P := Nat.mod_lt _ (by omega)
      refine ⟨nI_ne0 (by omega) (by omega), fun x hx => ⟨nI_ne0 (by omega) (by omega), ?_⟩⟩
      rw [pk_rem (by omega) (by omega) (by omega)] at hx
      subst hx
      rw [pk_div (by omega) (by omega) (by omega)]
      refine wk_follow hV hR' hk hm hT ?_
      have hnext : ct_ck (q % P) (ct_fw T (R.getD (q / P) []) (q % P)) = true → ∀ y, y = nI q + 1 → wX_fits_2 post f0 (nI R.length) (nI P) f3 f4 f5 a1 a2 a3 a4 a5 a6 a7 a8 a9 a10 a11 a12 a13 (k + 1) y := by
        intro hc y hy
        rw [nI_1] at hy
        subst hy
        exact ih (q + 1) (by omega) (lt_s hall hc)
      cases e : ct_fw T (R.getD (q / P) []) (q % P) with
      | none => exact br_t (by decide) (hnext (by rw [e]; rfl))
      | some z =>
        have hz : z < 2 ^ 31 ∨ True := Or.inr trivial
        by_cases g : z = q % P
        · subst g
          exact br_f (nI_pos (by omega)) (br_t rfl (hnext (by rw [e]; unfold ct_ck; simp)))
        · have hno : ct_fit R P T = false := by
            cases e2 : ct_fit R P T with
            | false => rfl
            | true =>
              rw [ct_fit_iff] at e2
              have := e2 _ (nb_getD_mem hk (d := [])) _ hm
              rw [e] at this
              unfold ct_ck at this
              exact absurd (by simpa using this) g
          rw [hno] at H
          have hzP : z < P := by
            have : ∀ (w : List Nat) (p q : Nat), ct_W w → p < P → ct_fw T w p = some q → q < P := by
              intro w
              induction w with
              | nil => intro p q _ hp h; have : p = q := by simpa [ct_fw] using h
                       omega
              | cons l w ihw =>
                intro p q hw hp h
                unfold ct_fw at h
                have hl := hw l (List.mem_cons_self ..)
                split at h
                · exact absurd h (by simp)
                · have := v4 (4 * p + l) (by omega)
                  exact ihw _ q (fun x hx => hw x (List.mem_cons_of_mem _ hx)) (by omega) h
            exact this _ _ _ (ct_Rl_W hR' _ (nb_getD_mem hk (d := []))) hm e
          refine br_f (nI_pos (by omega)) (br_f (fun h => g ((nI_eq (by omega) (by omega)).mp h)) ?_)
          exact H
  exact ⟨_, key (R.length * P) 0 (by omega) (fun j hj => absurd hj (by omega))⟩
theorem wk_pack {f0 f1 f2 f3 f4 f5 : Int32} {a1 a2 a3 a4 a5 a6 a7 : Nat → Int32} {a8 : Nat → Int64} {a9 a10 a11 a12 a13 : Nat → Int32} {post : Int64 → Prop} {x : Int32} {D : Nat → Nat} {P : Nat} (hP : P ≤ 5) (hf : f2 = nI P) (hD : ∀ j, j < 4 * P → D j < 8)
    (hx : (x = 0 ∧ ∀ j, j < 4 * P → a4 j = nI (D j)) ∨ (¬ x = 0 ∧ ∀ j, j < 4 * P → a9 j = nI (D j))) (H : post (lN (ct_pkD D P 20))) : wpX_packed post (f0, f1, f2, f3, f4, f5, a1, a2, a3, a4, a5, a6, a7, a8, a9, a10, a11, a12, a13) x := by
  subst hf
  refine pk_loop (σ := Unit) (fun n i _ => wX_packed_5 post x f0 f1 (nI P) f3 f4 f5 a1 a2 a3 a4 a5 a6 a7 a8 a9 a10 a11 a12 a13 n (lN (ct_pkD D P i)) (nI i)) (fun _ _ => True) 20 0 () (by omega) trivial ?_ ?_
  · intro n s _
    exact pk_le 20 20 (fun _ => H) (fun z => absurd z (by omega))
  · intro n i s hi _ hw
    have hw' := hw () trivial
    refine pk_le 20 i (fun z => absurd z (by omega)) (fun _ => ?_)
    refine pk_lt i (4 * P) (fun z => ?_) (fun z => ?_) (hy := nb_4 P)
    · have hd := hD i z
      have e : ct_pkD D P (i + 1) = 8 * ct_pkD D P i + D i := by
        show 8 * ct_pkD D P i + (if i < 4 * P then D i else 0) = _
        rw [if_pos z]
      rw [nI_clamp (show i < 2 ^ 31 by omega)]
      rcases hx with ⟨h1, h2⟩ | ⟨h1, h2⟩
      · refine br_t h1 ⟨vp_in_nI (by omega) (by omega), fun y hy v hv => ?_⟩
        rw [h2 i z, nb_acc _ (by omega), ← e] at hy
        rw [nI_1] at hv
        subst hy hv
        exact hw'
      · refine br_f h1 ⟨vp_in_nI (by omega) (by omega), fun y hy v hv => ?_⟩
        rw [h2 i z, nb_acc _ (by omega), ← e] at hy
        rw [nI_1] at hv
        subst hy hv
        exact hw'
    · have e : ct_pkD D P (i + 1) = 8 * ct_pkD D P i + 0 := by
        show 8 * ct_pkD D P i + (if i < 4 * P then D i else 0) = _
        rw [if_neg (by omega)]
      refine fun y hy v hv => ?_
      rw [show (0 : Int32) = nI 0 from rfl, nb_acc _ (by omega), ← e] at hy
      rw [nI_1] at hv
      subst hy hv
      exact hw'
end
section
/-! put and takeBack over the arrays -/
theorem wk_put48 {f0 f1 f2 f3 f4 f5 : Int32} {a1 a2 a3 a4 a5 a6 a7 : Nat → Int32} {a8 : Nat → Int64} {a9 a10 a11 a12 a13 : Nat → Int32} {post : St2 → Prop} {c i d : Nat} (hc : c < 20) (hi : i < 5) (hd : d < 20) (hf3 : f3 = nI d)
    (H : post (f0, f1, f2, (nI (d + 1)), f4, f5, a1, a2, a3, (upd (upd a4 c (nI i)) (ct_bk c i) (nI (c / 4))), (upd a5 d (nI i)), a6, (upd a7 d (nI c)), a8, a9, a10, a11, a12, a13)) : wX_put_48 post (nI c) (nI i) f0 f1 f2 f3 f4 f5 a1 a2 a3 a4 a5 a6 a7 a8 a9 a10 a11 a12 a13 := by
  subst hf3
  have hb : ct_bk c i < 4 * 5 := ct_bk_lt hi
  refine ⟨vp_in_nI hc (by omega), fun b hb1 x hx => ⟨?_, fun b' hb' => ⟨vp_in_nI hd (by omega), fun b7 h7 => ⟨vp_in_nI hd (by omega), fun b5 h5 f hf => ?_⟩⟩⟩⟩
  · rw [nb_bk i (by omega)] at hx
    subst hx
    exact vp_in_nI (by omega) (by omega)
  · rw [nb_bk i (by omega)] at hx
    subst hx
    rw [nI_clamp (by omega), nb_i8 _ (by omega)] at hb1 h7 h5
    rw [nI_clamp (by omega), nb_sh2 (by omega), nb_i8 _ (by omega)] at hb'
    rw [nI_1] at hf
    subst hb1 hb' h7 h5 hf
    exact H
theorem wk_put {f0 f1 f2 f3 f4 f5 : Int32} {a1 a2 a3 a4 a5 a6 a7 : Nat → Int32} {a8 : Nat → Int64} {a9 a10 a11 a12 a13 : Nat → Int32} {post : St2 → Prop} {c i d P : Nat} (hc : c < 20) (hi : i < 5) (hP : P ≤ 5) (hd : d < 20) (hf2 : f2 = nI P) (hf3 : f3 = nI d)
    (H : ∀ b4, (∀ j, j < 4 * ct_pP P i → b4 j = if j = ct_bk c i then nI (c / 4) else if j = c then nI i else if i = P ∧ 4 * P ≤ j then -1 else a4 j) →
      post (f0, f1, (nI (ct_pP P i)), (nI (d + 1)), f4, f5, a1, a2, a3, b4, (upd a5 d (nI i)), (upd a6 d (if i = P then 1 else 0)), (upd a7 d (nI c)), a8, a9, a10, a11, a12, a13)) : wpX_put post (f0, f1, f2, f3, f4, f5, a1, a2, a3, a4, a5, a6, a7, a8, a9, a10, a11, a12, a13) (nI c) (nI i) := by
  subst hf2 hf3
  refine pk_eq i P (fun z => ?_) (fun z => ?_)
  · refine ⟨vp_in_nI hd (by omega), fun b6 h6 => ?_⟩
    rw [nI_clamp (by omega), nb_bool1] at h6
    subst h6
    refine br_t (by rw [z]) ?_
    refine wk_open (by omega) (fun b hb => ?_)
    intro f hf
    rw [nI_1] at hf
    subst hf
    refine wk_put48 hc hi hd rfl ?_
    have hp : ct_pP P i = P + 1 := by unfold ct_pP; rw [if_pos z]
    have := H (upd (upd b c (nI i)) (ct_bk c i) (nI (c / 4))) (fun j hj => by
      unfold upd
      by_cases g1 : j = ct_bk c i
      · rw [if_pos g1, if_pos g1]
      · rw [if_neg g1, if_neg g1]
        by_cases g2 : j = c
        · rw [if_pos g2, if_pos g2]
        · rw [if_neg g2, if_neg g2, hb j]
          by_cases g3 : 4 * P ≤ j
          · rw [if_pos (by omega), if_pos ⟨z, g3⟩]
          · rw [if_neg (by omega), if_neg (by omega)])
    rw [hp, if_pos z] at this
    exact this
  · refine ⟨vp_in_nI hd (by omega), fun b6 h6 => ?_⟩
    rw [nI_clamp (by omega), nb_bool0] at h6
    subst h6
    refine br_f (fun h => z ((nI_eq (by omega) (by omega)).mp h)) ?_
    refine wk_put48 hc hi hd rfl ?_
    have hp : ct_pP P i = P := by unfold ct_pP; rw [if_neg z]
    have := H (upd (upd a4 c (nI i)) (ct_bk c i) (nI (c / 4))) (fun j hj => by
      unfold upd
      by_cases g1 : j = ct_bk c i
      · rw [if_pos g1, if_pos g1]
      · rw [if_neg g1, if_neg g1]
        by_cases g2 : j = c
        · rw [if_pos g2, if_pos g2]
        · rw [if_neg g2, if_neg g2, if_neg (fun h => z h.1)])
    rw [hp, if_neg z] at this
    exact this
theorem wk_back {f0 f1 f2 f3 f4 f5 : Int32} {a1 a2 a3 a4 a5 a6 a7 : Nat → Int32} {a8 : Nat → Int64} {a9 a10 a11 a12 a13 : Nat → Int32} {post : Int32 → St2 → Prop} {c i d P : Nat} (hc : c < 20) (hi : i < 5) (hd : d < 20) (hf2 : f2 = nI (ct_pP P i)) (hf3 : f3 = nI (d + 1)) (h5 : a5 d = nI i) (h6 : a6 d = if i = P then 1 else 0) (h7 : a7 d = nI c)
    (H : post (nI (i + 1)) (f0, f1, (nI P), (nI d), f4, f5, a1, a2, a3, (upd (upd a4 c (-1)) (ct_bk c i) (-1)), a5, a6, a7, a8, a9, a10, a11, a12, a13)) : wpX_takeBack post (f0, f1, f2, f3, f4, f5, a1, a2, a3, a4, a5, a6, a7, a8, a9, a10, a11, a12, a13) := by
  subst hf2 hf3
  have hb : ct_bk c i < 4 * 5 := ct_bk_lt hi
  intro f hf
  rw [nI_pred] at hf
  subst hf
  rw [nI_clamp (show d < 2 ^ 31 by omega), h5, h6, h7]
  refine ⟨vp_in_nI hd (by omega), fun x hx => ⟨vp_in_nI hd (by omega), fun y hy z hz => ?_⟩⟩
  subst hx hy
  rw [nb_bk i (by omega)] at hz
  subst hz
  rw [nI_clamp (show c < 2 ^ 31 by omega), nI_clamp (show ct_bk c i < 2 ^ 31 by omega), nI_1]
  refine ⟨vp_in_nI hc (by omega), fun b hb1 => ⟨vp_in_nI (by omega) (by omega), fun b' hb' => ⟨vp_in_nI hd (by omega), ?_⟩⟩⟩
  subst hb1 hb'
  unfold ct_pP
  by_cases e : i = P
  · rw [if_pos e, if_pos e]
    refine br_f (by decide) (fun g hg => ?_)
    rw [nI_pred] at hg
    subst hg
    exact H
  · rw [if_neg e, if_neg e]
    exact br_t rfl H
/-! the search's picture -/
def fd_M (s r ff : Int32) (A1 A2 A3 : Nat → Int32) (P d : Nat) (T : Nat → Nat) (g : Nat → Int32 × Int32 × Int32) (acc : List Nat) (u : St2) : Prop := match u with
  | (f0, f1, f2, f3, f4, f5, a1, a2, a3, a4, a5, a6, a7, a8, a9, a10, a11, a12, a13) => f0 = s ∧ f1 = r ∧ f2 = nI P ∧ f3 = nI d ∧ f4 = ff ∧ f5 = nI acc.length ∧ a1 = A1 ∧ a2 = A2 ∧ a3 = A3 ∧ (∀ j, j < 4 * P → a4 j = ct_v (T j)) ∧ (∀ j, j < d → (a5 j, a6 j, a7 j) = g j) ∧ (∀ j, j < acc.length → a8 j = lN (acc.getD j 0)) ∧ acc.length ≤ 500
def fd_g (g : Nat → Int32 × Int32 × Int32) (d : Nat) (x : Int32 × Int32 × Int32) : Nat → Int32 × Int32 × Int32 := fun j => if j = d then x else g j
def fd_x (P c i : Nat) : Int32 × Int32 × Int32 := (nI i, (if i = P then 1 else 0), nI c)
theorem fd_put {s r ff : Int32} {A1 A2 A3 : Nat → Int32} {n P d c i : Nat} {T : Nat → Nat} {g : Nat → Int32 × Int32 × Int32} {acc : List Nat} {u : St2} {post : St2 → Prop} (V : ct_V n P T) (A : ct_A n P T c i) (hd : d < 20) (M : fd_M s r ff A1 A2 A3 P d T g acc u)
    (H : ∀ u', fd_M s r ff A1 A2 A3 (ct_pP P i) (d + 1) (ct_pT T c i) (fd_g g d (fd_x P c i)) acc u' → post u') : wpX_put post u (nI c) (nI i) := by
  obtain ⟨f0, f1, f2, f3, f4, f5, a1, a2, a3, a4, a5, a6, a7, a8, a9, a10, a11, a12, a13⟩ := u
  obtain ⟨m0, m1, m2, m3, m4, m5, m6, m7, m8, m9, m10, m11, m12⟩ := M
  obtain ⟨k1, k2, k3, k4, k5⟩ := ct_i5 V A
  refine wk_put k2 k1 k5 hd m2 m3 (fun b4 hb => H _ ⟨m0, m1, rfl, rfl, m4, m5, m6, m7, m8, fun j hj => ?_, fun j hj => ?_, m11, m12⟩)
  · rw [hb j hj]
    by_cases g1 : j = ct_bk c i
    · rw [if_pos g1, g1, ct_pT_b]; rfl
    · rw [if_neg g1]
      by_cases g2 : j = c
      · rw [if_pos g2, g2, ct_pT_c]; rfl
      · rw [if_neg g2, ct_pT_o g2 g1]
        by_cases g3 : i = P ∧ 4 * P ≤ j
        · rw [if_pos g3, V.2.2.2.2 j g3.2]; rfl
        · rw [if_neg g3]
          refine m9 j ?_
          rcases ct_pP_cases (n := n) A.2.2.1 with ⟨e, e2⟩ | ⟨e, e2⟩
          · omega
          · omega
  · unfold fd_g upd
    by_cases e : j = d
    · rw [if_pos e, if_pos e, if_pos e, if_pos e]
      rfl
    · rw [if_neg e, if_neg e, if_neg e, if_neg e]
      exact m10 j (by omega)
theorem fd_back {s r ff : Int32} {A1 A2 A3 : Nat → Int32} {n P d c i : Nat} {T : Nat → Nat} {g : Nat → Int32 × Int32 × Int32} {acc : List Nat} {u : St2} {post : Int32 → St2 → Prop} (V : ct_V n P T) (A : ct_A n P T c i) (hd : d < 20) (M : fd_M s r ff A1 A2 A3 (ct_pP P i) (d + 1) (ct_pT T c i) (fd_g g d (fd_x P c i)) acc u)
    (H : ∀ u', fd_M s r ff A1 A2 A3 P d T g acc u' → post (nI (i + 1)) u') : wpX_takeBack post u := by
  obtain ⟨f0, f1, f2, f3, f4, f5, a1, a2, a3, a4, a5, a6, a7, a8, a9, a10, a11, a12, a13⟩ := u
  obtain ⟨m0, m1, m2, m3, m4, m5, m6, m7, m8, m9, m10, m11, m12⟩ := M
  obtain ⟨k1, k2, k3, k4, k5⟩ := ct_i5 V A
  have hg := m10 d (by omega)
  unfold fd_g fd_x at hg
  rw [if_pos rfl] at hg
  have hg1 := congrArg Prod.fst hg
  have hg2 := congrArg (fun z => z.2.1) hg
  have hg3 := congrArg (fun z => z.2.2) hg
  refine wk_back k2 k1 hd m2 m3 hg1 hg2 hg3 (H _ ⟨m0, m1, rfl, rfl, m4, m5, m6, m7, m8, fun j hj => ?_, fun j hj => ?_, m11, m12⟩)
  · unfold upd
    by_cases g1 : j = ct_bk c i
    · rw [if_pos g1, g1, A.2.2.2.2]; rfl
    · rw [if_neg g1]
      by_cases g2 : j = c
      · rw [if_pos g2, g2, A.2.1]; rfl
      · rw [if_neg g2, ← ct_pT_o (T := T) g2 g1]
        refine m9 j ?_
        rcases ct_pP_cases (n := n) A.2.2.1 with ⟨e, e2⟩ | ⟨e, e2⟩
        · omega
        · omega
  · have := m10 j (by omega)
    unfold fd_g at this
    rw [if_neg (by omega)] at this
    exact this
theorem fd_keep {s r ff : Int32} {A1 A2 A3 : Nat → Int32} {n P d : Nat} {T : Nat → Nat} {g : Nat → Int32 × Int32 × Int32} {acc : List Nat} {u : St2} {post : St2 → Prop} (V : ct_V n P T) (hfu : ∀ j, j < 4 * P → T j ≠ 0) (M : fd_M s r ff A1 A2 A3 P d T g acc u)
    (H : ∀ u', fd_M s r ff A1 A2 A3 P d T g ((acc ++ (if P = n then [ct_pk P T] else [])).take 500) u' → post u') : wpX_keepTable post u (nI n) := by
  obtain ⟨f0, f1, f2, f3, f4, f5, a1, a2, a3, a4, a5, a6, a7, a8, a9, a10, a11, a12, a13⟩ := u
  have hM := M
  obtain ⟨m0, m1, m2, m3, m4, m5, m6, m7, m8, m9, m10, m11, m12⟩ := M
  obtain ⟨v1, v2, v3, v4, v5⟩ := V
  have hV : ct_V n P T := ⟨v1, v2, v3, v4, v5⟩
  refine pk_eq P n (fun z => ?_) (fun z => ?_) (hx := m2)
  · rw [if_pos z] at H
    refine pk_le 500 acc.length (fun z2 => ?_) (fun z2 => ?_) (hy := m5)
    · rw [List.take_append_of_le_length z2, List.take_of_length_le m12] at H
      exact H _ hM
    · refine wk_pack (D := fun j => T j - 1) (by omega) m2 (ct_V_lt hV) (Or.inl ⟨rfl, fun j hj => ?_⟩) ⟨by rw [m5]; exact vp_in_nI z2 (by omega), fun b hb f hf => ?_⟩
      · rw [m9 j hj, nb_vs (hfu j hj)]
      · rw [m5, nI_1] at hf
        rw [m5, nI_clamp (by omega)] at hb
        subst hf hb
        rw [List.take_of_length_le (by simp; omega)] at H
        refine H _ ⟨m0, m1, m2, m3, m4, by rw [List.length_append]; rfl, m6, m7, m8, m9, m10, fun j hj => ?_, by rw [List.length_append]; exact z2⟩
        rw [List.length_append] at hj
        have hj : j < acc.length + 1 := hj
        by_cases e : j = acc.length
        · subst e
          rw [pk_uLs, nb_getD_app2]
          rfl
        · rw [pk_uLn e, nb_getD_app1 (by omega)]
          exact m11 j (by omega)
  · rw [if_neg z, List.append_nil, List.take_of_length_le m12] at H
    exact H _ hM
end
section
/-! the search's loop -/
def fd_41 (post : St2 → Prop) (x1 : Int32) (N : Nat) (x2 x3 x4 : Int32) (u : St2) : Prop := match u with
  | (f0, f1, f2, f3, f4, f5, a1, a2, a3, a4, a5, a6, a7, a8, a9, a10, a11, a12, a13) => wX_find_41 post x1 N x2 x3 x4 f0 f1 f2 f3 f4 f5 a1 a2 a3 a4 a5 a6 a7 a8 a9 a10 a11 a12 a13
def fd_61 (post : St2 → Prop) (x1 : Int32) (N : Nat) (x2 x3 z0 : Int32) (u : St2) : Prop := match u with
  | (f0, f1, f2, f3, f4, f5, a1, a2, a3, a4, a5, a6, a7, a8, a9, a10, a11, a12, a13) => wX_find_61 post (wX_find_41 post x1 N) x1 x2 x3 1 z0 f0 f1 f2 f3 f4 f5 a1 a2 a3 a4 a5 a6 a7 a8 a9 a10 a11 a12 a13
theorem fd_step {s r ff : Int32} {A1 A2 A3 : Nat → Int32} {n P d c fr N : Nat} {T : Nat → Nat} {g : Nat → Int32 × Int32 × Int32} {acc : List Nat} {u : St2} {post : St2 → Prop} (V : ct_V n P T) (hc : c < 4 * P) (hfr : fr ≤ 10) (M : fd_M s r ff A1 A2 A3 P d T g acc u)
    (H : fd_61 post (nI n) N (nI fr) (nI c) (ct_o (ct_nf T c n P fr)) u) : fd_41 post (nI n) (N + 1) (nI fr) (nI c) 1 u := by
  obtain ⟨f0, f1, f2, f3, f4, f5, a1, a2, a3, a4, a5, a6, a7, a8, a9, a10, a11, a12, a13⟩ := u
  obtain ⟨m0, m1, m2, m3, m4, m5, m6, m7, m8, m9, m10, m11, m12⟩ := M
  have : c < 2 ^ 31 := by have := V.2.1; have := V.2.2.1; omega
  exact br_f (by decide) (br_t (nI_pos' this) (wk_next V hc hfr m2 m9 H))
theorem fd_stepN {N : Nat} {x1 x2 : Int32} {u : St2} {post : St2 → Prop} (H : fd_61 post x1 N x2 (-1) (-1) u) : fd_41 post x1 (N + 1) x2 (-1) 1 u := by
  obtain ⟨f0, f1, f2, f3, f4, f5, a1, a2, a3, a4, a5, a6, a7, a8, a9, a10, a11, a12, a13⟩ := u
  exact br_f (by decide) (br_f (by decide) H)
theorem fd_pop {s r ff : Int32} {A1 A2 A3 : Nat → Int32} {n P d c i N : Nat} {T : Nat → Nat} {g : Nat → Int32 × Int32 × Int32} {acc : List Nat} {x1 x2 x3 : Int32} {u : St2} {post : St2 → Prop} (V : ct_V n P T) (A : ct_A n P T c i) (hd : d < 20) (M : fd_M s r ff A1 A2 A3 (ct_pP P i) (d + 1) (ct_pT T c i) (fd_g g d (fd_x P c i)) acc u)
    (H : ∀ u', fd_M s r ff A1 A2 A3 P d T g acc u' → fd_41 post x1 N (nI (i + 1)) (nI c) 1 u') : fd_61 post x1 N x2 x3 (-1) u := by
  obtain ⟨f0, f1, f2, f3, f4, f5, a1, a2, a3, a4, a5, a6, a7, a8, a9, a10, a11, a12, a13⟩ := u
  have hM := M
  obtain ⟨m0, m1, m2, m3, m4, m5, m6, m7, m8, m9, m10, m11, m12⟩ := M
  have hg := m10 d (by omega)
  unfold fd_g fd_x at hg
  rw [if_pos rfl] at hg
  have hg3 : a7 d = nI c := congrArg (fun z => z.2.2) hg
  subst m3
  refine br_t (by decide) (br_f (nI_ne0 (by omega) (by omega)) ?_)
  rw [nI_pred, nI_clamp (by omega), hg3]
  refine ⟨vp_in_nI hd (by omega), fun x hx => ?_⟩
  subst hx
  refine fd_back V A hd hM (fun u' M' => ?_)
  have h := H u' M'
  obtain ⟨f0b, f1b, f2b, f3b, f4b, f5b, a1b, a2b, a3b, a4b, a5b, a6b, a7b, a8b, a9b, a10b, a11b, a12b, a13b⟩ := u'
  exact h
theorem fd_push {s r ff : Int32} {A1 A2 A3 : Nat → Int32} {R : List (List Nat)} {n P d c i N : Nat} {T : Nat → Nat} {g : Nat → Int32 × Int32 × Int32} {acc : List Nat} {x2 : Int32} {u : St2} {post : St2 → Prop} (hR : ct_Rl R r A2 A3) (V : ct_V n P T) (A : ct_A n P T c i) (hd : d < 20) (M : fd_M s r ff A1 A2 A3 P d T g acc u)
    (H0 : ct_fit R (ct_pP P i) (ct_pT T c i) = false → ∀ u', fd_M s r ff A1 A2 A3 P d T g acc u' → fd_41 post (nI n) N (nI (i + 1)) (nI c) 1 u')
    (H1 : ct_fit R (ct_pP P i) (ct_pT T c i) = true → ∀ c', ct_fo (ct_pP P i) (ct_pT T c i) = some c' → ∀ u', fd_M s r ff A1 A2 A3 (ct_pP P i) (d + 1) (ct_pT T c i) (fd_g g d (fd_x P c i)) acc u' → fd_41 post (nI n) N (nI 0) (nI c') 1 u')
    (H2 : ct_fit R (ct_pP P i) (ct_pT T c i) = true → ct_fo (ct_pP P i) (ct_pT T c i) = none → ∀ u', fd_M s r ff A1 A2 A3 (ct_pP P i) (d + 1) (ct_pT T c i) (fd_g g d (fd_x P c i)) ((acc ++ (if ct_pP P i = n then [ct_pk (ct_pP P i) (ct_pT T c i)] else [])).take 500) u' → fd_41 post (nI n) N (nI 0) (-1) 1 u') :
    fd_61 post (nI n) N x2 (nI c) (nI i) u := by
  obtain ⟨f0, f1, f2, f3, f4, f5, a1, a2, a3, a4, a5, a6, a7, a8, a9, a10, a11, a12, a13⟩ := u
  obtain ⟨k1, k2, k3, k4, k5⟩ := ct_i5 V A
  have V' := ct_V_put V A
  refine br_f (nI_pos (by omega)) (fd_put V A hd M (fun u' M' => ?_))
  obtain ⟨f0b, f1b, f2b, f3b, f4b, f5b, a1b, a2b, a3b, a4b, a5b, a6b, a7b, a8b, a9b, a10b, a11b, a12b, a13b⟩ := u'
  have hM := M'
  obtain ⟨m0, m1, m2, m3, m4, m5, m6, m7, m8, m9, m10, m11, m12⟩ := M'
  have hR' : ct_Rl R f1b a2b a3b := by rw [m1, m7, m8]; exact hR
  refine wk_fits V' hR' m2 m9 ?_
  cases e : ct_fit R (ct_pP P i) (ct_pT T c i) with
  | false =>
    rw [if_neg (by simp)]
    refine br_t rfl (fd_back V A hd hM (fun u'' M'' => ?_))
    have h := H0 e u'' M''
    obtain ⟨f0c, f1c, f2c, f3c, f4c, f5c, a1c, a2c, a3c, a4c, a5c, a6c, a7c, a8c, a9c, a10c, a11c, a12c, a13c⟩ := u''
    exact br_t rfl (br_t (nI_pos' (by omega)) h)
  | true =>
    rw [if_pos rfl]
    refine br_f (by decide) (br_f (by decide) (wk_first V' m2 m9 ?_))
    cases e2 : ct_fo (ct_pP P i) (ct_pT T c i) with
    | some c' =>
      have hs := ct_fo_s e2
      exact br_t (nI_pos' (by omega)) (H1 e c' e2 _ hM)
    | none =>
      refine br_f (by decide) (fd_keep V' (ct_fo_n e2) hM (fun u'' M'' => ?_))
      have h := H2 e e2 u'' M''
      obtain ⟨f0c, f1c, f2c, f3c, f4c, f5c, a1c, a2c, a3c, a4c, a5c, a6c, a7c, a8c, a9c, a10c, a11c, a12c, a13c⟩ := u''
      exact h
theorem fd_sub {s r ff : Int32} {A1 A2 A3 : Nat → Int32} {R : List (List Nat)} {n : Nat} {post : St2 → Prop} (hR : ct_Rl R r A2 A3) : ∀ (f P : Nat) (T : Nat → Nat) (c fr d : Nat), ct_V n P T → c < 4 * P → T c = 0 → fr ≤ 5 → ct_cnt T 20 = 2 * d → (10 - d) * 7 + (6 - fr) < f →
    ∃ k, ∀ (g : Nat → Int32 × Int32 × Int32) (acc : List Nat) (u : St2) (N : Nat), fd_M s r ff A1 A2 A3 P d T g acc u →
      (∀ u' x2 x3, fd_M s r ff A1 A2 A3 P d T g ((acc ++ ct_gen R n f P T c fr).take 500) u' → fd_61 post (nI n) N x2 x3 (-1) u') → fd_41 post (nI n) (N + k) (nI fr) (nI c) 1 u := by
  intro f
  induction f with
  | zero => intro P T c fr d _ _ _ _ _ h; omega
  | succ f ih =>
    intro P T c fr d V hc h0 hfr hd hm
    cases e : ct_nf T c n P fr with
    | none =>
      refine ⟨1, fun g acc u N M H => fd_step V hc (by omega) M ?_⟩
      rw [e]
      refine H u _ _ ?_
      unfold ct_gen
      rw [e]
      have hl : acc.length ≤ 500 := by
        obtain ⟨f0, f1, f2, f3, f4, f5, a1, a2, a3, a4, a5, a6, a7, a8, a9, a10, a11, a12, a13⟩ := u
        exact M.2.2.2.2.2.2.2.2.2.2.2.2
      dsimp only
      rw [List.append_nil, List.take_of_length_le hl]
      exact M
    | some i =>
      obtain ⟨A, hi⟩ := ct_nf_s V hc h0 e
      obtain ⟨k1, k2, k3, k4, k5⟩ := ct_i5 V A
      obtain ⟨dd, hd'⟩ := ct_dep V A hd
      have V' := ct_V_put V A
      obtain ⟨q2, h2⟩ := ih P T c (i + 1) d V hc h0 (by omega) hd (by omega)
      cases ef : ct_fit R (ct_pP P i) (ct_pT T c i) with
      | false =>
        refine ⟨q2 + 1, fun g acc u N M H => ?_⟩
        refine fd_step (N := N + q2) V hc (by omega) M ?_
        rw [e]
        refine fd_push hR V A (by omega) M (fun _ u' M' => ?_) (fun h => absurd (ef.symm.trans h) (by simp)) (fun h => absurd (ef.symm.trans h) (by simp))
        refine h2 g acc u' N M' (fun u'' x2 x3 M'' => H u'' x2 x3 ?_)
        unfold ct_gen
        rw [e]
        dsimp only
        rw [ef, if_neg (by simp), List.nil_append]
        exact M''
      | true =>
        cases eo : ct_fo (ct_pP P i) (ct_pT T c i) with
        | none =>
          refine ⟨q2 + 2, fun g acc u N M H => ?_⟩
          refine fd_step (N := N + q2 + 1) V hc (by omega) M ?_
          rw [e]
          refine fd_push hR V A (by omega) M (fun h => absurd (ef.symm.trans h) (by simp)) (fun _ c' h => absurd (eo.symm.trans h) (by simp)) (fun _ _ u' M' => ?_)
          refine fd_stepN (fd_pop V A (by omega) M' (fun u'' M'' => ?_))
          refine h2 g _ u'' N M'' (fun u3 x2 x3 M3 => H u3 x2 x3 ?_)
          unfold ct_gen
          rw [e]
          dsimp only
          rw [ef, if_pos rfl, eo]
          rw [nb_take, List.append_assoc] at M3
          exact M3
        | some c' =>
          have hs := ct_fo_s eo
          obtain ⟨q1, h1⟩ := ih (ct_pP P i) (ct_pT T c i) c' 0 (d + 1) V' hs.1 hs.2 (by omega) hd' (by omega)
          refine ⟨q2 + q1 + 1, fun g acc u N M H => ?_⟩
          rw [show N + (q2 + q1 + 1) = (N + q2 + q1) + 1 by omega]
          refine fd_step (N := N + q2 + q1) (fr := fr) V hc (by omega) M ?_
          rw [e]
          refine fd_push hR V A (by omega) M (fun h => absurd (ef.symm.trans h) (by simp)) (fun _ c'' h u' M' => ?_) (fun _ h => absurd (eo.symm.trans h) (by simp))
          have ec : c' = c'' := by
            have := eo.symm.trans h
            simpa using this
          subst ec
          refine h1 _ acc u' (N + q2) M' (fun u'' x2 x3 M'' => ?_)
          refine fd_pop V A (by omega) M'' (fun u3 M3 => ?_)
          refine h2 g _ u3 N M3 (fun u4 y2 y3 M4 => H u4 y2 y3 ?_)
          unfold ct_gen
          rw [e]
          dsimp only
          rw [ef, if_pos rfl, eo]
          rw [nb_take, List.append_assoc] at M4
          exact M4
/-- the class's picture: the word, the relators, the tables that are kept -/
def ct_P (w : List Nat) (R : List (List Nat)) (m : Nat) (u : St2) : Prop := match u with
  | (f0, f1, f2, f3, f4, f5, a1, a2, a3, a4, a5, a6, a7, a8, a9, a10, a11, a12, a13) => (f0 = nI w.length ∧ w.length ≤ 8 ∧ ∀ i, i < w.length → w.getD i 0 < 4 ∧ a1 i = nI (w.getD i 0)) ∧ ct_Rl R f1 a2 a3 ∧ f4 = nI m ∧ m ≤ 5 ∧ (1 ≤ m → f5 = nI (ct_all R m).length ∧ ∀ j, j < (ct_all R m).length → a8 j = lN ((ct_all R m).getD j 0))
theorem wk_find {w : List Nat} {R : List (List Nat)} {m n : Nat} {u : St2} {post : St2 → Prop} (h : ct_P w R m u) (h1 : 1 ≤ n) (h5 : n ≤ 5) (H : ∀ u', ct_P w R n u' → post u') : wpX_find post u (nI n) := by
  obtain ⟨f0, f1, f2, f3, f4, f5, a1, a2, a3, a4, a5, a6, a7, a8, a9, a10, a11, a12, a13⟩ := u
  have hP := h
  obtain ⟨p1, p2, p3, p4, p5⟩ := h
  refine pk_eq m n (fun z => ?_) (fun z => ?_) (hx := p3)
  · subst z
    exact H _ hP
  · refine wk_open (p := 0) (by omega) (fun b hb => ?_)
    obtain ⟨k, hk⟩ := fd_sub (s := f0) (ff := nI n) (A1 := a1) (n := n) (post := post) p2 80 1 ct_z 0 0 0 (ct_V0 h1 h5) (by omega) rfl (by omega) (by decide) (by omega)
    refine ⟨1 + k, hk (fun _ => (0, 0, 0)) [] (f0, f1, 1, 0, (nI n), 0, a1, a2, a3, b, a5, a6, a7, a8, a9, a10, a11, a12, a13) 1 ⟨rfl, rfl, rfl, rfl, rfl, rfl, rfl, rfl, rfl, fun j hj => ?_, fun j hj => absurd hj (by omega), fun j hj => absurd hj (by simp), by simp⟩ (fun u' x2 x3 M => ?_)⟩
    · rw [hb j, if_pos (by omega)]
      rfl
    · obtain ⟨f0b, f1b, f2b, f3b, f4b, f5b, a1b, a2b, a3b, a4b, a5b, a6b, a7b, a8b, a9b, a10b, a11b, a12b, a13b⟩ := u'
      obtain ⟨m0, m1, m2, m3, m4, m5, m6, m7, m8, m9, m10, m11, m12⟩ := M
      rw [List.nil_append] at m5 m11
      refine br_t (by decide) (br_t m3 (br_t rfl (H _ ⟨?_, ?_, m4, h5, fun _ => ⟨m5, m11⟩⟩)))
      · rw [m0, m6]; exact p1
      · rw [m1, m7, m8]; exact p2
end
section
/-! the methods that ask -/
theorem ct_all_len (R : List (List Nat)) (n : Nat) : (ct_all R n).length ≤ 500 := List.length_take_le ..
theorem ct_P_WR {w : List Nat} {R : List (List Nat)} {m : Nat} {u : St2} (h : ct_P w R m u) : ct_WR R := by
  obtain ⟨f0, f1, f2, f3, f4, f5, a1, a2, a3, a4, a5, a6, a7, a8, a9, a10, a11, a12, a13⟩ := u
  exact ct_Rl_W h.2.1
theorem ct_P_W {w : List Nat} {R : List (List Nat)} {m : Nat} {u : St2} (h : ct_P w R m u) : ct_W w := by
  obtain ⟨f0, f1, f2, f3, f4, f5, a1, a2, a3, a4, a5, a6, a7, a8, a9, a10, a11, a12, a13⟩ := u
  intro l hl
  obtain ⟨i, hi, e⟩ := nb_mem_getD 0 hl
  rw [← e]
  exact (h.1.2.2 i hi).1
theorem wk_bad {n : Nat} {u : St2} {post : Int32 → Prop} (h1 : 1 ≤ n) (h5 : n ≤ 5) (H : post 0) : wpX_badNumber post u (nI n) := by
  obtain ⟨f0, f1, f2, f3, f4, f5, a1, a2, a3, a4, a5, a6, a7, a8, a9, a10, a11, a12, a13⟩ := u
  exact pk_lt n 1 (fun z => absurd z (by omega)) (fun _ => pk_le n 5 (fun _ => H) (fun z => absurd z (by omega)))
theorem wk_tables {w : List Nat} {R : List (List Nat)} {m n : Nat} {u : St2} {post : Int32 → St2 → Prop} (h : ct_P w R m u) (h1 : 1 ≤ n) (h5 : n ≤ 5) (H : ∀ u', ct_P w R n u' → post (nI (ct_all R n).length) u') : wpX_tables post u (nI n) := by
  obtain ⟨f0, f1, f2, f3, f4, f5, a1, a2, a3, a4, a5, a6, a7, a8, a9, a10, a11, a12, a13⟩ := u
  unfold wpX_tables
  dsimp only
  refine wk_bad h1 h5 ?_
  refine (br_t rfl (wk_find h h1 h5 (fun u' h' => ?_)))
  have H' := H u' h'
  obtain ⟨f0b, f1b, f2b, f3b, f4b, f5b, a1b, a2b, a3b, a4b, a5b, a6b, a7b, a8b, a9b, a10b, a11b, a12b, a13b⟩ := u'
  rw [← (h'.2.2.2.2 h1).1] at H'
  exact H'
theorem wk_imageIn {w : List Nat} {R : List (List Nat)} {n k p l : Nat} {u : St2} {post : Int32 → Prop} (h : ct_P w R n u) (h1 : 1 ≤ n) (h5 : n ≤ 5) (hk : k < (ct_all R n).length) (hp : p < n) (hl : l < 4) (H : post (nI (ct_im ((ct_all R n).getD k 0) p l))) : wpX_imageIn post u (nI k) (nI p) (nI l) := by
  have hm := ct_all_mem (ct_P_WR h) h1 h5 (nb_getD_mem hk (d := 0))
  have hlen := ct_all_len R n
  obtain ⟨f0, f1, f2, f3, f4, f5, a1, a2, a3, a4, a5, a6, a7, a8, a9, a10, a11, a12, a13⟩ := u
  intro x hx
  refine ⟨vp_in_nI (by omega) (by omega), ?_⟩
  rw [nI_clamp (by omega), (h.2.2.2.2 h1).2 k hk, hx, nb_img hm.1 (by omega)]
  exact H
theorem wk_image {w : List Nat} {R : List (List Nat)} {m n k p l : Nat} {u : St2} {post : Int32 → St2 → Prop} (h : ct_P w R m u) (h1 : 1 ≤ n) (h5 : n ≤ 5) (hk : k ≤ 500) (hp : p < n) (hl : l < 4)
    (H : ∀ u', ct_P w R n u' → post (if k < (ct_all R n).length then nI (ct_im ((ct_all R n).getD k 0) p l) else -4) u') : wpX_image post u (nI n) (nI k) (nI p) (nI l) := by
  have hlen := ct_all_len R n
  obtain ⟨f0, f1, f2, f3, f4, f5, a1, a2, a3, a4, a5, a6, a7, a8, a9, a10, a11, a12, a13⟩ := u
  unfold wpX_image
  dsimp only
  refine wk_bad h1 h5 ?_
  refine (br_t rfl (br_f (nI_pos (by omega)) ?_))
  refine pk_le n p (fun z => absurd z (by omega)) (fun _ => br_f (nI_pos (by omega)) ?_)
  refine pk_lt l 4 (fun _ => ?_) (fun z => absurd z (by omega))
  refine wk_find h h1 h5 (fun u' h' => ?_)
  have H' := H u' h'
  have h'' := h'
  obtain ⟨f0b, f1b, f2b, f3b, f4b, f5b, a1b, a2b, a3b, a4b, a5b, a6b, a7b, a8b, a9b, a10b, a11b, a12b, a13b⟩ := u'
  refine br_f (nI_pos (by omega)) (pk_lt k (ct_all R n).length (fun z => ?_) (fun z => ?_) (hy := (h'.2.2.2.2 h1).1))
  · rw [if_pos z] at H'
    exact wk_imageIn h'' h1 h5 z hp hl H'
  · rw [if_neg (by omega)] at H'
    exact H'
theorem wk_word {w : List Nat} {R : List (List Nat)} {n k p : Nat} {u : St2} {post : Int32 → Prop} (h : ct_P w R n u) (h1 : 1 ≤ n) (h5 : n ≤ 5) (hk : k < (ct_all R n).length) (hp : p < n) (H : post (nI (ct_run ((ct_all R n).getD k 0) w p))) : wpX_wordFrom post u (nI k) (nI p) := by
  have hm := ct_all_mem (ct_P_WR h) h1 h5 (nb_getD_mem hk (d := 0))
  have hP := h
  obtain ⟨f0, f1, f2, f3, f4, f5, a1, a2, a3, a4, a5, a6, a7, a8, a9, a10, a11, a12, a13⟩ := u
  obtain ⟨⟨p1, p2, p3⟩, p4, p5, p6, p7⟩ := h
  have key : ∀ (r : List Nat) (i q : Nat), w.drop i = r → i ≤ 8 → q < n → post (nI (ct_run ((ct_all R n).getD k 0) r q)) → wX_wordFrom_5 post (nI k) f0 f1 f2 f3 f4 f5 a1 a2 a3 a4 a5 a6 a7 a8 a9 a10 a11 a12 a13 (r.length + 1) (nI q) (nI i) := by
    intro r
    induction r with
    | nil =>
      intro i q hr hi hq h
      have := nb_dropn hr
      exact pk_le w.length i (fun _ => h) (fun z => absurd z (by omega)) (hx := p1)
    | cons l r ih =>
      intro i q hr hi hq h
      obtain ⟨d1, d2, d3⟩ := nb_drop hr
      obtain ⟨s1, s2⟩ := p3 i d1
      rw [d2] at s1 s2
      show wX_wordFrom_5 post (nI k) f0 f1 f2 f3 f4 f5 a1 a2 a3 a4 a5 a6 a7 a8 a9 a10 a11 a12 a13 ((r.length + 1) + 1) (nI q) (nI i)
      refine pk_le w.length i (fun z => absurd z (by omega)) (fun _ => ⟨vp_in_nI (by omega) (by omega), ?_⟩) (hx := p1)
      rw [nI_clamp (by omega), s2]
      refine wk_imageIn hP h1 h5 hk hq s1 (fun x hx => ?_)
      rw [nI_1] at hx
      subst hx
      exact ih (i + 1) _ d3 (by omega) (hm.2.1 q l hq s1) h
  exact ⟨_, key _ 0 p rfl (by omega) hp H⟩
theorem nb_take_s {L : List Nat} {i : Nat} (h : i < L.length) : L.take (i + 1) = L.take i ++ [L.getD i 0] := by
  rw [List.take_succ, List.getD_eq_getElem?_getD, List.getElem?_eq_getElem h]
  rfl
def ct_fx (w : List Nat) (t : Nat) : Bool := ct_run t w 0 == 0
theorem wk_fixing {w : List Nat} {R : List (List Nat)} {m n : Nat} {u : St2} {post : Int32 → St2 → Prop} (h : ct_P w R m u) (h1 : 1 ≤ n) (h5 : n ≤ 5) (H : ∀ u', ct_P w R n u' → post (nI ((ct_all R n).countP (ct_fx w))) u') : wpX_fixing post u (nI n) := by
  obtain ⟨f0, f1, f2, f3, f4, f5, a1, a2, a3, a4, a5, a6, a7, a8, a9, a10, a11, a12, a13⟩ := u
  unfold wpX_fixing
  dsimp only
  refine wk_bad h1 h5 ?_
  refine (br_t rfl (wk_find h h1 h5 (fun u' h' => ?_)))
  have H' := H u' h'
  have hP := h'
  have hlen := ct_all_len R n
  have hW := ct_P_W h'
  have hWR := ct_P_WR h'
  obtain ⟨f0b, f1b, f2b, f3b, f4b, f5b, a1b, a2b, a3b, a4b, a5b, a6b, a7b, a8b, a9b, a10b, a11b, a12b, a13b⟩ := u'
  have hf := (h'.2.2.2.2 h1).1
  refine pk_loop (σ := Unit) (fun N i _ => wX_fixing_19 post f0b f1b f2b f3b f4b f5b a1b a2b a3b a4b a5b a6b a7b a8b a9b a10b a11b a12b a13b N (nI (((ct_all R n).take i).countP (ct_fx w))) (nI i)) (fun _ _ => True) (ct_all R n).length 0 () (by omega) trivial ?_ ?_
  · intro N s _
    refine pk_le (ct_all R n).length (ct_all R n).length (fun _ => ?_) (fun z => absurd z (by omega)) (hx := hf)
    rw [List.take_of_length_le (Nat.le_refl _)]
    exact H'
  · intro N i s hi _ hw
    refine pk_le (ct_all R n).length i (fun z => absurd z (by omega)) (fun _ => ?_) (hx := hf)
    have hm := ct_all_mem hWR h1 h5 (nb_getD_mem hi (d := 0))
    have hlt := ct_run_lt hm.2.1 w hW 0 (by omega)
    refine wk_word hP h1 h5 hi (p := 0) (by omega) ?_
    have hw' := hw () trivial
    rw [nb_take_s hi, List.countP_append, List.countP_singleton] at hw'
    refine pk_eq (ct_run ((ct_all R n).getD i 0) w 0) 0 (fun z => ?_) (fun z => ?_)
    · intro x hx y hy
      rw [nI_1] at hx hy
      subst hx hy
      rw [if_pos (by unfold ct_fx; rw [z]; rfl)] at hw'
      exact hw'
    · intro y hy
      rw [nI_1] at hy
      subst hy
      rw [if_neg (by unfold ct_fx; simpa using z)] at hw'
      exact hw'
def ct_still (w : List Nat) (R : List (List Nat)) (n : Nat) : Prop := ∀ t, t ∈ ct_all R n → ct_run t w 0 = 0
theorem ct_still_iff {w : List Nat} {R : List (List Nat)} {n : Nat} : (ct_all R n).countP (ct_fx w) = (ct_all R n).length ↔ ct_still w R n := by
  rw [List.countP_eq_length]
  unfold ct_still ct_fx
  simp only [beq_iff_eq]
def sl_4 (post : Int32 → St2 → Prop) (N : Nat) (x1 x2 : Int32) (u : St2) : Prop := match u with
  | (f0, f1, f2, f3, f4, f5, a1, a2, a3, a4, a5, a6, a7, a8, a9, a10, a11, a12, a13) => wX_still_4 post N x1 x2 f0 f1 f2 f3 f4 f5 a1 a2 a3 a4 a5 a6 a7 a8 a9 a10 a11 a12 a13
theorem wk_still {w : List Nat} {R : List (List Nat)} {m : Nat} {u : St2} {post : Int32 → St2 → Prop} (h : ct_P w R m u)
    (H : ∀ u' m' b, ct_P w R m' u' → (b = true ↔ ∀ n, 1 ≤ n → n ≤ 5 → ct_still w R n) → post (if b = true then 1 else 0) u') : wpX_still post u := by
  have key : ∀ k i m u, i + k = 6 → 1 ≤ i → ct_P w R m u → (∀ n, 1 ≤ n → n < i → ct_still w R n) → sl_4 post (k + 1) 1 (nI i) u := by
    intro k
    induction k with
    | zero =>
      intro i m u hi h1 h hs
      have H' := H u m true h ⟨fun _ n n1 n5 => hs n n1 (by omega), fun _ => rfl⟩
      obtain ⟨f0, f1, f2, f3, f4, f5, a1, a2, a3, a4, a5, a6, a7, a8, a9, a10, a11, a12, a13⟩ := u
      exact pk_lt 5 i (fun _ => br_f (by decide) H') (fun z => absurd z (by omega))
    | succ k ih =>
      intro i m u hi h1 h hs
      obtain ⟨f0, f1, f2, f3, f4, f5, a1, a2, a3, a4, a5, a6, a7, a8, a9, a10, a11, a12, a13⟩ := u
      refine pk_lt 5 i (fun z => absurd z (by omega)) (fun _ => br_f (by decide) ?_)
      refine wk_fixing h h1 (by omega) (fun u' h' => ?_)
      have hlen := ct_all_len R i
      have hcl := List.countP_le_length (p := ct_fx w) (l := ct_all R i)
      have hP := h'
      have ih' := ih (i + 1) i u' (by omega) (by omega) h'
      have hf := H u' i false h'
      obtain ⟨f0b, f1b, f2b, f3b, f4b, f5b, a1b, a2b, a3b, a4b, a5b, a6b, a7b, a8b, a9b, a10b, a11b, a12b, a13b⟩ := u'
      refine pk_eq _ (ct_all R i).length (fun z => ?_) (fun z => ?_) (hy := (h'.2.2.2.2 h1).1)
      · intro x hx
        rw [nI_1] at hx
        subst hx
        refine ih' (fun n n1 n2 => ?_)
        by_cases e : n = i
        · subst e; exact ct_still_iff.mp z
        · exact hs n n1 (by omega)
      · intro x hx
        have hno : post 0 (f0b, f1b, f2b, f3b, f4b, f5b, a1b, a2b, a3b, a4b, a5b, a6b, a7b, a8b, a9b, a10b, a11b, a12b, a13b) := hf ⟨fun c => absurd c (by simp), fun c => absurd (ct_still_iff.mpr (c i h1 (by omega))) z⟩
        exact br_c (fun _ => br_t rfl hno) (fun _ => br_t rfl (br_t rfl hno))
  have := key 5 1 m u rfl (by omega) h (fun n n1 n2 => by omega)
  obtain ⟨f0, f1, f2, f3, f4, f5, a1, a2, a3, a4, a5, a6, a7, a8, a9, a10, a11, a12, a13⟩ := u
  exact ⟨_, this⟩
theorem wk_clear {w : List Nat} {R : List (List Nat)} {m : Nat} {u : St2} {post : Int32 → St2 → Prop} (h : ct_P w R m u) (H : ∀ u', ct_P [] R m u' → post (nI w.length) u') : wpX_clear post u := by
  obtain ⟨f0, f1, f2, f3, f4, f5, a1, a2, a3, a4, a5, a6, a7, a8, a9, a10, a11, a12, a13⟩ := u
  obtain ⟨⟨p1, p2, p3⟩, p4, p5, p6, p7⟩ := h
  show post f0 _
  rw [p1]
  exact H _ ⟨⟨rfl, by simp, fun i hi => absurd hi (by simp)⟩, p4, p5, p6, p7⟩
theorem wk_letter {w : List Nat} {R : List (List Nat)} {m l : Nat} {u : St2} {post : Int32 → St2 → Prop} (h : ct_P w R m u) (hw : w.length < 8) (hl : l < 4) (H : ∀ r u', ct_P (w ++ [l]) R m u' → post r u') : wpX_letter post u (nI l) := by
  obtain ⟨f0, f1, f2, f3, f4, f5, a1, a2, a3, a4, a5, a6, a7, a8, a9, a10, a11, a12, a13⟩ := u
  obtain ⟨⟨p1, p2, p3⟩, p4, p5, p6, p7⟩ := h
  refine br_f (nI_pos (by omega)) (pk_lt l 4 (fun _ => ?_) (fun z => absurd z (by omega)))
  subst p1
  refine pk_eq w.length 8 (fun z => absurd z (by omega)) (fun _ => ⟨vp_in_nI (by omega) (by omega), fun b hb f hf => ?_⟩)
  rw [nI_clamp (by omega), nb_i8 _ (by omega)] at hb
  rw [nI_1] at hf
  subst hb hf
  refine H _ _ ⟨⟨by rw [List.length_append]; rfl, by rw [List.length_append]; exact hw, fun i hi => ?_⟩, p4, p5, p6, p7⟩
  have hi : i < w.length + 1 := by rw [List.length_append] at hi; exact hi
  by_cases e : i = w.length
  · subst e
    rw [nb_getD_app2, pk_us]
    exact ⟨hl, rfl⟩
  · rw [nb_getD_app1 (by omega), pk_un e]
    exact p3 i (by omega)
theorem wk_relate {w : List Nat} {R : List (List Nat)} {m : Nat} {u : St2} {post : Int32 → St2 → Prop} (h : ct_P w R m u) (hR : R.length < 4) (H : ∀ u', ct_P w (R ++ [w]) 0 u' → post (nI (R.length + 1)) u') : wpX_relate post u := by
  obtain ⟨f0, f1, f2, f3, f4, f5, a1, a2, a3, a4, a5, a6, a7, a8, a9, a10, a11, a12, a13⟩ := u
  obtain ⟨⟨p1, p2, p3⟩, ⟨r1, r2, r3⟩, p5, p6, p7⟩ := h
  subst r2 p1
  refine pk_eq R.length 4 (fun z => absurd z (by omega)) (fun _ => ?_)
  refine pk_loop (fun N i s => wX_relate_13 post (nI w.length) (nI R.length) f2 f3 f4 f5 N (nI i) a1 a2 s a4 a5 a6 a7 a8 a9 a10 a11 a12 a13) (fun i s => (∀ j, j < i → s (8 * R.length + j) = nI (w.getD j 0)) ∧ ∀ j, j < 8 * R.length → s j = a3 j) w.length 0 a3 (by omega) ⟨fun j hj => absurd hj (by omega), fun j _ => rfl⟩ ?_ ?_
  · intro N s hs
    refine pk_le w.length w.length (fun _ => ?_) (fun z => absurd z (by omega))
    refine ⟨vp_in_nI (by omega) (by omega), fun b hb f hf => ?_⟩
    rw [nI_clamp (by omega), nb_i8 _ (by omega)] at hb
    rw [nI_1] at hf
    subst hb hf
    refine H _ ⟨⟨rfl, p2, p3⟩, ⟨by rw [List.length_append]; exact hR, by rw [List.length_append]; rfl, fun k hk => ?_⟩, rfl, by omega, fun c => absurd c (by omega)⟩
    have hk : k < R.length + 1 := by rw [List.length_append] at hk; exact hk
    by_cases e : k = R.length
    · subst e
      rw [nb_getD_app2, pk_us]
      exact ⟨rfl, p2, fun i hi => ⟨(p3 i hi).1, hs.1 i hi⟩⟩
    · rw [nb_getD_app1 (by omega), pk_un e]
      obtain ⟨q1, q2, q3⟩ := r3 k (by omega)
      exact ⟨q1, q2, fun i hi => ⟨(q3 i hi).1, by rw [hs.2 _ (by omega)]; exact (q3 i hi).2⟩⟩
  · intro N i s hi hs hw
    refine pk_le w.length i (fun z => absurd z (by omega)) (fun _ => ?_)
    refine ⟨vp_in_nI (by omega) (by omega), by rw [nb_ix8]; exact vp_in_nI (by omega) (by omega), fun b hb x hx => ?_⟩
    rw [nb_ix8, nI_clamp (by omega), nI_clamp (by omega), (p3 i hi).2, nb_byte (by have := (p3 i hi).1; omega)] at hb
    rw [nI_1] at hx
    subst hb hx
    refine hw _ ⟨fun j hj => ?_, fun j hj => ?_⟩
    · by_cases e : j = i
      · subst e; rw [pk_us]
      · rw [pk_un (by omega)]; exact hs.1 j (by omega)
    · rw [pk_un (by omega)]; exact hs.2 j hj
theorem wk_invert {w : List Nat} {R : List (List Nat)} {m : Nat} {u : St2} {post : Int32 → St2 → Prop} (h : ct_P w R m u) (H : ∀ u' w', ct_P w' R m u' → post (nI w.length) u') : wpX_invert post u := by
  obtain ⟨f0, f1, f2, f3, f4, f5, a1, a2, a3, a4, a5, a6, a7, a8, a9, a10, a11, a12, a13⟩ := u
  obtain ⟨⟨p1, p2, p3⟩, p4, p5, p6, p7⟩ := h
  subst p1
  have hx : ∀ l, l < 4 → (nI l ^^^ 1).toInt8.toInt32 = nI (ct_iv l) := by decide +kernel
  refine pk_loop (fun N i s => wX_invert_2 post (nI w.length) f1 f2 f3 f4 f5 N (nI i) s a2 a3 a4 a5 a6 a7 a8 a9 a10 a11 a12 a13) (fun i s => ∀ j, j < w.length → ∃ l, l < 4 ∧ s j = nI l) ((w.length + 1) / 2) 0 a1 (by omega) (fun j hj => ⟨_, (p3 j hj).1, (p3 j hj).2⟩) ?_ ?_
  · intro N s hs
    refine pk_le w.length (2 * ((w.length + 1) / 2)) (fun _ => ?_) (fun z => absurd z (by omega)) (hy := pk_mul 2 _)
    refine H _ ((List.range w.length).map (fun j => (s j).toNatClampNeg)) ⟨⟨by rw [List.length_map, List.length_range], by rw [List.length_map, List.length_range]; exact p2, fun i hi => ?_⟩, p4, p5, p6, p7⟩
    rw [List.length_map, List.length_range] at hi
    obtain ⟨l, hl, e⟩ := hs i hi
    have : ((List.range w.length).map (fun j => (s j).toNatClampNeg)).getD i 0 = l := by
      rw [List.getD_eq_getElem?_getD, List.getElem?_map, List.getElem?_range hi]
      show (s i).toNatClampNeg = l
      rw [e, nI_clamp (by omega)]
    rw [this]
    exact ⟨hl, e⟩
  · intro N i s hi hs hw
    refine pk_le w.length (2 * i) (fun z => absurd z (by omega)) (fun _ => ?_) (hy := pk_mul 2 _)
    intro x hx2
    have e : nI w.length - 1 - nI i = nI (w.length - 1 - i) := by
      rw [show (1 : Int32) = nI 1 from rfl, pk_sub (by omega), pk_sub (by omega)]
    rw [e] at hx2
    subst hx2
    obtain ⟨l1, hl1, e1⟩ := hs i (by omega)
    obtain ⟨l2, hl2, e2⟩ := hs (w.length - 1 - i) (by omega)
    rw [nI_clamp (show i < 2 ^ 31 by omega), nI_clamp (show w.length - 1 - i < 2 ^ 31 by omega), e1, e2]
    refine ⟨vp_in_nI (by omega) (by omega), fun y hy => ⟨vp_in_nI (by omega) (by omega), fun z hz => ⟨vp_in_nI (by omega) (by omega), fun b hb => ⟨vp_in_nI (by omega) (by omega), fun b' hb' v hv => ?_⟩⟩⟩⟩
    subst hy hz
    rw [hx _ hl2] at hb
    rw [hx _ hl1] at hb'
    rw [nI_1] at hv
    subst hb hb' hv
    refine hw _ (fun j hj => ?_)
    by_cases g1 : j = w.length - 1 - i
    · rw [g1, pk_us]; exact ⟨_, ct_iv_lt hl1, rfl⟩
    · rw [pk_un g1]
      by_cases g2 : j = i
      · rw [g2, pk_us]; exact ⟨_, ct_iv_lt hl2, rfl⟩
      · rw [pk_un g2]; exact hs j hj
/-- the word again and again from 0 -/
def ct_it (t : Nat) (w : List Nat) : Nat → Nat
  | 0 => 0
  | k + 1 => ct_run t w (ct_it t w k)
theorem ct_it_lt {t n : Nat} {w : List Nat} (h : ∀ p l, p < n → l < 4 → ct_im t p l < n) (hw : ct_W w) (h1 : 1 ≤ n) : ∀ k, ct_it t w k < n := by
  intro k
  induction k with
  | zero => exact h1
  | succ k ih => exact ct_run_lt h w hw _ ih
theorem wk_period {w : List Nat} {R : List (List Nat)} {m n k : Nat} {u : St2} {post : Int32 → St2 → Prop} (h : ct_P w R m u) (h1 : 1 ≤ n) (h5 : n ≤ 5) (hk : k < (ct_all R n).length)
    (H : ∀ u' s, ct_P w R n u' → 1 ≤ s → s ≤ 5 → (∀ j, 1 ≤ j → j < s → ct_it ((ct_all R n).getD k 0) w j ≠ 0) → (s < 5 → ct_it ((ct_all R n).getD k 0) w s = 0) → post (nI s) u') : wpX_period post u (nI n) (nI k) := by
  have hlen := ct_all_len R n
  have hm := ct_all_mem (ct_P_WR h) h1 h5 (nb_getD_mem hk (d := 0))
  have hit := ct_it_lt hm.2.1 (ct_P_W h) h1
  obtain ⟨f0, f1, f2, f3, f4, f5, a1, a2, a3, a4, a5, a6, a7, a8, a9, a10, a11, a12, a13⟩ := u
  unfold wpX_period
  dsimp only
  refine wk_bad h1 h5 ?_
  refine (br_t rfl (wk_find h h1 h5 (fun u' h' => ?_)))
  have H' := fun s => H u' s h'
  have hP := h'
  obtain ⟨f0b, f1b, f2b, f3b, f4b, f5b, a1b, a2b, a3b, a4b, a5b, a6b, a7b, a8b, a9b, a10b, a11b, a12b, a13b⟩ := u'
  refine br_f (nI_pos (by omega)) (pk_lt k (ct_all R n).length (fun z => ?_) (fun z => absurd z (by omega)) (hy := (h'.2.2.2.2 h1).1))
  refine wk_word hP h1 h5 hk (p := 0) (by omega) ?_
  have key : ∀ f s, 1 ≤ s → s + f = 5 → (∀ j, 1 ≤ j → j < s → ct_it ((ct_all R n).getD k 0) w j ≠ 0) → wX_period_40 post (nI k) f0b f1b f2b f3b f4b f5b a1b a2b a3b a4b a5b a6b a7b a8b a9b a10b a11b a12b a13b (f + 1) (nI s) (nI (ct_it ((ct_all R n).getD k 0) w s)) := by
    intro f
    induction f with
    | zero =>
      intro s hs1 hs hj
      have hp := H' s hs1 (by omega) hj (fun c => absurd c (by omega))
      exact br_c (fun _ => hp) (fun _ => br_t (nI_le (a := 5) (by omega) (by omega)) hp)
    | succ f ih =>
      intro s hs1 hs hj
      have hq := hit s
      refine pk_eq (ct_it ((ct_all R n).getD k 0) w s) 0 (fun z => H' s hs1 (by omega) hj (fun _ => z)) (fun z => ?_)
      refine pk_le 5 s (fun c => absurd c (by omega)) (fun _ => wk_word hP h1 h5 hk hq (fun x hx => ?_))
      rw [nI_1] at hx
      subst hx
      refine ih (s + 1) (by omega) (by omega) (fun j j1 j2 => ?_)
      by_cases e : j = s
      · subst e; exact z
      · exact hj j j1 (by omega)
  exact ⟨_, key 4 1 (by omega) (by omega) (fun j j1 j2 => by omega)⟩
end
section
/-! the tables of the free case, by computing -/
def ct_L1 : List Nat := [0]
def ct_L2 : List Nat := [2572857208995840, 162130205060628480, 164662861375733760]
def ct_L3 : List Nat := [2612449593262080, 2855451041464320, 2895023796387840, 162130843014266880, 164945455208202240, 166914818089943040, 167196773968773120, 180214973690019840, 180215592014315520, 182747630005125120, 183030204208250880, 184999567089991680, 185281522968821760]
def ct_L4 : List Nat := [2612449751408640, 2616864822374400, 2616864973332480, 2855460709969920, 2856000837980160, 2856010499297280, 2895573592903680, 2899439025500160, 2899988814827520, 2930210320527360, 2930760109854720, 2934615881134080, 2935165670461440, 162130852682772480, 162130912009297920, 162130921670615040, 164945464876707840, 164946005004718080, 164946014666035200, 166914827758448640, 166914887084974080, 166914896746291200, 167196783637278720, 167198010926469120, 167198020587786240, 167478249355223040, 167478259016540160, 167479417317888000, 167479426979205120, 180214973848166400, 180215661009346560, 180216141810831360, 180216210647715840, 180250160214159360, 180250160365117440, 180250778538455040, 180250847526297600, 180251328327782400, 180251397164666880, 182747630163271680, 182782816529264640, 182782816680222720, 183030754004766720, 183065390732390400, 183065940521717760, 183311679594700800, 183312229233070080, 183346866111651840, 183347415750021120, 184999636085022720, 185034753614131200, 185034822601973760, 185282759926517760, 185316709492961280, 185317946443468800, 185562998355271680, 185564166317936640, 185598184872222720, 185599352834887680, 187251366961152000, 187251435798036480, 187286553478103040, 187286622314987520, 187533322839982080, 187534010001162240, 187568509356933120, 187569196518113280, 187814798068285440, 187815416392581120, 187849984585236480, 187850602909532160]
theorem ct_gen1 : ct_gen [] 1 80 1 ct_z 0 0 = ct_L1 := by decide +kernel
theorem ct_gen2 : ct_gen [] 2 80 1 ct_z 0 0 = ct_L2 := by decide +kernel
theorem ct_gen3 : ct_gen [] 3 80 1 ct_z 0 0 = ct_L3 := by decide +kernel
theorem ct_gen4 : ct_gen [] 4 80 1 ct_z 0 0 = ct_L4 := by decide +kernel
end
section
/-! facts of the tables of the free case -/
def ct_L (n : Nat) : List Nat := if n = 1 then ct_L1 else if n = 2 then ct_L2 else if n = 3 then ct_L3 else ct_L4
theorem ct_n4 {P : Nat → Prop} (h1 : P 1) (h2 : P 2) (h3 : P 3) (h4 : P 4) {n : Nat} (a : 1 ≤ n) (b : n ≤ 4) : P n := by
  rcases Nat.lt_or_ge n 2 with c | c
  · have : n = 1 := by omega
    subst this; exact h1
  · rcases Nat.lt_or_ge n 3 with d | d
    · have : n = 2 := by omega
      subst this; exact h2
    · rcases Nat.lt_or_ge n 4 with e | e
      · have : n = 3 := by omega
        subst this; exact h3
      · have : n = 4 := by omega
        subst this; exact h4
theorem ct_gen_L {n : Nat} (h1 : 1 ≤ n) (h4 : n ≤ 4) : ct_gen [] n 80 1 ct_z 0 0 = ct_L n :=
  ct_n4 (P := fun n => ct_gen [] n 80 1 ct_z 0 0 = ct_L n) ct_gen1 ct_gen2 ct_gen3 ct_gen4 h1 h4
theorem ct_L_len {n : Nat} (h1 : 1 ≤ n) (h4 : n ≤ 4) : (ct_L n).length ≤ 71 :=
  ct_n4 (P := fun n => (ct_L n).length ≤ 71) (by decide) (by decide) (by decide) (by decide) h1 h4
theorem ct_all_L {R : List (List Nat)} (hR : ct_WR R) {n : Nat} (h1 : 1 ≤ n) (h4 : n ≤ 4) : ct_all R n = (ct_L n).filter (ct_ok R n) := by
  rw [ct_all_f hR h1 (by omega), ct_gen_L h1 h4, List.take_of_length_le]
  have := List.length_filter_le (ct_ok R n) (ct_L n)
  have := ct_L_len h1 h4
  omega
def ct_mtS (m x : Nat) : Nat := if x = m then m + 1 else m
/-- how many points are met ahead of cell q -/
def ct_mt (t : Nat) : Nat → Nat
  | 0 => 1
  | q + 1 => ct_mtS (ct_mt t q) (ct_im t (q / 4) (q % 4))
def ct_c1 (n t : Nat) : Bool := (List.range n).all (fun p => (List.range 4).all (fun l => decide (ct_im t p l < n) && ct_im t (ct_im t p l) (ct_iv l) == p))
def ct_c2 (n t : Nat) : Bool := (List.range (4 * n)).all (fun q => decide (ct_im t (q / 4) (q % 4) ≤ ct_mt t q)) && ct_mt t (4 * n) == n
def ct_lx (a b : Nat) : Nat → Nat → Bool
  | 0, _ => false
  | k + 1, z => if ct_im a (z / 4) (z % 4) = ct_im b (z / 4) (z % 4) then ct_lx a b k (z + 1) else decide (ct_im a (z / 4) (z % 4) < ct_im b (z / 4) (z % 4))
theorem ct_C1 {n : Nat} (h1 : 1 ≤ n) (h4 : n ≤ 4) : (ct_L n).all (ct_c1 n) = true :=
  ct_n4 (P := fun n => (ct_L n).all (ct_c1 n) = true) (by decide +kernel) (by decide +kernel) (by decide +kernel) (by decide +kernel) h1 h4
theorem ct_C2 {n : Nat} (h1 : 1 ≤ n) (h4 : n ≤ 4) : (ct_L n).all (ct_c2 n) = true :=
  ct_n4 (P := fun n => (ct_L n).all (ct_c2 n) = true) (by decide +kernel) (by decide +kernel) (by decide +kernel) (by decide +kernel) h1 h4
theorem ct_C3 {n : Nat} (h1 : 1 ≤ n) (h4 : n ≤ 4) : (ct_L n).Pairwise (fun a b => ct_lx a b (4 * n) 0 = true) :=
  ct_n4 (P := fun n => (ct_L n).Pairwise (fun a b => ct_lx a b (4 * n) 0 = true)) (by decide +kernel) (by decide +kernel) (by decide +kernel) (by decide +kernel) h1 h4
/-! another first point -/
def ct_oX (t : Nat) (o : List Nat) (q : Nat) : Nat := ct_im t (o.getD (q / 4) 0) (q % 4)
def ct_oS (o : List Nat) (x : Nat) : List Nat := if o.contains x = true then o else o ++ [x]
def ct_ord (t p : Nat) : Nat → List Nat
  | 0 => [p]
  | q + 1 => ct_oS (ct_ord t p q) (ct_oX t (ct_ord t p q) q)
def ct_oth (t p q : Nat) : Nat := (ct_ord t p (q + 1)).idxOf (ct_oX t (ct_ord t p q) q)
def ct_rr (n t p : Nat) : Nat := ct_pkD (ct_oth t p) n 20
def ct_d1 (n t : Nat) : Bool := (List.range n).all (fun p => (List.range (4 * n)).all (fun q => decide (q / 4 < (ct_ord t p q).length ∧ (ct_ord t p (q + 1)).length ≤ n)))
def ct_O (n t p q : Nat) : Nat := (ct_ord t p (4 * n)).getD q 0
def ct_d2 (n t : Nat) : Bool := (List.range n).all (fun p => (ct_L n).contains (ct_rr n t p) && ct_O n t p 0 == p && (List.range n).all (fun q => decide (ct_O n t p q < n) &&
  (List.range n).all (fun q' => decide (ct_O n t p q = ct_O n t p q' → q = q')) && (List.range 4).all (fun l => ct_im t (ct_O n t p q) l == ct_O n t p (ct_im (ct_rr n t p) q l))))
def ct_mn (n t : Nat) : Nat := (List.range n).foldl (fun m p => min m (ct_rr n t p)) t
def ct_first (n t : Nat) : Bool := (List.range n).all (fun p => decide (t ≤ ct_rr n t p))
def ct_same (n t : Nat) : Bool := (List.range n).all (fun p => decide (ct_rr n t p = t))
def ct_d3 (n t : Nat) : Bool := (List.range n).any (fun p => ct_rr n t p == ct_mn n t) && ct_first n (ct_mn n t) && decide ((ct_L n).countP (fun a => ct_mn n a == t) ≤ n)
theorem ct_D1 {n : Nat} (h1 : 1 ≤ n) (h4 : n ≤ 4) : (ct_L n).all (ct_d1 n) = true :=
  ct_n4 (P := fun n => (ct_L n).all (ct_d1 n) = true) (by decide +kernel) (by decide +kernel) (by decide +kernel) (by decide +kernel) h1 h4
theorem ct_D2 {n : Nat} (h1 : 1 ≤ n) (h4 : n ≤ 4) : (ct_L n).all (ct_d2 n) = true :=
  ct_n4 (P := fun n => (ct_L n).all (ct_d2 n) = true) (by decide +kernel) (by decide +kernel) (by decide +kernel) (by decide +kernel) h1 h4
theorem ct_D3 {n : Nat} (h1 : 1 ≤ n) (h4 : n ≤ 4) : (ct_L n).all (ct_d3 n) = true :=
  ct_n4 (P := fun n => (ct_L n).all (ct_d3 n) = true) (by decide +kernel) (by decide +kernel) (by decide +kernel) (by decide +kernel) h1 h4
end
section
/-! the law's mathematics -/
theorem ct_mem_L {R : List (List Nat)} (hR : ct_WR R) {n t : Nat} (h1 : 1 ≤ n) (h4 : n ≤ 4) : t ∈ ct_all R n ↔ t ∈ ct_L n ∧ ct_ok R n t = true := by
  rw [ct_all_L hR h1 h4, List.mem_filter]
theorem ct_all_nil {n : Nat} (h1 : 1 ≤ n) (h4 : n ≤ 4) : ct_all [] n = ct_L n := by
  rw [ct_all_L (fun w hw => absurd hw (by simp)) h1 h4, List.filter_eq_self]
  intro t _
  rfl
theorem ct_F1 {n t : Nat} (h1 : 1 ≤ n) (h4 : n ≤ 4) (ht : t ∈ ct_L n) {p l : Nat} (hp : p < n) (hl : l < 4) : ct_im t p l < n ∧ ct_im t (ct_im t p l) (ct_iv l) = p := by
  have h := List.all_eq_true.mp (ct_C1 h1 h4) t ht
  unfold ct_c1 at h
  simp only [List.all_eq_true, List.mem_range, Bool.and_eq_true, decide_eq_true_eq, beq_iff_eq] at h
  exact h p hp l hl
theorem ct_F2 {n t : Nat} (h1 : 1 ≤ n) (h4 : n ≤ 4) (ht : t ∈ ct_L n) : (∀ q, q < 4 * n → ct_im t (q / 4) (q % 4) ≤ ct_mt t q) ∧ ct_mt t (4 * n) = n := by
  have h := List.all_eq_true.mp (ct_C2 h1 h4) t ht
  unfold ct_c2 at h
  simp only [List.all_eq_true, List.mem_range, Bool.and_eq_true, decide_eq_true_eq, beq_iff_eq] at h
  exact h
theorem ct_lx_s {a b : Nat} : ∀ (k z : Nat), ct_lx a b k z = true → ∃ y, z ≤ y ∧ y < z + k ∧ (∀ x, z ≤ x → x < y → ct_im a (x / 4) (x % 4) = ct_im b (x / 4) (x % 4)) ∧ ct_im a (y / 4) (y % 4) < ct_im b (y / 4) (y % 4) := by
  intro k
  induction k with
  | zero => intro z h; exact absurd h (by simp [ct_lx])
  | succ k ih =>
    intro z h
    unfold ct_lx at h
    split at h
    · rename_i e
      obtain ⟨y, y1, y2, y3, y4⟩ := ih (z + 1) h
      refine ⟨y, by omega, by omega, fun x x1 x2 => ?_, y4⟩
      by_cases g : x = z
      · rw [g]; exact e
      · exact y3 x (by omega) x2
    · exact ⟨z, by omega, by omega, fun x x1 x2 => by omega, by simpa using h⟩
theorem ct_F3 {R : List (List Nat)} (hR : ct_WR R) {n i : Nat} (h1 : 1 ≤ n) (h4 : n ≤ 4) (hi : i + 1 < (ct_all R n).length) : ∃ y, y < 4 * n ∧ (∀ x, x < y → ct_im ((ct_all R n).getD i 0) (x / 4) (x % 4) = ct_im ((ct_all R n).getD (i + 1) 0) (x / 4) (x % 4)) ∧ ct_im ((ct_all R n).getD i 0) (y / 4) (y % 4) < ct_im ((ct_all R n).getD (i + 1) 0) (y / 4) (y % 4) := by
  have hp : (ct_all R n).Pairwise (fun a b => ct_lx a b (4 * n) 0 = true) := by
    rw [ct_all_L hR h1 h4]
    exact (ct_C3 h1 h4).filter _
  have h := List.pairwise_iff_getElem.mp hp i (i + 1) (by omega) hi (by omega)
  obtain ⟨y, y1, y2, y3, y4⟩ := ct_lx_s _ _ h
  have e1 : (ct_all R n).getD i 0 = (ct_all R n)[i] := by
    rw [List.getD_eq_getElem?_getD, List.getElem?_eq_getElem (by omega)]; rfl
  have e2 : (ct_all R n).getD (i + 1) 0 = (ct_all R n)[i + 1] := by
    rw [List.getD_eq_getElem?_getD, List.getElem?_eq_getElem (by omega)]; rfl
  rw [e1, e2]
  exact ⟨y, by omega, fun x hx => y3 x (by omega) hx, y4⟩
theorem ct_F4 {n t : Nat} (h1 : 1 ≤ n) (h4 : n ≤ 4) (ht : t ∈ ct_L n) {p q : Nat} (hp : p < n) (hq : q < 4 * n) : q / 4 < (ct_ord t p q).length ∧ (ct_ord t p (q + 1)).length ≤ n := by
  have h := List.all_eq_true.mp (ct_D1 h1 h4) t ht
  unfold ct_d1 at h
  simp only [List.all_eq_true, List.mem_range, decide_eq_true_eq] at h
  exact h p hp q hq
theorem ct_F5 {n t : Nat} (h1 : 1 ≤ n) (h4 : n ≤ 4) (ht : t ∈ ct_L n) {p : Nat} (hp : p < n) : ct_rr n t p ∈ ct_L n ∧ ct_O n t p 0 = p ∧ ∀ q, q < n → ct_O n t p q < n ∧ (∀ q', q' < n → ct_O n t p q = ct_O n t p q' → q = q') ∧ ∀ l, l < 4 → ct_im t (ct_O n t p q) l = ct_O n t p (ct_im (ct_rr n t p) q l) := by
  have h := List.all_eq_true.mp (ct_D2 h1 h4) t ht
  unfold ct_d2 at h
  simp only [List.all_eq_true, List.mem_range, Bool.and_eq_true, decide_eq_true_eq, beq_iff_eq, List.contains_iff_mem] at h
  have h := h p hp
  exact ⟨h.1.1, h.1.2, fun q hq => ⟨(h.2 q hq).1.1, (h.2 q hq).1.2, (h.2 q hq).2⟩⟩
theorem ct_F6 {n t : Nat} (h1 : 1 ≤ n) (h4 : n ≤ 4) (ht : t ∈ ct_L n) : (∃ p, p < n ∧ ct_rr n t p = ct_mn n t) ∧ ct_first n (ct_mn n t) = true ∧ (ct_L n).countP (fun a => ct_mn n a == t) ≤ n := by
  have h := List.all_eq_true.mp (ct_D3 h1 h4) t ht
  unfold ct_d3 at h
  simp only [List.any_eq_true, List.mem_range, Bool.and_eq_true, decide_eq_true_eq, beq_iff_eq] at h
  exact ⟨h.1.1, h.1.2, h.2⟩
theorem ct_run_O {n t : Nat} (h1 : 1 ≤ n) (h4 : n ≤ 4) (ht : t ∈ ct_L n) {p : Nat} (hp : p < n) : ∀ (w : List Nat), ct_W w → ∀ q, q < n → ct_run t w (ct_O n t p q) = ct_O n t p (ct_run (ct_rr n t p) w q) := by
  have F := ct_F5 h1 h4 ht hp
  intro w
  induction w with
  | nil => intro _ q _; rfl
  | cons l w ih =>
    intro hw q hq
    have hl : l < 4 := hw l (List.mem_cons_self ..)
    show ct_run t w (ct_im t (ct_O n t p q) l) = ct_O n t p (ct_run (ct_rr n t p) w (ct_im (ct_rr n t p) q l))
    rw [(F.2.2 q hq).2.2 l hl]
    exact ih (fun x hx => hw x (List.mem_cons_of_mem _ hx)) _ (ct_F1 h1 h4 F.1 hq hl).1
theorem ct_F1r {n t : Nat} (h1 : 1 ≤ n) (h4 : n ≤ 4) (ht : t ∈ ct_L n) : ∀ p l, p < n → l < 4 → ct_im t p l < n :=
  fun _ _ hp hl => (ct_F1 h1 h4 ht hp hl).1
theorem ct_ok_rr {R : List (List Nat)} (hR : ct_WR R) {n t : Nat} (h1 : 1 ≤ n) (h4 : n ≤ 4) (ht : t ∈ ct_L n) {p : Nat} (hp : p < n) (hk : ct_ok R n t = true) : ct_ok R n (ct_rr n t p) = true := by
  have F := ct_F5 h1 h4 ht hp
  rw [ct_ok_iff] at hk ⊢
  intro w hw q hq
  have e := ct_run_O h1 h4 ht hp w (hR w hw) q hq
  rw [hk w hw _ (F.2.2 q hq).1] at e
  exact ((F.2.2 q hq).2.1 _ (ct_run_lt (ct_F1r h1 h4 F.1) w (hR w hw) q hq) e).symm
theorem ct_cntB : ∀ (B A : List Nat) (m : Nat → Nat) (n : Nat), (∀ t, t ∈ A → m t ∈ B) → (∀ s, s ∈ B → A.countP (fun a => m a == s) ≤ n) → A.length ≤ n * B.length := by
  intro B
  induction B with
  | nil =>
    intro A m n h _
    cases A with
    | nil => simp
    | cons a A => exact absurd (h a (List.mem_cons_self ..)) (by simp)
  | cons s B ih =>
    intro A m n h h2
    have e := List.length_eq_countP_add_countP (p := fun a => m a == s) (l := A)
    have e2 : A.countP (fun a => decide ¬(m a == s) = true) = (A.filter (fun a => decide ¬(m a == s) = true)).length := List.countP_eq_length_filter
    have h3 := ih (A.filter (fun a => decide ¬(m a == s) = true)) m n (fun t ht => by
      rw [List.mem_filter] at ht
      have := h t ht.1
      rcases List.mem_cons.mp this with g | g
      · exact absurd ht.2 (by simp [g])
      · exact g) (fun s' hs' => Nat.le_trans (List.filter_sublist.countP_le) (h2 s' (List.mem_cons_of_mem _ hs')))
    have h4 := h2 s (List.mem_cons_self ..)
    rw [List.length_cons, Nat.mul_add, Nat.mul_one]
    omega
theorem ct_kinds_le {R : List (List Nat)} (hR : ct_WR R) {n : Nat} (h1 : 1 ≤ n) (h4 : n ≤ 4) : (ct_all R n).length ≤ n * (ct_all R n).countP (ct_first n) := by
  rw [List.countP_eq_length_filter]
  refine ct_cntB _ _ (ct_mn n) n (fun t ht => ?_) (fun s hs => ?_)
  · obtain ⟨ht1, ht2⟩ := (ct_mem_L hR h1 h4).mp ht
    obtain ⟨⟨p, hp, e⟩, f2, f3⟩ := ct_F6 h1 h4 ht1
    rw [List.mem_filter]
    refine ⟨(ct_mem_L hR h1 h4).mpr ⟨?_, ?_⟩, f2⟩
    · rw [← e]; exact (ct_F5 h1 h4 ht1 hp).1
    · rw [← e]; exact ct_ok_rr hR h1 h4 ht1 hp ht2
  · rw [List.mem_filter] at hs
    obtain ⟨hs1, _⟩ := (ct_mem_L hR h1 h4).mp hs.1
    have h := (ct_F6 h1 h4 hs1).2.2
    rw [ct_all_L hR h1 h4]
    exact Nat.le_trans (List.filter_sublist.countP_le) h
theorem ct_even_le (R : List (List Nat)) (n : Nat) : (ct_all R n).countP (ct_same n) ≤ (ct_all R n).countP (ct_first n) := by
  refine List.countP_mono_left (fun t _ h => ?_)
  unfold ct_same at h
  unfold ct_first
  simp only [List.all_eq_true, List.mem_range, decide_eq_true_eq] at h ⊢
  intro p hp
  rw [h p hp]
  exact Nat.le_refl t
theorem ct_all_le {R : List (List Nat)} (hR : ct_WR R) {n : Nat} (h1 : 1 ≤ n) (h4 : n ≤ 4) : (ct_all R n).length ≤ (ct_all [] n).length := by
  rw [ct_all_nil h1 h4, ct_all_L hR h1 h4]
  exact List.length_filter_le _ _
theorem ct_tab_le {w : List Nat} (hw : ct_W w) {n : Nat} (h1 : 1 ≤ n) (h4 : n ≤ 4) : (ct_all [w] n).length ≤ (ct_all [] n).countP (ct_fx w) := by
  have hR : ct_WR [w] := fun v hv => by
    rw [List.mem_singleton] at hv
    rw [hv]; exact hw
  rw [ct_all_nil h1 h4, ct_all_L hR h1 h4, ← List.countP_eq_length_filter]
  refine List.countP_mono_left (fun t _ h => ?_)
  unfold ct_fx
  rw [ct_ok_iff] at h
  rw [h w (by simp) 0 h1]
  rfl
theorem ct_still_all {w : List Nat} (hw : ct_W w) {n : Nat} (h1 : 1 ≤ n) (h4 : n ≤ 4) (hs : ct_still w [] n) : ct_all [w] n = ct_all [] n := by
  have hR : ct_WR [w] := fun v hv => by
    rw [List.mem_singleton] at hv
    rw [hv]; exact hw
  unfold ct_still at hs
  rw [ct_all_nil h1 h4] at hs ⊢
  rw [ct_all_L hR h1 h4, List.filter_eq_self]
  intro t ht
  rw [ct_ok_iff]
  intro v hv p hp
  rw [List.mem_singleton] at hv
  subst hv
  have F := ct_F5 h1 h4 ht hp
  have e := ct_run_O h1 h4 ht hp v hw 0 h1
  rw [hs _ F.1, F.2.1] at e
  exact e
theorem ct_still_own {w : List Nat} {R : List (List Nat)} (hR : ct_WR R) (hw : w ∈ R) {n : Nat} (h1 : 1 ≤ n) (h5 : n ≤ 5) : ct_still w R n := by
  intro t ht
  have := (ct_all_mem hR h1 h5 ht).2.2
  rw [ct_ok_iff] at this
  exact this w hw 0 h1
theorem ct_run_inj {n t : Nat} (h1 : 1 ≤ n) (h4 : n ≤ 4) (ht : t ∈ ct_L n) : ∀ (w : List Nat), ct_W w → ∀ p q, p < n → q < n → ct_run t w p = ct_run t w q → p = q := by
  intro w
  induction w with
  | nil => intro _ p q _ _ h; exact h
  | cons l w ih =>
    intro hw p q hp hq h
    have hl : l < 4 := hw l (List.mem_cons_self ..)
    have F := ct_F1 h1 h4 ht hp hl
    have G := ct_F1 h1 h4 ht hq hl
    have e := ih (fun x hx => hw x (List.mem_cons_of_mem _ hx)) _ _ F.1 G.1 h
    rw [← F.2, ← G.2, e]
theorem ct_orbit {n t : Nat} (h1 : 1 ≤ n) (h4 : n ≤ 4) (ht : t ∈ ct_L n) {w : List Nat} (hw : ct_W w) : ∃ s, 1 ≤ s ∧ s ≤ 4 ∧ ct_it t w s = 0 ∧ ∀ j, 1 ≤ j → j < s → ct_it t w j ≠ 0 := by
  have hlt := ct_it_lt (ct_F1r h1 h4 ht) hw h1
  have inj : ∀ a b, ct_it t w (a + 1) = ct_it t w (b + 1) → ct_it t w a = ct_it t w b :=
    fun a b h => ct_run_inj h1 h4 ht w hw _ _ (hlt a) (hlt b) h
  have z : ct_it t w 0 = 0 := rfl
  have i01 := inj 0 1
  have i02 := inj 0 2
  have i03 := inj 0 3
  have i12 := inj 1 2
  have i13 := inj 1 3
  have i23 := inj 2 3
  have l1 := hlt 1
  have l2 := hlt 2
  have l3 := hlt 3
  have l4 := hlt 4
  by_cases c1 : ct_it t w 1 = 0
  · exact ⟨1, by omega, by omega, c1, fun j j1 j2 => by omega⟩
  · by_cases c2 : ct_it t w 2 = 0
    · refine ⟨2, by omega, by omega, c2, fun j j1 j2 => ?_⟩
      have : j = 1 := by omega
      rw [this]; exact c1
    · by_cases c3 : ct_it t w 3 = 0
      · refine ⟨3, by omega, by omega, c3, fun j j1 j2 => ?_⟩
        rcases Nat.lt_or_ge j 2 with g | g
        · have : j = 1 := by omega
          rw [this]; exact c1
        · have : j = 2 := by omega
          rw [this]; exact c2
      · have c4 : ct_it t w 4 = 0 := by
          generalize ct_it t w 1 = x1 at *
          generalize ct_it t w 2 = x2 at *
          generalize ct_it t w 3 = x3 at *
          generalize ct_it t w 4 = x4 at *
          omega
        refine ⟨4, by omega, by omega, c4, fun j j1 j2 => ?_⟩
        rcases Nat.lt_or_ge j 2 with g | g
        · have : j = 1 := by omega
          rw [this]; exact c1
        · rcases Nat.lt_or_ge j 3 with g | g
          · have : j = 2 := by omega
            rw [this]; exact c2
          · have : j = 3 := by omega
            rw [this]; exact c3
end
section
/-! another first point: numberFrom, compareFrom, kinds, even -/
theorem ct_ord_lt {t n p : Nat} (h : ∀ p l, p < n → l < 4 → ct_im t p l < n) (hp : p < n) : ∀ q, ∀ x, x ∈ ct_ord t p q → x < n := by
  intro q
  induction q with
  | zero =>
    intro x hx
    have : x = p := by simpa [ct_ord] using hx
    omega
  | succ q ih =>
    intro x hx
    unfold ct_ord ct_oS at hx
    split at hx
    · exact ih x hx
    · rcases List.mem_append.mp hx with g | g
      · exact ih x g
      · rw [List.mem_singleton] at g
        rw [g]
        unfold ct_oX
        refine h _ _ ?_ (by omega)
        by_cases e : q / 4 < (ct_ord t p q).length
        · exact ih _ (nb_getD_mem e)
        · rw [List.getD_eq_getElem?_getD, List.getElem?_eq_none (by omega)]
          show 0 < n
          omega
theorem ct_oX_lt {t n p q : Nat} (h : ∀ p l, p < n → l < 4 → ct_im t p l < n) (hp : p < n) (hq : q / 4 < (ct_ord t p q).length) : ct_oX t (ct_ord t p q) q < n := by
  unfold ct_oX
  exact h _ _ (ct_ord_lt h hp q _ (nb_getD_mem hq)) (by omega)
theorem ct_P_s {f0 f1 f2 f3 f4 f5 : Int32} {a1 a2 a3 a4 a5 a6 a7 : Nat → Int32} {a8 : Nat → Int64} {a9 a10 a11 a12 a13 : Nat → Int32} {g2 : Int32} {b9 b10 b11 : Nat → Int32} {w : List Nat} {R : List (List Nat)} {m : Nat} (h : ct_P w R m (f0, f1, f2, f3, f4, f5, a1, a2, a3, a4, a5, a6, a7, a8, a9, a10, a11, a12, a13)) : ct_P w R m (f0, f1, g2, f3, f4, f5, a1, a2, a3, a4, a5, a6, a7, a8, b9, b10, b11, a12, a13) := by
  obtain ⟨p1, p2, p3, p4, p5⟩ := h
  exact ⟨p1, p2, p3, p4, p5⟩
/-- order and place hold the list o -/
def nu_I (n : Nat) (o : List Nat) (b10 b11 : Nat → Int32) : Prop := (∀ j, j < o.length → b10 j = nI (o.getD j 0)) ∧ ∀ x, x < n → b11 x = if x ∈ o then nI (o.idxOf x) else -1
theorem nu_add {n x : Nat} {o : List Nat} {b10 b11 : Nat → Int32} (h : nu_I n o b10 b11) (hx : x ∉ o) : nu_I n (o ++ [x]) (upd b10 o.length (nI x)) (upd b11 x (nI o.length)) := by
  refine ⟨fun j hj => ?_, fun y hy => ?_⟩
  · have hj : j < o.length + 1 := by rw [List.length_append] at hj; exact hj
    by_cases e : j = o.length
    · subst e; rw [pk_us, nb_getD_app2]
    · rw [pk_un e, nb_getD_app1 (by omega)]; exact h.1 j (by omega)
  · by_cases e : y = x
    · subst e
      rw [pk_us, if_pos (by simp), List.idxOf_append, if_neg hx]
      simp
    · rw [pk_un e, h.2 y hy]
      by_cases g : y ∈ o
      · rw [if_pos g, if_pos (List.mem_append_left _ g), List.idxOf_append, if_pos g]
      · rw [if_neg g, if_neg]
        intro c
        rcases List.mem_append.mp c with c | c
        · exact g c
        · rw [List.mem_singleton] at c
          exact e c
theorem wk_num44 {f0 f1 f2 f3 f4 f5 : Int32} {a1 a2 a3 a4 a5 a6 a7 : Nat → Int32} {a8 : Nat → Int64} {a9 a10 a11 a12 a13 : Nat → Int32} {post : St2 → Prop} {w : List Nat} {R : List (List Nat)} {n k p t : Nat} (h : ct_P w R n (f0, f1, f2, f3, f4, f5, a1, a2, a3, a4, a5, a6, a7, a8, a9, a10, a11, a12, a13)) (h1 : 1 ≤ n) (h4 : n ≤ 4) (hk : k < (ct_all R n).length) (ht : (ct_all R n).getD k 0 = t) (hp : p < n) (hI : nu_I n [p] a10 a11)
    (H : ∀ b9 b10 b11, (∀ j, j < 4 * n → b9 j = nI (ct_oth t p j) ∧ ct_oth t p j < 8) → post (f0, f1, f2, f3, f4, f5, a1, a2, a3, a4, a5, a6, a7, a8, b9, b10, b11, a12, a13)) : ∃ N, wX_numberFrom_44 post (nI k) (nI n) f0 f1 f2 f3 f4 f5 N 1 0 a1 a2 a3 a4 a5 a6 a7 a8 a9 a10 a11 a12 a13 := by
  have hm := ct_all_mem (ct_P_WR h) h1 (by omega) (nb_getD_mem hk (d := 0))
  have hL := ((ct_mem_L (ct_P_WR h) h1 h4).mp (nb_getD_mem hk (d := 0))).1
  rw [ht] at hm hL
  have F := fun q hq => @ct_F4 n t h1 h4 hL p q hp hq
  refine pk_loop (σ := (Nat → Int32) × (Nat → Int32) × (Nat → Int32)) (fun N q s => wX_numberFrom_44 post (nI k) (nI n) f0 f1 f2 f3 f4 f5 N (nI (ct_ord t p q).length) (nI q) a1 a2 a3 a4 a5 a6 a7 a8 (s.1) (s.2.1) (s.2.2) a12 a13)
    (fun q s => nu_I n (ct_ord t p q) s.2.1 s.2.2 ∧ ∀ j, j < q → s.1 j = nI (ct_oth t p j) ∧ ct_oth t p j < 8) (4 * n) 0 (a9, a10, a11) (by omega) ⟨hI, fun j hj => absurd hj (by omega)⟩ ?_ ?_
  · intro N s hs
    exact pk_le (4 * n) (4 * n) (fun _ => H _ _ _ hs.2) (fun z => absurd z (by omega)) (hx := nb_4 n)
  · intro N q s hq hs hw
    obtain ⟨s9, s10, s11⟩ := s
    obtain ⟨⟨i1, i2⟩, i3⟩ := hs
    dsimp only at i1 i2 i3
    obtain ⟨f1', f2'⟩ := F q hq
    have hx := ct_oX_lt hm.2.1 hp f1'
    have hmem : ∀ x, x ∈ ct_ord t p (q + 1) → (ct_ord t p (q + 1)).idxOf x < 8 := fun x hx => by
      have := List.idxOf_lt_length_of_mem hx
      omega
    refine pk_le (4 * n) q (fun z => absurd z (by omega)) (fun _ => ?_) (hx := nb_4 n)
    dsimp only
    rw [nb_sh2 (by omega), nI_clamp (show q / 4 < 2 ^ 31 by omega), i1 _ f1', nb_and3 (by omega)]
    refine ⟨vp_in_nI (by omega) (by omega), wk_imageIn (w := w) (R := R) (n := n) (ct_P_s h) h1 (by omega) hk (ct_ord_lt hm.2.1 hp q _ (nb_getD_mem f1')) (by omega) ?_⟩
    rw [ht]
    show vp_in (nI (ct_oX t (ct_ord t p q) q)) 5 ∧ _
    have e0 : ct_im t ((ct_ord t p q).getD (q / 4) 0) (q % 4) = ct_oX t (ct_ord t p q) q := rfl
    rw [e0, nI_clamp (show ct_oX t (ct_ord t p q) q < 2 ^ 31 by omega), i2 _ hx]
    refine ⟨vp_in_nI (by omega) (by omega), ?_⟩
    by_cases g : ct_oX t (ct_ord t p q) q ∈ ct_ord t p q
    · have eo : ct_ord t p (q + 1) = ct_ord t p q := by
        show ct_oS _ _ = _
        unfold ct_oS
        rw [if_pos (List.contains_iff_mem.mpr g)]
      have hid : (ct_ord t p q).idxOf (ct_oX t (ct_ord t p q) q) < 8 := by
        have := hmem (ct_oX t (ct_ord t p q) q) (by rw [eo]; exact g)
        rw [eo] at this
        exact this
      have eth : ct_oth t p q = (ct_ord t p q).idxOf (ct_oX t (ct_ord t p q) q) := by
        unfold ct_oth
        rw [eo]
      rw [if_pos g]
      refine br_t (nI_pos' (by omega)) ⟨vp_in_nI (by omega) (by omega), vp_in_nI (by omega) (by omega), fun b hb y hy => ?_⟩
      rw [nI_clamp (show q < 2 ^ 31 by omega), nI_clamp (show ct_oX t (ct_ord t p q) q < 2 ^ 31 by omega), i2 _ hx, if_pos g, nb_byte (by omega), ← eth] at hb
      rw [nI_1] at hy
      subst hb hy
      have := hw (upd s9 q (nI (ct_oth t p q)), s10, s11) ⟨by rw [eo]; exact ⟨i1, i2⟩, lt_s (fun j hj => ?_) ?_⟩
      · rw [eo] at this
        exact this
      · dsimp only
        rw [pk_un (by omega)]
        exact i3 j hj
      · dsimp only
        rw [pk_us, eth]
        exact ⟨rfl, hid⟩
    · have eo : ct_ord t p (q + 1) = ct_ord t p q ++ [ct_oX t (ct_ord t p q) q] := by
        show ct_oS _ _ = _
        unfold ct_oS
        rw [if_neg (fun c => g (List.contains_iff_mem.mp c))]
      have hlen : (ct_ord t p (q + 1)).length = (ct_ord t p q).length + 1 := by
        rw [eo, List.length_append]; rfl
      have eth : ct_oth t p q = (ct_ord t p q).length := by
        unfold ct_oth
        rw [eo, List.idxOf_append, if_neg g]
        simp
      rw [if_neg g]
      refine br_f (by decide) ⟨vp_in_nI (by omega) (by omega), fun c hc => ⟨vp_in_nI (by omega) (by omega), fun d hd v hv => ?_⟩⟩
      rw [nb_i8 _ (by omega)] at hc hd
      rw [nI_clamp (by omega)] at hd
      rw [nI_1] at hv
      subst hc hd hv
      refine ⟨vp_in_nI (by omega) (by omega), vp_in_nI (by omega) (by omega), fun b hb y hy => ?_⟩
      rw [nI_clamp (show q < 2 ^ 31 by omega), nI_clamp (show ct_oX t (ct_ord t p q) q < 2 ^ 31 by omega), pk_us, nb_byte (by omega), ← eth] at hb
      rw [nI_1] at hy
      subst hb hy
      have := hw (upd s9 q (nI (ct_oth t p q)), upd s10 (ct_ord t p q).length (nI (ct_oX t (ct_ord t p q) q)), upd s11 (ct_oX t (ct_ord t p q) q) (nI (ct_ord t p q).length)) ⟨by rw [eo]; exact nu_add ⟨i1, i2⟩ g, lt_s (fun j hj => ?_) ?_⟩
      · rw [hlen] at this
        exact this
      · dsimp only
        rw [pk_un (by omega)]
        exact i3 j hj
      · dsimp only
        rw [pk_us, eth]
        exact ⟨rfl, by omega⟩
theorem wk_number {f0 f1 f2 f3 f4 f5 : Int32} {a1 a2 a3 a4 a5 a6 a7 : Nat → Int32} {a8 : Nat → Int64} {a9 a10 a11 a12 a13 : Nat → Int32} {post : St2 → Prop} {w : List Nat} {R : List (List Nat)} {n k p t : Nat} (h : ct_P w R n (f0, f1, f2, f3, f4, f5, a1, a2, a3, a4, a5, a6, a7, a8, a9, a10, a11, a12, a13)) (h1 : 1 ≤ n) (h4 : n ≤ 4) (hk : k < (ct_all R n).length) (ht : (ct_all R n).getD k 0 = t) (hp : p < n)
    (H : ∀ b9 b10 b11, (∀ j, j < 4 * n → b9 j = nI (ct_oth t p j) ∧ ct_oth t p j < 8) → post (f0, f1, f2, f3, f4, f5, a1, a2, a3, a4, a5, a6, a7, a8, b9, b10, b11, a12, a13)) : wpX_numberFrom post (f0, f1, f2, f3, f4, f5, a1, a2, a3, a4, a5, a6, a7, a8, a9, a10, a11, a12, a13) (nI k) (nI n) (nI p) := by
  refine pk_loop (fun N i s => wX_numberFrom_3 post (nI k) (nI n) (nI p) f0 f1 f2 f3 f4 f5 N (nI i) a1 a2 a3 a4 a5 a6 a7 a8 a9 a10 s a12 a13) (fun i s => ∀ j, j < i → s j = -1) n 0 a11 (by omega) (fun j hj => absurd hj (by omega)) ?_ ?_
  · intro N s hs
    refine pk_le n n (fun _ => ?_) (fun z => absurd z (by omega))
    intro b10 h10
    refine ⟨vp_in_nI (by omega) (by omega), fun b11 h11 => ?_⟩
    rw [nb_i8 _ (by omega)] at h10
    rw [nI_clamp (by omega)] at h11
    refine wk_num44 (w := w) (R := R) (p := p) (ct_P_s h) h1 h4 hk ht hp ⟨fun j hj => ?_, fun x hx => ?_⟩ H
    · have : j = 0 := by
        have : j < 1 := hj
        omega
      subst this
      rw [h10, pk_us]
      rfl
    · rw [h11]
      by_cases e : x = p
      · subst e
        rw [pk_us, if_pos (by simp)]
        simp
        rfl
      · rw [pk_un e, hs x hx, if_neg (by simpa using e)]
  · intro N i s hi hs hw
    refine pk_le n i (fun z => absurd z (by omega)) (fun _ => ⟨vp_in_nI (by omega) (by omega), fun b hb x hx => ?_⟩)
    rw [nI_clamp (by omega)] at hb
    rw [nI_1] at hx
    subst hb hx
    refine hw _ (fun j hj => ?_)
    by_cases e : j = i
    · subst e; rw [pk_us]
    · rw [pk_un e]; exact hs j (by omega)
def ct_cmp (a t : Nat) : Int32 := if t ≤ a then (if a = t then 0 else 1) else -1
theorem wk_compare {u : St2} {post : Int32 → St2 → Prop} {w : List Nat} {R : List (List Nat)} {n k p t : Nat} (h : ct_P w R n u) (h1 : 1 ≤ n) (h4 : n ≤ 4) (hk : k < (ct_all R n).length) (ht : (ct_all R n).getD k 0 = t) (hp : p < n)
    (H : ∀ u', ct_P w R n u' → post (ct_cmp (ct_rr n t p) t) u') : wpX_compareFrom post u (nI k) (nI n) (nI p) := by
  have hm := ct_all_mem (ct_P_WR h) h1 (by omega) (nb_getD_mem hk (d := 0))
  rw [ht] at hm
  have hlen := ct_all_len R n
  obtain ⟨f0, f1, f2, f3, f4, f5, a1, a2, a3, a4, a5, a6, a7, a8, a9, a10, a11, a12, a13⟩ := u
  unfold wpX_compareFrom
  refine wk_number h h1 h4 hk ht hp (fun b9 b10 b11 hb => ?_)
  refine wk_pack (D := ct_oth t p) (P := n) (by omega) rfl (fun j hj => (hb j hj).2) (Or.inr ⟨by decide, fun j hj => (hb j hj).1⟩) ?_
  have hr : ct_rr n t p < 2 ^ 60 := Nat.lt_of_lt_of_le (ct_pkD_lt (fun j hj => (hb j hj).2) 20) (by decide)
  have e8 : a8 k = lN t := by rw [← ht]; exact (h.2.2.2.2 h1).2 k hk
  have H' := H (f0, f1, (nI n), f3, f4, f5, a1, a2, a3, a4, a5, a6, a7, a8, b9, b10, b11, a12, a13) (ct_P_s h)
  rw [nI_clamp (by omega), e8]
  unfold ct_cmp at H'
  have ez : ct_rr n t p = ct_pkD (ct_oth t p) n 20 := rfl
  rw [ez] at H' hr
  refine ⟨vp_in_nI (by omega) (by omega), ek_if (pk_lLE (by omega) (by omega)) (fun z => ⟨vp_in_nI (by omega) (by omega), ek_if (pk_lEQ (b := t) (by omega) (by omega)) (fun z2 => ?_) (fun z2 => ?_)⟩) (fun z => ?_)⟩
  · rw [if_pos z, if_pos z2] at H'; exact H'
  · rw [if_pos z, if_neg z2] at H'; exact H'
  · rw [if_neg z] at H'; exact H'

def kd_33 (post : Int32 → St2 → Prop) (N' : Nat) (x1 x2 x3 : Int32) (N : Nat) (x4 x5 : Int32) (u : St2) : Prop := match u with
  | (f0, f1, f2, f3, f4, f5, a1, a2, a3, a4, a5, a6, a7, a8, a9, a10, a11, a12, a13) => wX_kinds_33 post (wX_kinds_19 post x1 N') x1 x2 x3 N x4 x5 f0 f1 f2 f3 f4 f5 a1 a2 a3 a4 a5 a6 a7 a8 a9 a10 a11 a12 a13
def kd_19 (post : Int32 → St2 → Prop) (x1 : Int32) (N : Nat) (x2 x3 : Int32) (u : St2) : Prop := match u with
  | (f0, f1, f2, f3, f4, f5, a1, a2, a3, a4, a5, a6, a7, a8, a9, a10, a11, a12, a13) => wX_kinds_19 post x1 N x2 x3 f0 f1 f2 f3 f4 f5 a1 a2 a3 a4 a5 a6 a7 a8 a9 a10 a11 a12 a13
def kd_f (n t p : Nat) : Bool := (List.range p).all (fun j => decide (t ≤ ct_rr n t j))
theorem kd_fs (n t p : Nat) : kd_f n t (p + 1) = (kd_f n t p && decide (t ≤ ct_rr n t p)) := by
  unfold kd_f
  rw [List.range_succ, List.all_append]
  simp
theorem wk_kinds33 {post : Int32 → St2 → Prop} {w : List Nat} {R : List (List Nat)} {n k t N' : Nat} {x2 : Int32} (h1 : 1 ≤ n) (h4 : n ≤ 4) (hk : k < (ct_all R n).length) (ht : (ct_all R n).getD k 0 = t)
    (H : ∀ u', ct_P w R n u' → kd_19 post (nI n) N' (if kd_f n t n = true then x2 + 1 else x2) (nI (k + 1)) u') : ∀ f p u, p + f = n → ct_P w R n u → kd_33 post N' (nI n) x2 (nI k) (f + 1) (if kd_f n t p = true then 1 else 0) (nI p) u := by
  intro f
  induction f with
  | zero =>
    intro p u hp h
    have hp : p = n := by omega
    subst hp
    have H' := H u h
    obtain ⟨f0, f1, f2, f3, f4, f5, a1, a2, a3, a4, a5, a6, a7, a8, a9, a10, a11, a12, a13⟩ := u
    refine pk_le p p (fun _ => ?_) (fun z => absurd z (by omega))
    cases e : kd_f p t p with
    | false =>
      rw [e] at H'
      exact br_t rfl (nm_r (nI_1 k) H')
    | true =>
      rw [e] at H'
      exact br_f (by decide) (nm_e (nm_r (nI_1 k) H'))
  | succ f ih =>
    intro p u hp h
    have hP := h
    obtain ⟨f0, f1, f2, f3, f4, f5, a1, a2, a3, a4, a5, a6, a7, a8, a9, a10, a11, a12, a13⟩ := u
    refine pk_le n p (fun z => absurd z (by omega)) (fun _ => ?_)
    refine wk_compare hP h1 h4 hk ht (by omega) (fun u' h' => ?_)
    have ih' := ih (p + 1) u' (by omega) h'
    rw [kd_fs] at ih'
    obtain ⟨f0b, f1b, f2b, f3b, f4b, f5b, a1b, a2b, a3b, a4b, a5b, a6b, a7b, a8b, a9b, a10b, a11b, a12b, a13b⟩ := u'
    cases e : kd_f n t p with
    | false =>
      rw [e, Bool.false_and] at ih'
      exact br_t rfl (nm_r (nI_1 p) ih')
    | true =>
      rw [e, Bool.true_and] at ih'
      refine br_f (by decide) ?_
      unfold ct_cmp
      by_cases c : t ≤ ct_rr n t p
      · rw [if_pos c]
        rw [decide_eq_true c] at ih'
        refine br_f ?_ (nm_r (nI_1 p) ih')
        split <;> decide
      · rw [if_neg c]
        rw [decide_eq_false c] at ih'
        exact br_t (by decide) (nm_r (nI_1 p) ih')
theorem wk_kinds {post : Int32 → St2 → Prop} {u : St2} {w : List Nat} {R : List (List Nat)} {m n : Nat} (h : ct_P w R m u) (h1 : 1 ≤ n) (h4 : n ≤ 4)
    (H : ∀ u', ct_P w R n u' → post (nI ((ct_all R n).countP (ct_first n))) u') : wpX_kinds post u (nI n) := by
  have key : ∀ f k u, k + f = (ct_all R n).length → ct_P w R n u → kd_19 post (nI n) (f + 1) (nI (((ct_all R n).take k).countP (ct_first n))) (nI k) u := by
    have hlen := ct_all_len R n
    intro f
    induction f with
    | zero =>
      intro k u hk h
      have H' := H u h
      obtain ⟨f0, f1, f2, f3, f4, f5, a1, a2, a3, a4, a5, a6, a7, a8, a9, a10, a11, a12, a13⟩ := u
      refine pk_le (ct_all R n).length k (fun _ => ?_) (fun z => absurd z (by omega)) (hx := (h.2.2.2.2 h1).1)
      rw [List.take_of_length_le (by omega)]
      exact H'
    | succ f ih =>
      intro k u hk h
      have hin := wk_kinds33 (post := post) (w := w) (R := R) (n := n) (k := k) (N' := f + 1) (x2 := nI (((ct_all R n).take k).countP (ct_first n))) h1 h4 (by omega) rfl (fun u' h' => by
        have := ih (k + 1) u' (by omega) h'
        rw [nb_take_s (by omega), List.countP_append, List.countP_singleton] at this
        by_cases e : kd_f n ((ct_all R n).getD k 0) n = true
        · rw [if_pos e, nI_1]
          rw [if_pos (show ct_first n ((ct_all R n).getD k 0) = true from e)] at this
          exact this
        · rw [if_neg e]
          rw [if_neg (show ¬ ct_first n ((ct_all R n).getD k 0) = true from e)] at this
          exact this) n 0 u (by omega) h
      obtain ⟨f0, f1, f2, f3, f4, f5, a1, a2, a3, a4, a5, a6, a7, a8, a9, a10, a11, a12, a13⟩ := u
      exact pk_le (ct_all R n).length k (fun z => absurd z (by omega)) (fun _ => ⟨_, hin⟩) (hx := (h.2.2.2.2 h1).1)
  obtain ⟨f0, f1, f2, f3, f4, f5, a1, a2, a3, a4, a5, a6, a7, a8, a9, a10, a11, a12, a13⟩ := u
  unfold wpX_kinds
  refine wk_bad h1 (by omega) ?_
  refine (br_t rfl (wk_find h h1 (by omega) (fun u' h' => ?_)))
  have := key (ct_all R n).length 0 u' (by omega) h'
  obtain ⟨f0b, f1b, f2b, f3b, f4b, f5b, a1b, a2b, a3b, a4b, a5b, a6b, a7b, a8b, a9b, a10b, a11b, a12b, a13b⟩ := u'
  exact ⟨_, this⟩

def ev_33 (post : Int32 → St2 → Prop) (N' : Nat) (x1 x2 x3 : Int32) (N : Nat) (x4 x5 : Int32) (u : St2) : Prop := match u with
  | (f0, f1, f2, f3, f4, f5, a1, a2, a3, a4, a5, a6, a7, a8, a9, a10, a11, a12, a13) => wX_even_33 post (wX_even_19 post x1 N') x1 x2 x3 N x4 x5 f0 f1 f2 f3 f4 f5 a1 a2 a3 a4 a5 a6 a7 a8 a9 a10 a11 a12 a13
def ev_19 (post : Int32 → St2 → Prop) (x1 : Int32) (N : Nat) (x2 x3 : Int32) (u : St2) : Prop := match u with
  | (f0, f1, f2, f3, f4, f5, a1, a2, a3, a4, a5, a6, a7, a8, a9, a10, a11, a12, a13) => wX_even_19 post x1 N x2 x3 f0 f1 f2 f3 f4 f5 a1 a2 a3 a4 a5 a6 a7 a8 a9 a10 a11 a12 a13
def ev_f (n t p : Nat) : Bool := (List.range p).all (fun j => decide (ct_rr n t j = t))
theorem ev_fs (n t p : Nat) : ev_f n t (p + 1) = (ev_f n t p && decide (ct_rr n t p = t)) := by
  unfold ev_f
  rw [List.range_succ, List.all_append]
  simp
theorem wk_even33 {post : Int32 → St2 → Prop} {w : List Nat} {R : List (List Nat)} {n k t N' : Nat} {x2 : Int32} (h1 : 1 ≤ n) (h4 : n ≤ 4) (hk : k < (ct_all R n).length) (ht : (ct_all R n).getD k 0 = t)
    (H : ∀ u', ct_P w R n u' → ev_19 post (nI n) N' (if ev_f n t n = true then x2 + 1 else x2) (nI (k + 1)) u') : ∀ f p u, p + f = n → ct_P w R n u → ev_33 post N' (nI n) x2 (nI k) (f + 1) (if ev_f n t p = true then 1 else 0) (nI p) u := by
  intro f
  induction f with
  | zero =>
    intro p u hp h
    have hp : p = n := by omega
    subst hp
    have H' := H u h
    obtain ⟨f0, f1, f2, f3, f4, f5, a1, a2, a3, a4, a5, a6, a7, a8, a9, a10, a11, a12, a13⟩ := u
    refine pk_le p p (fun _ => ?_) (fun z => absurd z (by omega))
    cases e : ev_f p t p with
    | false =>
      rw [e] at H'
      exact br_t rfl (nm_r (nI_1 k) H')
    | true =>
      rw [e] at H'
      exact br_f (by decide) (nm_e (nm_r (nI_1 k) H'))
  | succ f ih =>
    intro p u hp h
    have hP := h
    obtain ⟨f0, f1, f2, f3, f4, f5, a1, a2, a3, a4, a5, a6, a7, a8, a9, a10, a11, a12, a13⟩ := u
    refine pk_le n p (fun z => absurd z (by omega)) (fun _ => ?_)
    refine wk_compare hP h1 h4 hk ht (by omega) (fun u' h' => ?_)
    have ih' := ih (p + 1) u' (by omega) h'
    rw [ev_fs] at ih'
    obtain ⟨f0b, f1b, f2b, f3b, f4b, f5b, a1b, a2b, a3b, a4b, a5b, a6b, a7b, a8b, a9b, a10b, a11b, a12b, a13b⟩ := u'
    cases e : ev_f n t p with
    | false =>
      rw [e, Bool.false_and] at ih'
      exact br_t rfl (nm_r (nI_1 p) ih')
    | true =>
      rw [e, Bool.true_and] at ih'
      refine br_f (by decide) ?_
      unfold ct_cmp
      by_cases c : ct_rr n t p = t
      · rw [if_pos (by omega), if_pos c]
        rw [decide_eq_true c] at ih'
        exact br_t rfl (nm_r (nI_1 p) ih')
      · rw [decide_eq_false c] at ih'
        refine br_f ?_ (nm_r (nI_1 p) ih')
        rw [if_neg c]
        split <;> decide
theorem wk_even {post : Int32 → St2 → Prop} {u : St2} {w : List Nat} {R : List (List Nat)} {m n : Nat} (h : ct_P w R m u) (h1 : 1 ≤ n) (h4 : n ≤ 4)
    (H : ∀ u', ct_P w R n u' → post (nI ((ct_all R n).countP (ct_same n))) u') : wpX_even post u (nI n) := by
  have key : ∀ f k u, k + f = (ct_all R n).length → ct_P w R n u → ev_19 post (nI n) (f + 1) (nI (((ct_all R n).take k).countP (ct_same n))) (nI k) u := by
    have hlen := ct_all_len R n
    intro f
    induction f with
    | zero =>
      intro k u hk h
      have H' := H u h
      obtain ⟨f0, f1, f2, f3, f4, f5, a1, a2, a3, a4, a5, a6, a7, a8, a9, a10, a11, a12, a13⟩ := u
      refine pk_le (ct_all R n).length k (fun _ => ?_) (fun z => absurd z (by omega)) (hx := (h.2.2.2.2 h1).1)
      rw [List.take_of_length_le (by omega)]
      exact H'
    | succ f ih =>
      intro k u hk h
      have hin := wk_even33 (post := post) (w := w) (R := R) (n := n) (k := k) (N' := f + 1) (x2 := nI (((ct_all R n).take k).countP (ct_same n))) h1 h4 (by omega) rfl (fun u' h' => by
        have := ih (k + 1) u' (by omega) h'
        rw [nb_take_s (by omega), List.countP_append, List.countP_singleton] at this
        by_cases e : ev_f n ((ct_all R n).getD k 0) n = true
        · rw [if_pos e, nI_1]
          rw [if_pos (show ct_same n ((ct_all R n).getD k 0) = true from e)] at this
          exact this
        · rw [if_neg e]
          rw [if_neg (show ¬ ct_same n ((ct_all R n).getD k 0) = true from e)] at this
          exact this) n 0 u (by omega) h
      obtain ⟨f0, f1, f2, f3, f4, f5, a1, a2, a3, a4, a5, a6, a7, a8, a9, a10, a11, a12, a13⟩ := u
      exact pk_le (ct_all R n).length k (fun z => absurd z (by omega)) (fun _ => ⟨_, hin⟩) (hx := (h.2.2.2.2 h1).1)
  obtain ⟨f0, f1, f2, f3, f4, f5, a1, a2, a3, a4, a5, a6, a7, a8, a9, a10, a11, a12, a13⟩ := u
  unfold wpX_even
  refine wk_bad h1 (by omega) ?_
  refine (br_t rfl (wk_find h h1 (by omega) (fun u' h' => ?_)))
  have := key (ct_all R n).length 0 u' (by omega) h'
  obtain ⟨f0b, f1b, f2b, f3b, f4b, f5b, a1b, a2b, a3b, a4b, a5b, a6b, a7b, a8b, a9b, a10b, a11b, a12b, a13b⟩ := u'
  exact ⟨_, this⟩
end
section
/-! divisors: greatest, excess, cyclic -/
theorem cy_nat (n : Nat) : Int32.ofInt (n : Int) = nI n := Int32.ofInt_eq_ofNat
theorem cy_abs {a : Int} (h : 0 ≤ a) : Int32.ofInt a = nI a.natAbs := by rw [← cy_nat, Int.natAbs_of_nonneg h]
theorem cy_neg {a : Int} (h : a ≤ 0) : -Int32.ofInt a = nI a.natAbs := by
  rw [← Int32.ofInt_neg, ← cy_nat, show ((a.natAbs : Nat) : Int) = -a by omega]
theorem cy_le {a : Int} (h1 : -1000 ≤ a) (h2 : a ≤ 1000) : 0 ≤ Int32.ofInt a ↔ 0 ≤ a := by
  rw [Int32.le_iff_toInt_le, Int32.toInt_ofInt_of_le (by omega) (by omega), show (0 : Int32).toInt = 0 from rfl]
theorem wk_gr23 {f0 f1 f2 f3 f4 f5 : Int32} {a1 a2 a3 a4 a5 a6 a7 : Nat → Int32} {a8 : Nat → Int64} {a9 a10 a11 a12 a13 : Nat → Int32} {post : Int32 → Prop} : ∀ f x y, y < f → x < 2 ^ 31 → y < 2 ^ 31 → post (nI (Nat.gcd x y)) → wX_greatest_23 post f0 f1 f2 f3 f4 f5 a1 a2 a3 a4 a5 a6 a7 a8 a9 a10 a11 a12 a13 f (nI x) (nI y) := by
  intro f
  induction f with
  | zero => intro x y h; exact absurd h (Nat.not_lt_zero y)
  | succ f ih =>
    intro x y h hx hy H
    refine pk_le y 0 (fun z => ?_) (fun z => ⟨nI_ne0 (by omega) hy, fun v hv => ?_⟩)
    · have : y = 0 := by omega
      subst this
      rw [Nat.gcd_zero_right] at H
      exact H
    · rw [pk_rem hx (by omega) hy] at hv
      subst hv
      have hm := Nat.mod_lt x (show y > 0 by omega)
      refine ih y (x % y) (by omega) hy (by omega) ?_
      rw [Nat.gcd_comm y (x % y), ← Nat.gcd_rec, Nat.gcd_comm]
      exact H
theorem wk_gr10 {f0 f1 f2 f3 f4 f5 : Int32} {a1 a2 a3 a4 a5 a6 a7 : Nat → Int32} {a8 : Nat → Int64} {a9 a10 a11 a12 a13 : Nat → Int32} {post : Int32 → Prop} {A : Nat} {b : Int} (hA : A ≤ 1000) (b1 : -1000 ≤ b) (b2 : b ≤ 1000) (H : post (nI (Nat.gcd A b.natAbs))) : wX_greatest_10 post (Int32.ofInt b) (nI A) f0 f1 f2 f3 f4 f5 a1 a2 a3 a4 a5 a6 a7 a8 a9 a10 a11 a12 a13 := by
  refine ek_if (cy_le b1 b2) (fun z => ?_) (fun z => ?_)
  · rw [cy_abs z]
    exact ⟨_, wk_gr23 (b.natAbs + 1) A b.natAbs (by omega) (by omega) (by omega) H⟩
  · intro x hx
    rw [cy_neg (by omega)] at hx
    subst hx
    exact ⟨_, wk_gr23 (b.natAbs + 1) A b.natAbs (by omega) (by omega) (by omega) H⟩
theorem wk_greatest {u : St2} {post : Int32 → Prop} {a b : Int} (a1 : -1000 ≤ a) (a2 : a ≤ 1000) (b1 : -1000 ≤ b) (b2 : b ≤ 1000) (H : post (nI (Nat.gcd a.natAbs b.natAbs))) : wpX_greatest post u (Int32.ofInt a) (Int32.ofInt b) := by
  obtain ⟨f0, f1, f2, f3, f4, f5, a1, a2, a3, a4, a5, a6, a7, a8, a9, a10, a11, a12, a13⟩ := u
  refine ek_if (cy_le ‹-1000 ≤ a› ‹a ≤ 1000›) (fun z => ?_) (fun z => ?_)
  · rw [cy_abs z]
    exact wk_gr10 (by omega) b1 b2 H
  · rw [cy_neg (by omega)]
    exact wk_gr10 (by omega) b1 b2 H
theorem wk_greatN {u : St2} {post : Int32 → Prop} {A : Nat} {b : Int} (hA : A ≤ 1000) (b1 : -1000 ≤ b) (b2 : b ≤ 1000) (H : post (nI (Nat.gcd A b.natAbs))) : wpX_greatest post u (nI A) (Int32.ofInt b) := by
  rw [← cy_nat]
  exact wk_greatest (by omega) (by omega) b1 b2 H
theorem wk_greatNN {u : St2} {post : Int32 → Prop} {A B : Nat} (hA : A ≤ 1000) (hB : B ≤ 1000) (H : post (nI (Nat.gcd A B))) : wpX_greatest post u (nI A) (nI B) := by
  rw [← cy_nat B]
  exact wk_greatN hA (by omega) (by omega) H
/-- how often a letter less how often its inverse -/
def ct_ex (l : Nat) : List Nat → Int
  | [] => 0
  | x :: w => (if x = l then 1 else if x = l + 1 then -1 else 0) + ct_ex l w
theorem ct_ex_b (l : Nat) : ∀ w : List Nat, -(w.length : Int) ≤ ct_ex l w ∧ ct_ex l w ≤ w.length := by
  intro w
  induction w with
  | nil => exact ⟨by simp [ct_ex], by simp [ct_ex]⟩
  | cons x w ih =>
    unfold ct_ex
    rw [List.length_cons]
    split
    · omega
    · split <;> omega
theorem wk_excess {u : St2} {post : Int32 → Prop} {w : List Nat} {R : List (List Nat)} {m k l : Nat} (h : ct_P w R m u) (hk : k < R.length) (hl : l < 4) (H : post (Int32.ofInt (ct_ex l (R.getD k [])))) : wpX_excess post u (nI k) (nI l) := by
  obtain ⟨f0, f1, f2, f3, f4, f5, a1, a2, a3, a4, a5, a6, a7, a8, a9, a10, a11, a12, a13⟩ := u
  obtain ⟨_, ⟨r1, r2, r3⟩, _⟩ := h
  obtain ⟨r4, r5, r6⟩ := r3 k hk
  have key : ∀ (r : List Nat) (i : Nat) (s : Int), (R.getD k []).drop i = r → i ≤ 8 → post (Int32.ofInt (s + ct_ex l r)) → wX_excess_5 post (nI k) (nI l) f0 f1 f2 f3 f4 f5 a1 a2 a3 a4 a5 a6 a7 a8 a9 a10 a11 a12 a13 (r.length + 1) (Int32.ofInt s) (nI i) := by
    intro r
    induction r with
    | nil =>
      intro i s hr hi h
      have := nb_dropn hr
      refine ⟨vp_in_nI (by omega) (by omega), ?_⟩
      rw [nI_clamp (by omega), r4]
      unfold ct_ex at h
      rw [Int.add_zero] at h
      exact pk_le (R.getD k []).length i (fun _ => h) (fun z => absurd z (by omega))
    | cons x r ih =>
      intro i s hr hi h
      obtain ⟨d1, d2, d3⟩ := nb_drop hr
      obtain ⟨s1, s2⟩ := r6 i d1
      rw [d2] at s1 s2
      show wX_excess_5 post (nI k) (nI l) f0 f1 f2 f3 f4 f5 a1 a2 a3 a4 a5 a6 a7 a8 a9 a10 a11 a12 a13 ((r.length + 1) + 1) (Int32.ofInt s) (nI i)
      refine ⟨vp_in_nI (by omega) (by omega), ?_⟩
      rw [nI_clamp (show k < 2 ^ 31 by omega), r4]
      refine pk_le (R.getD k []).length i (fun z => absurd z (by omega)) (fun _ => ?_)
      rw [nb_ix8, nI_clamp (show 8 * k + i < 2 ^ 31 by omega), s2]
      refine ⟨vp_in_nI (by omega) (by omega), fun v hv => ?_⟩
      subst hv
      unfold ct_ex at h
      rw [← Int.add_assoc] at h
      refine pk_eq x l (fun z => ?_) (fun z => pk_eq x (l + 1) (fun z2 => ?_) (fun z2 => ?_) (hy := nI_1 l))
      · intro y hy v hv
        rw [nI_1] at hv
        subst hy hv
        rw [if_pos z] at h
        rw [show Int32.ofInt s + 1 = Int32.ofInt (s + 1) by rw [Int32.ofInt_add]; rfl]
        exact ih (i + 1) (s + 1) d3 (by omega) h
      · intro y hy v hv
        rw [nI_1] at hv
        subst hy hv
        rw [if_neg z, if_pos z2] at h
        rw [show Int32.ofInt s - 1 = Int32.ofInt (s + -1) by rw [← Int.sub_eq_add_neg, Int32.ofInt_sub]; rfl]
        exact ih (i + 1) (s + -1) d3 (by omega) h
      · intro v hv
        rw [nI_1] at hv
        subst hv
        rw [if_neg z, if_neg z2, Int.add_zero] at h
        exact ih (i + 1) s d3 (by omega) h
  refine ⟨_, key _ 0 0 rfl (by omega) ?_⟩
  rw [Int.zero_add]
  exact H
def cy_x (R : List (List Nat)) (i : Nat) : Int := ct_ex 0 (R.getD i [])
def cy_y (R : List (List Nat)) (i : Nat) : Int := ct_ex 2 (R.getD i [])
def cy_S (R : List (List Nat)) : Nat → Nat × Nat
  | 0 => (0, 0)
  | q + 1 => (Nat.gcd (Nat.gcd (cy_S R q).1 (cy_x R (q / R.length)).natAbs) (cy_y R (q / R.length)).natAbs,
    Nat.gcd (cy_S R q).2 (cy_x R (q / R.length) * cy_y R (q % R.length) - cy_y R (q / R.length) * cy_x R (q % R.length)).natAbs)
def cy_F (s : Nat × Nat) : Nat := Nat.gcd s.1 2 * Nat.gcd (if s.1 = 0 then 0 else s.2 / s.1) 2
def ct_cy (R : List (List Nat)) : Nat := cy_F (cy_S R (R.length * R.length))
theorem cy_gle {a b M : Nat} (ha : a ≤ M) (hb : b ≤ M) : Nat.gcd a b ≤ M := by
  rcases Nat.eq_zero_or_pos a with h | h
  · rw [h, Nat.gcd_zero_left]; exact hb
  · exact Nat.le_trans (Nat.gcd_le_left b h) ha
theorem cy_mb {x y M : Int} (h1 : -8 ≤ x) (h2 : x ≤ 8) (h3 : -8 ≤ y) (h4 : y ≤ 8) : -64 ≤ x * y ∧ x * y ≤ 64 := by
  have e : (x * y).natAbs ≤ 8 * 8 := by
    rw [Int.natAbs_mul]
    exact Nat.mul_le_mul (by omega) (by omega)
  omega
theorem wk_cyclic {u : St2} {post : Int32 → Prop} {w : List Nat} {R : List (List Nat)} {m : Nat} (h : ct_P w R m u) (hr : 1 ≤ R.length) (H : post (nI (ct_cy R))) : wpX_cyclic post u 2 := by
  have hP := h
  obtain ⟨f0, f1, f2, f3, f4, f5, a1, a2, a3, a4, a5, a6, a7, a8, a9, a10, a11, a12, a13⟩ := u
  obtain ⟨_, ⟨r1, r2, r3⟩, _⟩ := h
  have hsq : R.length * R.length ≤ 4 * 4 := Nat.mul_le_mul r1 r1
  have bx : ∀ i, i < R.length → -8 ≤ cy_x R i ∧ cy_x R i ≤ 8 ∧ -8 ≤ cy_y R i ∧ cy_y R i ≤ 8 := fun i hi => by
    have h8 := (r3 i hi).2.1
    have e1 := ct_ex_b 0 (R.getD i [])
    have e2 := ct_ex_b 2 (R.getD i [])
    unfold cy_x cy_y
    omega
  have hf : f1 = nI R.length := r2
  refine br_f (by decide) (br_t (by decide) ?_)
  refine pk_loop (σ := Unit) (fun N q _ => wX_cyclic_21 post (nI 2) f0 f1 f2 f3 f4 f5 a1 a2 a3 a4 a5 a6 a7 a8 a9 a10 a11 a12 a13 N (nI (cy_S R q).1) (nI (cy_S R q).2) (nI q)) (fun q _ => (cy_S R q).1 ≤ 8 ∧ (cy_S R q).2 ≤ 128) (R.length * R.length) 0 () (by omega) ⟨by simp [cy_S], by simp [cy_S]⟩ ?_ ?_
  · intro N s hs
    obtain ⟨hs1, hs2⟩ := hs
    refine pk_le (R.length * R.length) (R.length * R.length) (fun _ => ?_) (fun z => absurd z (by omega)) (hx := by rw [hf]; exact pk_mul _ _)
    unfold ct_cy cy_F at H
    generalize cy_S R (R.length * R.length) = S at *
    obtain ⟨g, D⟩ := S
    dsimp only at H hs1 hs2 ⊢
    refine pk_le g 0 (fun z => ?_) (fun z => ⟨nI_ne0 (by omega) (by omega), ?_⟩)
    · rw [if_pos (by omega)] at H
      refine wk_greatNN (B := 2) (by omega) (by omega) (wk_greatNN (A := 0) (B := 2) (by omega) (by omega) ?_)
      rw [pk_mul]
      exact H
    · rw [if_neg (by omega)] at H
      have hd : D / g ≤ D := Nat.div_le_self ..
      rw [pk_div (by omega) (by omega) (by omega)]
      refine wk_greatNN (B := 2) (by omega) (by omega) (wk_greatNN (B := 2) (by omega) (by omega) ?_)
      rw [pk_mul]
      exact H
  · intro N q s hq hs hw
    obtain ⟨hs1, hs2⟩ := hs
    refine pk_le (R.length * R.length) q (fun z => absurd z (by omega)) (fun _ => ?_) (hx := by rw [hf]; exact pk_mul _ _)
    have hi : q / R.length < R.length := (Nat.div_lt_iff_lt_mul (by omega)).mpr hq
    have hj : q % R.length < R.length := Nat.mod_lt _ (by omega)
    refine ⟨by rw [hf]; exact nI_ne0 (by omega) (by omega), fun x hx => ⟨by rw [hf]; exact nI_ne0 (by omega) (by omega), fun y hy => ?_⟩⟩
    rw [hf, pk_div (by omega) (by omega) (by omega)] at hx
    rw [hf, pk_rem (by omega) (by omega) (by omega)] at hy
    subst hx hy
    obtain ⟨u1, u2, u3, u4⟩ := bx _ hi
    obtain ⟨v1, v2, v3, v4⟩ := bx _ hj
    refine wk_excess (l := 0) hP hi (by omega) (wk_excess (l := 2) hP hi (by omega) (wk_excess (l := 0) hP hj (by omega) (wk_excess (l := 2) hP hj (by omega) ?_)))
    rw [← Int32.ofInt_mul, ← Int32.ofInt_mul, ← Int32.ofInt_sub]
    have m1 := @cy_mb (cy_x R (q / R.length)) (cy_y R (q % R.length)) 0 u1 u2 v3 v4
    have m2 := @cy_mb (cy_y R (q / R.length)) (cy_x R (q % R.length)) 0 u3 u4 v1 v2
    have g1 : Nat.gcd (cy_S R q).1 (cy_x R (q / R.length)).natAbs ≤ 8 := cy_gle hs1 (by omega)
    have g2 : Nat.gcd (Nat.gcd (cy_S R q).1 (cy_x R (q / R.length)).natAbs) (cy_y R (q / R.length)).natAbs ≤ 8 := cy_gle g1 (by omega)
    have g3 : Nat.gcd (cy_S R q).2 (cy_x R (q / R.length) * cy_y R (q % R.length) - cy_y R (q / R.length) * cy_x R (q % R.length)).natAbs ≤ 128 := cy_gle hs2 (by omega)
    refine wk_greatN (b := cy_x R (q / R.length)) (by omega) (by omega) (by omega) (wk_greatN (b := cy_y R (q / R.length)) (by omega) (by omega) (by omega) (wk_greatN (b := cy_x R (q / R.length) * cy_y R (q % R.length) - cy_y R (q / R.length) * cy_x R (q % R.length)) (by omega) (by omega) (by omega) (fun z hz => ?_)))
    rw [nI_1] at hz
    subst hz
    exact hw () ⟨g2, g3⟩
/-! parities -/
theorem cy_g2 (m : Nat) : Nat.gcd m 2 = if m % 2 = 0 then 2 else 1 := by
  rw [Nat.gcd_comm, Nat.gcd_rec]
  rcases Nat.mod_two_eq_zero_or_one m with h | h
  · rw [h]; rfl
  · rw [h]; rfl
def cy_a (w : List Nat) : Nat := w.countP (fun l => decide (l < 2))
def cy_b (w : List Nat) : Nat := w.countP (fun l => decide (2 ≤ l))
theorem cy_ex0 : ∀ w : List Nat, ct_W w → ct_ex 0 w % 2 = (cy_a w : Int) % 2 := by
  intro w
  induction w with
  | nil => intro _; rfl
  | cons l w ih =>
    intro hw
    have hl : l < 4 := hw l (List.mem_cons_self ..)
    have ih' := ih (fun x hx => hw x (List.mem_cons_of_mem _ hx))
    unfold ct_ex cy_a
    rw [List.countP_cons]
    unfold cy_a at ih'
    by_cases c1 : l = 0
    · rw [if_pos c1, if_pos (by simp; omega)]; omega
    · by_cases c2 : l = 0 + 1
      · rw [if_neg c1, if_pos c2, if_pos (by simp; omega)]; omega
      · rw [if_neg c1, if_neg c2, if_neg (by simp; omega)]; omega
theorem cy_ex2 : ∀ w : List Nat, ct_W w → ct_ex 2 w % 2 = (cy_b w : Int) % 2 := by
  intro w
  induction w with
  | nil => intro _; rfl
  | cons l w ih =>
    intro hw
    have hl : l < 4 := hw l (List.mem_cons_self ..)
    have ih' := ih (fun x hx => hw x (List.mem_cons_of_mem _ hx))
    unfold ct_ex cy_b
    rw [List.countP_cons]
    unfold cy_b at ih'
    by_cases c1 : l = 2
    · rw [if_pos c1, if_pos (by simp; omega)]; omega
    · by_cases c2 : l = 2 + 1
      · rw [if_neg c1, if_pos c2, if_pos (by simp; omega)]; omega
      · rw [if_neg c1, if_neg c2, if_neg (by simp; omega)]; omega
theorem cy_run {t ea eb : Nat} (h : ∀ p, p < 2 → ∀ l, l < 4 → ct_im t p l = (p + if l < 2 then ea else eb) % 2) : ∀ w, ct_W w → ∀ p, p < 2 → ct_run t w p = (p + ea * cy_a w + eb * cy_b w) % 2 := by
  intro w
  induction w with
  | nil =>
    intro _ p hp
    show p = _
    simp [cy_a, cy_b]
    omega
  | cons l w ih =>
    intro hw p hp
    have hl : l < 4 := hw l (List.mem_cons_self ..)
    show ct_run t w (ct_im t p l) = _
    rw [h p hp l hl, ih (fun x hx => hw x (List.mem_cons_of_mem _ hx)) _ (by omega)]
    unfold cy_a cy_b
    rw [List.countP_cons, List.countP_cons]
    by_cases c : l < 2
    · rw [if_pos c, if_pos (by simp; omega), if_neg (by simp; omega), Nat.mul_add, Nat.mul_one, Nat.add_zero]
      generalize ea * _ = A
      generalize eb * _ = B
      omega
    · rw [if_neg c, if_neg (by simp; omega), if_pos (by simp; omega), Nat.add_zero, Nat.mul_add, Nat.mul_one]
      generalize ea * _ = A
      generalize eb * _ = B
      omega
theorem cy_ok {t ea eb : Nat} (h : ∀ p, p < 2 → ∀ l, l < 4 → ct_im t p l = (p + if l < 2 then ea else eb) % 2) {R : List (List Nat)} (hR : ct_WR R) : ct_ok R 2 t = R.all (fun w => decide ((ea * cy_a w + eb * cy_b w) % 2 = 0)) := by
  rw [Bool.eq_iff_iff, ct_ok_iff, List.all_eq_true]
  constructor
  · intro g w hw
    have := g w hw 0 (by omega)
    rw [cy_run h w (hR w hw) 0 (by omega)] at this
    simp only [decide_eq_true_eq]
    omega
  · intro g w hw p hp
    have := g w hw
    simp only [decide_eq_true_eq] at this
    rw [cy_run h w (hR w hw) p hp]
    omega
theorem cy_tab {R : List (List Nat)} (hR : ct_WR R) : (ct_all R 2).length = (if R.all (fun w => decide (cy_b w % 2 = 0)) = true then 1 else 0) + (if R.all (fun w => decide (cy_a w % 2 = 0)) = true then 1 else 0) + (if R.all (fun w => decide ((cy_a w + cy_b w) % 2 = 0)) = true then 1 else 0) := by
  rw [ct_all_L hR (by omega) (by omega), ← List.countP_eq_length_filter]
  have e1 := cy_ok (t := ct_L2.getD 0 0) (ea := 0) (eb := 1) (by decide +kernel) hR
  have e2 := cy_ok (t := ct_L2.getD 1 0) (ea := 1) (eb := 0) (by decide +kernel) hR
  have e3 := cy_ok (t := ct_L2.getD 2 0) (ea := 1) (eb := 1) (by decide +kernel) hR
  have el : ct_L 2 = [ct_L2.getD 0 0, ct_L2.getD 1 0, ct_L2.getD 2 0] := by decide +kernel
  rw [el, List.countP_cons, List.countP_cons, List.countP_cons, List.countP_nil, e1, e2, e3]
  simp only [Nat.zero_mul, Nat.one_mul, Nat.zero_add, Nat.add_zero]
  omega
theorem cy_Ss {R : List (List Nat)} (q i j : Nat) (hi : q / R.length = i) (hj : q % R.length = j) : cy_S R (q + 1) = (Nat.gcd (Nat.gcd (cy_S R q).1 (cy_x R i).natAbs) (cy_y R i).natAbs, Nat.gcd (cy_S R q).2 (cy_x R i * cy_y R j - cy_y R i * cy_x R j).natAbs) := by
  subst hi hj
  rfl
theorem cy_one {w : List Nat} (hw : ct_W w) : ct_cy [w] = (ct_all [w] 2).length + 1 := by
  have hR : ct_WR [w] := fun v hv => by
    rw [List.mem_singleton] at hv
    rw [hv]; exact hw
  rw [cy_tab hR]
  have hx := cy_ex0 w hw
  have hy := cy_ex2 w hw
  have e : cy_S [w] 1 = (Nat.gcd (Nat.gcd 0 (ct_ex 0 w).natAbs) (ct_ex 2 w).natAbs, Nat.gcd 0 (ct_ex 0 w * ct_ex 2 w - ct_ex 2 w * ct_ex 0 w).natAbs) := by
    rw [cy_Ss (R := [w]) 0 0 0 (show 0 / 1 = 0 by decide) (show 0 % 1 = 0 by decide)]
    rfl
  show cy_F (cy_S [w] 1) = _
  rw [e, Int.mul_comm (ct_ex 2 w) (ct_ex 0 w), Int.sub_self]
  unfold cy_F
  dsimp only
  rw [Nat.gcd_zero_left, Nat.gcd_zero_left, cy_g2, cy_g2]
  have hd : ∀ g : Nat, (if g = 0 then 0 else (0 : Int).natAbs / g) = 0 := by
    intro g
    split
    · rfl
    · exact Nat.zero_div g
  rw [hd, if_pos (show (0 : Nat) % 2 = 0 from rfl)]
  have hg : Nat.gcd (ct_ex 0 w).natAbs (ct_ex 2 w).natAbs % 2 = 0 ↔ (ct_ex 0 w).natAbs % 2 = 0 ∧ (ct_ex 2 w).natAbs % 2 = 0 := by
    rw [← Nat.dvd_iff_mod_eq_zero, ← Nat.dvd_iff_mod_eq_zero, ← Nat.dvd_iff_mod_eq_zero, Nat.dvd_gcd_iff]
  simp only [List.all_cons, List.all_nil, Bool.and_true, decide_eq_true_eq]
  by_cases c1 : cy_a w % 2 = 0
  · by_cases c2 : cy_b w % 2 = 0
    · rw [if_pos (hg.mpr ⟨by omega, by omega⟩), if_pos c1, if_pos c2, if_pos (by omega)]
    · rw [if_neg (fun h => c2 (by have := hg.mp h; omega)), if_pos c1, if_neg c2, if_neg (by omega)]
  · by_cases c2 : cy_b w % 2 = 0
    · rw [if_neg (fun h => c1 (by have := hg.mp h; omega)), if_neg c1, if_pos c2, if_neg (by omega)]
    · rw [if_neg (fun h => c1 (by have := hg.mp h; omega)), if_neg c1, if_neg c2, if_pos (by omega)]
/-- the two divisors of a matrix of two rows -/
theorem cy_num {x1 y1 x2 y2 : Int} {g : Nat} (h1 : (g : Int) ∣ x1) (h2 : (g : Int) ∣ y1) (h3 : (g : Int) ∣ x2) (h4 : (g : Int) ∣ y2) : ∃ E : Nat, (x1 * y2 - y1 * x2).natAbs = g * (g * E) := by
  obtain ⟨a1, rfl⟩ := h1
  obtain ⟨b1, rfl⟩ := h2
  obtain ⟨a2, rfl⟩ := h3
  obtain ⟨b2, rfl⟩ := h4
  refine ⟨(a1 * b2 - b1 * a2).natAbs, ?_⟩
  have : (g : Int) * a1 * (g * b2) - g * b1 * (g * a2) = g * (g * (a1 * b2 - b1 * a2)) := by grind
  rw [this, Int.natAbs_mul, Int.natAbs_mul, Int.natAbs_natCast]
theorem cy_par {x1 y1 x2 y2 : Int} {a1 b1 a2 b2 : Nat} (hx1 : x1 % 2 = (a1 : Int) % 2) (hy1 : y1 % 2 = (b1 : Int) % 2) (hx2 : x2 % 2 = (a2 : Int) % 2) (hy2 : y2 % 2 = (b2 : Int) % 2) : (x1 * y2 - y1 * x2).natAbs % 2 = ((a1 % 2) * (b2 % 2) + (b1 % 2) * (a2 % 2)) % 2 := by
  have k : (x1 * y2 - y1 * x2) % 2 = ((x1 % 2) * (y2 % 2) - (y1 % 2) * (x2 % 2)) % 2 := by
    rw [Int.sub_emod, Int.mul_emod x1, Int.mul_emod y1, ← Int.sub_emod]
  rw [hx1, hy1, hx2, hy2] at k
  generalize x1 * y2 - y1 * x2 = D at *
  rcases Nat.mod_two_eq_zero_or_one a1 with c1 | c1 <;> rcases Nat.mod_two_eq_zero_or_one b1 with c2 | c2 <;> rcases Nat.mod_two_eq_zero_or_one a2 with c3 | c3 <;> rcases Nat.mod_two_eq_zero_or_one b2 with c4 | c4 <;>
  · rw [show (a1 : Int) % 2 = ((a1 % 2 : Nat) : Int) by omega, show (b1 : Int) % 2 = ((b1 % 2 : Nat) : Int) by omega, show (a2 : Int) % 2 = ((a2 % 2 : Nat) : Int) by omega, show (b2 : Int) % 2 = ((b2 % 2 : Nat) : Int) by omega, c1, c2, c3, c4] at k
    rw [c1, c2, c3, c4]
    simp at k ⊢
    omega
theorem cy_two {w1 w2 : List Nat} (hw1 : ct_W w1) (hw2 : ct_W w2) : ct_cy [w1, w2] = (ct_all [w1, w2] 2).length + 1 := by
  have hR : ct_WR [w1, w2] := fun v hv => by
    rcases List.mem_cons.mp hv with h | h
    · rw [h]; exact hw1
    · rw [List.mem_singleton] at h
      rw [h]; exact hw2
  rw [cy_tab hR]
  have hx1 := cy_ex0 w1 hw1
  have hy1 := cy_ex2 w1 hw1
  have hx2 := cy_ex0 w2 hw2
  have hy2 := cy_ex2 w2 hw2
  have e : cy_S [w1, w2] 4 = (Nat.gcd (Nat.gcd (Nat.gcd (Nat.gcd (Nat.gcd (Nat.gcd (Nat.gcd (Nat.gcd 0 (ct_ex 0 w1).natAbs) (ct_ex 2 w1).natAbs) (ct_ex 0 w1).natAbs) (ct_ex 2 w1).natAbs) (ct_ex 0 w2).natAbs) (ct_ex 2 w2).natAbs) (ct_ex 0 w2).natAbs) (ct_ex 2 w2).natAbs,
    Nat.gcd (Nat.gcd (Nat.gcd (Nat.gcd 0 (ct_ex 0 w1 * ct_ex 2 w1 - ct_ex 2 w1 * ct_ex 0 w1).natAbs) (ct_ex 0 w1 * ct_ex 2 w2 - ct_ex 2 w1 * ct_ex 0 w2).natAbs) (ct_ex 0 w2 * ct_ex 2 w1 - ct_ex 2 w2 * ct_ex 0 w1).natAbs) (ct_ex 0 w2 * ct_ex 2 w2 - ct_ex 2 w2 * ct_ex 0 w2).natAbs) := by
    rw [cy_Ss (R := [w1, w2]) 3 1 1 (show 3 / 2 = 1 by decide) (show 3 % 2 = 1 by decide), cy_Ss (R := [w1, w2]) 2 1 0 (show 2 / 2 = 1 by decide) (show 2 % 2 = 0 by decide), cy_Ss (R := [w1, w2]) 1 0 1 (show 1 / 2 = 0 by decide) (show 1 % 2 = 1 by decide), cy_Ss (R := [w1, w2]) 0 0 0 (show 0 / 2 = 0 by decide) (show 0 % 2 = 0 by decide)]
    rfl
  show cy_F (cy_S [w1, w2] 4) = _
  rw [e]
  generalize ct_ex 0 w1 = x1 at *
  generalize ct_ex 2 w1 = y1 at *
  generalize ct_ex 0 w2 = x2 at *
  generalize ct_ex 2 w2 = y2 at *
  have eD : Nat.gcd (Nat.gcd (Nat.gcd (Nat.gcd 0 (x1 * y1 - y1 * x1).natAbs) (x1 * y2 - y1 * x2).natAbs) (x2 * y1 - y2 * x1).natAbs) (x2 * y2 - y2 * x2).natAbs = (x1 * y2 - y1 * x2).natAbs := by
    have q1 : x1 * y1 - y1 * x1 = 0 := by grind
    have q2 : x2 * y2 - y2 * x2 = 0 := by grind
    have q3 : x2 * y1 - y2 * x1 = -(x1 * y2 - y1 * x2) := by grind
    rw [q1, q2, q3, Int.natAbs_neg]
    simp
  rw [eD]
  have hg : ∀ d, d ∣ Nat.gcd (Nat.gcd (Nat.gcd (Nat.gcd (Nat.gcd (Nat.gcd (Nat.gcd (Nat.gcd 0 x1.natAbs) y1.natAbs) x1.natAbs) y1.natAbs) x2.natAbs) y2.natAbs) x2.natAbs) y2.natAbs ↔ d ∣ x1.natAbs ∧ d ∣ y1.natAbs ∧ d ∣ x2.natAbs ∧ d ∣ y2.natAbs := by
    intro d
    simp only [Nat.dvd_gcd_iff]
    constructor
    · intro h
      exact ⟨h.1.1.1.1.1.2, h.1.1.1.1.2, h.1.2, h.2⟩
    · intro h
      exact ⟨⟨⟨⟨⟨⟨⟨⟨Nat.dvd_zero d, h.1⟩, h.2.1⟩, h.1⟩, h.2.1⟩, h.2.2.1⟩, h.2.2.2⟩, h.2.2.1⟩, h.2.2.2⟩
  generalize Nat.gcd (Nat.gcd (Nat.gcd (Nat.gcd (Nat.gcd (Nat.gcd (Nat.gcd (Nat.gcd 0 x1.natAbs) y1.natAbs) x1.natAbs) y1.natAbs) x2.natAbs) y2.natAbs) x2.natAbs) y2.natAbs = g at *
  obtain ⟨d1, d2, d3, d4⟩ := (hg g).mp (Nat.dvd_refl g)
  obtain ⟨E, hE⟩ := cy_num (Int.dvd_natAbs.mp (Int.ofNat_dvd.mpr d1)) (Int.dvd_natAbs.mp (Int.ofNat_dvd.mpr d2)) (Int.dvd_natAbs.mp (Int.ofNat_dvd.mpr d3)) (Int.dvd_natAbs.mp (Int.ofNat_dvd.mpr d4))
  have hpar := cy_par hx1 hy1 hx2 hy2
  rw [hE] at hpar
  have hg2 := hg 2
  rw [Nat.dvd_iff_mod_eq_zero, Nat.dvd_iff_mod_eq_zero, Nat.dvd_iff_mod_eq_zero, Nat.dvd_iff_mod_eq_zero, Nat.dvd_iff_mod_eq_zero] at hg2
  unfold cy_F
  dsimp only
  rw [hE, cy_g2, cy_g2]
  simp only [List.all_cons, List.all_nil, Bool.and_true, Bool.and_eq_true, decide_eq_true_eq]
  have hsec : (if g = 0 then 0 else g * (g * E) / g) % 2 = (g * E) % 2 := by
    split
    · rename_i z
      rw [z, Nat.zero_mul]
    · rename_i z
      rw [Nat.mul_div_cancel_left _ (by omega)]
  rw [hsec]
  by_cases ce : g % 2 = 0
  · have := hg2.mp ce
    rw [if_pos ce, if_pos (by rw [Nat.mul_mod, ce, Nat.zero_mul]), if_pos ⟨by omega, by omega⟩, if_pos ⟨by omega, by omega⟩, if_pos ⟨by omega, by omega⟩]
  · have hn : ¬ (cy_a w1 % 2 = 0 ∧ cy_b w1 % 2 = 0 ∧ cy_a w2 % 2 = 0 ∧ cy_b w2 % 2 = 0) := fun h => ce (hg2.mpr ⟨by omega, by omega, by omega, by omega⟩)
    have go : g % 2 = 1 := by omega
    have e1 : (g * E) % 2 = E % 2 := by rw [Nat.mul_mod, go, Nat.one_mul, Nat.mod_mod]
    have e2 : (g * (g * E)) % 2 = E % 2 := by rw [Nat.mul_mod, go, Nat.one_mul, Nat.mod_mod, e1]
    rw [e2] at hpar
    rw [if_neg ce, e1, hpar]
    clear hE hg hg2 e1 e2 hsec eD e d1 d2 d3 d4 hx1 hx2 hy1 hy2 hpar
    have s1 : (cy_a w1 + cy_b w1) % 2 = (cy_a w1 % 2 + cy_b w1 % 2) % 2 := by omega
    have s2 : (cy_a w2 + cy_b w2) % 2 = (cy_a w2 % 2 + cy_b w2 % 2) % 2 := by omega
    rw [s1, s2]
    rcases Nat.mod_two_eq_zero_or_one (cy_a w1) with c1 | c1 <;> rcases Nat.mod_two_eq_zero_or_one (cy_b w1) with c2 | c2 <;> rcases Nat.mod_two_eq_zero_or_one (cy_a w2) with c3 | c3 <;> rcases Nat.mod_two_eq_zero_or_one (cy_b w2) with c4 | c4 <;>
    · rw [c1, c2, c3, c4] at hn ⊢
      first | (exact absurd ⟨rfl, rfl, rfl, rfl⟩ hn) | decide
end
section
/-! the law, its inner loops -/
def lw_575 (post : Int32 → St0 → Prop) (mc ms : Nat) (J351 J562 : (Int32 → Int32 → Int32 → Int32 → Int32 → Int32 → Int32 → Int32 → (Nat → Int32) → (Nat → Int32) → (Nat → Int32) → (Nat → Int32) → (Nat → Int32) → (Nat → Int32) → (Nat → Int32) → (Nat → Int64) → (Nat → Int32) → (Nat → Int32) → (Nat → Int32) → (Nat → Int32) → (Nat → Int32) → Prop)) (x0 x1 x4 x5 x7 x8 x9 x13 x16 x17 x18 x19 : Int32) (kc ks N : Nat) (x20 x21 : Int32) (u : St2) : Prop := match u with
  | (f0, f1, f2, f3, f4, f5, a1, a2, a3, a4, a5, a6, a7, a8, a9, a10, a11, a12, a13) => wL_lawOf_575 post mc ms J351 J562 x0 x1 x4 x5 x7 x8 x9 x13 x16 x17 x18 x19 kc ks N x20 x21 f0 f1 f2 f3 f4 f5 a1 a2 a3 a4 a5 a6 a7 a8 a9 a10 a11 a12 a13
def lw_662 (post : Int32 → St0 → Prop) (mc ms : Nat) (J351 : (Int32 → Int32 → Int32 → Int32 → Int32 → Int32 → Int32 → Int32 → (Nat → Int32) → (Nat → Int32) → (Nat → Int32) → (Nat → Int32) → (Nat → Int32) → (Nat → Int32) → (Nat → Int32) → (Nat → Int64) → (Nat → Int32) → (Nat → Int32) → (Nat → Int32) → (Nat → Int32) → (Nat → Int32) → Prop)) (x0 x1 x4 x5 x7 x8 x9 x13 x16 x17 : Int32) (kc ks N : Nat) (x21 x22 : Int32) (u : St2) : Prop := match u with
  | (f0, f1, f2, f3, f4, f5, a1, a2, a3, a4, a5, a6, a7, a8, a9, a10, a11, a12, a13) => wL_lawOf_662 post mc ms J351 x0 x1 x4 x5 x7 x8 x9 x13 x16 x17 kc ks N x21 x22 f0 f1 f2 f3 f4 f5 a1 a2 a3 a4 a5 a6 a7 a8 a9 a10 a11 a12 a13
def lw_562 (post : Int32 → St0 → Prop) (mc ms : Nat) (J351 : (Int32 → Int32 → Int32 → Int32 → Int32 → Int32 → Int32 → Int32 → (Nat → Int32) → (Nat → Int32) → (Nat → Int32) → (Nat → Int32) → (Nat → Int32) → (Nat → Int32) → (Nat → Int32) → (Nat → Int64) → (Nat → Int32) → (Nat → Int32) → (Nat → Int32) → (Nat → Int32) → (Nat → Int32) → Prop)) (x0 x1 x4 x5 x7 x8 x9 x13 x16 x17 x18 : Int32) (kc ks N : Nat) (x19 x20 : Int32) (u : St2) : Prop := match u with
  | (f0, f1, f2, f3, f4, f5, a1, a2, a3, a4, a5, a6, a7, a8, a9, a10, a11, a12, a13) => wL_lawOf_562 post mc ms J351 x0 x1 x4 x5 x7 x8 x9 x13 x16 x17 x18 kc ks N x19 x20 f0 f1 f2 f3 f4 f5 a1 a2 a3 a4 a5 a6 a7 a8 a9 a10 a11 a12 a13
def lw_506 (post : Int32 → St0 → Prop) (mc ms : Nat) (J351 J377 : (Int32 → Int32 → Int32 → Int32 → Int32 → Int32 → Int32 → Int32 → (Nat → Int32) → (Nat → Int32) → (Nat → Int32) → (Nat → Int32) → (Nat → Int32) → (Nat → Int32) → (Nat → Int32) → (Nat → Int64) → (Nat → Int32) → (Nat → Int32) → (Nat → Int32) → (Nat → Int32) → (Nat → Int32) → Prop)) (x0 x1 x4 x5 x7 x8 x9 x13 x16 x17 x18 x19 x20 x21 x22 : Int32) (kc ks N : Nat) (x23 x24 : Int32) (u : St2) : Prop := match u with
  | (f0, f1, f2, f3, f4, f5, a1, a2, a3, a4, a5, a6, a7, a8, a9, a10, a11, a12, a13) => wL_lawOf_506 post mc ms J351 J377 x0 x1 x4 x5 x7 x8 x9 x13 x16 x17 x18 x19 x20 x21 x22 kc ks N x23 x24 f0 f1 f2 f3 f4 f5 a1 a2 a3 a4 a5 a6 a7 a8 a9 a10 a11 a12 a13
def lw_469 (post : Int32 → St0 → Prop) (mc ms : Nat) (J351 J377 : (Int32 → Int32 → Int32 → Int32 → Int32 → Int32 → Int32 → Int32 → (Nat → Int32) → (Nat → Int32) → (Nat → Int32) → (Nat → Int32) → (Nat → Int32) → (Nat → Int32) → (Nat → Int32) → (Nat → Int64) → (Nat → Int32) → (Nat → Int32) → (Nat → Int32) → (Nat → Int32) → (Nat → Int32) → Prop)) (x0 x1 x4 x5 x7 x8 x9 x13 x16 x17 x18 x19 x20 x21 x23 : Int32) (kc ks N : Nat) (x22 x24 : Int32) (u : St2) : Prop := match u with
  | (f0, f1, f2, f3, f4, f5, a1, a2, a3, a4, a5, a6, a7, a8, a9, a10, a11, a12, a13) => wL_lawOf_469 post mc ms J351 J377 x0 x1 x4 x5 x7 x8 x9 x13 x16 x17 x18 x19 x20 x21 x23 kc ks N x22 x24 f0 f1 f2 f3 f4 f5 a1 a2 a3 a4 a5 a6 a7 a8 a9 a10 a11 a12 a13
def lw_387 (post : Int32 → St0 → Prop) (mc ms : Nat) (J351 J377 : (Int32 → Int32 → Int32 → Int32 → Int32 → Int32 → Int32 → Int32 → (Nat → Int32) → (Nat → Int32) → (Nat → Int32) → (Nat → Int32) → (Nat → Int32) → (Nat → Int32) → (Nat → Int32) → (Nat → Int64) → (Nat → Int32) → (Nat → Int32) → (Nat → Int32) → (Nat → Int32) → (Nat → Int32) → Prop)) (x0 x1 x4 x5 x7 x8 x9 x13 x16 x17 x19 x20 x21 : Int32) (kc ks N : Nat) (x18 x22 : Int32) (u : St2) : Prop := match u with
  | (f0, f1, f2, f3, f4, f5, a1, a2, a3, a4, a5, a6, a7, a8, a9, a10, a11, a12, a13) => wL_lawOf_387 post mc ms J351 J377 x0 x1 x4 x5 x7 x8 x9 x13 x16 x17 x19 x20 x21 kc ks N x18 x22 f0 f1 f2 f3 f4 f5 a1 a2 a3 a4 a5 a6 a7 a8 a9 a10 a11 a12 a13
def lw_377 (post : Int32 → St0 → Prop) (mc ms : Nat) (J351 : (Int32 → Int32 → Int32 → Int32 → Int32 → Int32 → Int32 → Int32 → (Nat → Int32) → (Nat → Int32) → (Nat → Int32) → (Nat → Int32) → (Nat → Int32) → (Nat → Int32) → (Nat → Int32) → (Nat → Int64) → (Nat → Int32) → (Nat → Int32) → (Nat → Int32) → (Nat → Int32) → (Nat → Int32) → Prop)) (x0 x1 x4 x5 x7 x8 x9 x13 x16 x17 x19 x20 : Int32) (kc ks N : Nat) (x18 x21 : Int32) (u : St2) : Prop := match u with
  | (f0, f1, f2, f3, f4, f5, a1, a2, a3, a4, a5, a6, a7, a8, a9, a10, a11, a12, a13) => wL_lawOf_377 post mc ms J351 x0 x1 x4 x5 x7 x8 x9 x13 x16 x17 x19 x20 kc ks N x18 x21 f0 f1 f2 f3 f4 f5 a1 a2 a3 a4 a5 a6 a7 a8 a9 a10 a11 a12 a13
def lw_351 (post : Int32 → St0 → Prop) (mc ms : Nat) (x0 x1 x4 x5 x7 x8 x9 x13 : Int32) (kc ks N : Nat) (x16 x17 : Int32) (u : St2) : Prop := match u with
  | (f0, f1, f2, f3, f4, f5, a1, a2, a3, a4, a5, a6, a7, a8, a9, a10, a11, a12, a13) => wL_lawOf_351 post mc ms x0 x1 x4 x5 x7 x8 x9 x13 kc ks N x16 x17 f0 f1 f2 f3 f4 f5 a1 a2 a3 a4 a5 a6 a7 a8 a9 a10 a11 a12 a13
def lw_647 (post : Int32 → St0 → Prop) (mc ms : Nat) (J351 : (Int32 → Int32 → Int32 → Int32 → Int32 → Int32 → Int32 → Int32 → (Nat → Int32) → (Nat → Int32) → (Nat → Int32) → (Nat → Int32) → (Nat → Int32) → (Nat → Int32) → (Nat → Int32) → (Nat → Int64) → (Nat → Int32) → (Nat → Int32) → (Nat → Int32) → (Nat → Int32) → (Nat → Int32) → Prop)) (x0 x1 x4 x5 x7 x8 x9 x13 x16 x17 : Int32) (kc ks : Nat) (u : St2) : Prop := match u with
  | (f0, f1, f2, f3, f4, f5, a1, a2, a3, a4, a5, a6, a7, a8, a9, a10, a11, a12, a13) => wL_lawOf_647 post mc ms J351 x0 x1 x4 x5 x7 x8 x9 x13 x16 x17 kc ks f0 f1 f2 f3 f4 f5 a1 a2 a3 a4 a5 a6 a7 a8 a9 a10 a11 a12 a13
def lw_J (J : (Int32 → Int32 → Int32 → Int32 → Int32 → Int32 → Int32 → Int32 → (Nat → Int32) → (Nat → Int32) → (Nat → Int32) → (Nat → Int32) → (Nat → Int32) → (Nat → Int32) → (Nat → Int32) → (Nat → Int64) → (Nat → Int32) → (Nat → Int32) → (Nat → Int32) → (Nat → Int32) → (Nat → Int32) → Prop)) (x y : Int32) (u : St2) : Prop := match u with
  | (f0, f1, f2, f3, f4, f5, a1, a2, a3, a4, a5, a6, a7, a8, a9, a10, a11, a12, a13) => J x y f0 f1 f2 f3 f4 f5 a1 a2 a3 a4 a5 a6 a7 a8 a9 a10 a11 a12 a13

def ct_Q (w : List Nat) (R : List (List Nat)) (u : St2) : Prop := ∃ m, ct_P w R m u
def ct_lt (x : Int32) (i : Nat) : Nat := ((x >>> (((2 : Int32) * nI i) &&& 31)) &&& 3).toNatClampNeg
theorem lw_lt (x : Int32) (i : Nat) : ct_lt x i < 4 ∧ ((x >>> (((2 : Int32) * nI i) &&& 31)) &&& 3) = nI (ct_lt x i) := by
  obtain ⟨j, hj, e⟩ := pk_andE (x >>> (((2 : Int32) * nI i) &&& 31)) (m := 3) 2 (by decide)
  have e2 : ct_lt x i = j := by
    unfold ct_lt
    rw [e, nI_clamp (by omega)]
  rw [e2]
  exact ⟨hj, e⟩
def ct_wd (x : Int32) (k : Nat) : List Nat := (List.range k).map (ct_lt x)
theorem ct_wd_s (x : Int32) (k : Nat) : ct_wd x (k + 1) = ct_wd x k ++ [ct_lt x k] := by
  unfold ct_wd
  rw [List.range_succ, List.map_append]
  rfl
theorem ct_wd_l (x : Int32) (k : Nat) : (ct_wd x k).length = k := by
  unfold ct_wd
  rw [List.length_map, List.length_range]
theorem ct_wd_W (x : Int32) (k : Nat) : ct_W (ct_wd x k) := by
  intro l hl
  unfold ct_wd at hl
  rw [List.mem_map] at hl
  obtain ⟨i, _, e⟩ := hl
  rw [← e]
  exact (lw_lt x i).1
theorem ct_wd_run (t : Nat) (x : Int32) (k p : Nat) : ct_run t (ct_wd x (k + 1)) p = ct_im t (ct_run t (ct_wd x k) p) (ct_lt x k) := by
  rw [ct_wd_s, ct_run_app]
  rfl
theorem wk_img2 {w : List Nat} {R : List (List Nat)} {n k p l : Nat} {u : St2} {post : Int32 → St2 → Prop} (h : ct_Q w R u) (h1 : 1 ≤ n) (h5 : n ≤ 5) (hk : k < (ct_all R n).length) (hp : p < n) (hl : l < 4)
    (H : ∀ u', ct_Q w R u' → post (nI (ct_im ((ct_all R n).getD k 0) p l)) u') : wpX_image post u (nI n) (nI k) (nI p) (nI l) := by
  obtain ⟨m, h⟩ := h
  have := ct_all_len R n
  refine wk_image h h1 h5 (by omega) hp hl (fun u' h' => ?_)
  rw [if_pos hk]
  exact H u' ⟨n, h'⟩
/-- what holds behind the law's first checks -/
def lw_C (x0 x1 : Int32) (R : List (List Nat)) (n k1 k2 : Nat) : Prop := 1 ≤ n ∧ n ≤ 4 ∧ ct_WR R ∧ k1 ≤ 7 ∧ k2 ≤ 7 ∧ ∀ t, t ∈ ct_all R n → ∀ p, p < n → ct_run t (ct_wd x0 k1) p = p ∧ ct_run t (ct_wd x1 k2) p = p
theorem lw_C_im {x0 x1 : Int32} {R : List (List Nat)} {n k1 k2 t : Nat} (C : lw_C x0 x1 R n k1 k2) (ht : t < (ct_all R n).length) : ∀ p l, p < n → l < 4 → ct_im ((ct_all R n).getD t 0) p l < n := by
  obtain ⟨c1, c2, c3, _⟩ := C
  exact (ct_all_mem c3 c1 (by omega) (nb_getD_mem ht)).2.1
theorem lw_C_L {x0 x1 : Int32} {R : List (List Nat)} {n k1 k2 t : Nat} (C : lw_C x0 x1 R n k1 k2) (ht : t < (ct_all R n).length) : (ct_all R n).getD t 0 ∈ ct_L n := by
  obtain ⟨c1, c2, c3, _⟩ := C
  exact ((ct_mem_L c3 c1 c2).mp (nb_getD_mem ht)).1

theorem lk_575 {post : Int32 → St0 → Prop} {mc ms kc ks : Nat} {J351 J562 : (Int32 → Int32 → Int32 → Int32 → Int32 → Int32 → Int32 → Int32 → (Nat → Int32) → (Nat → Int32) → (Nat → Int32) → (Nat → Int32) → (Nat → Int32) → (Nat → Int32) → (Nat → Int32) → (Nat → Int64) → (Nat → Int32) → (Nat → Int32) → (Nat → Int32) → (Nat → Int32) → (Nat → Int32) → Prop)} {x0 x1 x4 x5 x8 x9 x13 x16 x18 : Int32} {w : List Nat} {R : List (List Nat)} {n k1 k2 t s a : Nat} (C : lw_C x0 x1 R n k1 k2) (ht : t < (ct_all R n).length) (ha : a < n)
    (hJ : ∀ u', ct_Q w R u' → lw_J J562 (nI (s + 1)) (nI (ct_run ((ct_all R n).getD t 0) (ct_wd x5 5) a)) u') :
    ∀ f i u, i + f = 5 → ct_Q w R u → lw_575 post mc ms J351 J562 x0 x1 x4 x5 (nI n) x8 x9 x13 x16 (nI t) x18 (nI s) kc ks (f + 1) (nI (ct_run ((ct_all R n).getD t 0) (ct_wd x5 i) a)) (nI i) u := by
  intro f
  induction f with
  | zero =>
    intro i u hi hu
    have hi : i = 5 := by omega
    subst hi
    have h := hJ u hu
    obtain ⟨f0, f1, f2, f3, f4, f5, a1, a2, a3, a4, a5, a6, a7, a8, a9, a10, a11, a12, a13⟩ := u
    exact pk_le 5 5 (fun _ => nm_r (nI_1 s) h) (fun z => absurd z (by omega))
  | succ f ih =>
    intro i u hi hu
    have hu' := hu
    obtain ⟨f0, f1, f2, f3, f4, f5, a1, a2, a3, a4, a5, a6, a7, a8, a9, a10, a11, a12, a13⟩ := u
    refine pk_le 5 i (fun z => absurd z (by omega)) (fun _ => ?_)
    rw [(lw_lt x5 i).2]
    refine wk_img2 hu' C.1 (by have := C.2.1; omega) ht (ct_run_lt (lw_C_im C ht) _ (ct_wd_W x5 i) a ha) (lw_lt x5 i).1 (fun u' h' => ?_)
    have h := ih (i + 1) u' (by omega) h'
    rw [ct_wd_run] at h
    obtain ⟨f0b, f1b, f2b, f3b, f4b, f5b, a1b, a2b, a3b, a4b, a5b, a6b, a7b, a8b, a9b, a10b, a11b, a12b, a13b⟩ := u'
    exact nm_r (nI_1 i) h
theorem lk_506 {post : Int32 → St0 → Prop} {mc ms kc ks : Nat} {J351 J377 : (Int32 → Int32 → Int32 → Int32 → Int32 → Int32 → Int32 → Int32 → (Nat → Int32) → (Nat → Int32) → (Nat → Int32) → (Nat → Int32) → (Nat → Int32) → (Nat → Int32) → (Nat → Int32) → (Nat → Int64) → (Nat → Int32) → (Nat → Int32) → (Nat → Int32) → (Nat → Int32) → (Nat → Int32) → Prop)} {x0 x1 x4 x5 x13 x16 x18 x19 x20 : Int32} {w : List Nat} {R : List (List Nat)} {n k1 k2 t p : Nat} (C : lw_C x0 x1 R n k1 k2) (ht : t < (ct_all R n).length) (hp : p < n)
    (hJ : ∀ u', ct_Q w R u' → lw_J J377 x18 (nI (p + 1)) u') :
    ∀ f i u, i + f = k2 → ct_Q w R u → lw_506 post mc ms J351 J377 x0 x1 x4 x5 (nI n) (nI k1) (nI k2) x13 x16 (nI t) x18 x19 x20 (nI p) (nI p) kc ks (f + 1) (nI (ct_run ((ct_all R n).getD t 0) (ct_wd x1 i) p)) (nI i) u := by
  have hk2 : k2 ≤ 7 := C.2.2.2.2.1
  intro f
  induction f with
  | zero =>
    intro i u hi hu
    have hi : i = k2 := by omega
    subst hi
    have h := hJ u hu
    have hr := (C.2.2.2.2.2 _ (nb_getD_mem ht (d := 0)) p hp).2
    obtain ⟨f0, f1, f2, f3, f4, f5, a1, a2, a3, a4, a5, a6, a7, a8, a9, a10, a11, a12, a13⟩ := u
    refine pk_le i i (fun _ => br_t rfl (br_t (by rw [hr]) (nm_r (nI_1 p) h))) (fun z => absurd z (by omega))
  | succ f ih =>
    intro i u hi hu
    have hu' := hu
    obtain ⟨f0, f1, f2, f3, f4, f5, a1, a2, a3, a4, a5, a6, a7, a8, a9, a10, a11, a12, a13⟩ := u
    refine pk_le k2 i (fun z => absurd z (by omega)) (fun _ => ?_)
    rw [(lw_lt x1 i).2]
    refine wk_img2 hu' C.1 (by have := C.2.1; omega) ht (ct_run_lt (lw_C_im C ht) _ (ct_wd_W x1 i) p hp) (lw_lt x1 i).1 (fun u' h' => ?_)
    have h := ih (i + 1) u' (by omega) h'
    rw [ct_wd_run] at h
    obtain ⟨f0b, f1b, f2b, f3b, f4b, f5b, a1b, a2b, a3b, a4b, a5b, a6b, a7b, a8b, a9b, a10b, a11b, a12b, a13b⟩ := u'
    exact nm_r (nI_1 i) h
theorem lk_469 {post : Int32 → St0 → Prop} {mc ms kc ks : Nat} {J351 J377 : (Int32 → Int32 → Int32 → Int32 → Int32 → Int32 → Int32 → Int32 → (Nat → Int32) → (Nat → Int32) → (Nat → Int32) → (Nat → Int32) → (Nat → Int32) → (Nat → Int32) → (Nat → Int32) → (Nat → Int64) → (Nat → Int32) → (Nat → Int32) → (Nat → Int32) → (Nat → Int32) → (Nat → Int32) → Prop)} {x0 x1 x4 x5 x13 x16 x18 x19 x20 : Int32} {w : List Nat} {R : List (List Nat)} {n k1 k2 t p : Nat} (C : lw_C x0 x1 R n k1 k2) (ht : t < (ct_all R n).length) (hp : p < n)
    (hJ : ∀ u', ct_Q w R u' → lw_J J377 x18 (nI (p + 1)) u') :
    ∀ f i u, i + f = k1 → ct_Q w R u → lw_469 post mc ms J351 J377 x0 x1 x4 x5 (nI n) (nI k1) (nI k2) x13 x16 (nI t) x18 x19 x20 (nI p) (nI p) kc ks (f + 1) (nI (ct_run ((ct_all R n).getD t 0) (ct_wd x0 i) p)) (nI i) u := by
  have hk1 : k1 ≤ 7 := C.2.2.2.1
  intro f
  induction f with
  | zero =>
    intro i u hi hu
    have hi : i = k1 := by omega
    subst hi
    have hr := (C.2.2.2.2.2 _ (nb_getD_mem ht (d := 0)) p hp).1
    rw [hr]
    have h := lk_506 (post := post) (mc := mc) (ms := ms) (kc := kc) (ks := ks) (J351 := J351) (x4 := x4) (x5 := x5) (x13 := x13) (x16 := x16) (x19 := x19) (x20 := x20) C ht hp hJ k2 0 u (by omega) hu
    obtain ⟨f0, f1, f2, f3, f4, f5, a1, a2, a3, a4, a5, a6, a7, a8, a9, a10, a11, a12, a13⟩ := u
    exact pk_le i i (fun _ => ⟨_, h⟩) (fun z => absurd z (by omega))
  | succ f ih =>
    intro i u hi hu
    have hu' := hu
    obtain ⟨f0, f1, f2, f3, f4, f5, a1, a2, a3, a4, a5, a6, a7, a8, a9, a10, a11, a12, a13⟩ := u
    refine pk_le k1 i (fun z => absurd z (by omega)) (fun _ => ?_)
    rw [(lw_lt x0 i).2]
    refine wk_img2 hu' C.1 (by have := C.2.1; omega) ht (ct_run_lt (lw_C_im C ht) _ (ct_wd_W x0 i) p hp) (lw_lt x0 i).1 (fun u' h' => ?_)
    have h := ih (i + 1) u' (by omega) h'
    rw [ct_wd_run] at h
    obtain ⟨f0b, f1b, f2b, f3b, f4b, f5b, a1b, a2b, a3b, a4b, a5b, a6b, a7b, a8b, a9b, a10b, a11b, a12b, a13b⟩ := u'
    exact nm_r (nI_1 i) h
theorem ct_mt_le (t : Nat) : ∀ q, ct_mt t q ≤ q + 1 := by
  intro q
  induction q with
  | zero => exact Nat.le_refl 1
  | succ q ih =>
    unfold ct_mt ct_mtS
    split <;> omega
theorem lk_387 {post : Int32 → St0 → Prop} {mc ms kc ks : Nat} {J351 J377 : (Int32 → Int32 → Int32 → Int32 → Int32 → Int32 → Int32 → Int32 → (Nat → Int32) → (Nat → Int32) → (Nat → Int32) → (Nat → Int32) → (Nat → Int32) → (Nat → Int32) → (Nat → Int32) → (Nat → Int64) → (Nat → Int32) → (Nat → Int32) → (Nat → Int32) → (Nat → Int32) → (Nat → Int32) → Prop)} {x0 x1 x4 x5 x13 x16 x19 x20 : Int32} {w : List Nat} {R : List (List Nat)} {n k1 k2 t p : Nat} (C : lw_C x0 x1 R n k1 k2) (ht : t < (ct_all R n).length) (hp : p < n)
    (hJ : ∀ u', ct_Q w R u' → lw_J J377 (nI (ct_mt ((ct_all R n).getD t 0) (4 * (p + 1)))) (nI (p + 1)) u') :
    ∀ f l u, l + f = 4 → ct_Q w R u → lw_387 post mc ms J351 J377 x0 x1 x4 x5 (nI n) (nI k1) (nI k2) x13 x16 (nI t) x19 x20 (nI p) kc ks (f + 1) (nI (ct_mt ((ct_all R n).getD t 0) (4 * p + l))) (nI l) u := by
  have F2 := ct_F2 C.1 C.2.1 (lw_C_L C ht)
  have n4 := C.2.1
  intro f
  induction f with
  | zero =>
    intro l u hl hu
    have hl : l = 4 := by omega
    subst hl
    have h := lk_469 (post := post) (mc := mc) (ms := ms) (kc := kc) (ks := ks) (J351 := J351) (x4 := x4) (x5 := x5) (x13 := x13) (x16 := x16) (x19 := x19) (x20 := x20) C ht hp hJ k1 0 u (by omega) hu
    obtain ⟨f0, f1, f2, f3, f4, f5, a1, a2, a3, a4, a5, a6, a7, a8, a9, a10, a11, a12, a13⟩ := u
    exact pk_le 4 4 (fun _ => ⟨_, h⟩) (fun z => absurd z (by omega))
  | succ f ih =>
    intro l u hl hu
    have hu' := hu
    obtain ⟨f0, f1, f2, f3, f4, f5, a1, a2, a3, a4, a5, a6, a7, a8, a9, a10, a11, a12, a13⟩ := u
    refine pk_le 4 l (fun z => absurd z (by omega)) (fun _ => ?_)
    refine wk_img2 hu' C.1 (by omega) ht hp (by omega) (fun u' h' => ?_)
    have hF := ct_F1 C.1 C.2.1 (lw_C_L C ht) hp (show l < 4 by omega)
    have hM := F2.1 (4 * p + l) (by omega)
    have hle := ct_mt_le ((ct_all R n).getD t 0) (4 * p + l)
    rw [show (4 * p + l) / 4 = p by omega, show (4 * p + l) % 4 = l by omega] at hM
    have hu2 := h'
    obtain ⟨f0b, f1b, f2b, f3b, f4b, f5b, a1b, a2b, a3b, a4b, a5b, a6b, a7b, a8b, a9b, a10b, a11b, a12b, a13b⟩ := u'
    refine br_f (nI_pos (by omega)) (br_f (nI_nlt hM (by omega)) ?_)
    rw [nb_xor1 l (by omega)]
    refine wk_img2 hu2 C.1 (by omega) ht hF.1 (ct_iv_lt (by omega)) (fun u'' h'' => ?_)
    rw [hF.2]
    have h := ih (l + 1) u'' (by omega) h''
    have e : ct_mt ((ct_all R n).getD t 0) (4 * p + (l + 1)) = ct_mtS (ct_mt ((ct_all R n).getD t 0) (4 * p + l)) (ct_im ((ct_all R n).getD t 0) p l) := by
      show ct_mtS (ct_mt ((ct_all R n).getD t 0) (4 * p + l)) (ct_im ((ct_all R n).getD t 0) ((4 * p + l) / 4) ((4 * p + l) % 4)) = _
      rw [show (4 * p + l) / 4 = p by omega, show (4 * p + l) % 4 = l by omega]
    rw [e] at h
    unfold ct_mtS at h
    obtain ⟨f0c, f1c, f2c, f3c, f4c, f5c, a1c, a2c, a3c, a4c, a5c, a6c, a7c, a8c, a9c, a10c, a11c, a12c, a13c⟩ := u''
    refine br_t rfl (pk_eq (ct_im ((ct_all R n).getD t 0) p l) (ct_mt ((ct_all R n).getD t 0) (4 * p + l)) (fun z => ?_) (fun z => ?_))
    · rw [if_pos z] at h
      exact nm_r (nI_1 _) (nm_r (nI_1 l) h)
    · rw [if_neg z] at h
      exact nm_r (nI_1 l) h
theorem lk_377 {post : Int32 → St0 → Prop} {mc ms kc ks : Nat} {J351 : (Int32 → Int32 → Int32 → Int32 → Int32 → Int32 → Int32 → Int32 → (Nat → Int32) → (Nat → Int32) → (Nat → Int32) → (Nat → Int32) → (Nat → Int32) → (Nat → Int32) → (Nat → Int32) → (Nat → Int64) → (Nat → Int32) → (Nat → Int32) → (Nat → Int32) → (Nat → Int32) → (Nat → Int32) → Prop)} {x0 x1 x4 x5 x13 x16 x19 x20 : Int32} {w : List Nat} {R : List (List Nat)} {n k1 k2 t : Nat} (C : lw_C x0 x1 R n k1 k2) (ht : t < (ct_all R n).length)
    (hE : ∀ u', ct_Q w R u' → ∃ N, lw_562 post mc ms J351 x0 x1 x4 x5 (nI n) (nI k1) (nI k2) x13 x16 (nI t) (nI n) kc ks N x19 x20 u') :
    ∀ f p u, p + f = n → ct_Q w R u → lw_377 post mc ms J351 x0 x1 x4 x5 (nI n) (nI k1) (nI k2) x13 x16 (nI t) x19 x20 kc ks (f + 1) (nI (ct_mt ((ct_all R n).getD t 0) (4 * p))) (nI p) u := by
  have F2 := ct_F2 C.1 C.2.1 (lw_C_L C ht)
  have n4 := C.2.1
  intro f
  induction f with
  | zero =>
    intro p u hp hu
    have hp : p = n := by omega
    subst hp
    obtain ⟨N, h⟩ := hE u hu
    rw [F2.2]
    obtain ⟨f0, f1, f2, f3, f4, f5, a1, a2, a3, a4, a5, a6, a7, a8, a9, a10, a11, a12, a13⟩ := u
    exact pk_le p p (fun _ => ⟨N, h⟩) (fun z => absurd z (by omega))
  | succ f ih =>
    intro p u hp hu
    have h := lk_387 (post := post) (mc := mc) (ms := ms) (kc := kc) (ks := ks) (J351 := J351) (x4 := x4) (x5 := x5) (x13 := x13) (x16 := x16) (x19 := x19) (x20 := x20) (J377 := wL_lawOf_377 post mc ms J351 x0 x1 x4 x5 (nI n) (nI k1) (nI k2) x13 x16 (nI t) x19 x20 kc ks (f + 1)) C ht (show p < n by omega) (fun u' h' => by
      have := ih (p + 1) u' (by omega) h'
      obtain ⟨f0b, f1b, f2b, f3b, f4b, f5b, a1b, a2b, a3b, a4b, a5b, a6b, a7b, a8b, a9b, a10b, a11b, a12b, a13b⟩ := u'
      exact this) 4 0 u (by omega) hu
    obtain ⟨f0, f1, f2, f3, f4, f5, a1, a2, a3, a4, a5, a6, a7, a8, a9, a10, a11, a12, a13⟩ := u
    exact pk_le n p (fun z => absurd z (by omega)) (fun _ => ⟨_, h⟩)
theorem lk_745 {f0 f1 f2 f3 f4 f5 : Int32} {a1 a2 a3 a4 a5 a6 a7 : Nat → Int32} {a8 : Nat → Int64} {a9 a10 a11 a12 a13 : Nat → Int32} {post : Int32 → St0 → Prop} {mc ms kc ks : Nat} {J351 : (Int32 → Int32 → Int32 → Int32 → Int32 → Int32 → Int32 → Int32 → (Nat → Int32) → (Nat → Int32) → (Nat → Int32) → (Nat → Int32) → (Nat → Int32) → (Nat → Int32) → (Nat → Int32) → (Nat → Int64) → (Nat → Int32) → (Nat → Int32) → (Nat → Int32) → (Nat → Int32) → (Nat → Int32) → Prop)} {x0 x1 x4 x5 x7 x8 x9 x13 x16 : Int32} {t : Nat} (h : lw_J J351 x16 (nI (t + 1)) (f0, f1, f2, f3, f4, f5, a1, a2, a3, a4, a5, a6, a7, a8, a9, a10, a11, a12, a13)) : wL_lawOf_745 post mc ms J351 x0 x1 x4 x5 x7 x8 x9 x13 x16 (nI t) 1 kc ks f0 f1 f2 f3 f4 f5 a1 a2 a3 a4 a5 a6 a7 a8 a9 a10 a11 a12 a13 :=
  br_f (by decide) (nm_r (nI_1 t) h)
theorem lk_647 {post : Int32 → St0 → Prop} {mc ms kc ks : Nat} {J351 : (Int32 → Int32 → Int32 → Int32 → Int32 → Int32 → Int32 → Int32 → (Nat → Int32) → (Nat → Int32) → (Nat → Int32) → (Nat → Int32) → (Nat → Int32) → (Nat → Int32) → (Nat → Int32) → (Nat → Int64) → (Nat → Int32) → (Nat → Int32) → (Nat → Int32) → (Nat → Int32) → (Nat → Int32) → Prop)} {x0 x1 x4 x5 x8 x9 x13 x16 : Int32} {w : List Nat} {R : List (List Nat)} {n k1 k2 t : Nat} {u : St2} (C : lw_C x0 x1 R n k1 k2) (ht : t < (ct_all R n).length) (hu : ct_Q w R u)
    (hJ : ∀ u', ct_Q w R u' → lw_J J351 x16 (nI (t + 1)) u') : lw_647 post mc ms J351 x0 x1 x4 x5 (nI n) x8 x9 x13 x16 (nI t) kc ks u := by
  have n4 := C.2.1
  have hlen := ct_all_len R n
  cases t with
  | zero =>
    have h := hJ u hu
    obtain ⟨f0, f1, f2, f3, f4, f5, a1, a2, a3, a4, a5, a6, a7, a8, a9, a10, a11, a12, a13⟩ := u
    refine br_t rfl ⟨1, ?_⟩
    exact pk_le (4 * n) 0 (fun z => lk_745 h) (fun _ => br_f (by decide) (lk_745 h)) (hx := nb_4 n)
  | succ t =>
    obtain ⟨y, y1, y2, y3⟩ := ct_F3 C.2.2.1 C.1 C.2.1 ht
    have i1 := lw_C_im C (show t < (ct_all R n).length by omega)
    have i2 := lw_C_im C ht
    have key : ∀ f z u, z + f = y → ct_Q w R u → lw_662 post mc ms J351 x0 x1 x4 x5 (nI n) x8 x9 x13 x16 (nI (t + 1)) kc ks (f + 2) 0 (nI z) u := by
      intro f
      induction f with
      | zero =>
        intro z u hz hu
        have hz : z = y := by omega
        subst hz
        have hu1 := hu
        obtain ⟨f0, f1, f2, f3, f4, f5, a1, a2, a3, a4, a5, a6, a7, a8, a9, a10, a11, a12, a13⟩ := u
        refine pk_le (4 * n) z (fun c => absurd c (by omega)) (fun _ => br_t rfl ⟨by decide, by decide, ?_⟩) (hx := nb_4 n)
        rw [show (4 : Int32) = nI 4 from rfl, pk_rem (by omega) (by omega) (by omega), pk_div (by omega) (by omega) (by omega)]
        refine wk_img2 hu1 C.1 (by omega) ht (by omega) (by omega) (fun u' h' => ?_)
        have hu2 := h'
        obtain ⟨f0b, f1b, f2b, f3b, f4b, f5b, a1b, a2b, a3b, a4b, a5b, a6b, a7b, a8b, a9b, a10b, a11b, a12b, a13b⟩ := u'
        refine ⟨by decide, by decide, ?_⟩
        rw [nI_pred]
        refine wk_img2 hu2 C.1 (by omega) (show t < (ct_all R n).length by omega) (by omega) (by omega) (fun u'' h'' => ?_)
        have hJ' := hJ u'' h''
        obtain ⟨f0c, f1c, f2c, f3c, f4c, f5c, a1c, a2c, a3c, a4c, a5c, a6c, a7c, a8c, a9c, a10c, a11c, a12c, a13c⟩ := u''
        have b1 := i1 (z / 4) (z % 4) (by omega) (by omega)
        have b2 := i2 (z / 4) (z % 4) (by omega) (by omega)
        refine br_t (nI_le (by omega) (by omega)) (br_f (nI_ge y3 (by omega)) (nm_r (nI_1 z) ?_))
        exact pk_le (4 * n) (z + 1) (fun c => lk_745 hJ') (fun _ => br_f (by decide) (lk_745 hJ')) (hx := nb_4 n)
      | succ f ih =>
        intro z u hz hu
        have hu1 := hu
        obtain ⟨f0, f1, f2, f3, f4, f5, a1, a2, a3, a4, a5, a6, a7, a8, a9, a10, a11, a12, a13⟩ := u
        refine pk_le (4 * n) z (fun c => absurd c (by omega)) (fun _ => br_t rfl ⟨by decide, by decide, ?_⟩) (hx := nb_4 n)
        rw [show (4 : Int32) = nI 4 from rfl, pk_rem (by omega) (by omega) (by omega), pk_div (by omega) (by omega) (by omega)]
        refine wk_img2 hu1 C.1 (by omega) ht (by omega) (by omega) (fun u' h' => ?_)
        have hu2 := h'
        obtain ⟨f0b, f1b, f2b, f3b, f4b, f5b, a1b, a2b, a3b, a4b, a5b, a6b, a7b, a8b, a9b, a10b, a11b, a12b, a13b⟩ := u'
        refine ⟨by decide, by decide, ?_⟩
        rw [nI_pred]
        refine wk_img2 hu2 C.1 (by omega) (show t < (ct_all R n).length by omega) (by omega) (by omega) (fun u'' h'' => ?_)
        have h := ih (z + 1) u'' (by omega) h''
        obtain ⟨f0c, f1c, f2c, f3c, f4c, f5c, a1c, a2c, a3c, a4c, a5c, a6c, a7c, a8c, a9c, a10c, a11c, a12c, a13c⟩ := u''
        have b1 := i1 (z / 4) (z % 4) (by omega) (by omega)
        have b2 := i2 (z / 4) (z % 4) (by omega) (by omega)
        have ye := y2 z (by omega)
        exact br_t (nI_le (by omega) (by omega)) (br_t (nI_le (by omega) (by omega)) (nm_r (nI_1 z) h))
    have h := key y 0 u (by omega) hu
    obtain ⟨f0, f1, f2, f3, f4, f5, a1, a2, a3, a4, a5, a6, a7, a8, a9, a10, a11, a12, a13⟩ := u
    exact br_f (nI_ne0 (by omega) (by omega)) ⟨_, h⟩
theorem lk_562 {post : Int32 → St0 → Prop} {mc ms kc ks : Nat} {J351 : (Int32 → Int32 → Int32 → Int32 → Int32 → Int32 → Int32 → Int32 → (Nat → Int32) → (Nat → Int32) → (Nat → Int32) → (Nat → Int32) → (Nat → Int32) → (Nat → Int32) → (Nat → Int32) → (Nat → Int64) → (Nat → Int32) → (Nat → Int32) → (Nat → Int32) → (Nat → Int32) → (Nat → Int32) → Prop)} {x0 x1 x4 x5 x8 x9 x13 : Int32} {R : List (List Nat)} {n k1 k2 t q : Nat} {u : St2} (C : lw_C x0 x1 R n k1 k2) (ht : t < (ct_all R n).length) (hu : ct_Q (ct_wd x5 5) R u)
    (hJ : ∀ u', ct_Q (ct_wd x5 5) R u' → lw_J J351 (nI (if ct_fx (ct_wd x5 5) ((ct_all R n).getD t 0) = true then q + 1 else q)) (nI (t + 1)) u') : ∃ N, lw_562 post mc ms J351 x0 x1 x4 x5 (nI n) x8 x9 x13 (nI q) (nI t) (nI n) kc ks N 0 0 u := by
  have n4 := C.2.1
  have hlen := ct_all_len R n
  obtain ⟨S, s1, s2, s3, s4⟩ := ct_orbit C.1 C.2.1 (lw_C_L C ht) (ct_wd_W x5 5)
  have hit := ct_it_lt (lw_C_im C ht) (ct_wd_W x5 5) C.1
  have key : ∀ f s u, s + f = S → ct_Q (ct_wd x5 5) R u → lw_562 post mc ms J351 x0 x1 x4 x5 (nI n) x8 x9 x13 (nI q) (nI t) (nI n) kc ks (f + 1) (nI s) (nI (ct_it ((ct_all R n).getD t 0) (ct_wd x5 5) s)) u := by
    intro f
    induction f with
    | zero =>
      intro s u hs hu
      have hs : s = S := by omega
      subst hs
      obtain ⟨m, hm⟩ := hu
      rw [s3]
      obtain ⟨f0, f1, f2, f3, f4, f5, a1, a2, a3, a4, a5, a6, a7, a8, a9, a10, a11, a12, a13⟩ := u
      refine br_f (nI_ne0 (by omega) (by omega)) (br_t rfl (br_t rfl ?_))
      refine wk_period hm C.1 (by omega) ht (fun u' s' h' p1 p2 p3 p4 => ?_)
      have es : s' = s := by
        rcases Nat.lt_trichotomy s' s with c | c | c
        · exact absurd (p4 (by omega)) (s4 s' p1 c)
        · exact c
        · exact absurd s3 (p3 s s1 c)
      subst es
      have hfx : ct_fx (ct_wd x5 5) ((ct_all R n).getD t 0) = true ↔ s' = 1 := by
        unfold ct_fx
        rw [beq_iff_eq]
        show ct_it ((ct_all R n).getD t 0) (ct_wd x5 5) 1 = 0 ↔ _
        constructor
        · intro h
          rcases Nat.lt_or_ge 1 s' with c | c
          · exact absurd h (s4 1 (by omega) c)
          · omega
        · intro h
          rw [h] at s3
          exact s3
      have hJ' := fun (x16 : Int32) (hx : x16 = nI (if ct_fx (ct_wd x5 5) ((ct_all R n).getD t 0) = true then q + 1 else q)) => lk_647 (post := post) (mc := mc) (ms := ms) (kc := kc) (ks := ks) (J351 := J351) (x4 := x4) (x5 := x5) (x8 := x8) (x9 := x9) (x13 := x13) (x16 := x16) C ht ⟨n, h'⟩ (by rw [hx]; exact hJ)
      obtain ⟨f0b, f1b, f2b, f3b, f4b, f5b, a1b, a2b, a3b, a4b, a5b, a6b, a7b, a8b, a9b, a10b, a11b, a12b, a13b⟩ := u'
      refine br_t rfl (pk_eq s' 1 (fun z => ?_) (fun z => ?_))
      · refine nm_r (nI_1 q) ?_
        exact hJ' (nI (q + 1)) (by rw [if_pos (hfx.mpr z)])
      · exact hJ' (nI q) (by rw [if_neg (fun c => z (hfx.mp c))])
    | succ f ih =>
      intro s u hs hu
      have h := lk_575 (post := post) (mc := mc) (ms := ms) (kc := kc) (ks := ks) (J351 := J351) (x4 := x4) (x5 := x5) (x8 := x8) (x9 := x9) (x13 := x13) (x16 := nI q) (x18 := nI n) (s := s) (a := ct_it ((ct_all R n).getD t 0) (ct_wd x5 5) s) (J562 := wL_lawOf_562 post mc ms J351 x0 x1 x4 x5 (nI n) x8 x9 x13 (nI q) (nI t) (nI n) kc ks (f + 1)) C ht (hit s) (fun u' h' => by
        have := ih (s + 1) u' (by omega) h'
        obtain ⟨f0b, f1b, f2b, f3b, f4b, f5b, a1b, a2b, a3b, a4b, a5b, a6b, a7b, a8b, a9b, a10b, a11b, a12b, a13b⟩ := u'
        exact this) 5 0 u (by omega) hu
      obtain ⟨f0, f1, f2, f3, f4, f5, a1, a2, a3, a4, a5, a6, a7, a8, a9, a10, a11, a12, a13⟩ := u
      refine pk_eq s 0 (fun _ => ⟨_, h⟩) (fun z => ?_)
      have := s4 s (by omega) (by omega)
      have := hit s
      refine br_f (nI_ne0 (by omega) (by omega)) ⟨_, h⟩
  exact ⟨_, key S 0 u (by omega) hu⟩
end
section
/-! the law, from its end to its head -/
theorem lk_818 {f0 f1 f2 f3 f4 f5 : Int32} {a1 a2 a3 a4 a5 a6 a7 : Nat → Int32} {a8 : Nat → Int64} {a9 a10 a11 a12 a13 : Nat → Int32} {post : Int32 → St0 → Prop} {mc ms kc ks : Nat} {x4 : Int32} {w : List Nat} {R : List (List Nat)} {m n : Nat} (h : ct_P w R m (f0, f1, f2, f3, f4, f5, a1, a2, a3, a4, a5, a6, a7, a8, a9, a10, a11, a12, a13)) (h1 : 1 ≤ n) (h4 : n ≤ 4) (H : post 1 ()) : wL_lawOf_818 post mc ms x4 (nI n) (nI (ct_all R n).length) kc ks f0 f1 f2 f3 f4 f5 a1 a2 a3 a4 a5 a6 a7 a8 a9 a10 a11 a12 a13 := by
  have hlen := ct_all_len R n
  obtain ⟨j, hj, e⟩ := pk_andE x4 (m := 3) 2 (by decide)
  unfold wL_lawOf_818
  rw [e]
  refine wk_image (p := 0) h h1 (by omega) hlen (by omega) hj (fun u' h' => ?_)
  rw [if_neg (by omega)]
  obtain ⟨f0b, f1b, f2b, f3b, f4b, f5b, a1b, a2b, a3b, a4b, a5b, a6b, a7b, a8b, a9b, a10b, a11b, a12b, a13b⟩ := u'
  exact br_t rfl H
theorem lk_792 {f0 f1 f2 f3 f4 f5 : Int32} {a1 a2 a3 a4 a5 a6 a7 : Nat → Int32} {a8 : Nat → Int64} {a9 a10 a11 a12 a13 : Nat → Int32} {post : Int32 → St0 → Prop} {mc ms kc ks : Nat} {x4 : Int32} {w : List Nat} {R : List (List Nat)} {m n : Nat} (h : ct_P w R m (f0, f1, f2, f3, f4, f5, a1, a2, a3, a4, a5, a6, a7, a8, a9, a10, a11, a12, a13)) (h1 : 1 ≤ n) (h4 : n ≤ 4) (hw : w.length = 5) (H : post 1 ()) : wL_lawOf_792 post mc ms x4 (nI n) (nI (ct_all R n).length) kc ks f0 f1 f2 f3 f4 f5 a1 a2 a3 a4 a5 a6 a7 a8 a9 a10 a11 a12 a13 := by
  have hlen := ct_all_len R n
  unfold wL_lawOf_792
  refine wk_invert h (fun u' w' h' => ?_)
  rw [hw]
  have hu := h'
  obtain ⟨f0b, f1b, f2b, f3b, f4b, f5b, a1b, a2b, a3b, a4b, a5b, a6b, a7b, a8b, a9b, a10b, a11b, a12b, a13b⟩ := u'
  refine br_t rfl (pk_eq (ct_all R n).length 0 (fun z => lk_818 hu h1 h4 H) (fun z => ?_))
  refine wk_period (k := 0) hu h1 (by omega) (by omega) (fun u'' s h'' p1 p2 p3 p4 => ?_)
  obtain ⟨f0c, f1c, f2c, f3c, f4c, f5c, a1c, a2c, a3c, a4c, a5c, a6c, a7c, a8c, a9c, a10c, a11c, a12c, a13c⟩ := u''
  exact pk_lt s 1 (fun c => absurd c (by omega)) (fun _ => lk_818 h'' h1 h4 H)
theorem lk_758 {f0 f1 f2 f3 f4 f5 : Int32} {a1 a2 a3 a4 a5 a6 a7 : Nat → Int32} {a8 : Nat → Int64} {a9 a10 a11 a12 a13 : Nat → Int32} {post : Int32 → St0 → Prop} {mc ms kc ks : Nat} {x4 : Int32} {w : List Nat} {R : List (List Nat)} {m n q : Nat} (h : ct_P w R m (f0, f1, f2, f3, f4, f5, a1, a2, a3, a4, a5, a6, a7, a8, a9, a10, a11, a12, a13)) (h1 : 1 ≤ n) (h4 : n ≤ 4) (hw : w.length = 5) (hq : q = ((ct_all R n).take 12).countP (ct_fx w)) (H : post 1 ()) : wL_lawOf_758 post mc ms x4 (nI n) (nI (ct_all R n).length) (nI q) kc ks f0 f1 f2 f3 f4 f5 a1 a2 a3 a4 a5 a6 a7 a8 a9 a10 a11 a12 a13 := by
  have hlen := ct_all_len R n
  have hc := List.countP_le_length (p := ct_fx w) (l := ct_all R n)
  have hs : ((ct_all R n).take 12).countP (ct_fx w) ≤ (ct_all R n).countP (ct_fx w) := (List.take_sublist 12 _).countP_le
  refine pk_le (ct_all R n).length 12 (fun z => ?_) (fun z => ?_)
  · refine wk_fixing h h1 (by omega) (fun u' h' => ?_)
    obtain ⟨f0b, f1b, f2b, f3b, f4b, f5b, a1b, a2b, a3b, a4b, a5b, a6b, a7b, a8b, a9b, a10b, a11b, a12b, a13b⟩ := u'
    refine br_t ?_ (lk_792 h' h1 h4 hw H)
    rw [hq, List.take_of_length_le z]
  · refine wk_fixing h h1 (by omega) (fun u' h' => ?_)
    obtain ⟨f0b, f1b, f2b, f3b, f4b, f5b, a1b, a2b, a3b, a4b, a5b, a6b, a7b, a8b, a9b, a10b, a11b, a12b, a13b⟩ := u'
    exact br_f (nI_nlt (by omega) (by omega)) (lk_792 h' h1 h4 hw H)
theorem lk_351 {post : Int32 → St0 → Prop} {mc ms kc ks : Nat} {x0 x1 x4 x5 : Int32} {R : List (List Nat)} {n k1 k2 : Nat} (C : lw_C x0 x1 R n k1 k2) (H : post 1 ()) :
    ∀ f t u, t + f = min (ct_all R n).length 12 → ct_Q (ct_wd x5 5) R u → lw_351 post mc ms x0 x1 x4 x5 (nI n) (nI k1) (nI k2) (nI (ct_all R n).length) kc ks (f + 1) (nI (((ct_all R n).take t).countP (ct_fx (ct_wd x5 5)))) (nI t) u := by
  have n4 := C.2.1
  have hlen := ct_all_len R n
  intro f
  induction f with
  | zero =>
    intro t u ht hu
    obtain ⟨m, h⟩ := hu
    obtain ⟨f0, f1, f2, f3, f4, f5, a1, a2, a3, a4, a5, a6, a7, a8, a9, a10, a11, a12, a13⟩ := u
    refine pk_le (ct_all R n).length t (fun z => ?_) (fun z => pk_le 12 t (fun z2 => ?_) (fun z2 => absurd z2 (by omega)))
    · refine lk_758 h C.1 n4 (ct_wd_l x5 5) ?_ H
      rw [List.take_of_length_le z, List.take_of_length_le (by omega)]
    · refine lk_758 h C.1 n4 (ct_wd_l x5 5) ?_ H
      rw [show t = 12 by omega]
  | succ f ih =>
    intro t u ht hu
    have hE := fun u' (h' : ct_Q (ct_wd x5 5) R u') => lk_562 (post := post) (mc := mc) (ms := ms) (kc := kc) (ks := ks) (x4 := x4) (x5 := x5) (x8 := nI k1) (x9 := nI k2) (x13 := nI (ct_all R n).length) (t := t) (q := ((ct_all R n).take t).countP (ct_fx (ct_wd x5 5)))
      (J351 := wL_lawOf_351 post mc ms x0 x1 x4 x5 (nI n) (nI k1) (nI k2) (nI (ct_all R n).length) kc ks (f + 1)) C (by omega) h' (fun u'' h'' => by
        have := ih (t + 1) u'' (by omega) h''
        rw [nb_take_s (by omega), List.countP_append, List.countP_singleton] at this
        by_cases e : ct_fx (ct_wd x5 5) ((ct_all R n).getD t 0) = true
        · rw [if_pos e] at this ⊢
          obtain ⟨f0b, f1b, f2b, f3b, f4b, f5b, a1b, a2b, a3b, a4b, a5b, a6b, a7b, a8b, a9b, a10b, a11b, a12b, a13b⟩ := u''
          exact this
        · rw [if_neg e] at this ⊢
          obtain ⟨f0b, f1b, f2b, f3b, f4b, f5b, a1b, a2b, a3b, a4b, a5b, a6b, a7b, a8b, a9b, a10b, a11b, a12b, a13b⟩ := u''
          exact this)
    have h := lk_377 C (show t < (ct_all R n).length by omega) hE n 0 u (by omega) hu
    obtain ⟨f0, f1, f2, f3, f4, f5, a1, a2, a3, a4, a5, a6, a7, a8, a9, a10, a11, a12, a13⟩ := u
    exact pk_le (ct_all R n).length t (fun z => absurd z (by omega)) (fun _ => pk_le 12 t (fun z => absurd z (by omega)) (fun _ => ⟨_, h⟩))
def lw_321 (post : Int32 → St0 → Prop) (mc ms : Nat) (x0 x1 x4 x5 x7 x8 x9 x13 x16 : Int32) (kc ks N : Nat) (x17 : Int32) (u : St2) : Prop := match u with
  | (f0, f1, f2, f3, f4, f5, a1, a2, a3, a4, a5, a6, a7, a8, a9, a10, a11, a12, a13) => wL_lawOf_321 post mc ms x0 x1 x4 x5 x7 x8 x9 x13 x16 kc ks N x17 f0 f1 f2 f3 f4 f5 a1 a2 a3 a4 a5 a6 a7 a8 a9 a10 a11 a12 a13
theorem lk_321 {post : Int32 → St0 → Prop} {mc ms kc ks : Nat} {x0 x1 x4 x5 : Int32} {R : List (List Nat)} {n k1 k2 m : Nat} (C : lw_C x0 x1 R n k1 k2) (H : post 1 ()) :
    ∀ f i u, i + f = 5 → ct_P (ct_wd x5 i) R m u → lw_321 post mc ms x0 x1 x4 x5 (nI n) (nI k1) (nI k2) (nI (ct_all R n).length) 0 kc ks (f + 1) (nI i) u := by
  intro f
  induction f with
  | zero =>
    intro i u hi hu
    have hi : i = 5 := by omega
    subst hi
    have h := lk_351 (post := post) (mc := mc) (ms := ms) (kc := kc) (ks := ks) (x4 := x4) (x5 := x5) C H (min (ct_all R n).length 12) 0 u (by omega) ⟨m, hu⟩
    obtain ⟨f0, f1, f2, f3, f4, f5, a1, a2, a3, a4, a5, a6, a7, a8, a9, a10, a11, a12, a13⟩ := u
    exact pk_le 5 5 (fun _ => ⟨_, h⟩) (fun z => absurd z (by omega))
  | succ f ih =>
    intro i u hi hu
    have hu' := hu
    obtain ⟨f0, f1, f2, f3, f4, f5, a1, a2, a3, a4, a5, a6, a7, a8, a9, a10, a11, a12, a13⟩ := u
    refine pk_le 5 i (fun z => absurd z (by omega)) (fun _ => ?_)
    rw [(lw_lt x5 i).2]
    refine wk_letter hu' (by rw [ct_wd_l]; omega) (lw_lt x5 i).1 (fun r u' h' => ?_)
    rw [← ct_wd_s] at h'
    have h := ih (i + 1) u' (by omega) h'
    obtain ⟨f0b, f1b, f2b, f3b, f4b, f5b, a1b, a2b, a3b, a4b, a5b, a6b, a7b, a8b, a9b, a10b, a11b, a12b, a13b⟩ := u'
    exact nm_r (nI_1 i) h
theorem lk_312 {f0 f1 f2 f3 f4 f5 : Int32} {a1 a2 a3 a4 a5 a6 a7 : Nat → Int32} {a8 : Nat → Int64} {a9 a10 a11 a12 a13 : Nat → Int32} {post : Int32 → St0 → Prop} {mc ms kc ks : Nat} {x0 x1 x4 x5 : Int32} {w : List Nat} {R : List (List Nat)} {n k1 k2 m : Nat} (C : lw_C x0 x1 R n k1 k2) (h : ct_P w R m (f0, f1, f2, f3, f4, f5, a1, a2, a3, a4, a5, a6, a7, a8, a9, a10, a11, a12, a13)) (H : post 1 ()) :
    wL_lawOf_312 post mc ms x0 x1 x4 x5 (nI n) (nI k1) (nI k2) (nI (ct_all R n).length) 0 kc ks f0 f1 f2 f3 f4 f5 a1 a2 a3 a4 a5 a6 a7 a8 a9 a10 a11 a12 a13 := by
  unfold wL_lawOf_312
  refine wk_clear h (fun u' h' => ?_)
  have h2 := lk_321 (post := post) (mc := mc) (ms := ms) (kc := kc) (ks := ks) (x4 := x4) (x5 := x5) C H 5 0 u' (by omega) h'
  obtain ⟨f0b, f1b, f2b, f3b, f4b, f5b, a1b, a2b, a3b, a4b, a5b, a6b, a7b, a8b, a9b, a10b, a11b, a12b, a13b⟩ := u'
  exact ⟨_, h2⟩
theorem ct_all_1 {R : List (List Nat)} (hR : ct_WR R) : (ct_all R 1).length = 1 := by
  rw [ct_all_L hR (by omega) (by omega), List.filter_eq_self.mpr]
  · decide
  · intro t ht
    rw [ct_ok_iff]
    intro w hw p hp
    have := ct_run_lt (ct_F1r (by omega) (by omega) ht) w (hR w hw) p hp
    omega
theorem lk_199 {f0 f1 f2 f3 f4 f5 : Int32} {a1 a2 a3 a4 a5 a6 a7 : Nat → Int32} {a8 : Nat → Int64} {a9 a10 a11 a12 a13 : Nat → Int32} {post : Int32 → St0 → Prop} {mc ms kc ks : Nat} {x0 x1 x4 x5 x12 : Int32} {w : List Nat} {R : List (List Nat)} {n k1 k2 m : Nat} (C : lw_C x0 x1 R n k1 k2) (h : ct_P w R m (f0, f1, f2, f3, f4, f5, a1, a2, a3, a4, a5, a6, a7, a8, a9, a10, a11, a12, a13)) (hR : 1 ≤ R.length) (hcy : ct_cy R = (ct_all R 2).length + 1)
    (hst : x12 = 1 → k2 = 0 → (ct_all R n).length = (ct_all [] n).length) (H : post 1 ()) :
    wL_lawOf_199 post mc ms x0 x1 x4 x5 (nI n) (nI k1) (nI k2) (nI (ct_all [] n).length) x12 kc ks f0 f1 f2 f3 f4 f5 a1 a2 a3 a4 a5 a6 a7 a8 a9 a10 a11 a12 a13 := by
  have hC := C
  obtain ⟨c1, c2, c3, c4, c5, c6⟩ := C
  have l1 := ct_all_le c3 c1 c2
  have l2 := List.countP_le_length (p := ct_first n) (l := ct_all R n)
  have l3 := ct_even_le R n
  have l4 := ct_kinds_le c3 c1 c2
  have b0 := ct_all_len [] n
  have b1 := ct_all_len R n
  have b2 : n * (ct_all R n).countP (ct_first n) ≤ 4 * 500 := Nat.mul_le_mul c2 (by omega)
  unfold wL_lawOf_199
  refine wk_tables h c1 (by omega) (fun u1 h1 => ?_)
  obtain ⟨f0b, f1b, f2b, f3b, f4b, f5b, a1b, a2b, a3b, a4b, a5b, a6b, a7b, a8b, a9b, a10b, a11b, a12b, a13b⟩ := u1
  refine wk_kinds h1 c1 c2 (fun u2 h2 => ?_)
  obtain ⟨f0c, f1c, f2c, f3c, f4c, f5c, a1c, a2c, a3c, a4c, a5c, a6c, a7c, a8c, a9c, a10c, a11c, a12c, a13c⟩ := u2
  refine wk_even h2 c1 c2 (fun u3 h3 => ?_)
  obtain ⟨f0d, f1d, f2d, f3d, f4d, f5d, a1d, a2d, a3d, a4d, a5d, a6d, a7d, a8d, a9d, a10d, a11d, a12d, a13d⟩ := u3
  refine br_f (nI_pos (by omega)) (br_f (nI_nlt l1 (by omega)) (br_f (nI_nlt l2 (by omega)) (br_f (nI_nlt l3 (by omega)) (br_f (by rw [pk_mul]; exact nI_nlt l4 (by omega)) ?_))))
  refine wk_tables (n := 1) h3 (by omega) (by omega) (fun u4 h4 => ?_)
  rw [ct_all_1 c3]
  obtain ⟨f0e, f1e, f2e, f3e, f4e, f5e, a1e, a2e, a3e, a4e, a5e, a6e, a7e, a8e, a9e, a10e, a11e, a12e, a13e⟩ := u4
  refine br_t rfl (wk_cyclic h4 hR ?_)
  refine wk_tables (n := 2) h4 (by omega) (by omega) (fun u5 h5 => ?_)
  obtain ⟨f0g, f1g, f2g, f3g, f4g, f5g, a1g, a2g, a3g, a4g, a5g, a6g, a7g, a8g, a9g, a10g, a11g, a12g, a13g⟩ := u5
  refine br_t (by rw [hcy, nI_pred]) (br_c (fun z => pk_eq k2 0 (fun z2 => ?_) (fun _ => lk_312 hC h5 H)) (fun _ => lk_312 hC h5 H))
  exact br_t (by rw [hst z z2]) (lk_312 hC h5 H)
def lw_156 (post : Int32 → St0 → Prop) (mc ms : Nat) (x0 x1 x4 x5 x7 x8 x9 x10 x12 : Int32) (kc ks N : Nat) (x13 : Int32) (u : St2) : Prop := match u with
  | (f0, f1, f2, f3, f4, f5, a1, a2, a3, a4, a5, a6, a7, a8, a9, a10, a11, a12, a13) => wL_lawOf_156 post mc ms x0 x1 x4 x5 x7 x8 x9 x10 x12 kc ks N x13 f0 f1 f2 f3 f4 f5 a1 a2 a3 a4 a5 a6 a7 a8 a9 a10 a11 a12 a13
theorem lk_156 {post : Int32 → St0 → Prop} {mc ms kc ks : Nat} {x0 x1 x4 x5 x12 : Int32} {n k1 k2 m : Nat} (h1 : 1 ≤ n) (h4 : n ≤ 4) (hk1 : k1 ≤ 7) (hk2 : k2 ≤ 7) (hst : x12 = 1 → ct_still (ct_wd x0 k1) [] n) (H : post 1 ()) :
    ∀ f i u, i + f = k2 → ct_P (ct_wd x1 i) [ct_wd x0 k1] m u → lw_156 post mc ms x0 x1 x4 x5 (nI n) (nI k1) (nI k2) (nI (ct_all [] n).length) x12 kc ks (f + 1) (nI i) u := by
  intro f
  induction f with
  | zero =>
    intro i u hi hu
    have hi : i = k2 := by omega
    subst hi
    have hu' := hu
    have hWR := ct_P_WR hu
    obtain ⟨f0, f1, f2, f3, f4, f5, a1, a2, a3, a4, a5, a6, a7, a8, a9, a10, a11, a12, a13⟩ := u
    refine pk_le i i (fun _ => pk_le i 0 (fun z => ?_) (fun z => ?_)) (fun z => absurd z (by omega))
    · refine lk_199 ⟨h1, h4, hWR, hk1, hk2, fun t ht p hp => ?_⟩ hu' (by simp) (cy_one (ct_wd_W _ _)) (fun e _ => ?_) H
      · have hk := (ct_all_mem hWR h1 (by omega) ht).2.2
        rw [ct_ok_iff] at hk
        refine ⟨hk _ (by simp) p hp, ?_⟩
        rw [show i = 0 by omega]
        rfl
      · rw [ct_still_all (ct_wd_W _ _) h1 h4 (hst e)]
    · refine wk_relate hu' (by simp) (fun u' h' => ?_)
      have hWR' := ct_P_WR h'
      obtain ⟨f0b, f1b, f2b, f3b, f4b, f5b, a1b, a2b, a3b, a4b, a5b, a6b, a7b, a8b, a9b, a10b, a11b, a12b, a13b⟩ := u'
      refine br_t rfl ?_
      refine lk_199 ⟨h1, h4, hWR', hk1, hk2, fun t ht p hp => ?_⟩ h' (by simp) (cy_two (ct_wd_W _ _) (ct_wd_W _ _)) (fun _ e => absurd e (by omega)) H
      have hk := (ct_all_mem hWR' h1 (by omega) ht).2.2
      rw [ct_ok_iff] at hk
      exact ⟨hk _ (by simp) p hp, hk _ (by simp) p hp⟩
  | succ f ih =>
    intro i u hi hu
    have hu' := hu
    obtain ⟨f0, f1, f2, f3, f4, f5, a1, a2, a3, a4, a5, a6, a7, a8, a9, a10, a11, a12, a13⟩ := u
    refine pk_le k2 i (fun z => absurd z (by omega)) (fun _ => ?_)
    rw [(lw_lt x1 i).2]
    refine wk_letter hu' (by rw [ct_wd_l]; omega) (lw_lt x1 i).1 (fun r u' h' => ?_)
    rw [← ct_wd_s] at h'
    have h := ih (i + 1) u' (by omega) h'
    obtain ⟨f0b, f1b, f2b, f3b, f4b, f5b, a1b, a2b, a3b, a4b, a5b, a6b, a7b, a8b, a9b, a10b, a11b, a12b, a13b⟩ := u'
    exact nm_r (nI_1 i) h
def lw_51 (post : Int32 → St0 → Prop) (mc ms : Nat) (x0 x1 x4 x5 x7 x8 x9 x10 : Int32) (kc ks N : Nat) (x11 : Int32) (u : St2) : Prop := match u with
  | (f0, f1, f2, f3, f4, f5, a1, a2, a3, a4, a5, a6, a7, a8, a9, a10, a11, a12, a13) => wL_lawOf_51 post mc ms x0 x1 x4 x5 x7 x8 x9 x10 kc ks N x11 f0 f1 f2 f3 f4 f5 a1 a2 a3 a4 a5 a6 a7 a8 a9 a10 a11 a12 a13
theorem lk_51 {post : Int32 → St0 → Prop} {mc ms kc ks : Nat} {x0 x1 x4 x5 : Int32} {n k1 k2 m : Nat} (h1 : 1 ≤ n) (h4 : n ≤ 4) (hk1 : k1 ≤ 7) (hk2 : k2 ≤ 7) (H : post 1 ()) :
    ∀ f i u, i + f = k1 → ct_P (ct_wd x0 i) [] m u → lw_51 post mc ms x0 x1 x4 x5 (nI n) (nI k1) (nI k2) (nI (ct_all [] n).length) kc ks (f + 1) (nI i) u := by
  intro f
  induction f with
  | zero =>
    intro i u hi hu
    have hi : i = k1 := by omega
    subst hi
    have hu' := hu
    have hW : ct_W (ct_wd x0 i) := ct_wd_W _ _
    have hWR : ct_WR [ct_wd x0 i] := fun v hv => by
      rw [List.mem_singleton] at hv
      rw [hv]; exact hW
    have b0 := ct_all_len [] n
    have b1 := ct_all_len [ct_wd x0 i] n
    have bc := List.countP_le_length (p := ct_fx (ct_wd x0 i)) (l := ct_all [] n)
    obtain ⟨f0, f1, f2, f3, f4, f5, a1, a2, a3, a4, a5, a6, a7, a8, a9, a10, a11, a12, a13⟩ := u
    refine pk_le i i (fun _ => ?_) (fun z => absurd z (by omega))
    refine wk_fixing hu' h1 (by omega) (fun u1 g1 => ?_)
    obtain ⟨f0b, f1b, f2b, f3b, f4b, f5b, a1b, a2b, a3b, a4b, a5b, a6b, a7b, a8b, a9b, a10b, a11b, a12b, a13b⟩ := u1
    refine wk_still g1 (fun u2 m2 b g2 hb => ?_)
    obtain ⟨f0c, f1c, f2c, f3c, f4c, f5c, a1c, a2c, a3c, a4c, a5c, a6c, a7c, a8c, a9c, a10c, a11c, a12c, a13c⟩ := u2
    refine wk_relate g2 (by simp) (fun u3 g3 => ?_)
    have g3' : ct_P (ct_wd x0 i) [ct_wd x0 i] 0 u3 := g3
    obtain ⟨f0d, f1d, f2d, f3d, f4d, f5d, a1d, a2d, a3d, a4d, a5d, a6d, a7d, a8d, a9d, a10d, a11d, a12d, a13d⟩ := u3
    refine br_t rfl (wk_fixing g3' h1 (by omega) (fun u4 g4 => ?_))
    obtain ⟨f0e, f1e, f2e, f3e, f4e, f5e, a1e, a2e, a3e, a4e, a5e, a6e, a7e, a8e, a9e, a10e, a11e, a12e, a13e⟩ := u4
    refine wk_tables g4 h1 (by omega) (fun u5 g5 => ?_)
    obtain ⟨f0g, f1g, f2g, f3g, f4g, f5g, a1g, a2g, a3g, a4g, a5g, a6g, a7g, a8g, a9g, a10g, a11g, a12g, a13g⟩ := u5
    refine br_t (by rw [ct_still_iff.mpr (ct_still_own hWR (by simp) h1 (by omega))]) (wk_still g5 (fun u6 m6 b6 g6 hb6 => ?_))
    have e6 : b6 = true := hb6.mpr (fun n n1 n5 => ct_still_own hWR (by simp) n1 n5)
    rw [e6]
    obtain ⟨f0h, f1h, f2h, f3h, f4h, f5h, a1h, a2h, a3h, a4h, a5h, a6h, a7h, a8h, a9h, a10h, a11h, a12h, a13h⟩ := u6
    refine br_t rfl (wk_tables g6 h1 (by omega) (fun u7 g7 => ?_))
    obtain ⟨f0i, f1i, f2i, f3i, f4i, f5i, a1i, a2i, a3i, a4i, a5i, a6i, a7i, a8i, a9i, a10i, a11i, a12i, a13i⟩ := u7
    refine br_f (nI_nlt (ct_tab_le hW h1 h4) (by omega)) (wk_clear g7 (fun u8 g8 => ?_))
    rw [ct_wd_l]
    have h := lk_156 (post := post) (mc := mc) (ms := ms) (kc := kc) (ks := ks) (x0 := x0) (x1 := x1) (x4 := x4) (x5 := x5) (x12 := if b = true then 1 else 0) (n := n) (k1 := i) (k2 := k2) h1 h4 hk1 hk2 (fun e => by
      cases b with
      | true => exact hb.mp rfl n h1 (by omega)
      | false => exact absurd e (by decide)) H k2 0 u8 (by omega) g8
    obtain ⟨f0j, f1j, f2j, f3j, f4j, f5j, a1j, a2j, a3j, a4j, a5j, a6j, a7j, a8j, a9j, a10j, a11j, a12j, a13j⟩ := u8
    exact br_t rfl ⟨_, h⟩
  | succ f ih =>
    intro i u hi hu
    have hu' := hu
    obtain ⟨f0, f1, f2, f3, f4, f5, a1, a2, a3, a4, a5, a6, a7, a8, a9, a10, a11, a12, a13⟩ := u
    refine pk_le k1 i (fun z => absurd z (by omega)) (fun _ => ?_)
    rw [(lw_lt x0 i).2]
    refine wk_letter hu' (by rw [ct_wd_l]; omega) (lw_lt x0 i).1 (fun r u' h' => ?_)
    rw [← ct_wd_s] at h'
    have h := ih (i + 1) u' (by omega) h'
    obtain ⟨f0b, f1b, f2b, f3b, f4b, f5b, a1b, a2b, a3b, a4b, a5b, a6b, a7b, a8b, a9b, a10b, a11b, a12b, a13b⟩ := u'
    exact nm_r (nI_1 i) h
theorem lk_lawOf {post : Int32 → St0 → Prop} (p0 p1 p2 p3 p4 p5 : Int32) (H : post 1 ()) : wpL_lawOf post 566 9056 () p0 p1 p2 p3 p4 p5 := by
  refine ⟨by omega, by omega, 13, 666, by omega, by omega, ?_⟩
  refine ⟨by omega, by omega, by omega, by omega, by omega, by omega, by omega, by omega, by omega, by omega, by omega, by omega, by omega, by omega, by omega, by omega, by omega, by omega, by omega, by omega, by omega, by omega, by omega, by omega, by omega, by omega, ?_⟩
  obtain ⟨j3, hj3, e3⟩ := pk_andE p3 (m := 3) 2 (by decide)
  obtain ⟨a, ha, ea⟩ := pk_andE p2 (m := 127) 7 (by decide)
  obtain ⟨b, hb, eb⟩ := pk_andE (p2 >>> ((7 : Int32) &&& 31)) (m := 127) 7 (by decide)
  intro x7 hx7
  refine ⟨by decide, fun x8 hx8 => ⟨by decide, fun x9 hx9 => ?_⟩⟩
  rw [e3, show (1 : Int32) + nI j3 = nI (1 + j3) from nI_add 1 j3] at hx7
  rw [ea, show (7 : Int32) = nI 7 from rfl, pk_rem (by omega) (by omega) (by omega), show (1 : Int32) + nI (a % 7) = nI (1 + a % 7) from nI_add 1 _] at hx8
  rw [eb, show (7 : Int32) = nI 7 from rfl, pk_rem (by omega) (by omega) (by omega)] at hx9
  subst hx7 hx8 hx9
  have P0 : ct_P [] [] 0 (0, 0, 0, 0, 0, 0, (fun _ => 0), (fun _ => 0), (fun _ => 0), (fun _ => 0), (fun _ => 0), (fun _ => 0), (fun _ => 0), (fun _ => 0), (fun _ => 0), (fun _ => 0), (fun _ => 0), (fun _ => 0), (fun _ => 0)) :=
    ⟨⟨rfl, by simp, fun i hi => absurd hi (by simp)⟩, ⟨by simp, rfl, fun k hk => absurd hk (by simp)⟩, rfl, by omega, fun c => absurd c (by omega)⟩
  refine wk_tables P0 (by omega) (by omega) (fun u' h' => ?_)
  have h := lk_51 (post := post) (mc := 566) (ms := 9056) (kc := 1 + 13) (ks := 19 + 666) (x0 := p0) (x1 := p1) (x4 := p4) (x5 := p5) (n := 1 + j3) (k1 := 1 + a % 7) (k2 := b % 7) (by omega) (by omega) (by omega) (by omega) H (1 + a % 7) 0 u' (by omega) h'
  obtain ⟨f0b, f1b, f2b, f3b, f4b, f5b, a1b, a2b, a3b, a4b, a5b, a6b, a7b, a8b, a9b, a10b, a11b, a12b, a13b⟩ := u'
  exact ⟨_, h⟩
theorem lk_cell {post : Int32 → Prop} {L : Nat} {xs : Nat → Int32} {u : St0} {i : Nat} (hL : L ≤ 6) (hi : i < 6) (H : ∀ r, post r) : wpL_cellAt post L xs u (nI i) :=
  pk_le L i (fun _ => H 0) (fun z => ⟨vp_in_nI z (by omega), H _⟩)
theorem i_vc (xs : Nat → Int32) (L : Nat) (hL : L ≤ 6) : wpL_law (fun r => r = 1) L xs := by
  refine lk_cell (i := 0) hL (by omega) (fun r1 => lk_cell (i := 1) hL (by omega) (fun r2 => lk_cell (i := 2) hL (by omega) (fun r3 => lk_cell (i := 3) hL (by omega) (fun r4 => lk_cell (i := 4) hL (by omega) (fun r5 => lk_cell (i := 5) hL (by omega) (fun r6 => ?_))))))
  exact ⟨566, 9056, by omega, by omega, lk_lawOf r1 r2 r3 r4 r5 r6 rfl⟩
end
