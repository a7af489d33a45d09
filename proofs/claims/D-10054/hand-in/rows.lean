section
/-! bits of an Int32 (rows of kit/laws/BITS, renamed), then what the walks ask of them -/
def lz_bt (x : Int32) (i : Nat) : Bool := x.toBitVec.getLsbD i
theorem lz_ext {x y : Int32} (h : ∀ i, i < 32 → lz_bt x i = lz_bt y i) : x = y := Int32.toBitVec_inj.mp (BitVec.eq_of_getLsbD_eq (fun i hi => h i hi))
theorem lz_or (x y : Int32) (i : Nat) : lz_bt (x ||| y) i = (lz_bt x i || lz_bt y i) := by unfold lz_bt; rw [Int32.toBitVec_or, BitVec.getLsbD_or]
theorem lz_and (x y : Int32) (i : Nat) : lz_bt (x &&& y) i = (lz_bt x i && lz_bt y i) := by unfold lz_bt; rw [Int32.toBitVec_and, BitVec.getLsbD_and]
theorem lz_xor (x y : Int32) (i : Nat) : lz_bt (x ^^^ y) i = (lz_bt x i ^^ lz_bt y i) := by unfold lz_bt; rw [Int32.toBitVec_xor, BitVec.getLsbD_xor]
theorem lz_big {x : Int32} {i : Nat} (h : 32 ≤ i) : lz_bt x i = false := BitVec.getLsbD_of_ge _ _ h
theorem lz_m1 : ∀ i, i < 32 → lz_bt (-1) i = true := by decide +kernel
theorem lz_b0 (i : Nat) : lz_bt 0 i = false := BitVec.getLsbD_zero
theorem lz_sl : ∀ n, n < 32 → ((nI n &&& 31).toBitVec.smod 32).toNat = n := by decide +kernel
theorem lz_shl (n : Nat) (hn : n < 32) (x : Int32) {i : Nat} (hi : i < 32) : lz_bt (x <<< (nI n &&& 31)) i = (decide (n ≤ i) && lz_bt x (i - n)) := by
  unfold lz_bt
  rw [Int32.toBitVec_shiftLeft]
  show (x.toBitVec <<< ((nI n &&& 31).toBitVec.smod 32).toNat).getLsbD i = _
  rw [lz_sl n hn, BitVec.getLsbD_shiftLeft]
  rcases Nat.lt_or_ge i n with h | h
  · simp [h, Nat.not_le.mpr h]
  · simp [hi, h, Nat.not_lt.mpr h]
theorem lz_sshr (n : Nat) (hn : n < 32) (x : Int32) {i : Nat} (hi : i < 32) : lz_bt (x >>> (nI n &&& 31)) i = if n + i < 32 then lz_bt x (n + i) else lz_bt x 31 := by
  unfold lz_bt
  rw [Int32.toBitVec_shiftRight]
  show (x.toBitVec.sshiftRight ((nI n &&& 31).toBitVec.smod 32).toNat).getLsbD i = _
  rw [lz_sl n hn, BitVec.getLsbD_sshiftRight, BitVec.msb_eq_getLsbD_last]
  simp [hi]
theorem lz_1 (i : Nat) : lz_bt 1 i = decide (i = 0) := by
  rcases Nat.lt_or_ge i 32 with h | h
  · exact (by decide +kernel : ∀ i, i < 32 → lz_bt 1 i = decide (i = 0)) i h
  · rw [lz_big h, decide_eq_false (by omega)]
theorem lz_7 (i : Nat) : lz_bt 7 i = decide (i < 3) := by
  rcases Nat.lt_or_ge i 32 with h | h
  · exact (by decide +kernel : ∀ i, i < 32 → lz_bt 7 i = decide (i < 3)) i h
  · rw [lz_big h, decide_eq_false (by omega)]
theorem lz_4095 (i : Nat) : lz_bt 4095 i = decide (i < 12) := by
  rcases Nat.lt_or_ge i 32 with h | h
  · exact (by decide +kernel : ∀ i, i < 32 → lz_bt 4095 i = decide (i < 12)) i h
  · rw [lz_big h, decide_eq_false (by omega)]
theorem lz_b1 {a : Nat} (ha : a < 32) (b : Nat) : lz_bt ((1 : Int32) <<< (nI a &&& 31)) b = decide (b = a) := by
  rcases Nat.lt_or_ge b 32 with h | h
  · rw [lz_shl a ha 1 h, lz_1, ← Bool.decide_and]
    exact decide_eq_decide.mpr (by omega)
  · rw [lz_big h, decide_eq_false (by omega)]
theorem lz_b1s {a : Nat} (ha : a < 32) : lz_bt ((1 : Int32) <<< (nI a &&& 31)) a = true := by rw [lz_b1 ha]; exact decide_eq_true rfl
theorem lz_b1e {a b : Nat} (ha : a < 32) (h : lz_bt ((1 : Int32) <<< (nI a &&& 31)) b = true) : b = a := by rw [lz_b1 ha] at h; exact of_decide_eq_true h
theorem lz_not (y : Int32) {b : Nat} (h : b < 32) : lz_bt (y ^^^ (-1)) b = !lz_bt y b := by rw [lz_xor, lz_m1 b h, Bool.xor_true]
theorem lz_nt (x y : Int32) (b : Nat) : lz_bt (x &&& (y ^^^ (-1))) b = (lz_bt x b && !lz_bt y b) := by
  rcases Nat.lt_or_ge b 32 with h | h
  · rw [lz_and, lz_not y h]
  · rw [lz_big h, lz_big (x := x) h, Bool.false_and]
theorem lz_zero {x : Int32} : x = 0 ↔ ∀ b, lz_bt x b = false := by
  constructor
  · intro h b
    rw [h, lz_b0]
  · intro h
    exact lz_ext (fun i _ => by rw [h i, lz_b0])
theorem lz_nz {x : Int32} (h : ¬ x = 0) : ∃ b, lz_bt x b = true := by
  apply Classical.byContradiction
  intro hn
  apply h
  rw [lz_zero]
  intro b
  cases e : lz_bt x b with
  | false => rfl
  | true => exact absurd ⟨b, e⟩ hn
theorem lz_bit (x : Int32) {a : Nat} (ha : a < 32) : ((x >>> (nI a &&& 31)) &&& 1) = 1 ↔ lz_bt x a = true := by
  have e : lz_bt ((x >>> (nI a &&& 31)) &&& 1) 0 = lz_bt x a := by
    rw [lz_and, lz_sshr a ha x (by omega), lz_1, if_pos (by omega), Nat.add_zero, decide_eq_true rfl, Bool.and_true]
  constructor
  · intro h
    rw [h, lz_1, decide_eq_true rfl] at e
    exact e.symm
  · intro h
    apply lz_ext
    intro i hi
    by_cases z : i = 0
    · subst z
      rw [e, h, lz_1, decide_eq_true rfl]
    · rw [lz_and, lz_1, decide_eq_false z, Bool.and_false]
theorem lz_and1 (x : Int32) {a : Nat} (ha : a < 32) : (x &&& ((1 : Int32) <<< (nI a &&& 31))) = 0 ↔ lz_bt x a = false := by
  rw [lz_zero]
  constructor
  · intro h
    have := h a
    rw [lz_and, lz_b1s ha, Bool.and_true] at this
    exact this
  · intro h b
    rw [lz_and, lz_b1 ha]
    by_cases e : b = a
    · rw [e, h, Bool.false_and]
    · rw [decide_eq_false e, Bool.and_false]
theorem lz_and0 {x y : Int32} : (x &&& y) = 0 ↔ ∀ b, lz_bt x b = true → lz_bt y b = false := by
  rw [lz_zero]
  constructor
  · intro h b hb
    have := h b
    rw [lz_and, hb, Bool.true_and] at this
    exact this
  · intro h b
    rw [lz_and]
    cases e : lz_bt x b with
    | false => rfl
    | true => rw [h b e, Bool.and_false]
theorem lz_nt0 {x y : Int32} : (x &&& (y ^^^ (-1))) = 0 ↔ ∀ b, lz_bt x b = true → lz_bt y b = true := by
  rw [lz_zero]
  constructor
  · intro h b hb
    have := h b
    rw [lz_nt, hb, Bool.true_and] at this
    cases e : lz_bt y b with
    | true => rfl
    | false => rw [e] at this; exact absurd this (by decide)
  · intro h b
    rw [lz_nt]
    cases e : lz_bt x b with
    | false => rfl
    | true => rw [h b e]; rfl
/-! the numbers of atoms -/
theorem lz_at1 (i v : Nat) (h : 1 ≤ v) : nI i * 3 + nI v - 1 = nI (i * 3 + v - 1) := by
  show nI i * nI 3 + nI v - nI 1 = _
  rw [pk_mul, nI_add, pk_sub (by omega)]
theorem lz_at0 (i v : Nat) : nI i * 3 + nI v = nI (i * 3 + v) := by
  show nI i * nI 3 + nI v = _
  rw [pk_mul, nI_add]
theorem lz_c4 (c i : Nat) : nI c * 4 + nI i = nI (c * 4 + i) := by
  show nI c * nI 4 + nI i = _
  rw [pk_mul, nI_add]
/-! ints without overflow -/
theorem lz_iadd {x y : Int32} {a b : Int} (hx : x.toInt = a) (hy : y.toInt = b) (h1 : -1000000 ≤ a + b) (h2 : a + b ≤ 1000000) : (x + y).toInt = a + b := by
  rw [Int32.toInt_add, hx, hy]
  exact Int.bmod_eq_of_le (by omega) (by omega)
theorem lz_isub {x y : Int32} {a b : Int} (hx : x.toInt = a) (hy : y.toInt = b) (h1 : -1000000 ≤ a - b) (h2 : a - b ≤ 1000000) : (x - y).toInt = a - b := by
  rw [Int32.toInt_sub, hx, hy]
  exact Int.bmod_eq_of_le (by omega) (by omega)
theorem lz_imul {x y : Int32} {a b : Int} (hx : x.toInt = a) (hy : y.toInt = b) (h1 : -1000000 ≤ a * b) (h2 : a * b ≤ 1000000) : (x * y).toInt = a * b := by
  rw [Int32.toInt_mul, hx, hy]
  exact Int.bmod_eq_of_le (by omega) (by omega)
theorem lz_nT {n : Nat} (h : n < 1000000) : (nI n).toInt = (n : Int) := nI_toInt (by omega)
theorem lz_mulr {a : Int} {n : Nat} (h1 : -5 ≤ a) (h2 : a ≤ 5) (hn : n ≤ 3) : -15 ≤ a * n ∧ a * n ≤ 15 := by
  have h : n = 0 ∨ n = 1 ∨ n = 2 ∨ n = 3 := by omega
  rcases h with e | e | e | e <;> subst e <;> simp <;> omega
end
section
/-! the plain law, no program in sight: trail, decisions, reasons -/
def lz_as (Y N : Nat → Bool) (a : Nat) : Prop := Y a = true ∨ N a = true
theorem lz_pig : ∀ (m n : Nat) (f : Nat → Nat), (∀ t, t < n → f t < m) → (∀ s t, s < t → t < n → f s ≠ f t) → n ≤ m := by
  intro m
  induction m with
  | zero =>
    intro n f h _
    rcases Nat.eq_zero_or_pos n with z | z
    · omega
    · exact absurd (h 0 z) (by omega)
  | succ m ih =>
    intro n f h hi
    by_cases hx : ∃ t, t < n ∧ f t = m
    · obtain ⟨t0, ht0, e0⟩ := hx
      have key : n - 1 ≤ m := by
        refine ih (n - 1) (fun t => f (if t < t0 then t else t + 1)) ?_ ?_
        · intro t ht
          have h1 := h (if t < t0 then t else t + 1) (by split <;> omega)
          have h2 : f (if t < t0 then t else t + 1) ≠ m := by
            intro e
            by_cases c : t < t0
            · rw [if_pos c] at e
              exact hi t t0 c ht0 (by rw [e, e0])
            · rw [if_neg c] at e
              exact hi t0 (t + 1) (by omega) (by omega) (by rw [e, e0])
          show f (if t < t0 then t else t + 1) < m
          omega
        · intro s t hst ht
          exact hi _ _ (by split <;> split <;> omega) (by split <;> omega)
      omega
    · have key := ih n f (fun t ht => by
        have h1 := h t ht
        have h2 : f t ≠ m := fun e => hx ⟨t, ht, e⟩
        omega) hi
      omega
def lz_T (Y N : Nat → Bool) (n k : Nat) (τ ℓ : Nat → Nat) : Prop :=
  (∀ a, Y a = true → N a = true → False) ∧ (∀ t, t < n → τ t < 12 ∧ lz_as Y N (τ t)) ∧ (∀ a, lz_as Y N a → ∃ t, t < n ∧ τ t = a) ∧
  (∀ s t, s < t → t < n → τ s ≠ τ t) ∧ (∀ s t, s ≤ t → t < n → ℓ (τ s) ≤ ℓ (τ t)) ∧ (∀ t, t < n → ℓ (τ t) ≤ k)
def lz_Q (Y N D : Nat → Bool) (n k : Nat) (τ ℓ : Nat → Nat) : Prop :=
  (∀ d, D d = true → N d = true ∧ 1 ≤ ℓ d ∧ ∀ a, a < d → lz_as Y N a ∧ ℓ a < ℓ d) ∧
  (∀ s t, t < s → s < n → D (τ s) = true → ℓ (τ t) < ℓ (τ s)) ∧
  (∀ l, 1 ≤ l → l ≤ k → ∃ d, D d = true ∧ ℓ d = l)
def lz_R (Sol : (Nat → Bool) → Prop) (Y N D : Nat → Bool) (n : Nat) (τ : Nat → Nat) (WY WN : Nat → Nat → Bool) : Prop :=
  ∀ t, t < n → D (τ t) = false → (∀ b, WY (τ t) b = true → Y b = true ∧ ∃ s, s < t ∧ τ s = b) ∧ (∀ b, WN (τ t) b = true → N b = true ∧ ∃ s, s < t ∧ τ s = b) ∧
    (∀ S, Sol S → (∀ b, WY (τ t) b = true → S b = true) → (∀ b, WN (τ t) b = true → S b = false) → S (τ t) = Y (τ t))
def lz_U (BY BN : Nat → Prop) (Y N : Nat → Bool) (ℓ : Nat → Nat) : Prop :=
  (∀ b, BY b → Y b = true ∧ ℓ b = 0) ∧ (∀ b, BN b → N b = true ∧ ℓ b = 0)
def lz_P (Sol : (Nat → Bool) → Prop) (BY BN : Nat → Prop) (Y N D : Nat → Bool) (n k : Nat) (τ ℓ : Nat → Nat) (WY WN : Nat → Nat → Bool) : Prop :=
  lz_T Y N n k τ ℓ ∧ lz_Q Y N D n k τ ℓ ∧ lz_R Sol Y N D n τ WY WN ∧ lz_U BY BN Y N ℓ
theorem lz_T_n {Y N : Nat → Bool} {n k : Nat} {τ ℓ : Nat → Nat} (h : lz_T Y N n k τ ℓ) : n ≤ 12 := lz_pig 12 n τ (fun t ht => (h.2.1 t ht).1) h.2.2.2.1
theorem lz_T_n' {Y N : Nat → Bool} {n k : Nat} {τ ℓ : Nat → Nat} (h : lz_T Y N n k τ ℓ) {a : Nat} (ha : a < 12) (hna : ¬ lz_as Y N a) : n < 12 := by
  have key : n + 1 ≤ 12 := by
    refine lz_pig 12 (n + 1) (fun t => if t < n then τ t else a) ?_ ?_
    · intro t ht
      show (if t < n then τ t else a) < 12
      by_cases c : t < n
      · rw [if_pos c]
        exact (h.2.1 t c).1
      · rw [if_neg c]
        exact ha
    · intro s t hst ht
      have hs : s < n := by omega
      show (if s < n then τ s else a) ≠ (if t < n then τ t else a)
      rw [if_pos hs]
      by_cases c : t < n
      · rw [if_pos c]
        exact h.2.2.2.1 s t hst c
      · rw [if_neg c]
        intro e
        exact hna (e ▸ (h.2.1 s hs).2)
  omega
theorem lz_T_12 {Y N : Nat → Bool} {n k : Nat} {τ ℓ : Nat → Nat} (h : lz_T Y N n k τ ℓ) {a : Nat} (ha : lz_as Y N a) : a < 12 := by
  obtain ⟨t, ht, e⟩ := h.2.2.1 a ha
  exact e ▸ (h.2.1 t ht).1
theorem lz_T_lv {Y N : Nat → Bool} {n k : Nat} {τ ℓ : Nat → Nat} (h : lz_T Y N n k τ ℓ) {a : Nat} (ha : lz_as Y N a) : ℓ a ≤ k := by
  obtain ⟨t, ht, e⟩ := h.2.2.1 a ha
  exact e ▸ h.2.2.2.2.2 t ht
theorem lz_T_no {Y N : Nat → Bool} {n k : Nat} {τ ℓ : Nat → Nat} (h : lz_T Y N n k τ ℓ) {a : Nat} (ha : N a = true) : Y a = false := by
  cases e : Y a with
  | false => rfl
  | true => exact (h.1 a e ha).elim
theorem lz_Q_u {Y N D : Nat → Bool} {n k : Nat} {τ ℓ : Nat → Nat} (h : lz_Q Y N D n k τ ℓ) {d e : Nat} (hd : D d = true) (he : D e = true) (hl : ℓ d = ℓ e) : d = e := by
  rcases Nat.lt_trichotomy d e with c | c | c
  · have := ((h.1 e he).2.2 d c).2
    omega
  · exact c
  · have := ((h.1 d hd).2.2 e c).2
    omega
/-- as many levels as decisions: at most 12 -/
theorem lz_TQ_k {Y N D : Nat → Bool} {n k : Nat} {τ ℓ : Nat → Nat} (h : lz_T Y N n k τ ℓ) (hq : lz_Q Y N D n k τ ℓ) : k ≤ 12 := by
  have hc : ∀ l, ∃ d, l < k → D d = true ∧ ℓ d = l + 1 := by
    intro l
    by_cases c : l < k
    · obtain ⟨d, h1, h2⟩ := hq.2.2 (l + 1) (by omega) (by omega)
      exact ⟨d, fun _ => ⟨h1, h2⟩⟩
    · exact ⟨0, fun z => absurd z c⟩
  refine lz_pig 12 k (fun l => Classical.choose (hc l)) ?_ ?_
  · intro t ht
    have := Classical.choose_spec (hc t) ht
    exact lz_T_12 h (Or.inr (hq.1 _ this.1).1)
  · intro s t hst ht e
    have h1 := Classical.choose_spec (hc s) (by omega)
    have h2 := Classical.choose_spec (hc t) ht
    have e' : Classical.choose (hc s) = Classical.choose (hc t) := e
    rw [e'] at h1
    omega
/-! one more atom on the trail -/
def lz_X (a : Nat) (v : Bool) (k : Nat) (Y N Y' N' : Nat → Bool) (n : Nat) (τ τ' ℓ ℓ' : Nat → Nat) : Prop :=
  (∀ b, Y' b = (Y b || (v && decide (b = a)))) ∧ (∀ b, N' b = (N b || (!v && decide (b = a)))) ∧ (∀ t, t < n → τ' t = τ t) ∧ τ' n = a ∧ (∀ b, b ≠ a → ℓ' b = ℓ b) ∧ ℓ' a = k
theorem lz_X_Y {a : Nat} {v : Bool} {k : Nat} {Y N Y' N' : Nat → Bool} {n : Nat} {τ τ' ℓ ℓ' : Nat → Nat} (x : lz_X a v k Y N Y' N' n τ τ' ℓ ℓ') {b : Nat} (h : b ≠ a) : Y' b = Y b := by
  rw [x.1 b, decide_eq_false h, Bool.and_false, Bool.or_false]
theorem lz_X_N {a : Nat} {v : Bool} {k : Nat} {Y N Y' N' : Nat → Bool} {n : Nat} {τ τ' ℓ ℓ' : Nat → Nat} (x : lz_X a v k Y N Y' N' n τ τ' ℓ ℓ') {b : Nat} (h : b ≠ a) : N' b = N b := by
  rw [x.2.1 b, decide_eq_false h, Bool.and_false, Bool.or_false]
theorem lz_X_a {a : Nat} {v : Bool} {k : Nat} {Y N Y' N' : Nat → Bool} {n : Nat} {τ τ' ℓ ℓ' : Nat → Nat} (x : lz_X a v k Y N Y' N' n τ τ' ℓ ℓ') : lz_as Y' N' a := by
  cases v with
  | true => exact Or.inl (by rw [x.1 a, decide_eq_true rfl]; simp)
  | false => exact Or.inr (by rw [x.2.1 a, decide_eq_true rfl]; simp)
theorem lz_X_as {a : Nat} {v : Bool} {k : Nat} {Y N Y' N' : Nat → Bool} {n : Nat} {τ τ' ℓ ℓ' : Nat → Nat} (x : lz_X a v k Y N Y' N' n τ τ' ℓ ℓ') {b : Nat} (h : lz_as Y N b) : lz_as Y' N' b := by
  rcases h with h | h
  · exact Or.inl (by rw [x.1 b, h, Bool.true_or])
  · exact Or.inr (by rw [x.2.1 b, h, Bool.true_or])
theorem lz_X_sa {a : Nat} {v : Bool} {k : Nat} {Y N Y' N' : Nat → Bool} {n : Nat} {τ τ' ℓ ℓ' : Nat → Nat} (x : lz_X a v k Y N Y' N' n τ τ' ℓ ℓ') {b : Nat} (hb : b ≠ a) (h : lz_as Y' N' b) : lz_as Y N b := by
  rcases h with h | h
  · exact Or.inl (by rw [← lz_X_Y x hb, h])
  · exact Or.inr (by rw [← lz_X_N x hb, h])
theorem lz_X_T {a : Nat} {v : Bool} {k k' : Nat} {Y N Y' N' : Nat → Bool} {n : Nat} {τ τ' ℓ ℓ' : Nat → Nat} (x : lz_X a v k' Y N Y' N' n τ τ' ℓ ℓ') (h : lz_T Y N n k τ ℓ) (ha : a < 12) (hna : ¬ lz_as Y N a) (hk : k ≤ k') : lz_T Y' N' (n + 1) k' τ' ℓ' := by
  have hne : ∀ t, t < n → τ t ≠ a := fun t ht e => hna (e ▸ (h.2.1 t ht).2)
  have hl : ∀ t, t < n → ℓ' (τ' t) = ℓ (τ t) := fun t ht => by rw [x.2.2.1 t ht, x.2.2.2.2.1 _ (hne t ht)]
  have hln : ℓ' (τ' n) = k' := by rw [x.2.2.2.1, x.2.2.2.2.2]
  refine ⟨?_, ?_, ?_, ?_, ?_, ?_⟩
  · intro b h1 h2
    by_cases e : b = a
    · subst e
      have y : Y b = false := by
        cases q : Y b with
        | false => rfl
        | true => exact (hna (Or.inl q)).elim
      have z : N b = false := by
        cases q : N b with
        | false => rfl
        | true => exact (hna (Or.inr q)).elim
      rw [x.1 b, y] at h1
      rw [x.2.1 b, z] at h2
      cases v <;> simp at h1 h2
    · rw [lz_X_Y x e] at h1
      rw [lz_X_N x e] at h2
      exact h.1 b h1 h2
  · intro t ht
    by_cases c : t < n
    · rw [x.2.2.1 t c]
      exact ⟨(h.2.1 t c).1, lz_X_as x (h.2.1 t c).2⟩
    · have e : t = n := by omega
      rw [e, x.2.2.2.1]
      exact ⟨ha, lz_X_a x⟩
  · intro b hb
    by_cases e : b = a
    · exact ⟨n, by omega, by rw [x.2.2.2.1, e]⟩
    · obtain ⟨t, ht, e'⟩ := h.2.2.1 b (lz_X_sa x e hb)
      exact ⟨t, by omega, by rw [x.2.2.1 t ht, e']⟩
  · intro s t hst ht
    have hs : s < n := by omega
    rw [x.2.2.1 s hs]
    by_cases c : t < n
    · rw [x.2.2.1 t c]
      exact h.2.2.2.1 s t hst c
    · have e : t = n := by omega
      rw [e, x.2.2.2.1]
      exact hne s hs
  · intro s t hst ht
    by_cases c : t < n
    · rw [hl s (by omega), hl t c]
      exact h.2.2.2.2.1 s t hst c
    · have e : t = n := by omega
      rw [e, hln]
      by_cases c2 : s < n
      · rw [hl s c2]
        exact Nat.le_trans (h.2.2.2.2.2 s c2) hk
      · have e2 : s = n := by omega
        rw [e2, hln]
        exact Nat.le_refl _
  · intro t ht
    by_cases c : t < n
    · rw [hl t c]
      exact Nat.le_trans (h.2.2.2.2.2 t c) hk
    · have e : t = n := by omega
      rw [e, hln]
      exact Nat.le_refl _
theorem lz_X_U {a : Nat} {v : Bool} {k' : Nat} {Y N Y' N' : Nat → Bool} {n : Nat} {τ τ' ℓ ℓ' : Nat → Nat} {BY BN : Nat → Prop} (x : lz_X a v k' Y N Y' N' n τ τ' ℓ ℓ') (h : lz_U BY BN Y N ℓ) (hna : ¬ lz_as Y N a) : lz_U BY BN Y' N' ℓ' := by
  constructor
  · intro b hb
    have h1 := h.1 b hb
    have e : b ≠ a := fun e => hna (e ▸ Or.inl h1.1)
    rw [lz_X_Y x e, x.2.2.2.2.1 b e]
    exact h1
  · intro b hb
    have h1 := h.2 b hb
    have e : b ≠ a := fun e => hna (e ▸ Or.inr h1.1)
    rw [lz_X_N x e, x.2.2.2.2.1 b e]
    exact h1
/-- an atom implied by true and false atoms -/
theorem lz_P_asg {Sol : (Nat → Bool) → Prop} {BY BN : Nat → Prop} {a : Nat} {v : Bool} {k : Nat} {Y N D Y' N' : Nat → Bool} {n : Nat} {τ τ' ℓ ℓ' : Nat → Nat} {WY WN WY' WN' : Nat → Nat → Bool}
    (h : lz_P Sol BY BN Y N D n k τ ℓ WY WN) (x : lz_X a v k Y N Y' N' n τ τ' ℓ ℓ') (ha : a < 12) (hna : ¬ lz_as Y N a)
    (wy : ∀ b, b ≠ a → WY' b = WY b) (wn : ∀ b, b ≠ a → WN' b = WN b) (ry : ∀ b, WY' a b = true → Y b = true) (rn : ∀ b, WN' a b = true → N b = true)
    (hr : ∀ S, Sol S → (∀ b, WY' a b = true → S b = true) → (∀ b, WN' a b = true → S b = false) → S a = v) : lz_P Sol BY BN Y' N' D (n + 1) k τ' ℓ' WY' WN' := by
  obtain ⟨hT, hQ, hR, hU⟩ := h
  have hne : ∀ t, t < n → τ t ≠ a := fun t ht e => hna (e ▸ (hT.2.1 t ht).2)
  have hDa : D a = false := by
    cases q : D a with
    | false => rfl
    | true => exact (hna (Or.inr (hQ.1 a q).1)).elim
  have hl : ∀ t, t < n → ℓ' (τ' t) = ℓ (τ t) := fun t ht => by rw [x.2.2.1 t ht, x.2.2.2.2.1 _ (hne t ht)]
  have hYs : ∀ b, Y b = true → Y' b = true := fun b hb => by rw [x.1 b, hb, Bool.true_or]
  have hNs : ∀ b, N b = true → N' b = true := fun b hb => by rw [x.2.1 b, hb, Bool.true_or]
  refine ⟨lz_X_T x hT ha hna (Nat.le_refl _), ⟨?_, ?_, ?_⟩, ?_, lz_X_U x hU hna⟩
  · intro d hd
    have h1 := hQ.1 d hd
    have e : d ≠ a := fun e => hna (e ▸ Or.inr h1.1)
    refine ⟨hNs d h1.1, by rw [x.2.2.2.2.1 d e]; exact h1.2.1, fun b hb => ?_⟩
    have h2 := h1.2.2 b hb
    have e2 : b ≠ a := fun e => hna (e ▸ h2.1)
    rw [x.2.2.2.2.1 d e, x.2.2.2.2.1 b e2]
    exact ⟨lz_X_as x h2.1, h2.2⟩
  · intro s t hts hs hd
    by_cases c : s < n
    · rw [hl s c, hl t (by omega)]
      rw [x.2.2.1 s c] at hd
      exact hQ.2.1 s t hts c hd
    · have e : s = n := by omega
      rw [e, x.2.2.2.1, hDa] at hd
      exact absurd hd (by decide)
  · intro l h1 h2
    obtain ⟨d, hd, e⟩ := hQ.2.2 l h1 h2
    have e2 : d ≠ a := fun e => by rw [e, hDa] at hd; exact absurd hd (by decide)
    exact ⟨d, hd, by rw [x.2.2.2.2.1 d e2, e]⟩
  · intro t ht hd
    by_cases c : t < n
    · rw [x.2.2.1 t c] at hd ⊢
      obtain ⟨r1, r2, r3⟩ := hR t c hd
      rw [wy _ (hne t c), wn _ (hne t c)]
      refine ⟨fun b hb => ?_, fun b hb => ?_, fun S hS s1 s2 => ?_⟩
      · obtain ⟨q1, s, hs, q2⟩ := r1 b hb
        exact ⟨hYs b q1, s, hs, by rw [x.2.2.1 s (by omega), q2]⟩
      · obtain ⟨q1, s, hs, q2⟩ := r2 b hb
        exact ⟨hNs b q1, s, hs, by rw [x.2.2.1 s (by omega), q2]⟩
      · rw [r3 S hS s1 s2, lz_X_Y x (hne t c)]
    · have e : t = n := by omega
      rw [e, x.2.2.2.1]
      refine ⟨fun b hb => ?_, fun b hb => ?_, fun S hS s1 s2 => ?_⟩
      · obtain ⟨s, hs, q⟩ := hT.2.2.1 b (Or.inl (ry b hb))
        exact ⟨hYs b (ry b hb), s, hs, by rw [x.2.2.1 s hs, q]⟩
      · obtain ⟨s, hs, q⟩ := hT.2.2.1 b (Or.inr (rn b hb))
        exact ⟨hNs b (rn b hb), s, hs, by rw [x.2.2.1 s hs, q]⟩
      · have y : Y a = false := by
          cases q : Y a with
          | false => rfl
          | true => exact (hna (Or.inl q)).elim
        rw [hr S hS s1 s2, x.1 a, y, decide_eq_true rfl, Bool.and_true, Bool.false_or]
/-- a decision: the first open atom is made false, one level up -/
theorem lz_P_dec {Sol : (Nat → Bool) → Prop} {BY BN : Nat → Prop} {a : Nat} {k : Nat} {Y N D Y' N' D' : Nat → Bool} {n : Nat} {τ τ' ℓ ℓ' : Nat → Nat} {WY WN WY' WN' : Nat → Nat → Bool}
    (h : lz_P Sol BY BN Y N D n k τ ℓ WY WN) (x : lz_X a false (k + 1) Y N Y' N' n τ τ' ℓ ℓ') (ha : a < 12) (hna : ¬ lz_as Y N a) (hf : ∀ b, b < a → lz_as Y N b)
    (hD : ∀ b, D' b = (D b || decide (b = a))) (wy : ∀ b, b ≠ a → WY' b = WY b) (wn : ∀ b, b ≠ a → WN' b = WN b) : lz_P Sol BY BN Y' N' D' (n + 1) (k + 1) τ' ℓ' WY' WN' := by
  obtain ⟨hT, hQ, hR, hU⟩ := h
  have hne : ∀ t, t < n → τ t ≠ a := fun t ht e => hna (e ▸ (hT.2.1 t ht).2)
  have hl : ∀ t, t < n → ℓ' (τ' t) = ℓ (τ t) := fun t ht => by rw [x.2.2.1 t ht, x.2.2.2.2.1 _ (hne t ht)]
  have hYs : ∀ b, Y b = true → Y' b = true := fun b hb => by rw [x.1 b, hb, Bool.true_or]
  have hNs : ∀ b, N b = true → N' b = true := fun b hb => by rw [x.2.1 b, hb, Bool.true_or]
  have hNa : N' a = true := by rw [x.2.1 a, decide_eq_true rfl]; simp
  have hDo : ∀ b, b ≠ a → D' b = D b := fun b hb => by rw [hD b, decide_eq_false hb, Bool.or_false]
  refine ⟨lz_X_T x hT ha hna (by omega), ⟨?_, ?_, ?_⟩, ?_, lz_X_U x hU hna⟩
  · intro d hd
    by_cases e : d = a
    · subst e
      refine ⟨hNa, by rw [x.2.2.2.2.2]; omega, fun b hb => ?_⟩
      have h2 := hf b hb
      have e2 : b ≠ d := by omega
      rw [x.2.2.2.2.2, x.2.2.2.2.1 b e2]
      exact ⟨lz_X_as x h2, by have := lz_T_lv hT h2; omega⟩
    · rw [hDo d e] at hd
      have h1 := hQ.1 d hd
      refine ⟨hNs d h1.1, by rw [x.2.2.2.2.1 d e]; exact h1.2.1, fun b hb => ?_⟩
      have h2 := h1.2.2 b hb
      have e2 : b ≠ a := fun e => hna (e ▸ h2.1)
      rw [x.2.2.2.2.1 d e, x.2.2.2.2.1 b e2]
      exact ⟨lz_X_as x h2.1, h2.2⟩
  · intro s t hts hs hd
    by_cases c : s < n
    · rw [hl s c, hl t (by omega)]
      rw [x.2.2.1 s c, hDo _ (hne s c)] at hd
      exact hQ.2.1 s t hts c hd
    · have e : s = n := by omega
      rw [e, x.2.2.2.1, x.2.2.2.2.2, hl t (by omega)]
      have := hT.2.2.2.2.2 t (by omega)
      omega
  · intro l h1 h2
    by_cases c : l ≤ k
    · obtain ⟨d, hd, e⟩ := hQ.2.2 l h1 c
      have e2 : d ≠ a := fun e => hna (e ▸ Or.inr (hQ.1 d hd).1)
      exact ⟨d, by rw [hDo d e2, hd], by rw [x.2.2.2.2.1 d e2, e]⟩
    · exact ⟨a, by rw [hD a, decide_eq_true rfl, Bool.or_true], by rw [x.2.2.2.2.2]; omega⟩
  · intro t ht hd
    by_cases c : t < n
    · rw [x.2.2.1 t c] at hd ⊢
      rw [hDo _ (hne t c)] at hd
      obtain ⟨r1, r2, r3⟩ := hR t c hd
      rw [wy _ (hne t c), wn _ (hne t c)]
      refine ⟨fun b hb => ?_, fun b hb => ?_, fun S hS s1 s2 => ?_⟩
      · obtain ⟨q1, s, hs, q2⟩ := r1 b hb
        exact ⟨hYs b q1, s, hs, by rw [x.2.2.1 s (by omega), q2]⟩
      · obtain ⟨q1, s, hs, q2⟩ := r2 b hb
        exact ⟨hNs b q1, s, hs, by rw [x.2.2.1 s (by omega), q2]⟩
      · rw [r3 S hS s1 s2, lz_X_Y x (hne t c)]
    · have e : t = n := by omega
      rw [e, x.2.2.2.1, hD a, decide_eq_true rfl, Bool.or_true] at hd
      exact absurd hd (by decide)
/-- back to level l -/
theorem lz_P_back {Sol : (Nat → Bool) → Prop} {BY BN : Nat → Prop} {k l c : Nat} {Y N D Y' N' D' : Nat → Bool} {n : Nat} {τ ℓ : Nat → Nat} {WY WN : Nat → Nat → Bool}
    (h : lz_P Sol BY BN Y N D n k τ ℓ WY WN) (hl : l ≤ k) (hc : c ≤ n) (h1 : ∀ t, t < c → ℓ (τ t) ≤ l) (h2 : ∀ t, c ≤ t → t < n → l < ℓ (τ t))
    (hY : ∀ b, Y' b = true ↔ (Y b = true ∧ ℓ b ≤ l)) (hN : ∀ b, N' b = true ↔ (N b = true ∧ ℓ b ≤ l)) (hD : ∀ b, D' b = true ↔ (D b = true ∧ ℓ b ≤ l)) : lz_P Sol BY BN Y' N' D' c l τ ℓ WY WN := by
  obtain ⟨hT, hQ, hR, hU⟩ := h
  have hA : ∀ b, lz_as Y N b → ℓ b ≤ l → lz_as Y' N' b := by
    intro b hb hlb
    rcases hb with hb | hb
    · exact Or.inl ((hY b).mpr ⟨hb, hlb⟩)
    · exact Or.inr ((hN b).mpr ⟨hb, hlb⟩)
  have hA' : ∀ b, lz_as Y' N' b → lz_as Y N b ∧ ℓ b ≤ l := by
    intro b hb
    rcases hb with hb | hb
    · exact ⟨Or.inl ((hY b).mp hb).1, ((hY b).mp hb).2⟩
    · exact ⟨Or.inr ((hN b).mp hb).1, ((hN b).mp hb).2⟩
  refine ⟨⟨?_, ?_, ?_, ?_, ?_, h1⟩, ⟨?_, ?_, ?_⟩, ?_, ⟨?_, ?_⟩⟩
  · intro b q1 q2
    exact hT.1 b ((hY b).mp q1).1 ((hN b).mp q2).1
  · intro t ht
    have q := hT.2.1 t (by omega)
    exact ⟨q.1, hA _ q.2 (h1 t ht)⟩
  · intro b hb
    obtain ⟨q1, q2⟩ := hA' b hb
    obtain ⟨t, ht, e⟩ := hT.2.2.1 b q1
    refine ⟨t, ?_, e⟩
    rcases Nat.lt_or_ge t c with z | z
    · exact z
    · have := h2 t z ht
      rw [e] at this
      omega
  · exact fun s t hst ht => hT.2.2.2.1 s t hst (by omega)
  · exact fun s t hst ht => hT.2.2.2.2.1 s t hst (by omega)
  · intro d hd
    obtain ⟨q1, q2⟩ := (hD d).mp hd
    have q := hQ.1 d q1
    refine ⟨(hN d).mpr ⟨q.1, q2⟩, q.2.1, fun b hb => ?_⟩
    have q3 := q.2.2 b hb
    exact ⟨hA b q3.1 (by omega), q3.2⟩
  · exact fun s t hts hs hd => hQ.2.1 s t hts (by omega) ((hD _).mp hd).1
  · intro l' q1 q2
    obtain ⟨d, hd, e⟩ := hQ.2.2 l' q1 (by omega)
    exact ⟨d, (hD d).mpr ⟨hd, by omega⟩, e⟩
  · intro t ht hd
    have hd' : D (τ t) = false := by
      cases q : D (τ t) with
      | false => rfl
      | true => rw [(hD (τ t)).mpr ⟨q, h1 t ht⟩] at hd; exact absurd hd (by decide)
    obtain ⟨r1, r2, r3⟩ := hR t (by omega) hd'
    refine ⟨fun b hb => ?_, fun b hb => ?_, fun S hS s1 s2 => ?_⟩
    · obtain ⟨q1, s, hs, q2⟩ := r1 b hb
      exact ⟨(hY b).mpr ⟨q1, by rw [← q2]; exact h1 s (by omega)⟩, s, hs, q2⟩
    · obtain ⟨q1, s, hs, q2⟩ := r2 b hb
      exact ⟨(hN b).mpr ⟨q1, by rw [← q2]; exact h1 s (by omega)⟩, s, hs, q2⟩
    · rw [r3 S hS s1 s2]
      cases q : Y (τ t) with
      | true => exact ((hY _).mpr ⟨q, h1 t ht⟩).symm
      | false =>
        cases q' : Y' (τ t) with
        | false => rfl
        | true => rw [((hY _).mp q').1] at q; exact q.symm
  · intro b hb
    have q := hU.1 b hb
    exact ⟨(hY b).mpr ⟨q.1, by omega⟩, q.2⟩
  · intro b hb
    have q := hU.2 b hb
    exact ⟨(hN b).mpr ⟨q.1, by omega⟩, q.2⟩
/-- what stands on the trail follows from the decisions up to its level -/
theorem lz_sem {Sol : (Nat → Bool) → Prop} {BY BN : Nat → Prop} {k : Nat} {Y N D : Nat → Bool} {n : Nat} {τ ℓ : Nat → Nat} {WY WN : Nat → Nat → Bool}
    (h : lz_P Sol BY BN Y N D n k τ ℓ WY WN) {S : Nat → Bool} (hS : Sol S) : ∀ m t, t < m → t < n → (∀ d, D d = true → ℓ d ≤ ℓ (τ t) → S d = false) → S (τ t) = Y (τ t) := by
  obtain ⟨hT, hQ, hR, hU⟩ := h
  intro m
  induction m with
  | zero => intro t ht; omega
  | succ m ih =>
    intro t htm ht hd
    cases q : D (τ t) with
    | true => rw [hd _ q (Nat.le_refl _), lz_T_no hT (hQ.1 _ q).1]
    | false =>
      obtain ⟨r1, r2, r3⟩ := hR t ht q
      refine r3 S hS (fun b hb => ?_) (fun b hb => ?_)
      · obtain ⟨q1, s, hs, q2⟩ := r1 b hb
        rw [← q2] at q1 ⊢
        rw [ih s (by omega) (by omega) (fun d hd1 hd2 => hd d hd1 (Nat.le_trans hd2 (hT.2.2.2.2.1 s t (by omega) ht))), q1]
      · obtain ⟨q1, s, hs, q2⟩ := r2 b hb
        rw [← q2] at q1 ⊢
        rw [ih s (by omega) (by omega) (fun d hd1 hd2 => hd d hd1 (Nat.le_trans hd2 (hT.2.2.2.2.1 s t (by omega) ht))), lz_T_no hT q1]
theorem lz_sem' {Sol : (Nat → Bool) → Prop} {BY BN : Nat → Prop} {k : Nat} {Y N D : Nat → Bool} {n : Nat} {τ ℓ : Nat → Nat} {WY WN : Nat → Nat → Bool}
    (h : lz_P Sol BY BN Y N D n k τ ℓ WY WN) {S : Nat → Bool} (hS : Sol S) {a : Nat} (ha : lz_as Y N a) (hd : ∀ d, D d = true → ℓ d ≤ ℓ a → S d = false) : S a = Y a := by
  obtain ⟨t, ht, e⟩ := h.1.2.2.1 a ha
  rw [← e] at hd ⊢
  exact lz_sem h hS (t + 1) t (by omega) ht hd
/-! a clash: atoms true and false that no solution has -/
def lz_C (Sol : (Nat → Bool) → Prop) (Y N CY CN : Nat → Bool) : Prop :=
  (∀ b, CY b = true → Y b = true) ∧ (∀ b, CN b = true → N b = true) ∧ (∀ S, Sol S → (∀ b, CY b = true → S b = true) → (∀ b, CN b = true → S b = false) → False)
theorem lz_clash {Sol : (Nat → Bool) → Prop} {BY BN : Nat → Prop} {k : Nat} {Y N D CY CN : Nat → Bool} {n : Nat} {τ ℓ : Nat → Nat} {WY WN : Nat → Nat → Bool}
    (h : lz_P Sol BY BN Y N D n k τ ℓ WY WN) (c : lz_C Sol Y N CY CN) {top : Nat} (ht : ∀ b, (CY b = true ∨ CN b = true) → ℓ b ≤ top) {S : Nat → Bool} (hS : Sol S) : ∃ d, D d = true ∧ ℓ d ≤ top ∧ S d = true := by
  apply Classical.byContradiction
  intro hn
  have hd : ∀ d, D d = true → ℓ d ≤ top → S d = false := by
    intro d h1 h2
    cases q : S d with
    | false => rfl
    | true => exact (hn ⟨d, h1, h2, q⟩).elim
  refine c.2.2 S hS (fun b hb => ?_) (fun b hb => ?_)
  · rw [lz_sem' h hS (Or.inl (c.1 b hb)) (fun d h1 h2 => hd d h1 (Nat.le_trans h2 (ht b (Or.inl hb)))), c.1 b hb]
  · rw [lz_sem' h hS (Or.inr (c.2.1 b hb)) (fun d h1 h2 => hd d h1 (Nat.le_trans h2 (ht b (Or.inr hb)))), lz_T_no h.1 (c.2.1 b hb)]
theorem lz_clash0 {Sol : (Nat → Bool) → Prop} {BY BN : Nat → Prop} {k : Nat} {Y N D CY CN : Nat → Bool} {n : Nat} {τ ℓ : Nat → Nat} {WY WN : Nat → Nat → Bool}
    (h : lz_P Sol BY BN Y N D n k τ ℓ WY WN) (c : lz_C Sol Y N CY CN) (ht : ∀ b, (CY b = true ∨ CN b = true) → ℓ b ≤ 0) {S : Nat → Bool} (hS : Sol S) : False := by
  obtain ⟨d, h1, h2, _⟩ := lz_clash h c ht hS
  have := (h.2.1.1 d h1).2.1
  omega
/-- an atom of the clash is replaced by its reasons -/
theorem lz_C_res {Sol : (Nat → Bool) → Prop} {BY BN : Nat → Prop} {k : Nat} {Y N D CY CN CY' CN' : Nat → Bool} {n : Nat} {τ ℓ : Nat → Nat} {WY WN : Nat → Nat → Bool}
    (h : lz_P Sol BY BN Y N D n k τ ℓ WY WN) (c : lz_C Sol Y N CY CN) {t : Nat} (ht : t < n) (hD : D (τ t) = false)
    (hy : ∀ b, CY' b = ((CY b && !decide (b = τ t)) || WY (τ t) b)) (hn : ∀ b, CN' b = ((CN b && !decide (b = τ t)) || WN (τ t) b)) : lz_C Sol Y N CY' CN' := by
  obtain ⟨r1, r2, r3⟩ := h.2.2.1 t ht hD
  refine ⟨fun b hb => ?_, fun b hb => ?_, fun S hS s1 s2 => ?_⟩
  · rw [hy b, Bool.or_eq_true, Bool.and_eq_true] at hb
    rcases hb with hb | hb
    · exact c.1 b hb.1
    · exact (r1 b hb).1
  · rw [hn b, Bool.or_eq_true, Bool.and_eq_true] at hb
    rcases hb with hb | hb
    · exact c.2.1 b hb.1
    · exact (r2 b hb).1
  · have e : S (τ t) = Y (τ t) := r3 S hS (fun b hb => s1 b (by rw [hy b, hb, Bool.or_true])) (fun b hb => s2 b (by rw [hn b, hb, Bool.or_true]))
    refine c.2.2 S hS (fun b hb => ?_) (fun b hb => ?_)
    · by_cases z : b = τ t
      · rw [z, e, ← z]
        exact c.1 b hb
      · exact s1 b (by rw [hy b, hb, decide_eq_false z]; rfl)
    · by_cases z : b = τ t
      · rw [z, e, ← z]
        exact lz_T_no h.1 (c.2.1 b hb)
      · exact s2 b (by rw [hn b, hb, decide_eq_false z]; rfl)
end
section
/-! how many rounds are left in the walk of the tree: lz_rem -/
def lz_rem (Y N : Nat → Bool) : Nat → Nat
  | 0 => 0
  | j + 1 => if Y (11 - j) = true then lz_rem Y N j else if N (11 - j) = true then 2 ^ (j + 1) - 1 + lz_rem Y N j else 2 ^ (j + 2) - 2
theorem lz_rem_y {Y N : Nat → Bool} {j : Nat} (h : Y (11 - j) = true) : lz_rem Y N (j + 1) = lz_rem Y N j := by
  show (if Y (11 - j) = true then lz_rem Y N j else if N (11 - j) = true then 2 ^ (j + 1) - 1 + lz_rem Y N j else 2 ^ (j + 2) - 2) = _
  rw [if_pos h]
theorem lz_rem_n {Y N : Nat → Bool} {j : Nat} (h : Y (11 - j) = false) (h2 : N (11 - j) = true) : lz_rem Y N (j + 1) = 2 ^ (j + 1) - 1 + lz_rem Y N j := by
  show (if Y (11 - j) = true then lz_rem Y N j else if N (11 - j) = true then 2 ^ (j + 1) - 1 + lz_rem Y N j else 2 ^ (j + 2) - 2) = _
  rw [if_neg (by rw [h]; decide), if_pos h2]
theorem lz_rem_o {Y N : Nat → Bool} {j : Nat} (h : Y (11 - j) = false) (h2 : N (11 - j) = false) : lz_rem Y N (j + 1) = 2 ^ (j + 2) - 2 := by
  show (if Y (11 - j) = true then lz_rem Y N j else if N (11 - j) = true then 2 ^ (j + 1) - 1 + lz_rem Y N j else 2 ^ (j + 2) - 2) = _
  rw [if_neg (by rw [h]; decide), if_neg (by rw [h2]; decide)]
theorem lz_p2 (j : Nat) : 2 ^ (j + 2) = 2 * 2 ^ (j + 1) := by rw [Nat.pow_succ]; omega
theorem lz_p2' (j : Nat) : 2 ≤ 2 ^ (j + 1) := by
  have : 0 < 2 ^ j := Nat.two_pow_pos j
  rw [Nat.pow_succ]
  omega
theorem lz_rem_le (Y N : Nat → Bool) : ∀ j, lz_rem Y N j ≤ 2 ^ (j + 1) - 2 := by
  intro j
  induction j with
  | zero => exact Nat.zero_le _
  | succ j ih =>
    have p := lz_p2 j
    have q := lz_p2' j
    show lz_rem Y N (j + 1) ≤ 2 ^ (j + 2) - 2
    cases hy : Y (11 - j) with
    | true => rw [lz_rem_y hy]; omega
    | false =>
      cases hn : N (11 - j) with
      | true => rw [lz_rem_n hy hn]; omega
      | false => rw [lz_rem_o hy hn]; exact Nat.le_refl _
theorem lz_rem_mono {Y N Y' N' : Nat → Bool} (hY : ∀ a, Y a = true → Y' a = true) (hN : ∀ a, N a = true → N' a = true) (hd : ∀ a, Y' a = true → N' a = true → False) : ∀ j, lz_rem Y' N' j ≤ lz_rem Y N j := by
  intro j
  induction j with
  | zero => exact Nat.le_refl _
  | succ j ih =>
    cases hy : Y (11 - j) with
    | true => rw [lz_rem_y hy, lz_rem_y (hY _ hy)]; exact ih
    | false =>
      cases hn : N (11 - j) with
      | true =>
        have y' : Y' (11 - j) = false := by
          cases q : Y' (11 - j) with
          | false => rfl
          | true => exact (hd _ q (hN _ hn)).elim
        rw [lz_rem_n hy hn, lz_rem_n y' (hN _ hn)]
        omega
      | false => rw [lz_rem_o hy hn]; exact lz_rem_le Y' N' (j + 1)
/-- a decision takes a round off -/
theorem lz_rem_dec {Y N Y' N' : Nat → Bool} (hY : ∀ a, Y a = true → Y' a = true) (hN : ∀ a, N a = true → N' a = true) (hd : ∀ a, Y' a = true → N' a = true → False)
    {a : Nat} (h1 : Y a = false) (h2 : N a = false) (h3 : N' a = true) (hf : ∀ b, b < a → lz_as Y N b) (ha : a < 12) : ∀ j, j ≤ 12 → 12 - j ≤ a → lz_rem Y' N' j < lz_rem Y N j := by
  intro j
  induction j with
  | zero => intro _ h; omega
  | succ j ih =>
    intro hj hja
    have p := lz_p2 j
    have q := lz_p2' j
    by_cases e : 11 - j = a
    · have y' : Y' (11 - j) = false := by
        cases z : Y' (11 - j) with
        | false => rfl
        | true => rw [e] at z; exact (hd _ z h3).elim
      rw [lz_rem_n y' (by rw [e]; exact h3), lz_rem_o (by rw [e]; exact h1) (by rw [e]; exact h2)]
      have := lz_rem_le Y' N' j
      omega
    · have ih' := ih (by omega) (by omega)
      cases hy : Y (11 - j) with
      | true => rw [lz_rem_y hy, lz_rem_y (hY _ hy)]; exact ih'
      | false =>
        rcases hf (11 - j) (by omega) with z | z
        · rw [hy] at z; exact absurd z (by decide)
        · have y' : Y' (11 - j) = false := by
            cases w : Y' (11 - j) with
            | false => rfl
            | true => exact (hd _ w (hN _ z)).elim
          rw [lz_rem_n hy z, lz_rem_n y' (hN _ z)]
          omega
/-- and so does a decision turned round -/
theorem lz_rem_turn {Y N Y' N' : Nat → Bool} {a : Nat} (hf : ∀ b, b < a → lz_as Y N b ∧ Y' b = Y b ∧ N' b = N b) (h1 : Y a = false) (h2 : N a = true) (h3 : Y' a = true) (ha : a < 12) : ∀ j, j ≤ 12 → 12 - j ≤ a → lz_rem Y' N' j < lz_rem Y N j := by
  intro j
  induction j with
  | zero => intro _ h; omega
  | succ j ih =>
    intro hj hja
    have q := lz_p2' j
    by_cases e : 11 - j = a
    · rw [lz_rem_y (by rw [e]; exact h3), lz_rem_n (by rw [e]; exact h1) (by rw [e]; exact h2)]
      have := lz_rem_le Y' N' j
      omega
    · have ih' := ih (by omega) (by omega)
      obtain ⟨f1, f2, f3⟩ := hf (11 - j) (by omega)
      cases hy : Y (11 - j) with
      | true => rw [lz_rem_y hy, lz_rem_y (by rw [f2]; exact hy)]; exact ih'
      | false =>
        rcases f1 with z | z
        · rw [hy] at z; exact absurd z (by decide)
        · rw [lz_rem_n hy z, lz_rem_n (by rw [f2]; exact hy) (by rw [f3]; exact z)]
          omega
/-! assignments as codes in base 4; the atom a of a code: lz_at -/
def lz_dg (m i : Nat) : Nat := m / 4 ^ (3 - i) % 4
def lz_at (m a : Nat) : Bool := decide (a % 3 < lz_dg m (a / 3))
theorem lz_dg_le (m i : Nat) : lz_dg m i ≤ 3 := Nat.le_of_lt_succ (Nat.mod_lt _ (by decide))
theorem lz_dg0 (m : Nat) : lz_dg m 0 = m / 64 % 4 := rfl
theorem lz_dg1 (m : Nat) : lz_dg m 1 = m / 16 % 4 := rfl
theorem lz_dg2 (m : Nat) : lz_dg m 2 = m / 4 % 4 := rfl
theorem lz_dg3 (m : Nat) : lz_dg m 3 = m / 1 % 4 := rfl
theorem lz_atj (m j r : Nat) (hr : r < 3) : lz_at m (j * 3 + r) = decide (r < lz_dg m j) := by
  unfold lz_at
  rw [show (j * 3 + r) % 3 = r by omega, show (j * 3 + r) / 3 = j by omega]
theorem lz_atv {m j v : Nat} (h1 : 1 ≤ v) (h3 : v ≤ 3) : lz_at m (j * 3 + v - 1) = true ↔ v ≤ lz_dg m j := by
  rw [show j * 3 + v - 1 = j * 3 + (v - 1) by omega, lz_atj m j (v - 1) (by omega), decide_eq_true_iff]
  omega
theorem lz_atf {m j v : Nat} (h1 : 1 ≤ v) (h3 : v ≤ 3) : lz_at m (j * 3 + v - 1) = false ↔ lz_dg m j < v := by
  rw [show j * 3 + v - 1 = j * 3 + (v - 1) by omega, lz_atj m j (v - 1) (by omega), decide_eq_false_iff_not]
  omega
theorem lz_dg_eq {x y : Nat} (hx : x ≤ 3) (hy : y ≤ 3) (h : ∀ r, r < 3 → decide (r < x) = decide (r < y)) : x = y := by
  have h0 := decide_eq_decide.mp (h 0 (by omega))
  have h1 := decide_eq_decide.mp (h 1 (by omega))
  have h2 := decide_eq_decide.mp (h 2 (by omega))
  omega
theorem lz_dg_at {m n j : Nat} (h : ∀ r, r < 3 → lz_at m (j * 3 + r) = lz_at n (j * 3 + r)) : lz_dg m j = lz_dg n j :=
  lz_dg_eq (lz_dg_le m j) (lz_dg_le n j) (fun r hr => by rw [← lz_atj m j r hr, ← lz_atj n j r hr]; exact h r hr)
theorem lz_dg_inj {m n : Nat} (hm : m < 256) (hn : n < 256) (h : ∀ j, j < 4 → lz_dg m j = lz_dg n j) : m = n := by
  have h0 := h 0 (by omega)
  have h1 := h 1 (by omega)
  have h2 := h 2 (by omega)
  have h3 := h 3 (by omega)
  rw [lz_dg0, lz_dg0] at h0
  rw [lz_dg1, lz_dg1] at h1
  rw [lz_dg2, lz_dg2] at h2
  rw [lz_dg3, lz_dg3] at h3
  omega
theorem lz_dg_lt {m n i : Nat} (hm : m < 256) (hn : n < 256) (hi : i < 4) (h : ∀ j, j < i → lz_dg m j = lz_dg n j) (hl : lz_dg m i < lz_dg n i) : m < n := by
  have c : i = 0 ∨ i = 1 ∨ i = 2 ∨ i = 3 := by omega
  rcases c with e | e | e | e
  · subst e
    rw [lz_dg0, lz_dg0] at hl
    omega
  · subst e
    have h0 := h 0 (by omega)
    rw [lz_dg0, lz_dg0] at h0
    rw [lz_dg1, lz_dg1] at hl
    omega
  · subst e
    have h0 := h 0 (by omega)
    have h1 := h 1 (by omega)
    rw [lz_dg0, lz_dg0] at h0
    rw [lz_dg1, lz_dg1] at h1
    rw [lz_dg2, lz_dg2] at hl
    omega
  · subst e
    have h0 := h 0 (by omega)
    have h1 := h 1 (by omega)
    have h2 := h 2 (by omega)
    rw [lz_dg0, lz_dg0] at h0
    rw [lz_dg1, lz_dg1] at h1
    rw [lz_dg2, lz_dg2] at h2
    rw [lz_dg3, lz_dg3] at hl
    omega
theorem lz_lex {m n : Nat} (hm : m < 256) (hn : n < 256) {a : Nat} (ha : a < 12) (h : ∀ b, b < a → lz_at m b = lz_at n b) (h0 : lz_at m a = false) (h1 : lz_at n a = true) : m < n := by
  refine lz_dg_lt (i := a / 3) hm hn (by omega) (fun j hj => lz_dg_at (fun r hr => h _ (by omega))) ?_
  unfold lz_at at h0 h1
  have q0 := of_decide_eq_false h0
  have q1 := of_decide_eq_true h1
  omega
theorem lz_first (f g : Nat → Bool) : ∀ n, (∀ a, a < n → f a = g a) ∨ ∃ a, a < n ∧ (∀ b, b < a → f b = g b) ∧ f a ≠ g a := by
  intro n
  induction n with
  | zero => exact Or.inl (fun a h => absurd h (by omega))
  | succ n ih =>
    rcases ih with h | ⟨a, ha, h1, h2⟩
    · by_cases e : f n = g n
      · refine Or.inl (fun a ha => ?_)
        by_cases c : a = n
        · rw [c, e]
        · exact h a (by omega)
      · exact Or.inr ⟨n, by omega, h, e⟩
    · exact Or.inr ⟨a, by omega, h1, h2⟩
/-- the assignment found is the least -/
theorem lz_min {Sol : (Nat → Bool) → Prop} {BY BN : Nat → Prop} {k : Nat} {Y N D : Nat → Bool} {q : Nat} {τ ℓ : Nat → Nat} {WY WN : Nat → Nat → Bool}
    (h : lz_P Sol BY BN Y N D q k τ ℓ WY WN) (hall : ∀ a, a < 12 → lz_as Y N a) {m n : Nat} (hm : m < 256) (hn : n < 256) (hY : ∀ a, a < 12 → lz_at m a = Y a) (hS : Sol (lz_at n)) : m ≤ n := by
  rcases lz_first (lz_at m) (lz_at n) 12 with c | ⟨a, ha, h1, h2⟩
  · have e : m = n := lz_dg_inj hm hn (fun j hj => lz_dg_at (fun r hr => c _ (by omega)))
    omega
  · cases e : lz_at m a with
    | false =>
      have e2 : lz_at n a = true := by
        cases z : lz_at n a with
        | true => rfl
        | false => rw [e, z] at h2; exact absurd rfl h2
      have := lz_lex hm hn ha h1 e e2
      omega
    | true =>
      exfalso
      apply h2
      rw [hY a ha]
      refine (lz_sem' h hS (hall a ha) (fun d hd hl => ?_)).symm
      have nd := (h.2.1.1 d hd)
      have yd := lz_T_no h.1 nd.1
      have d12 := lz_T_12 h.1 (Or.inr nd.1)
      rcases Nat.lt_trichotomy d a with z | z | z
      · rw [← h1 d z, hY d d12, yd]
      · rw [← z, hY d d12, yd] at e
        exact absurd e (by decide)
      · have := (nd.2.2 a z).2
        omega
/-! bounds of a variable out of its atoms -/
def lz_lo (Y : Nat → Bool) (i : Nat) : Nat := if Y (i * 3 + 2) = true then 3 else if Y (i * 3 + 1) = true then 2 else if Y (i * 3) = true then 1 else 0
def lz_hi (N : Nat → Bool) (i : Nat) : Nat := if N (i * 3) = true then 0 else if N (i * 3 + 1) = true then 1 else if N (i * 3 + 2) = true then 2 else 3
theorem lz_lo_le (Y : Nat → Bool) (i : Nat) : lz_lo Y i ≤ 3 := by
  unfold lz_lo
  split
  · omega
  · split
    · omega
    · split <;> omega
theorem lz_hi_le (N : Nat → Bool) (i : Nat) : lz_hi N i ≤ 3 := by
  unfold lz_hi
  split
  · omega
  · split
    · omega
    · split <;> omega
/-- the atom of the lower bound is true -/
theorem lz_lo_y {Y : Nat → Bool} {i : Nat} (h : 1 ≤ lz_lo Y i) : Y (i * 3 + lz_lo Y i - 1) = true := by
  unfold lz_lo at h ⊢
  by_cases c2 : Y (i * 3 + 2) = true
  · rw [if_pos c2]
    exact c2
  · rw [if_neg c2] at h ⊢
    by_cases c1 : Y (i * 3 + 1) = true
    · rw [if_pos c1]
      exact c1
    · rw [if_neg c1] at h ⊢
      by_cases c0 : Y (i * 3) = true
      · rw [if_pos c0]
        exact c0
      · rw [if_neg c0] at h
        omega
theorem lz_lo_ge {Y : Nat → Bool} {i v : Nat} (h1 : 1 ≤ v) (h3 : v ≤ 3) (h : Y (i * 3 + v - 1) = true) : v ≤ lz_lo Y i := by
  have c : v = 1 ∨ v = 2 ∨ v = 3 := by omega
  unfold lz_lo
  rcases c with e | e | e
  · subst e
    have h' : Y (i * 3) = true := h
    rw [if_pos h']
    split
    · omega
    · split <;> omega
  · subst e
    have h' : Y (i * 3 + 1) = true := h
    rw [if_pos h']
    split <;> omega
  · subst e
    have h' : Y (i * 3 + 2) = true := h
    rw [if_pos h']
    omega
theorem lz_hi_n {N : Nat → Bool} {i : Nat} (h : lz_hi N i < 3) : N (i * 3 + lz_hi N i) = true := by
  unfold lz_hi at h ⊢
  by_cases c0 : N (i * 3) = true
  · rw [if_pos c0]
    exact c0
  · rw [if_neg c0] at h ⊢
    by_cases c1 : N (i * 3 + 1) = true
    · rw [if_pos c1]
      exact c1
    · rw [if_neg c1] at h ⊢
      by_cases c2 : N (i * 3 + 2) = true
      · rw [if_pos c2]
        exact c2
      · rw [if_neg c2] at h
        omega
theorem lz_hi_lt {N : Nat → Bool} {i v : Nat} (h1 : 1 ≤ v) (h3 : v ≤ 3) (h : N (i * 3 + v - 1) = true) : lz_hi N i < v := by
  have c : v = 1 ∨ v = 2 ∨ v = 3 := by omega
  unfold lz_hi
  rcases c with e | e | e
  · subst e
    have h' : N (i * 3) = true := h
    rw [if_pos h']
    omega
  · subst e
    have h' : N (i * 3 + 1) = true := h
    rw [if_pos h']
    split <;> omega
  · subst e
    have h' : N (i * 3 + 2) = true := h
    rw [if_pos h']
    split
    · omega
    · split <;> omega
theorem lz_lo_mono {Y Y' : Nat → Bool} (h : ∀ b, Y b = true → Y' b = true) (i : Nat) : lz_lo Y i ≤ lz_lo Y' i := by
  rcases Nat.eq_zero_or_pos (lz_lo Y i) with z | z
  · omega
  · exact lz_lo_ge z (lz_lo_le Y i) (h _ (lz_lo_y z))
theorem lz_hi_mono {N N' : Nat → Bool} (h : ∀ b, N b = true → N' b = true) (i : Nat) : lz_hi N' i ≤ lz_hi N i := by
  rcases Nat.lt_or_ge (lz_hi N i) 3 with z | z
  · have := lz_hi_lt (N := N') (i := i) (v := lz_hi N i + 1) (by omega) (by omega) (h _ (lz_hi_n z))
    omega
  · have := lz_hi_le N' i
    omega
/-- the code of a whole assignment -/
def lz_cd (Y : Nat → Bool) : Nat := ((lz_lo Y 0 * 4 + lz_lo Y 1) * 4 + lz_lo Y 2) * 4 + lz_lo Y 3
theorem lz_cd_lt (Y : Nat → Bool) : lz_cd Y < 256 := by
  unfold lz_cd
  have h0 := lz_lo_le Y 0
  have h1 := lz_lo_le Y 1
  have h2 := lz_lo_le Y 2
  have h3 := lz_lo_le Y 3
  omega
theorem lz_cd_dg (Y : Nat → Bool) {i : Nat} (hi : i < 4) : lz_dg (lz_cd Y) i = lz_lo Y i := by
  have h0 := lz_lo_le Y 0
  have h1 := lz_lo_le Y 1
  have h2 := lz_lo_le Y 2
  have h3 := lz_lo_le Y 3
  have c : i = 0 ∨ i = 1 ∨ i = 2 ∨ i = 3 := by omega
  rcases c with e | e | e | e
  · subst e
    rw [lz_dg0]
    unfold lz_cd
    omega
  · subst e
    rw [lz_dg1]
    unfold lz_cd
    omega
  · subst e
    rw [lz_dg2]
    unfold lz_cd
    omega
  · subst e
    rw [lz_dg3]
    unfold lz_cd
    omega
/-- lower atoms with the higher ones -/
def lz_ch (Y N : Nat → Bool) : Prop := ∀ i, i < 4 → (Y (i * 3 + 2) = true → Y (i * 3 + 1) = true) ∧ (Y (i * 3 + 1) = true → Y (i * 3) = true) ∧ (N (i * 3) = true → N (i * 3 + 1) = true) ∧ (N (i * 3 + 1) = true → N (i * 3 + 2) = true)
theorem lz_cd_at {Y N : Nat → Bool} (h : lz_ch Y N) {a : Nat} (ha : a < 12) : lz_at (lz_cd Y) a = Y a := by
  have e : a = a / 3 * 3 + a % 3 := by omega
  have hi : a / 3 < 4 := by omega
  have hr : a % 3 < 3 := by omega
  generalize a / 3 = i at e hi
  generalize a % 3 = r at e hr
  subst e
  rw [lz_atj _ _ _ hr, lz_cd_dg Y hi]
  obtain ⟨c1, c2, _, _⟩ := h i hi
  have c : r = 0 ∨ r = 1 ∨ r = 2 := by omega
  cases y2 : Y (i * 3 + 2) with
  | true =>
    have y1 := c1 y2
    have y0 := c2 y1
    have l : lz_lo Y i = 3 := by unfold lz_lo; rw [if_pos y2]
    rw [l]
    rcases c with e | e | e <;> subst e
    · exact y0.symm
    · exact y1.symm
    · exact y2.symm
  | false =>
    cases y1 : Y (i * 3 + 1) with
    | true =>
      have y0 := c2 y1
      have l : lz_lo Y i = 2 := by unfold lz_lo; rw [if_neg (by rw [y2]; decide), if_pos y1]
      rw [l]
      rcases c with e | e | e <;> subst e
      · exact y0.symm
      · exact y1.symm
      · exact y2.symm
    | false =>
      cases y0 : Y (i * 3) with
      | true =>
        have l : lz_lo Y i = 1 := by unfold lz_lo; rw [if_neg (by rw [y2]; decide), if_neg (by rw [y1]; decide), if_pos y0]
        rw [l]
        rcases c with e | e | e <;> subst e
        · exact y0.symm
        · exact y1.symm
        · exact y2.symm
      | false =>
        have l : lz_lo Y i = 0 := by unfold lz_lo; rw [if_neg (by rw [y2]; decide), if_neg (by rw [y1]; decide), if_neg (by rw [y0]; decide)]
        rw [l]
        rcases c with e | e | e <;> subst e
        · exact y0.symm
        · exact y1.symm
        · exact y2.symm
end
section
/-! views: printed by src/views.py. The projections of a state, then one row a predicate -/
abbrev lz_made (u : St1) : Int32 := u.1
abbrev lz_inf (u : St1) : Int32 := u.2.1
abbrev lz_yes (u : St1) : Int32 := u.2.2.1
abbrev lz_no (u : St1) : Int32 := u.2.2.2.1
abbrev lz_tl (u : St1) : Int32 := u.2.2.2.2.1
abbrev lz_lv (u : St1) : Int32 := u.2.2.2.2.2.1
abbrev lz_dec (u : St1) : Int32 := u.2.2.2.2.2.2.1
abbrev lz_cnt (u : St1) : Int32 := u.2.2.2.2.2.2.2.1
abbrev lz_ln (u : St1) : Int32 := u.2.2.2.2.2.2.2.2.1
abbrev lz_cl (u : St1) : Int32 := u.2.2.2.2.2.2.2.2.2.1
abbrev lz_cy (u : St1) : Int32 := u.2.2.2.2.2.2.2.2.2.2.1
abbrev lz_cn (u : St1) : Int32 := u.2.2.2.2.2.2.2.2.2.2.2.1
abbrev lz_mv (u : St1) : Int32 := u.2.2.2.2.2.2.2.2.2.2.2.2.1
abbrev lz_A1 (u : St1) : Nat → Int32 := u.2.2.2.2.2.2.2.2.2.2.2.2.2.1
abbrev lz_A2 (u : St1) : Nat → Int32 := u.2.2.2.2.2.2.2.2.2.2.2.2.2.2.1
abbrev lz_A3 (u : St1) : Nat → Int32 := u.2.2.2.2.2.2.2.2.2.2.2.2.2.2.2.1
abbrev lz_A4 (u : St1) : Nat → Int32 := u.2.2.2.2.2.2.2.2.2.2.2.2.2.2.2.2.1
abbrev lz_A5 (u : St1) : Nat → Int32 := u.2.2.2.2.2.2.2.2.2.2.2.2.2.2.2.2.2.1
abbrev lz_A6 (u : St1) : Nat → Int32 := u.2.2.2.2.2.2.2.2.2.2.2.2.2.2.2.2.2.2.1
abbrev lz_A7 (u : St1) : Nat → Int32 := u.2.2.2.2.2.2.2.2.2.2.2.2.2.2.2.2.2.2.2.1
abbrev lz_A8 (u : St1) : Nat → Int32 := u.2.2.2.2.2.2.2.2.2.2.2.2.2.2.2.2.2.2.2.2.1
abbrev lz_A9 (u : St1) : Nat → Int32 := u.2.2.2.2.2.2.2.2.2.2.2.2.2.2.2.2.2.2.2.2.2.1
abbrev lz_A10 (u : St1) : Nat → Int32 := u.2.2.2.2.2.2.2.2.2.2.2.2.2.2.2.2.2.2.2.2.2.2.1
abbrev lz_A11 (u : St1) : Nat → Int32 := u.2.2.2.2.2.2.2.2.2.2.2.2.2.2.2.2.2.2.2.2.2.2.2.1
abbrev lz_A12 (u : St1) : Nat → Int32 := u.2.2.2.2.2.2.2.2.2.2.2.2.2.2.2.2.2.2.2.2.2.2.2.2.1
abbrev lz_A13 (u : St1) : Nat → Int32 := u.2.2.2.2.2.2.2.2.2.2.2.2.2.2.2.2.2.2.2.2.2.2.2.2.2.1
abbrev lz_A14 (u : St1) : Nat → Int32 := u.2.2.2.2.2.2.2.2.2.2.2.2.2.2.2.2.2.2.2.2.2.2.2.2.2.2.1
abbrev lz_A15 (u : St1) : Nat → Int32 := u.2.2.2.2.2.2.2.2.2.2.2.2.2.2.2.2.2.2.2.2.2.2.2.2.2.2.2.1
abbrev lz_A16 (u : St1) : Nat → Int32 := u.2.2.2.2.2.2.2.2.2.2.2.2.2.2.2.2.2.2.2.2.2.2.2.2.2.2.2.2
def lz_ask_7 (post : St1 → Prop) (n : Nat) (x2 : Int32) (s : St1) : Prop := wX_ask_7 post (lz_made s) (lz_inf s) (lz_yes s) (lz_no s) (lz_tl s) (lz_lv s) (lz_dec s) (lz_cnt s) (lz_ln s) (lz_cl s) (lz_cy s) (lz_cn s) (lz_mv s) n x2 (lz_A1 s) (lz_A2 s) (lz_A3 s) (lz_A4 s) (lz_A5 s) (lz_A6 s) (lz_A7 s) (lz_A8 s) (lz_A9 s) (lz_A10 s) (lz_A11 s) (lz_A12 s) (lz_A13 s) (lz_A14 s) (lz_A15 s) (lz_A16 s)
theorem lz_v_ask_7 {post : St1 → Prop} {n : Nat} {x2 : Int32} {s : St1} (h : ((4 ≤ x2 → (post s)) ∧ (¬ 4 ≤ x2 → (vp_in x2 4 ∧ ∀ a13_3 : Nat → Int32, a13_3 = upd (lz_A13 s) x2.toNatClampNeg 0 → (vp_in x2 4 ∧ ∀ a14_5 : Nat → Int32, a14_5 = upd (lz_A14 s) x2.toNatClampNeg 3 → (∀ x2_6 : Int32, x2_6 = x2 + 1 → (lz_ask_7 post n x2_6 ((lz_made s), (lz_inf s), (lz_yes s), (lz_no s), (lz_tl s), (lz_lv s), (lz_dec s), (lz_cnt s), (lz_ln s), (lz_cl s), (lz_cy s), (lz_cn s), (lz_mv s), (lz_A1 s), (lz_A2 s), (lz_A3 s), (lz_A4 s), (lz_A5 s), (lz_A6 s), (lz_A7 s), (lz_A8 s), (lz_A9 s), (lz_A10 s), (lz_A11 s), (lz_A12 s), a13_3, a14_5, (lz_A15 s), (lz_A16 s))))))))) : lz_ask_7 post (n + 1) x2 s := h
theorem lz_v_ask {post : St1 → Prop} {u : St1} {p0 : Int32} (h : ∃ fu7 : Nat, lz_ask_7 post fu7 0 ((lz_made u), (lz_inf u), (lz_yes u), (lz_no u), (lz_tl u), (lz_lv u), (lz_dec u), p0, (lz_ln u), (lz_cl u), (lz_cy u), (lz_cn u), (lz_mv u), (lz_A1 u), (lz_A2 u), (lz_A3 u), (lz_A4 u), (lz_A5 u), (lz_A6 u), (lz_A7 u), (lz_A8 u), (lz_A9 u), (lz_A10 u), (lz_A11 u), (lz_A12 u), (lz_A13 u), (lz_A14 u), (lz_A15 u), (lz_A16 u))) : wpX_ask post u p0 := h
def lz_assign_31 (post : St1 → Prop) (x1 : Int32) (x3 : Int32) (x4 : Int32) (s : St1) : Prop := wX_assign_31 post x1 x3 x4 (lz_made s) (lz_inf s) (lz_yes s) (lz_no s) (lz_tl s) (lz_lv s) (lz_dec s) (lz_cnt s) (lz_ln s) (lz_cl s) (lz_cy s) (lz_cn s) (lz_mv s) (lz_A1 s) (lz_A2 s) (lz_A3 s) (lz_A4 s) (lz_A5 s) (lz_A6 s) (lz_A7 s) (lz_A8 s) (lz_A9 s) (lz_A10 s) (lz_A11 s) (lz_A12 s) (lz_A13 s) (lz_A14 s) (lz_A15 s) (lz_A16 s)
theorem lz_v_assign_31 {post : St1 → Prop} {x1 : Int32} {x3 : Int32} {x4 : Int32} {s : St1} (h : vp_in (lz_tl s) 12 ∧ ∀ a9_4 : Nat → Int32, a9_4 = upd (lz_A9 s) (lz_tl s).toNatClampNeg x1 → (∀ f_5 : Int32, f_5 = (lz_tl s) + 1 → (vp_in x1 12 ∧ ∀ a10_7 : Nat → Int32, a10_7 = upd (lz_A10 s) x1.toNatClampNeg (lz_lv s) → (vp_in x1 12 ∧ ∀ a11_9 : Nat → Int32, a11_9 = upd (lz_A11 s) x1.toNatClampNeg x3 → (vp_in x1 12 ∧ ∀ a12_11 : Nat → Int32, a12_11 = upd (lz_A12 s) x1.toNatClampNeg x4 → (post ((lz_made s), (lz_inf s), (lz_yes s), (lz_no s), f_5, (lz_lv s), (lz_dec s), (lz_cnt s), (lz_ln s), (lz_cl s), (lz_cy s), (lz_cn s), (lz_mv s), (lz_A1 s), (lz_A2 s), (lz_A3 s), (lz_A4 s), (lz_A5 s), (lz_A6 s), (lz_A7 s), (lz_A8 s), a9_4, a10_7, a11_9, a12_11, (lz_A13 s), (lz_A14 s), (lz_A15 s), (lz_A16 s)))))))) : lz_assign_31 post x1 x3 x4 s := h
theorem lz_v_assign {post : St1 → Prop} {u : St1} {p0 : Int32} {p1 : Int32} {p2 : Int32} {p3 : Int32} (h : ((p1 = 0 → (∀ f_2 : Int32, f_2 = (lz_no u) ||| ((1 : Int32) <<< (p0 &&& 31)) → (lz_assign_31 post p0 p2 p3 ((lz_made u), (lz_inf u), (lz_yes u), f_2, (lz_tl u), (lz_lv u), (lz_dec u), (lz_cnt u), (lz_ln u), (lz_cl u), (lz_cy u), (lz_cn u), (lz_mv u), (lz_A1 u), (lz_A2 u), (lz_A3 u), (lz_A4 u), (lz_A5 u), (lz_A6 u), (lz_A7 u), (lz_A8 u), (lz_A9 u), (lz_A10 u), (lz_A11 u), (lz_A12 u), (lz_A13 u), (lz_A14 u), (lz_A15 u), (lz_A16 u))))) ∧ (¬ p1 = 0 → (∀ f_12 : Int32, f_12 = (lz_yes u) ||| ((1 : Int32) <<< (p0 &&& 31)) → (lz_assign_31 post p0 p2 p3 ((lz_made u), (lz_inf u), f_12, (lz_no u), (lz_tl u), (lz_lv u), (lz_dec u), (lz_cnt u), (lz_ln u), (lz_cl u), (lz_cy u), (lz_cn u), (lz_mv u), (lz_A1 u), (lz_A2 u), (lz_A3 u), (lz_A4 u), (lz_A5 u), (lz_A6 u), (lz_A7 u), (lz_A8 u), (lz_A9 u), (lz_A10 u), (lz_A11 u), (lz_A12 u), (lz_A13 u), (lz_A14 u), (lz_A15 u), (lz_A16 u))))))) : wpX_assign post u p0 p1 p2 p3 := h
def lz_begin_82 (post : Int32 → St1 → Prop) (J32 : Int32 → St1 → Prop) (x1 : Int32) (s : St1) : Prop := wX_begin_82 post (fun z y0 y1 y2 y3 y4 y5 y6 y7 y8 y9 y10 y11 y12 y13 y14 y15 y16 y17 y18 y19 y20 y21 y22 y23 y24 y25 y26 y27 y28 => J32 z (y0, y1, y2, y3, y4, y5, y6, y7, y8, y9, y10, y11, y12, y13, y14, y15, y16, y17, y18, y19, y20, y21, y22, y23, y24, y25, y26, y27, y28)) x1 (lz_made s) (lz_inf s) (lz_yes s) (lz_no s) (lz_tl s) (lz_lv s) (lz_dec s) (lz_cnt s) (lz_ln s) (lz_cl s) (lz_cy s) (lz_cn s) (lz_mv s) (lz_A1 s) (lz_A2 s) (lz_A3 s) (lz_A4 s) (lz_A5 s) (lz_A6 s) (lz_A7 s) (lz_A8 s) (lz_A9 s) (lz_A10 s) (lz_A11 s) (lz_A12 s) (lz_A13 s) (lz_A14 s) (lz_A15 s) (lz_A16 s)
theorem lz_v_begin_82 {post : Int32 → St1 → Prop} {J32 : Int32 → St1 → Prop} {x1 : Int32} {s : St1} (h : vp_in x1 4 ∧ ((3 ≤ ((lz_A14 s) x1.toNatClampNeg) → (∀ x1_9 : Int32, x1_9 = x1 + 1 → (J32 x1_9 s))) ∧ (¬ 3 ≤ ((lz_A14 s) x1.toNatClampNeg) → (vp_in x1 4 ∧ (wpX_assign (fun u1 => (∀ x1_73 : Int32, x1_73 = x1 + 1 → (J32 x1_73 u1))) s ((x1 * 3) + ((lz_A14 s) x1.toNatClampNeg)) 0 0 0))))) : lz_begin_82 post J32 x1 s := h
def lz_begin_32 (post : Int32 → St1 → Prop) (n : Nat) (x1 : Int32) (s : St1) : Prop := wX_begin_32 post n x1 (lz_made s) (lz_inf s) (lz_yes s) (lz_no s) (lz_tl s) (lz_lv s) (lz_dec s) (lz_cnt s) (lz_ln s) (lz_cl s) (lz_cy s) (lz_cn s) (lz_mv s) (lz_A1 s) (lz_A2 s) (lz_A3 s) (lz_A4 s) (lz_A5 s) (lz_A6 s) (lz_A7 s) (lz_A8 s) (lz_A9 s) (lz_A10 s) (lz_A11 s) (lz_A12 s) (lz_A13 s) (lz_A14 s) (lz_A15 s) (lz_A16 s)
theorem lz_v_begin_32 {post : Int32 → St1 → Prop} {n : Nat} {x1 : Int32} {s : St1} (h : ((4 ≤ x1 → (post 1 s)) ∧ (¬ 4 ≤ x1 → (vp_in x1 4 ∧ (vp_in x1 4 ∧ ((((lz_A13 s) x1.toNatClampNeg) ≤ ((lz_A14 s) x1.toNatClampNeg) → (vp_in x1 4 ∧ ((((lz_A13 s) x1.toNatClampNeg) ≤ 0 → (lz_begin_82 post (lz_begin_32 post n) x1 s)) ∧ (¬ ((lz_A13 s) x1.toNatClampNeg) ≤ 0 → (vp_in x1 4 ∧ (wpX_assign (fun u1 => (lz_begin_82 post (lz_begin_32 post n) x1 u1)) s (((x1 * 3) + ((lz_A13 s) x1.toNatClampNeg)) - 1) 1 0 0)))))) ∧ (¬ ((lz_A13 s) x1.toNatClampNeg) ≤ ((lz_A14 s) x1.toNatClampNeg) → (post 0 s)))))))) : lz_begin_32 post (n + 1) x1 s := h
theorem lz_v_begin {post : Int32 → St1 → Prop} {u : St1} (h : ∃ fu32 : Nat, lz_begin_32 post fu32 0 ((lz_made u), (lz_inf u), 0, 0, 0, 0, 0, (lz_cnt u), 0, (lz_cl u), (lz_cy u), (lz_cn u), (lz_mv u), (lz_A1 u), (lz_A2 u), (lz_A3 u), (lz_A4 u), (lz_A5 u), (lz_A6 u), (lz_A7 u), (lz_A8 u), (lz_A9 u), (lz_A10 u), (lz_A11 u), (lz_A12 u), (lz_A13 u), (lz_A14 u), (lz_A15 u), (lz_A16 u))) : wpX_begin post u := h
theorem lz_v_clashOn {post : St1 → Prop} {u : St1} {p0 : Int32} {p1 : Int32} (h : post ((lz_made u), (lz_inf u), (lz_yes u), (lz_no u), (lz_tl u), (lz_lv u), (lz_dec u), (lz_cnt u), (lz_ln u), 1, p0, p1, (lz_mv u), (lz_A1 u), (lz_A2 u), (lz_A3 u), (lz_A4 u), (lz_A5 u), (lz_A6 u), (lz_A7 u), (lz_A8 u), (lz_A9 u), (lz_A10 u), (lz_A11 u), (lz_A12 u), (lz_A13 u), (lz_A14 u), (lz_A15 u), (lz_A16 u))) : wpX_clashOn post u p0 p1 := h
def lz_imply_59 (post : St1 → Prop) (x1 : Int32) (x2 : Int32) (x3 : Int32) (x4 : Int32) (x5 : Int32) (s : St1) : Prop := wX_imply_59 post x1 x2 x3 x4 x5 (lz_made s) (lz_inf s) (lz_yes s) (lz_no s) (lz_tl s) (lz_lv s) (lz_dec s) (lz_cnt s) (lz_ln s) (lz_cl s) (lz_cy s) (lz_cn s) (lz_mv s) (lz_A1 s) (lz_A2 s) (lz_A3 s) (lz_A4 s) (lz_A5 s) (lz_A6 s) (lz_A7 s) (lz_A8 s) (lz_A9 s) (lz_A10 s) (lz_A11 s) (lz_A12 s) (lz_A13 s) (lz_A14 s) (lz_A15 s) (lz_A16 s)
theorem lz_v_imply_59 {post : St1 → Prop} {x1 : Int32} {x2 : Int32} {x3 : Int32} {x4 : Int32} {x5 : Int32} {s : St1} (h : (((((lz_yes s) ||| (lz_no s)) &&& x5) = 0 → (wpX_assign (fun u1 => (post ((lz_made u1), (lz_inf u1), (lz_yes u1), (lz_no u1), (lz_tl u1), (lz_lv u1), (lz_dec u1), (lz_cnt u1), (lz_ln u1), (lz_cl u1), (lz_cy u1), (lz_cn u1), 1, (lz_A1 u1), (lz_A2 u1), (lz_A3 u1), (lz_A4 u1), (lz_A5 u1), (lz_A6 u1), (lz_A7 u1), (lz_A8 u1), (lz_A9 u1), (lz_A10 u1), (lz_A11 u1), (lz_A12 u1), (lz_A13 u1), (lz_A14 u1), (lz_A15 u1), (lz_A16 u1)))) s x1 x2 x3 x4)) ∧ (¬ (((lz_yes s) ||| (lz_no s)) &&& x5) = 0 → (post s)))) : lz_imply_59 post x1 x2 x3 x4 x5 s := h
def lz_imply_32 (post : St1 → Prop) (x1 : Int32) (x2 : Int32) (x3 : Int32) (x4 : Int32) (x5 : Int32) (s : St1) : Prop := wX_imply_32 post x1 x2 x3 x4 x5 (lz_made s) (lz_inf s) (lz_yes s) (lz_no s) (lz_tl s) (lz_lv s) (lz_dec s) (lz_cnt s) (lz_ln s) (lz_cl s) (lz_cy s) (lz_cn s) (lz_mv s) (lz_A1 s) (lz_A2 s) (lz_A3 s) (lz_A4 s) (lz_A5 s) (lz_A6 s) (lz_A7 s) (lz_A8 s) (lz_A9 s) (lz_A10 s) (lz_A11 s) (lz_A12 s) (lz_A13 s) (lz_A14 s) (lz_A15 s) (lz_A16 s)
theorem lz_v_imply_32 {post : St1 → Prop} {x1 : Int32} {x2 : Int32} {x3 : Int32} {x4 : Int32} {x5 : Int32} {s : St1} (h : ((x2 = 0 → ((((lz_yes s) &&& x5) = 0 → (lz_imply_59 post x1 x2 x3 x4 x5 s)) ∧ (¬ ((lz_yes s) &&& x5) = 0 → (wpX_clashOn (fun u1 => (post u1)) s (x3 ||| x5) x4)))) ∧ (¬ x2 = 0 → (lz_imply_59 post x1 x2 x3 x4 x5 s)))) : lz_imply_32 post x1 x2 x3 x4 x5 s := h
theorem lz_v_imply {post : St1 → Prop} {u : St1} {p0 : Int32} {p1 : Int32} {p2 : Int32} {p3 : Int32} (h : ∀ x5_1 : Int32, x5_1 = (1 : Int32) <<< (p0 &&& 31) → ((p1 = 0 → (lz_imply_32 post p0 p1 p2 p3 x5_1 u)) ∧ (¬ p1 = 0 → ((((lz_no u) &&& x5_1) = 0 → (lz_imply_32 post p0 p1 p2 p3 x5_1 u)) ∧ (¬ ((lz_no u) &&& x5_1) = 0 → (wpX_clashOn (fun u1 => (post u1)) u p2 (p3 ||| x5_1))))))) : wpX_imply post u p0 p1 p2 p3 := h
def lz_chain_61 (post : St1 → Prop) (J2 : Int32 → St1 → Prop) (x1 : Int32) (n : Nat) (x2 : Int32) (s : St1) : Prop := wX_chain_61 post (fun z y0 y1 y2 y3 y4 y5 y6 y7 y8 y9 y10 y11 y12 y13 y14 y15 y16 y17 y18 y19 y20 y21 y22 y23 y24 y25 y26 y27 y28 => J2 z (y0, y1, y2, y3, y4, y5, y6, y7, y8, y9, y10, y11, y12, y13, y14, y15, y16, y17, y18, y19, y20, y21, y22, y23, y24, y25, y26, y27, y28)) x1 n x2 (lz_made s) (lz_inf s) (lz_yes s) (lz_no s) (lz_tl s) (lz_lv s) (lz_dec s) (lz_cnt s) (lz_ln s) (lz_cl s) (lz_cy s) (lz_cn s) (lz_mv s) (lz_A1 s) (lz_A2 s) (lz_A3 s) (lz_A4 s) (lz_A5 s) (lz_A6 s) (lz_A7 s) (lz_A8 s) (lz_A9 s) (lz_A10 s) (lz_A11 s) (lz_A12 s) (lz_A13 s) (lz_A14 s) (lz_A15 s) (lz_A16 s)
theorem lz_v_chain_61 {post : St1 → Prop} {J2 : Int32 → St1 → Prop} {x1 : Int32} {n : Nat} {x2 : Int32} {s : St1} (h : ((3 ≤ x2 → (∀ x1_4 : Int32, x1_4 = x1 + 1 → (J2 x1_4 s))) ∧ (¬ 3 ≤ x2 → (((lz_cl s) = 0 → (∀ x3_7 : Int32, x3_7 = ((x1 * 3) + x2) - 1 → (((((lz_no s) >>> (x3_7 &&& 31)) &&& 1) = 1 → (wpX_imply (fun u1 => (∀ x2_72 : Int32, x2_72 = x2 + 1 → (lz_chain_61 post J2 x1 n x2_72 u1))) s (x3_7 + 1) 0 0 ((1 : Int32) <<< (x3_7 &&& 31)))) ∧ (¬ (((lz_no s) >>> (x3_7 &&& 31)) &&& 1) = 1 → (∀ x2_9 : Int32, x2_9 = x2 + 1 → (lz_chain_61 post J2 x1 n x2_9 s)))))) ∧ (¬ (lz_cl s) = 0 → (∀ x1_6 : Int32, x1_6 = x1 + 1 → (J2 x1_6 s))))))) : lz_chain_61 post J2 x1 (n + 1) x2 s := h
def lz_chain_9 (post : St1 → Prop) (J2 : Int32 → St1 → Prop) (x1 : Int32) (n : Nat) (x2 : Int32) (s : St1) : Prop := wX_chain_9 post (fun z y0 y1 y2 y3 y4 y5 y6 y7 y8 y9 y10 y11 y12 y13 y14 y15 y16 y17 y18 y19 y20 y21 y22 y23 y24 y25 y26 y27 y28 => J2 z (y0, y1, y2, y3, y4, y5, y6, y7, y8, y9, y10, y11, y12, y13, y14, y15, y16, y17, y18, y19, y20, y21, y22, y23, y24, y25, y26, y27, y28)) x1 n x2 (lz_made s) (lz_inf s) (lz_yes s) (lz_no s) (lz_tl s) (lz_lv s) (lz_dec s) (lz_cnt s) (lz_ln s) (lz_cl s) (lz_cy s) (lz_cn s) (lz_mv s) (lz_A1 s) (lz_A2 s) (lz_A3 s) (lz_A4 s) (lz_A5 s) (lz_A6 s) (lz_A7 s) (lz_A8 s) (lz_A9 s) (lz_A10 s) (lz_A11 s) (lz_A12 s) (lz_A13 s) (lz_A14 s) (lz_A15 s) (lz_A16 s)
theorem lz_v_chain_9 {post : St1 → Prop} {J2 : Int32 → St1 → Prop} {x1 : Int32} {n : Nat} {x2 : Int32} {s : St1} (h : ((x2 ≤ 1 → (∃ fu61 : Nat, lz_chain_61 post J2 x1 fu61 1 s)) ∧ (¬ x2 ≤ 1 → (((lz_cl s) = 0 → (∀ x3_74 : Int32, x3_74 = ((x1 * 3) + x2) - 1 → (((((lz_yes s) >>> (x3_74 &&& 31)) &&& 1) = 1 → (wpX_imply (fun u1 => (∀ x2_139 : Int32, x2_139 = x2 + (- 1) → (lz_chain_9 post J2 x1 n x2_139 u1))) s (x3_74 - 1) 1 ((1 : Int32) <<< (x3_74 &&& 31)) 0)) ∧ (¬ (((lz_yes s) >>> (x3_74 &&& 31)) &&& 1) = 1 → (∀ x2_76 : Int32, x2_76 = x2 + (- 1) → (lz_chain_9 post J2 x1 n x2_76 s)))))) ∧ (¬ (lz_cl s) = 0 → (∃ fu61 : Nat, lz_chain_61 post J2 x1 fu61 1 s)))))) : lz_chain_9 post J2 x1 (n + 1) x2 s := h
def lz_chain_2 (post : St1 → Prop) (n : Nat) (x1 : Int32) (s : St1) : Prop := wX_chain_2 post n x1 (lz_made s) (lz_inf s) (lz_yes s) (lz_no s) (lz_tl s) (lz_lv s) (lz_dec s) (lz_cnt s) (lz_ln s) (lz_cl s) (lz_cy s) (lz_cn s) (lz_mv s) (lz_A1 s) (lz_A2 s) (lz_A3 s) (lz_A4 s) (lz_A5 s) (lz_A6 s) (lz_A7 s) (lz_A8 s) (lz_A9 s) (lz_A10 s) (lz_A11 s) (lz_A12 s) (lz_A13 s) (lz_A14 s) (lz_A15 s) (lz_A16 s)
theorem lz_v_chain_2 {post : St1 → Prop} {n : Nat} {x1 : Int32} {s : St1} (h : ((4 ≤ x1 → (post s)) ∧ (¬ 4 ≤ x1 → (∃ fu9 : Nat, lz_chain_9 post (lz_chain_2 post n) x1 fu9 3 s)))) : lz_chain_2 post (n + 1) x1 s := h
theorem lz_v_chain {post : St1 → Prop} {u : St1} (h : ∃ fu2 : Nat, lz_chain_2 post fu2 0 u) : wpX_chain post u := h
def lz_lone_2 (post : Int32 → Prop) (x1 : Int32) (n : Nat) (x2 : Int32) (s : St1) : Prop := wX_lone_2 post x1 (lz_made s) (lz_inf s) (lz_yes s) (lz_no s) (lz_tl s) (lz_lv s) (lz_dec s) (lz_cnt s) (lz_ln s) (lz_cl s) (lz_cy s) (lz_cn s) (lz_mv s) (lz_A1 s) (lz_A2 s) (lz_A3 s) (lz_A4 s) (lz_A5 s) (lz_A6 s) (lz_A7 s) (lz_A8 s) (lz_A9 s) (lz_A10 s) (lz_A11 s) (lz_A12 s) (lz_A13 s) (lz_A14 s) (lz_A15 s) (lz_A16 s) n x2
theorem lz_v_lone_2 {post : Int32 → Prop} {x1 : Int32} {n : Nat} {x2 : Int32} {s : St1} (h : ((12 ≤ x2 → (post (- 1))) ∧ (¬ 12 ≤ x2 → ((x1 = ((1 : Int32) <<< (x2 &&& 31)) → (post x2)) ∧ (¬ x1 = ((1 : Int32) <<< (x2 &&& 31)) → (∀ x2_3 : Int32, x2_3 = x2 + 1 → (lz_lone_2 post x1 n x2_3 s))))))) : lz_lone_2 post x1 (n + 1) x2 s := h
theorem lz_v_lone {post : Int32 → Prop} {u : St1} {p0 : Int32} (h : ∃ fu2 : Nat, lz_lone_2 post p0 fu2 0 u) : wpX_lone post u p0 := h
def lz_clause_56 (post : St1 → Prop) (x1 : Int32) (x2 : Int32) (x3 : Int32) (x4 : Int32) (s : St1) : Prop := wX_clause_56 post x1 x2 x3 x4 (lz_made s) (lz_inf s) (lz_yes s) (lz_no s) (lz_tl s) (lz_lv s) (lz_dec s) (lz_cnt s) (lz_ln s) (lz_cl s) (lz_cy s) (lz_cn s) (lz_mv s) (lz_A1 s) (lz_A2 s) (lz_A3 s) (lz_A4 s) (lz_A5 s) (lz_A6 s) (lz_A7 s) (lz_A8 s) (lz_A9 s) (lz_A10 s) (lz_A11 s) (lz_A12 s) (lz_A13 s) (lz_A14 s) (lz_A15 s) (lz_A16 s)
theorem lz_v_clause_56 {post : St1 → Prop} {x1 : Int32} {x2 : Int32} {x3 : Int32} {x4 : Int32} {s : St1} (h : ((x4 = 0 → (wpX_lone (fun r_72 => ((r_72 < 0 → (post s)) ∧ (¬ r_72 < 0 → (wpX_imply (fun u1 => (post u1)) s r_72 1 x2 (x1 &&& (x3 ^^^ (- 1))))))) s x3)) ∧ (¬ x4 = 0 → ((x3 = 0 → (wpX_lone (fun r_8 => ((r_8 < 0 → (post s)) ∧ (¬ r_8 < 0 → (wpX_imply (fun u2 => (post u2)) s r_8 0 (x2 &&& (x4 ^^^ (- 1))) x1)))) s x4)) ∧ (¬ x3 = 0 → (post s)))))) : lz_clause_56 post x1 x2 x3 x4 s := h
theorem lz_v_clause {post : St1 → Prop} {u : St1} {p0 : Int32} {p1 : Int32} (h : (((p0 &&& (lz_yes u)) = 0 → (((p1 &&& (lz_no u)) = 0 → (∀ x3_3 : Int32, x3_3 = p0 &&& ((lz_no u) ^^^ (- 1)) → (∀ x4_4 : Int32, x4_4 = p1 &&& ((lz_yes u) ^^^ (- 1)) → ((x3_3 = 0 → ((x4_4 = 0 → (wpX_clashOn (fun u1 => (post u1)) u p1 p0)) ∧ (¬ x4_4 = 0 → (lz_clause_56 post p0 p1 x3_3 x4_4 u)))) ∧ (¬ x3_3 = 0 → (lz_clause_56 post p0 p1 x3_3 x4_4 u)))))) ∧ (¬ (p1 &&& (lz_no u)) = 0 → (post u)))) ∧ (¬ (p0 &&& (lz_yes u)) = 0 → (post u)))) : wpX_clause post u p0 p1 := h
def lz_low_4 (post : Int32 → Prop) (x1 : Int32) (n : Nat) (x2 : Int32) (x3 : Int32) (s : St1) : Prop := wX_low_4 post x1 (lz_made s) (lz_inf s) (lz_yes s) (lz_no s) (lz_tl s) (lz_lv s) (lz_dec s) (lz_cnt s) (lz_ln s) (lz_cl s) (lz_cy s) (lz_cn s) (lz_mv s) (lz_A1 s) (lz_A2 s) (lz_A3 s) (lz_A4 s) (lz_A5 s) (lz_A6 s) (lz_A7 s) (lz_A8 s) (lz_A9 s) (lz_A10 s) (lz_A11 s) (lz_A12 s) (lz_A13 s) (lz_A14 s) (lz_A15 s) (lz_A16 s) n x2 x3
theorem lz_v_low_4 {post : Int32 → Prop} {x1 : Int32} {n : Nat} {x2 : Int32} {x3 : Int32} {s : St1} (h : ((3 < x3 → (post x2)) ∧ (¬ 3 < x3 → (((((lz_yes s) >>> ((((x1 * 3) + x3) - 1) &&& 31)) &&& 1) = 1 → (∀ x3_4 : Int32, x3_4 = x3 + 1 → (lz_low_4 post x1 n x3 x3_4 s))) ∧ (¬ (((lz_yes s) >>> ((((x1 * 3) + x3) - 1) &&& 31)) &&& 1) = 1 → (∀ x3_3 : Int32, x3_3 = x3 + 1 → (lz_low_4 post x1 n x2 x3_3 s))))))) : lz_low_4 post x1 (n + 1) x2 x3 s := h
theorem lz_v_low {post : Int32 → Prop} {u : St1} {p0 : Int32} (h : ∃ fu4 : Nat, lz_low_4 post p0 fu4 0 1 u) : wpX_low post u p0 := h
def lz_high_4 (post : Int32 → Prop) (x1 : Int32) (n : Nat) (x2 : Int32) (x3 : Int32) (s : St1) : Prop := wX_high_4 post x1 (lz_made s) (lz_inf s) (lz_yes s) (lz_no s) (lz_tl s) (lz_lv s) (lz_dec s) (lz_cnt s) (lz_ln s) (lz_cl s) (lz_cy s) (lz_cn s) (lz_mv s) (lz_A1 s) (lz_A2 s) (lz_A3 s) (lz_A4 s) (lz_A5 s) (lz_A6 s) (lz_A7 s) (lz_A8 s) (lz_A9 s) (lz_A10 s) (lz_A11 s) (lz_A12 s) (lz_A13 s) (lz_A14 s) (lz_A15 s) (lz_A16 s) n x2 x3
theorem lz_v_high_4 {post : Int32 → Prop} {x1 : Int32} {n : Nat} {x2 : Int32} {x3 : Int32} {s : St1} (h : ((x3 < 1 → (post x2)) ∧ (¬ x3 < 1 → (((((lz_no s) >>> ((((x1 * 3) + x3) - 1) &&& 31)) &&& 1) = 1 → (∀ x2_4 : Int32, x2_4 = x3 - 1 → (∀ x3_5 : Int32, x3_5 = x3 + (- 1) → (lz_high_4 post x1 n x2_4 x3_5 s)))) ∧ (¬ (((lz_no s) >>> ((((x1 * 3) + x3) - 1) &&& 31)) &&& 1) = 1 → (∀ x3_3 : Int32, x3_3 = x3 + (- 1) → (lz_high_4 post x1 n x2 x3_3 s))))))) : lz_high_4 post x1 (n + 1) x2 x3 s := h
theorem lz_v_high {post : Int32 → Prop} {u : St1} {p0 : Int32} (h : ∃ fu4 : Nat, lz_high_4 post p0 fu4 3 3 u) : wpX_high post u p0 := h
theorem lz_v_highAtom {post : Int32 → Prop} {u : St1} {p0 : Int32} (h : wpX_high (fun r_1 => ((r_1 = 3 → (post 0)) ∧ (¬ r_1 = 3 → (post ((1 : Int32) <<< (((p0 * 3) + r_1) &&& 31)))))) u p0) : wpX_highAtom post u p0 := h
theorem lz_v_lowAtom {post : Int32 → Prop} {u : St1} {p0 : Int32} (h : wpX_low (fun r_1 => ((r_1 = 0 → (post 0)) ∧ (¬ r_1 = 0 → (post ((1 : Int32) <<< ((((p0 * 3) + r_1) - 1) &&& 31)))))) u p0) : wpX_lowAtom post u p0 := h
def lz_pushOut_66 (post : St1 → Prop) (x1 : Int32) (x2 : Int32) (x3 : Int32) (x4 : Int32) (x5 : Int32) (x7 : Int32) (s : St1) : Prop := wX_pushOut_66 post x1 x2 x3 x4 x5 x7 (lz_made s) (lz_inf s) (lz_yes s) (lz_no s) (lz_tl s) (lz_lv s) (lz_dec s) (lz_cnt s) (lz_ln s) (lz_cl s) (lz_cy s) (lz_cn s) (lz_mv s) (lz_A1 s) (lz_A2 s) (lz_A3 s) (lz_A4 s) (lz_A5 s) (lz_A6 s) (lz_A7 s) (lz_A8 s) (lz_A9 s) (lz_A10 s) (lz_A11 s) (lz_A12 s) (lz_A13 s) (lz_A14 s) (lz_A15 s) (lz_A16 s)
theorem lz_v_pushOut_66 {post : St1 → Prop} {x1 : Int32} {x2 : Int32} {x3 : Int32} {x4 : Int32} {x5 : Int32} {x7 : Int32} {s : St1} (h : (((lz_cl s) = 0 → ((x7 < x2 → (post s)) ∧ (¬ x7 < x2 → ((x3 < x7 → (post s)) ∧ (¬ x3 < x7 → (wpX_highAtom (fun r_7 => (∀ x8_8 : Int32, x8_8 = x5 ||| r_7 → ((x2 = 0 → (wpX_clashOn (fun u1 => (post u1)) s x4 x8_8)) ∧ (¬ x2 = 0 → (wpX_imply (fun u2 => (post u2)) s (((x1 * 3) + x2) - 1) 0 x4 x8_8))))) s x1)))))) ∧ (¬ (lz_cl s) = 0 → (post s)))) : lz_pushOut_66 post x1 x2 x3 x4 x5 x7 s := h
theorem lz_v_pushOut {post : St1 → Prop} {u : St1} {p0 : Int32} {p1 : Int32} {p2 : Int32} {p3 : Int32} {p4 : Int32} (h : wpX_low (fun r_1 => (wpX_high (fun r_2 => ((r_1 < p1 → (lz_pushOut_66 post p0 p1 p2 p3 p4 r_2 u)) ∧ (¬ r_1 < p1 → ((p2 < r_1 → (lz_pushOut_66 post p0 p1 p2 p3 p4 r_2 u)) ∧ (¬ p2 < r_1 → (wpX_lowAtom (fun r_135 => (∀ x8_136 : Int32, x8_136 = p3 ||| r_135 → ((p2 = 3 → (wpX_clashOn (fun u1 => (lz_pushOut_66 post p0 p1 p2 p3 p4 r_2 u1)) u x8_136 p4)) ∧ (¬ p2 = 3 → (wpX_imply (fun u2 => (lz_pushOut_66 post p0 p1 p2 p3 p4 r_2 u2)) u ((p0 * 3) + p2) 1 x8_136 p4))))) u p0)))))) u p0)) u p0) : wpX_pushOut post u p0 p1 p2 p3 p4 := h
def lz_hall_180 (post : St1 → Prop) (J142 : Int32 → St1 → Prop) (x1 : Int32) (x2 : Int32) (x3 : Int32) (x4 : Int32) (x6 : Int32) (x7 : Int32) (x8 : Int32) (z0 : Int32) (s : St1) : Prop := wX_hall_180 post (fun z y0 y1 y2 y3 y4 y5 y6 y7 y8 y9 y10 y11 y12 y13 y14 y15 y16 y17 y18 y19 y20 y21 y22 y23 y24 y25 y26 y27 y28 => J142 z (y0, y1, y2, y3, y4, y5, y6, y7, y8, y9, y10, y11, y12, y13, y14, y15, y16, y17, y18, y19, y20, y21, y22, y23, y24, y25, y26, y27, y28)) x1 x2 x3 x4 x6 x7 x8 z0 (lz_made s) (lz_inf s) (lz_yes s) (lz_no s) (lz_tl s) (lz_lv s) (lz_dec s) (lz_cnt s) (lz_ln s) (lz_cl s) (lz_cy s) (lz_cn s) (lz_mv s) (lz_A1 s) (lz_A2 s) (lz_A3 s) (lz_A4 s) (lz_A5 s) (lz_A6 s) (lz_A7 s) (lz_A8 s) (lz_A9 s) (lz_A10 s) (lz_A11 s) (lz_A12 s) (lz_A13 s) (lz_A14 s) (lz_A15 s) (lz_A16 s)
theorem lz_v_hall_180 {post : St1 → Prop} {J142 : Int32 → St1 → Prop} {x1 : Int32} {x2 : Int32} {x3 : Int32} {x4 : Int32} {x6 : Int32} {x7 : Int32} {x8 : Int32} {z0 : Int32} {s : St1} (h : ((z0 = 0 → (∀ x8_9 : Int32, x8_9 = x8 + 1 → (J142 x8_9 s))) ∧ (¬ z0 = 0 → (wpX_pushOut (fun u1 => (∀ x8_72 : Int32, x8_72 = x8 + 1 → (J142 x8_72 u1))) s x8 x2 x3 x6 x7)))) : lz_hall_180 post J142 x1 x2 x3 x4 x6 x7 x8 z0 s := h
def lz_hall_142 (post : St1 → Prop) (x1 : Int32) (x2 : Int32) (x3 : Int32) (x4 : Int32) (x6 : Int32) (x7 : Int32) (n : Nat) (x8 : Int32) (s : St1) : Prop := wX_hall_142 post x1 x2 x3 x4 x6 x7 n x8 (lz_made s) (lz_inf s) (lz_yes s) (lz_no s) (lz_tl s) (lz_lv s) (lz_dec s) (lz_cnt s) (lz_ln s) (lz_cl s) (lz_cy s) (lz_cn s) (lz_mv s) (lz_A1 s) (lz_A2 s) (lz_A3 s) (lz_A4 s) (lz_A5 s) (lz_A6 s) (lz_A7 s) (lz_A8 s) (lz_A9 s) (lz_A10 s) (lz_A11 s) (lz_A12 s) (lz_A13 s) (lz_A14 s) (lz_A15 s) (lz_A16 s)
theorem lz_v_hall_142 {post : St1 → Prop} {x1 : Int32} {x2 : Int32} {x3 : Int32} {x4 : Int32} {x6 : Int32} {x7 : Int32} {n : Nat} {x8 : Int32} {s : St1} (h : ((4 ≤ x8 → (post s)) ∧ (¬ 4 ≤ x8 → (((lz_cl s) = 0 → (vp_in x1 11 ∧ (((((((lz_A5 s) x1.toNatClampNeg) &&& (x4 ^^^ (- 1))) >>> (x8 &&& 31)) &&& 1) = 1 → (lz_hall_180 post (lz_hall_142 post x1 x2 x3 x4 x6 x7 n) x1 x2 x3 x4 x6 x7 x8 1 s)) ∧ (¬ (((((lz_A5 s) x1.toNatClampNeg) &&& (x4 ^^^ (- 1))) >>> (x8 &&& 31)) &&& 1) = 1 → (lz_hall_180 post (lz_hall_142 post x1 x2 x3 x4 x6 x7 n) x1 x2 x3 x4 x6 x7 x8 0 s))))) ∧ (¬ (lz_cl s) = 0 → (post s)))))) : lz_hall_142 post x1 x2 x3 x4 x6 x7 (n + 1) x8 s := h
def lz_hall_41 (post : St1 → Prop) (J15 : Int32 → Int32 → Int32 → Int32 → Int32 → Prop) (x1 : Int32) (x2 : Int32) (x3 : Int32) (x4 : Int32) (x5 : Int32) (x6 : Int32) (x7 : Int32) (x8 : Int32) (z0 : Int32) (s : St1) : Prop := wX_hall_41 post J15 x1 x2 x3 x4 x5 x6 x7 x8 z0 (lz_made s) (lz_inf s) (lz_yes s) (lz_no s) (lz_tl s) (lz_lv s) (lz_dec s) (lz_cnt s) (lz_ln s) (lz_cl s) (lz_cy s) (lz_cn s) (lz_mv s) (lz_A1 s) (lz_A2 s) (lz_A3 s) (lz_A4 s) (lz_A5 s) (lz_A6 s) (lz_A7 s) (lz_A8 s) (lz_A9 s) (lz_A10 s) (lz_A11 s) (lz_A12 s) (lz_A13 s) (lz_A14 s) (lz_A15 s) (lz_A16 s)
theorem lz_v_hall_41 {post : St1 → Prop} {J15 : Int32 → Int32 → Int32 → Int32 → Int32 → Prop} {x1 : Int32} {x2 : Int32} {x3 : Int32} {x4 : Int32} {x5 : Int32} {x6 : Int32} {x7 : Int32} {x8 : Int32} {z0 : Int32} {s : St1} (h : ((z0 = 0 → (∀ x8_138 : Int32, x8_138 = x8 + 1 → (J15 x4 x5 x6 x7 x8_138))) ∧ (¬ z0 = 0 → (wpX_low (fun r_139 => ((r_139 < x2 → (∀ x8_141 : Int32, x8_141 = x8 + 1 → (J15 x4 x5 x6 x7 x8_141))) ∧ (¬ r_139 < x2 → (wpX_high (fun r_142 => ((x3 < r_142 → (∀ x8_144 : Int32, x8_144 = x8 + 1 → (J15 x4 x5 x6 x7 x8_144))) ∧ (¬ x3 < r_142 → (∀ x4_145 : Int32, x4_145 = x4 ||| ((1 : Int32) <<< (x8 &&& 31)) → (∀ x5_146 : Int32, x5_146 = x5 + 1 → (wpX_lowAtom (fun r_147 => (∀ x6_148 : Int32, x6_148 = x6 ||| r_147 → (wpX_highAtom (fun r_149 => (∀ x7_150 : Int32, x7_150 = x7 ||| r_149 → (∀ x8_151 : Int32, x8_151 = x8 + 1 → (J15 x4_145 x5_146 x6_148 x7_150 x8_151)))) s x8))) s x8)))))) s x8)))) s x8)))) : lz_hall_41 post J15 x1 x2 x3 x4 x5 x6 x7 x8 z0 s := h
def lz_hall_15 (post : St1 → Prop) (x1 : Int32) (x2 : Int32) (x3 : Int32) (n : Nat) (x4 : Int32) (x5 : Int32) (x6 : Int32) (x7 : Int32) (x8 : Int32) (s : St1) : Prop := wX_hall_15 post x1 x2 x3 (lz_made s) (lz_inf s) (lz_yes s) (lz_no s) (lz_tl s) (lz_lv s) (lz_dec s) (lz_cnt s) (lz_ln s) (lz_cl s) (lz_cy s) (lz_cn s) (lz_mv s) (lz_A1 s) (lz_A2 s) (lz_A3 s) (lz_A4 s) (lz_A5 s) (lz_A6 s) (lz_A7 s) (lz_A8 s) (lz_A9 s) (lz_A10 s) (lz_A11 s) (lz_A12 s) (lz_A13 s) (lz_A14 s) (lz_A15 s) (lz_A16 s) n x4 x5 x6 x7 x8
theorem lz_v_hall_15 {post : St1 → Prop} {x1 : Int32} {x2 : Int32} {x3 : Int32} {n : Nat} {x4 : Int32} {x5 : Int32} {x6 : Int32} {x7 : Int32} {x8 : Int32} {s : St1} (h : ((4 ≤ x8 → ((x5 ≤ ((x3 - x2) + 1) → ((x5 = ((x3 - x2) + 1) → (∃ fu142 : Nat, lz_hall_142 post x1 x2 x3 x4 x6 x7 fu142 0 s)) ∧ (¬ x5 = ((x3 - x2) + 1) → (post s)))) ∧ (¬ x5 ≤ ((x3 - x2) + 1) → (wpX_clashOn (fun u1 => (post u1)) s x6 x7)))) ∧ (¬ 4 ≤ x8 → (vp_in x1 11 ∧ ((((((lz_A5 s) x1.toNatClampNeg) >>> (x8 &&& 31)) &&& 1) = 1 → (lz_hall_41 post (fun k0 k1 k2 k3 k4 => lz_hall_15 post x1 x2 x3 n k0 k1 k2 k3 k4 s) x1 x2 x3 x4 x5 x6 x7 x8 1 s)) ∧ (¬ ((((lz_A5 s) x1.toNatClampNeg) >>> (x8 &&& 31)) &&& 1) = 1 → (lz_hall_41 post (fun k0 k1 k2 k3 k4 => lz_hall_15 post x1 x2 x3 n k0 k1 k2 k3 k4 s) x1 x2 x3 x4 x5 x6 x7 x8 0 s))))))) : lz_hall_15 post x1 x2 x3 (n + 1) x4 x5 x6 x7 x8 s := h
theorem lz_v_hall {post : St1 → Prop} {u : St1} {p0 : Int32} {p1 : Int32} {p2 : Int32} (h : ∃ fu15 : Nat, lz_hall_15 post p0 p1 p2 fu15 0 0 0 0 0 u) : wpX_hall post u p0 p1 p2 := h
theorem lz_v_leastTerm {post : Int32 → Prop} {u : St1} {p0 : Int32} {p1 : Int32} (h : vp_in ((p0 * 4) + p1) 44 ∧ (∀ x3_2 : Int32, x3_2 = (lz_A3 u) ((p0 * 4) + p1).toNatClampNeg → ((x3_2 ≤ 0 → (wpX_high (fun r_4 => (post (x3_2 * r_4))) u p1)) ∧ (¬ x3_2 ≤ 0 → (wpX_low (fun r_5 => (post (x3_2 * r_5))) u p1))))) : wpX_leastTerm post u p0 p1 := h
def lz_squeeze_45 (post : St1 → Prop) (J3 : Int32 → St1 → Prop) (x1 : Int32) (x2 : Int32) (x3 : Int32) (x4 : Int32) (x5 : Int32) (x6 : Int32) (s : St1) : Prop := wX_squeeze_45 post (fun z y0 y1 y2 y3 y4 y5 y6 y7 y8 y9 y10 y11 y12 y13 y14 y15 y16 y17 y18 y19 y20 y21 y22 y23 y24 y25 y26 y27 y28 => J3 z (y0, y1, y2, y3, y4, y5, y6, y7, y8, y9, y10, y11, y12, y13, y14, y15, y16, y17, y18, y19, y20, y21, y22, y23, y24, y25, y26, y27, y28)) x1 x2 x3 x4 x5 x6 (lz_made s) (lz_inf s) (lz_yes s) (lz_no s) (lz_tl s) (lz_lv s) (lz_dec s) (lz_cnt s) (lz_ln s) (lz_cl s) (lz_cy s) (lz_cn s) (lz_mv s) (lz_A1 s) (lz_A2 s) (lz_A3 s) (lz_A4 s) (lz_A5 s) (lz_A6 s) (lz_A7 s) (lz_A8 s) (lz_A9 s) (lz_A10 s) (lz_A11 s) (lz_A12 s) (lz_A13 s) (lz_A14 s) (lz_A15 s) (lz_A16 s)
theorem lz_v_squeeze_45 {post : St1 → Prop} {J3 : Int32 → St1 → Prop} {x1 : Int32} {x2 : Int32} {x3 : Int32} {x4 : Int32} {x5 : Int32} {x6 : Int32} {s : St1} (h : ((0 ≤ x2 → (∀ x6_4 : Int32, x6_4 = x6 + 1 → (J3 x6_4 s))) ∧ (¬ 0 ≤ x2 → (((x2 * (x6 - 1)) ≤ x3 → (∀ x6_6 : Int32, x6_6 = x6 + 1 → (J3 x6_6 s))) ∧ (¬ (x2 * (x6 - 1)) ≤ x3 → (((lz_cl s) = 0 → (wpX_imply (fun u1 => (∀ x6_71 : Int32, x6_71 = x6 + 1 → (J3 x6_71 u1))) s (((x1 * 3) + x6) - 1) 1 x4 x5)) ∧ (¬ (lz_cl s) = 0 → (∀ x6_8 : Int32, x6_8 = x6 + 1 → (J3 x6_8 s))))))))) : lz_squeeze_45 post J3 x1 x2 x3 x4 x5 x6 s := h
def lz_squeeze_3 (post : St1 → Prop) (x1 : Int32) (x2 : Int32) (x3 : Int32) (x4 : Int32) (x5 : Int32) (n : Nat) (x6 : Int32) (s : St1) : Prop := wX_squeeze_3 post x1 x2 x3 x4 x5 n x6 (lz_made s) (lz_inf s) (lz_yes s) (lz_no s) (lz_tl s) (lz_lv s) (lz_dec s) (lz_cnt s) (lz_ln s) (lz_cl s) (lz_cy s) (lz_cn s) (lz_mv s) (lz_A1 s) (lz_A2 s) (lz_A3 s) (lz_A4 s) (lz_A5 s) (lz_A6 s) (lz_A7 s) (lz_A8 s) (lz_A9 s) (lz_A10 s) (lz_A11 s) (lz_A12 s) (lz_A13 s) (lz_A14 s) (lz_A15 s) (lz_A16 s)
theorem lz_v_squeeze_3 {post : St1 → Prop} {x1 : Int32} {x2 : Int32} {x3 : Int32} {x4 : Int32} {x5 : Int32} {n : Nat} {x6 : Int32} {s : St1} (h : ((3 < x6 → (post s)) ∧ (¬ 3 < x6 → ((x2 ≤ 0 → (lz_squeeze_45 post (lz_squeeze_3 post x1 x2 x3 x4 x5 n) x1 x2 x3 x4 x5 x6 s)) ∧ (¬ x2 ≤ 0 → (((x2 * x6) ≤ x3 → (lz_squeeze_45 post (lz_squeeze_3 post x1 x2 x3 x4 x5 n) x1 x2 x3 x4 x5 x6 s)) ∧ (¬ (x2 * x6) ≤ x3 → (((lz_cl s) = 0 → (wpX_imply (fun u1 => (lz_squeeze_45 post (lz_squeeze_3 post x1 x2 x3 x4 x5 n) x1 x2 x3 x4 x5 x6 u1)) s (((x1 * 3) + x6) - 1) 0 x4 x5)) ∧ (¬ (lz_cl s) = 0 → (lz_squeeze_45 post (lz_squeeze_3 post x1 x2 x3 x4 x5 n) x1 x2 x3 x4 x5 x6 s)))))))))) : lz_squeeze_3 post x1 x2 x3 x4 x5 (n + 1) x6 s := h
theorem lz_v_squeeze {post : St1 → Prop} {u : St1} {p0 : Int32} {p1 : Int32} {p2 : Int32} {p3 : Int32} {p4 : Int32} (h : ∃ fu3 : Nat, lz_squeeze_3 post p0 p1 p2 p3 p4 fu3 1 u) : wpX_squeeze post u p0 p1 p2 p3 p4 := h
def lz_linearWake_108 (post : St1 → Prop) (x1 : Int32) (x2 : Int32) (x3 : Int32) (x4 : Int32) (n : Nat) (x5 : Int32) (s : St1) : Prop := wX_linearWake_108 post x1 x2 x3 x4 n x5 (lz_made s) (lz_inf s) (lz_yes s) (lz_no s) (lz_tl s) (lz_lv s) (lz_dec s) (lz_cnt s) (lz_ln s) (lz_cl s) (lz_cy s) (lz_cn s) (lz_mv s) (lz_A1 s) (lz_A2 s) (lz_A3 s) (lz_A4 s) (lz_A5 s) (lz_A6 s) (lz_A7 s) (lz_A8 s) (lz_A9 s) (lz_A10 s) (lz_A11 s) (lz_A12 s) (lz_A13 s) (lz_A14 s) (lz_A15 s) (lz_A16 s)
theorem lz_v_linearWake_108 {post : St1 → Prop} {x1 : Int32} {x2 : Int32} {x3 : Int32} {x4 : Int32} {n : Nat} {x5 : Int32} {s : St1} (h : ((4 ≤ x5 → (post s)) ∧ (¬ 4 ≤ x5 → (((lz_cl s) = 0 → (wpX_leastTerm (fun r_6 => (vp_in x1 11 ∧ (∀ x7_8 : Int32, x7_8 = (((lz_A4 s) x1.toNatClampNeg) - x2) + r_6 → (∀ x8_9 : Int32, x8_9 = ((7 : Int32) <<< ((x5 * 3) &&& 31)) ^^^ (- 1) → (vp_in ((x1 * 4) + x5) 44 ∧ (wpX_squeeze (fun u1 => (∀ x5_73 : Int32, x5_73 = x5 + 1 → (lz_linearWake_108 post x1 x2 x3 x4 n x5_73 u1))) s x5 ((lz_A3 s) ((x1 * 4) + x5).toNatClampNeg) x7_8 (x3 &&& x8_9) (x4 &&& x8_9))))))) s x1 x5)) ∧ (¬ (lz_cl s) = 0 → (post s)))))) : lz_linearWake_108 post x1 x2 x3 x4 (n + 1) x5 s := h
def lz_linearWake_10 (post : St1 → Prop) (x1 : Int32) (n : Nat) (x2 : Int32) (x3 : Int32) (x4 : Int32) (x5 : Int32) (s : St1) : Prop := wX_linearWake_10 post x1 (lz_made s) (lz_inf s) (lz_yes s) (lz_no s) (lz_tl s) (lz_lv s) (lz_dec s) (lz_cnt s) (lz_ln s) (lz_cl s) (lz_cy s) (lz_cn s) (lz_mv s) (lz_A1 s) (lz_A2 s) (lz_A3 s) (lz_A4 s) (lz_A5 s) (lz_A6 s) (lz_A7 s) (lz_A8 s) (lz_A9 s) (lz_A10 s) (lz_A11 s) (lz_A12 s) (lz_A13 s) (lz_A14 s) (lz_A15 s) (lz_A16 s) n x2 x3 x4 x5
theorem lz_v_linearWake_10 {post : St1 → Prop} {x1 : Int32} {n : Nat} {x2 : Int32} {x3 : Int32} {x4 : Int32} {x5 : Int32} {s : St1} (h : ((4 ≤ x5 → (vp_in x1 11 ∧ ((x2 ≤ ((lz_A4 s) x1.toNatClampNeg) → (∃ fu108 : Nat, lz_linearWake_108 post x1 x2 x3 x4 fu108 0 s)) ∧ (¬ x2 ≤ ((lz_A4 s) x1.toNatClampNeg) → (wpX_clashOn (fun u1 => (post u1)) s x3 x4))))) ∧ (¬ 4 ≤ x5 → (wpX_leastTerm (fun r_136 => (∀ x2_137 : Int32, x2_137 = x2 + r_136 → (vp_in ((x1 * 4) + x5) 44 ∧ ((((lz_A3 s) ((x1 * 4) + x5).toNatClampNeg) ≤ 0 → (vp_in ((x1 * 4) + x5) 44 ∧ ((0 ≤ ((lz_A3 s) ((x1 * 4) + x5).toNatClampNeg) → (∀ x5_142 : Int32, x5_142 = x5 + 1 → (lz_linearWake_10 post x1 n x2_137 x3 x4 x5_142 s))) ∧ (¬ 0 ≤ ((lz_A3 s) ((x1 * 4) + x5).toNatClampNeg) → (wpX_highAtom (fun r_143 => (∀ x4_144 : Int32, x4_144 = x4 ||| r_143 → (∀ x5_145 : Int32, x5_145 = x5 + 1 → (lz_linearWake_10 post x1 n x2_137 x3 x4_144 x5_145 s)))) s x5))))) ∧ (¬ ((lz_A3 s) ((x1 * 4) + x5).toNatClampNeg) ≤ 0 → (wpX_lowAtom (fun r_146 => (∀ x3_147 : Int32, x3_147 = x3 ||| r_146 → (∀ x5_148 : Int32, x5_148 = x5 + 1 → (lz_linearWake_10 post x1 n x2_137 x3_147 x4 x5_148 s)))) s x5)))))) s x1 x5)))) : lz_linearWake_10 post x1 (n + 1) x2 x3 x4 x5 s := h
theorem lz_v_linearWake {post : St1 → Prop} {u : St1} {p0 : Int32} (h : ∃ fu10 : Nat, lz_linearWake_10 post p0 fu10 0 0 0 0 u) : wpX_linearWake post u p0 := h
def lz_wake_36 (post : St1 → Prop) (J29 : Int32 → St1 → Prop) (x1 : Int32) (x2 : Int32) (n : Nat) (x3 : Int32) (s : St1) : Prop := wX_wake_36 post (fun z y0 y1 y2 y3 y4 y5 y6 y7 y8 y9 y10 y11 y12 y13 y14 y15 y16 y17 y18 y19 y20 y21 y22 y23 y24 y25 y26 y27 y28 => J29 z (y0, y1, y2, y3, y4, y5, y6, y7, y8, y9, y10, y11, y12, y13, y14, y15, y16, y17, y18, y19, y20, y21, y22, y23, y24, y25, y26, y27, y28)) x1 x2 n x3 (lz_made s) (lz_inf s) (lz_yes s) (lz_no s) (lz_tl s) (lz_lv s) (lz_dec s) (lz_cnt s) (lz_ln s) (lz_cl s) (lz_cy s) (lz_cn s) (lz_mv s) (lz_A1 s) (lz_A2 s) (lz_A3 s) (lz_A4 s) (lz_A5 s) (lz_A6 s) (lz_A7 s) (lz_A8 s) (lz_A9 s) (lz_A10 s) (lz_A11 s) (lz_A12 s) (lz_A13 s) (lz_A14 s) (lz_A15 s) (lz_A16 s)
theorem lz_v_wake_36 {post : St1 → Prop} {J29 : Int32 → St1 → Prop} {x1 : Int32} {x2 : Int32} {n : Nat} {x3 : Int32} {s : St1} (h : ((4 ≤ x3 → (∀ x2_73 : Int32, x2_73 = x2 + 1 → (J29 x2_73 s))) ∧ (¬ 4 ≤ x3 → (((lz_cl s) = 0 → (wpX_hall (fun u1 => (∀ x3_138 : Int32, x3_138 = x3 + 1 → (lz_wake_36 post J29 x1 x2 n x3_138 u1))) s x1 x2 x3)) ∧ (¬ (lz_cl s) = 0 → (∀ x3_75 : Int32, x3_75 = x3 + 1 → (lz_wake_36 post J29 x1 x2 n x3_75 s))))))) : lz_wake_36 post J29 x1 x2 (n + 1) x3 s := h
def lz_wake_29 (post : St1 → Prop) (x1 : Int32) (n : Nat) (x2 : Int32) (s : St1) : Prop := wX_wake_29 post x1 n x2 (lz_made s) (lz_inf s) (lz_yes s) (lz_no s) (lz_tl s) (lz_lv s) (lz_dec s) (lz_cnt s) (lz_ln s) (lz_cl s) (lz_cy s) (lz_cn s) (lz_mv s) (lz_A1 s) (lz_A2 s) (lz_A3 s) (lz_A4 s) (lz_A5 s) (lz_A6 s) (lz_A7 s) (lz_A8 s) (lz_A9 s) (lz_A10 s) (lz_A11 s) (lz_A12 s) (lz_A13 s) (lz_A14 s) (lz_A15 s) (lz_A16 s)
theorem lz_v_wake_29 {post : St1 → Prop} {x1 : Int32} {n : Nat} {x2 : Int32} {s : St1} (h : ((4 ≤ x2 → (post s)) ∧ (¬ 4 ≤ x2 → (∃ fu36 : Nat, lz_wake_36 post (lz_wake_29 post x1 n) x1 x2 fu36 x2 s)))) : lz_wake_29 post x1 (n + 1) x2 s := h
theorem lz_v_wake {post : St1 → Prop} {u : St1} {p0 : Int32} (h : vp_in p0 11 ∧ ((((lz_A2 u) p0.toNatClampNeg) = 0 → (wpX_linearWake (fun u1 => (post u1)) u p0)) ∧ (¬ ((lz_A2 u) p0.toNatClampNeg) = 0 → (vp_in p0 11 ∧ ((((lz_A2 u) p0.toNatClampNeg) = 1 → (∃ fu29 : Nat, lz_wake_29 post p0 fu29 0 u)) ∧ (¬ ((lz_A2 u) p0.toNatClampNeg) = 1 → (vp_in p0 11 ∧ ((((lz_A8 u) p0.toNatClampNeg) = 0 → (vp_in p0 11 ∧ (vp_in p0 11 ∧ (wpX_clause (fun u2 => (post u2)) u ((lz_A6 u) p0.toNatClampNeg) ((lz_A7 u) p0.toNatClampNeg))))) ∧ (¬ ((lz_A8 u) p0.toNatClampNeg) = 0 → (post u)))))))))) : wpX_wake post u p0 := h
def lz_propagate_82 (post : St1 → Prop) (J12 : Int32 → St1 → Prop) (x1 : Int32) (n : Nat) (x2 : Int32) (s : St1) : Prop := wX_propagate_82 post (fun z y0 y1 y2 y3 y4 y5 y6 y7 y8 y9 y10 y11 y12 y13 y14 y15 y16 y17 y18 y19 y20 y21 y22 y23 y24 y25 y26 y27 y28 => J12 z (y0, y1, y2, y3, y4, y5, y6, y7, y8, y9, y10, y11, y12, y13, y14, y15, y16, y17, y18, y19, y20, y21, y22, y23, y24, y25, y26, y27, y28)) x1 n x2 (lz_made s) (lz_inf s) (lz_yes s) (lz_no s) (lz_tl s) (lz_lv s) (lz_dec s) (lz_cnt s) (lz_ln s) (lz_cl s) (lz_cy s) (lz_cn s) (lz_mv s) (lz_A1 s) (lz_A2 s) (lz_A3 s) (lz_A4 s) (lz_A5 s) (lz_A6 s) (lz_A7 s) (lz_A8 s) (lz_A9 s) (lz_A10 s) (lz_A11 s) (lz_A12 s) (lz_A13 s) (lz_A14 s) (lz_A15 s) (lz_A16 s)
theorem lz_v_propagate_82 {post : St1 → Prop} {J12 : Int32 → St1 → Prop} {x1 : Int32} {n : Nat} {x2 : Int32} {s : St1} (h : ((10 < x2 → (∀ x1_68 : Int32, x1_68 = x1 + 1 → (J12 x1_68 s))) ∧ (¬ 10 < x2 → (((lz_cl s) = 0 → (((((lz_cnt s) >>> (x2 &&& 31)) &&& 1) = 1 → (wpX_wake (fun u1 => (∀ x2_135 : Int32, x2_135 = x2 + 1 → (lz_propagate_82 post J12 x1 n x2_135 u1))) s x2)) ∧ (¬ (((lz_cnt s) >>> (x2 &&& 31)) &&& 1) = 1 → (∀ x2_72 : Int32, x2_72 = x2 + 1 → (lz_propagate_82 post J12 x1 n x2_72 s))))) ∧ (¬ (lz_cl s) = 0 → (∀ x1_70 : Int32, x1_70 = x1 + 1 → (J12 x1_70 s))))))) : lz_propagate_82 post J12 x1 (n + 1) x2 s := h
def lz_propagate_43 (post : St1 → Prop) (J12 : Int32 → St1 → Prop) (x1 : Int32) (n : Nat) (x2 : Int32) (s : St1) : Prop := wX_propagate_43 post (fun z y0 y1 y2 y3 y4 y5 y6 y7 y8 y9 y10 y11 y12 y13 y14 y15 y16 y17 y18 y19 y20 y21 y22 y23 y24 y25 y26 y27 y28 => J12 z (y0, y1, y2, y3, y4, y5, y6, y7, y8, y9, y10, y11, y12, y13, y14, y15, y16, y17, y18, y19, y20, y21, y22, y23, y24, y25, y26, y27, y28)) x1 n x2 (lz_made s) (lz_inf s) (lz_yes s) (lz_no s) (lz_tl s) (lz_lv s) (lz_dec s) (lz_cnt s) (lz_ln s) (lz_cl s) (lz_cy s) (lz_cn s) (lz_mv s) (lz_A1 s) (lz_A2 s) (lz_A3 s) (lz_A4 s) (lz_A5 s) (lz_A6 s) (lz_A7 s) (lz_A8 s) (lz_A9 s) (lz_A10 s) (lz_A11 s) (lz_A12 s) (lz_A13 s) (lz_A14 s) (lz_A15 s) (lz_A16 s)
theorem lz_v_propagate_43 {post : St1 → Prop} {J12 : Int32 → St1 → Prop} {x1 : Int32} {n : Nat} {x2 : Int32} {s : St1} (h : (((lz_ln s) ≤ x2 → (∃ fu82 : Nat, lz_propagate_82 post J12 x1 fu82 0 s)) ∧ (¬ (lz_ln s) ≤ x2 → (((lz_cl s) = 0 → (vp_in x2 128 ∧ (vp_in x2 128 ∧ (wpX_clause (fun u1 => (∀ x2_201 : Int32, x2_201 = x2 + 1 → (lz_propagate_43 post J12 x1 n x2_201 u1))) s ((lz_A15 s) x2.toNatClampNeg) ((lz_A16 s) x2.toNatClampNeg))))) ∧ (¬ (lz_cl s) = 0 → (∃ fu82 : Nat, lz_propagate_82 post J12 x1 fu82 0 s)))))) : lz_propagate_43 post J12 x1 (n + 1) x2 s := h
def lz_propagate_12 (post : St1 → Prop) (n : Nat) (x1 : Int32) (s : St1) : Prop := wX_propagate_12 post n x1 (lz_made s) (lz_inf s) (lz_yes s) (lz_no s) (lz_tl s) (lz_lv s) (lz_dec s) (lz_cnt s) (lz_ln s) (lz_cl s) (lz_cy s) (lz_cn s) (lz_mv s) (lz_A1 s) (lz_A2 s) (lz_A3 s) (lz_A4 s) (lz_A5 s) (lz_A6 s) (lz_A7 s) (lz_A8 s) (lz_A9 s) (lz_A10 s) (lz_A11 s) (lz_A12 s) (lz_A13 s) (lz_A14 s) (lz_A15 s) (lz_A16 s)
theorem lz_v_propagate_12 {post : St1 → Prop} {n : Nat} {x1 : Int32} {s : St1} (h : ((16 ≤ x1 → (post s)) ∧ (¬ 16 ≤ x1 → (((lz_mv s) = 0 → (post s)) ∧ (¬ (lz_mv s) = 0 → (((lz_cl s) = 0 → (wpX_chain (fun u1 => (∃ fu43 : Nat, lz_propagate_43 post (lz_propagate_12 post n) x1 fu43 0 u1)) ((lz_made s), (lz_inf s), (lz_yes s), (lz_no s), (lz_tl s), (lz_lv s), (lz_dec s), (lz_cnt s), (lz_ln s), (lz_cl s), (lz_cy s), (lz_cn s), 0, (lz_A1 s), (lz_A2 s), (lz_A3 s), (lz_A4 s), (lz_A5 s), (lz_A6 s), (lz_A7 s), (lz_A8 s), (lz_A9 s), (lz_A10 s), (lz_A11 s), (lz_A12 s), (lz_A13 s), (lz_A14 s), (lz_A15 s), (lz_A16 s)))) ∧ (¬ (lz_cl s) = 0 → (post s)))))))) : lz_propagate_12 post (n + 1) x1 s := h
theorem lz_v_propagate {post : St1 → Prop} {u : St1} (h : ∃ fu12 : Nat, lz_propagate_12 post fu12 0 ((lz_made u), (lz_inf u), (lz_yes u), (lz_no u), (lz_tl u), (lz_lv u), (lz_dec u), (lz_cnt u), (lz_ln u), 0, (lz_cy u), (lz_cn u), 1, (lz_A1 u), (lz_A2 u), (lz_A3 u), (lz_A4 u), (lz_A5 u), (lz_A6 u), (lz_A7 u), (lz_A8 u), (lz_A9 u), (lz_A10 u), (lz_A11 u), (lz_A12 u), (lz_A13 u), (lz_A14 u), (lz_A15 u), (lz_A16 u))) : wpX_propagate post u := h
def lz_decide_2 (post : St1 → Prop) (x1 : Int32) (n : Nat) (x2 : Int32) (s : St1) : Prop := wX_decide_2 post x1 (lz_made s) (lz_inf s) (lz_yes s) (lz_no s) (lz_tl s) (lz_lv s) (lz_dec s) (lz_cnt s) (lz_ln s) (lz_cl s) (lz_cy s) (lz_cn s) (lz_mv s) (lz_A1 s) (lz_A2 s) (lz_A3 s) (lz_A4 s) (lz_A5 s) (lz_A6 s) (lz_A7 s) (lz_A8 s) (lz_A9 s) (lz_A10 s) (lz_A11 s) (lz_A12 s) (lz_A13 s) (lz_A14 s) (lz_A15 s) (lz_A16 s) n x2
theorem lz_v_decide_2 {post : St1 → Prop} {x1 : Int32} {n : Nat} {x2 : Int32} {s : St1} (h : ((12 ≤ x2 → (post s)) ∧ (¬ 12 ≤ x2 → ((((x1 >>> (x2 &&& 31)) &&& 1) = 1 → (∀ f_4 : Int32, f_4 = (lz_lv s) + 1 → (∀ f_5 : Int32, f_5 = (lz_dec s) ||| ((1 : Int32) <<< (x2 &&& 31)) → (wpX_assign (fun u1 => (post u1)) ((lz_made s), (lz_inf s), (lz_yes s), (lz_no s), (lz_tl s), f_4, f_5, (lz_cnt s), (lz_ln s), (lz_cl s), (lz_cy s), (lz_cn s), (lz_mv s), (lz_A1 s), (lz_A2 s), (lz_A3 s), (lz_A4 s), (lz_A5 s), (lz_A6 s), (lz_A7 s), (lz_A8 s), (lz_A9 s), (lz_A10 s), (lz_A11 s), (lz_A12 s), (lz_A13 s), (lz_A14 s), (lz_A15 s), (lz_A16 s)) x2 0 0 0)))) ∧ (¬ ((x1 >>> (x2 &&& 31)) &&& 1) = 1 → (∀ x2_3 : Int32, x2_3 = x2 + 1 → (lz_decide_2 post x1 n x2_3 s))))))) : lz_decide_2 post x1 (n + 1) x2 s := h
theorem lz_v_decide {post : St1 → Prop} {u : St1} {p0 : Int32} (h : ∃ fu2 : Nat, lz_decide_2 post p0 fu2 0 u) : wpX_decide post u p0 := h
def lz_highestLevel_4 (post : Int32 → Prop) (x1 : Int32) (n : Nat) (x2 : Int32) (x3 : Int32) (s : St1) : Prop := wX_highestLevel_4 post x1 (lz_made s) (lz_inf s) (lz_yes s) (lz_no s) (lz_tl s) (lz_lv s) (lz_dec s) (lz_cnt s) (lz_ln s) (lz_cl s) (lz_cy s) (lz_cn s) (lz_mv s) (lz_A1 s) (lz_A2 s) (lz_A3 s) (lz_A4 s) (lz_A5 s) (lz_A6 s) (lz_A7 s) (lz_A8 s) (lz_A9 s) (lz_A10 s) (lz_A11 s) (lz_A12 s) (lz_A13 s) (lz_A14 s) (lz_A15 s) (lz_A16 s) n x2 x3
theorem lz_v_highestLevel_4 {post : Int32 → Prop} {x1 : Int32} {n : Nat} {x2 : Int32} {x3 : Int32} {s : St1} (h : ((12 ≤ x3 → (post x2)) ∧ (¬ 12 ≤ x3 → ((((x1 >>> (x3 &&& 31)) &&& 1) = 1 → (vp_in x3 12 ∧ ((((lz_A10 s) x3.toNatClampNeg) ≤ x2 → (∀ x3_6 : Int32, x3_6 = x3 + 1 → (lz_highestLevel_4 post x1 n x2 x3_6 s))) ∧ (¬ ((lz_A10 s) x3.toNatClampNeg) ≤ x2 → (vp_in x3 12 ∧ (∀ x2_8 : Int32, x2_8 = (lz_A10 s) x3.toNatClampNeg → (∀ x3_9 : Int32, x3_9 = x3 + 1 → (lz_highestLevel_4 post x1 n x2_8 x3_9 s)))))))) ∧ (¬ ((x1 >>> (x3 &&& 31)) &&& 1) = 1 → (∀ x3_3 : Int32, x3_3 = x3 + 1 → (lz_highestLevel_4 post x1 n x2 x3_3 s))))))) : lz_highestLevel_4 post x1 (n + 1) x2 x3 s := h
theorem lz_v_highestLevel {post : Int32 → Prop} {u : St1} {p0 : Int32} (h : ∃ fu4 : Nat, lz_highestLevel_4 post p0 fu4 0 0 u) : wpX_highestLevel post u p0 := h
def lz_countAt_5 (post : Int32 → Prop) (x1 : Int32) (x2 : Int32) (n : Nat) (x3 : Int32) (x4 : Int32) (s : St1) : Prop := wX_countAt_5 post x1 x2 (lz_made s) (lz_inf s) (lz_yes s) (lz_no s) (lz_tl s) (lz_lv s) (lz_dec s) (lz_cnt s) (lz_ln s) (lz_cl s) (lz_cy s) (lz_cn s) (lz_mv s) (lz_A1 s) (lz_A2 s) (lz_A3 s) (lz_A4 s) (lz_A5 s) (lz_A6 s) (lz_A7 s) (lz_A8 s) (lz_A9 s) (lz_A10 s) (lz_A11 s) (lz_A12 s) (lz_A13 s) (lz_A14 s) (lz_A15 s) (lz_A16 s) n x3 x4
theorem lz_v_countAt_5 {post : Int32 → Prop} {x1 : Int32} {x2 : Int32} {n : Nat} {x3 : Int32} {x4 : Int32} {s : St1} (h : ((12 ≤ x4 → (post x3)) ∧ (¬ 12 ≤ x4 → ((((x1 >>> (x4 &&& 31)) &&& 1) = 1 → (vp_in x4 12 ∧ ((((lz_A10 s) x4.toNatClampNeg) = x2 → (∀ x3_7 : Int32, x3_7 = x3 + 1 → (∀ x4_8 : Int32, x4_8 = x4 + 1 → (lz_countAt_5 post x1 x2 n x3_7 x4_8 s)))) ∧ (¬ ((lz_A10 s) x4.toNatClampNeg) = x2 → (∀ x4_6 : Int32, x4_6 = x4 + 1 → (lz_countAt_5 post x1 x2 n x3 x4_6 s)))))) ∧ (¬ ((x1 >>> (x4 &&& 31)) &&& 1) = 1 → (∀ x4_3 : Int32, x4_3 = x4 + 1 → (lz_countAt_5 post x1 x2 n x3 x4_3 s))))))) : lz_countAt_5 post x1 x2 (n + 1) x3 x4 s := h
theorem lz_v_countAt {post : Int32 → Prop} {u : St1} {p0 : Int32} {p1 : Int32} (h : ∃ fu5 : Nat, lz_countAt_5 post p0 p1 fu5 0 0 u) : wpX_countAt post u p0 p1 := h
def lz_resolve_22 (post : St1 → Prop) (x1 : Int32) (n : Nat) (x2 : Int32) (x3 : Int32) (s : St1) : Prop := wX_resolve_22 post x1 (lz_made s) (lz_inf s) (lz_yes s) (lz_no s) (lz_tl s) (lz_lv s) (lz_dec s) (lz_cnt s) (lz_ln s) (lz_cl s) (lz_mv s) (lz_A1 s) (lz_A2 s) (lz_A3 s) (lz_A4 s) (lz_A5 s) (lz_A6 s) (lz_A7 s) (lz_A8 s) (lz_A9 s) (lz_A10 s) (lz_A11 s) (lz_A12 s) (lz_A13 s) (lz_A14 s) (lz_A15 s) (lz_A16 s) n x2 x3 (lz_cy s) (lz_cn s)
theorem lz_v_resolve_22 {post : St1 → Prop} {x1 : Int32} {n : Nat} {x2 : Int32} {x3 : Int32} {s : St1} (h : ((x3 < 0 → (post s)) ∧ (¬ x3 < 0 → ((x2 ≤ 1 → (post s)) ∧ (¬ x2 ≤ 1 → (vp_in x3 12 ∧ (∀ x4_6 : Int32, x4_6 = (lz_A9 s) x3.toNatClampNeg → (∀ x5_7 : Int32, x5_7 = (1 : Int32) <<< (x4_6 &&& 31) → (((((lz_cy s) ||| (lz_cn s)) &&& x5_7) = 0 → (∀ x3_9 : Int32, x3_9 = x3 + (- 1) → (lz_resolve_22 post x1 n x2 x3_9 s))) ∧ (¬ (((lz_cy s) ||| (lz_cn s)) &&& x5_7) = 0 → (vp_in x4_6 12 ∧ ((((lz_A10 s) x4_6.toNatClampNeg) = x1 → (vp_in x4_6 12 ∧ (∀ f_14 : Int32, f_14 = ((lz_cy s) &&& (x5_7 ^^^ (- 1))) ||| ((lz_A11 s) x4_6.toNatClampNeg) → (vp_in x4_6 12 ∧ (∀ f_16 : Int32, f_16 = ((lz_cn s) &&& (x5_7 ^^^ (- 1))) ||| ((lz_A12 s) x4_6.toNatClampNeg) → (wpX_countAt (fun r_17 => (∀ x3_18 : Int32, x3_18 = x3 + (- 1) → (lz_resolve_22 post x1 n r_17 x3_18 ((lz_made s), (lz_inf s), (lz_yes s), (lz_no s), (lz_tl s), (lz_lv s), (lz_dec s), (lz_cnt s), (lz_ln s), (lz_cl s), f_14, f_16, (lz_mv s), (lz_A1 s), (lz_A2 s), (lz_A3 s), (lz_A4 s), (lz_A5 s), (lz_A6 s), (lz_A7 s), (lz_A8 s), (lz_A9 s), (lz_A10 s), (lz_A11 s), (lz_A12 s), (lz_A13 s), (lz_A14 s), (lz_A15 s), (lz_A16 s))))) ((lz_made s), (lz_inf s), (lz_yes s), (lz_no s), (lz_tl s), (lz_lv s), (lz_dec s), (lz_cnt s), (lz_ln s), (lz_cl s), f_14, f_16, (lz_mv s), (lz_A1 s), (lz_A2 s), (lz_A3 s), (lz_A4 s), (lz_A5 s), (lz_A6 s), (lz_A7 s), (lz_A8 s), (lz_A9 s), (lz_A10 s), (lz_A11 s), (lz_A12 s), (lz_A13 s), (lz_A14 s), (lz_A15 s), (lz_A16 s)) (f_14 ||| f_16) x1)))))) ∧ (¬ ((lz_A10 s) x4_6.toNatClampNeg) = x1 → (∀ x3_12 : Int32, x3_12 = x3 + (- 1) → (lz_resolve_22 post x1 n x2 x3_12 s))))))))))))))) : lz_resolve_22 post x1 (n + 1) x2 x3 s := h
theorem lz_v_resolve {post : St1 → Prop} {u : St1} {p0 : Int32} (h : wpX_countAt (fun r_1 => (∀ x3_2 : Int32, x3_2 = (lz_tl u) - 1 → (∃ fu22 : Nat, lz_resolve_22 post p0 fu22 r_1 x3_2 u))) u ((lz_cy u) ||| (lz_cn u)) p0) : wpX_resolve post u p0 := h
def lz_below_5 (post : Int32 → Prop) (x1 : Int32) (x2 : Int32) (n : Nat) (x3 : Int32) (x4 : Int32) (s : St1) : Prop := wX_below_5 post x1 x2 (lz_made s) (lz_inf s) (lz_yes s) (lz_no s) (lz_tl s) (lz_lv s) (lz_dec s) (lz_cnt s) (lz_ln s) (lz_cl s) (lz_cy s) (lz_cn s) (lz_mv s) (lz_A1 s) (lz_A2 s) (lz_A3 s) (lz_A4 s) (lz_A5 s) (lz_A6 s) (lz_A7 s) (lz_A8 s) (lz_A9 s) (lz_A10 s) (lz_A11 s) (lz_A12 s) (lz_A13 s) (lz_A14 s) (lz_A15 s) (lz_A16 s) n x3 x4
theorem lz_v_below_5 {post : Int32 → Prop} {x1 : Int32} {x2 : Int32} {n : Nat} {x3 : Int32} {x4 : Int32} {s : St1} (h : ((12 ≤ x4 → (post x3)) ∧ (¬ 12 ≤ x4 → ((((x1 >>> (x4 &&& 31)) &&& 1) = 1 → (vp_in x4 12 ∧ ((x2 ≤ ((lz_A10 s) x4.toNatClampNeg) → (∀ x4_6 : Int32, x4_6 = x4 + 1 → (lz_below_5 post x1 x2 n x3 x4_6 s))) ∧ (¬ x2 ≤ ((lz_A10 s) x4.toNatClampNeg) → (∀ x3_7 : Int32, x3_7 = x3 ||| ((1 : Int32) <<< (x4 &&& 31)) → (∀ x4_8 : Int32, x4_8 = x4 + 1 → (lz_below_5 post x1 x2 n x3_7 x4_8 s))))))) ∧ (¬ ((x1 >>> (x4 &&& 31)) &&& 1) = 1 → (∀ x4_3 : Int32, x4_3 = x4 + 1 → (lz_below_5 post x1 x2 n x3 x4_3 s))))))) : lz_below_5 post x1 x2 (n + 1) x3 x4 s := h
theorem lz_v_below {post : Int32 → Prop} {u : St1} {p0 : Int32} {p1 : Int32} (h : ∃ fu5 : Nat, lz_below_5 post p0 p1 fu5 0 0 u) : wpX_below post u p0 p1 := h
def lz_backTo_7 (post : St1 → Prop) (x1 : Int32) (n : Nat) (x2 : Int32) (s : St1) : Prop := wX_backTo_7 post x1 (lz_made s) (lz_inf s) (lz_lv s) (lz_cnt s) (lz_ln s) (lz_cl s) (lz_cy s) (lz_cn s) (lz_mv s) (lz_A1 s) (lz_A2 s) (lz_A3 s) (lz_A4 s) (lz_A5 s) (lz_A6 s) (lz_A7 s) (lz_A8 s) (lz_A9 s) (lz_A10 s) (lz_A11 s) (lz_A12 s) (lz_A13 s) (lz_A14 s) (lz_A15 s) (lz_A16 s) n x2 (lz_yes s) (lz_no s) (lz_tl s) (lz_dec s)
theorem lz_v_backTo_7 {post : St1 → Prop} {x1 : Int32} {n : Nat} {x2 : Int32} {s : St1} (h : ((x2 < 0 → (post ((lz_made s), (lz_inf s), (lz_yes s), (lz_no s), (lz_tl s), x1, (lz_dec s), (lz_cnt s), (lz_ln s), (lz_cl s), (lz_cy s), (lz_cn s), (lz_mv s), (lz_A1 s), (lz_A2 s), (lz_A3 s), (lz_A4 s), (lz_A5 s), (lz_A6 s), (lz_A7 s), (lz_A8 s), (lz_A9 s), (lz_A10 s), (lz_A11 s), (lz_A12 s), (lz_A13 s), (lz_A14 s), (lz_A15 s), (lz_A16 s)))) ∧ (¬ x2 < 0 → (vp_in x2 12 ∧ (∀ x3_4 : Int32, x3_4 = (lz_A9 s) x2.toNatClampNeg → (vp_in x3_4 12 ∧ ((((lz_A10 s) x3_4.toNatClampNeg) ≤ x1 → (∀ x2_7 : Int32, x2_7 = x2 + (- 1) → (lz_backTo_7 post x1 n x2_7 s))) ∧ (¬ ((lz_A10 s) x3_4.toNatClampNeg) ≤ x1 → (∀ f_8 : Int32, f_8 = (lz_yes s) &&& (((1 : Int32) <<< (x3_4 &&& 31)) ^^^ (- 1)) → (∀ f_9 : Int32, f_9 = (lz_no s) &&& (((1 : Int32) <<< (x3_4 &&& 31)) ^^^ (- 1)) → (∀ f_10 : Int32, f_10 = (lz_dec s) &&& (((1 : Int32) <<< (x3_4 &&& 31)) ^^^ (- 1)) → (∀ x2_11 : Int32, x2_11 = x2 + (- 1) → (lz_backTo_7 post x1 n x2_11 ((lz_made s), (lz_inf s), f_8, f_9, x2, (lz_lv s), f_10, (lz_cnt s), (lz_ln s), (lz_cl s), (lz_cy s), (lz_cn s), (lz_mv s), (lz_A1 s), (lz_A2 s), (lz_A3 s), (lz_A4 s), (lz_A5 s), (lz_A6 s), (lz_A7 s), (lz_A8 s), (lz_A9 s), (lz_A10 s), (lz_A11 s), (lz_A12 s), (lz_A13 s), (lz_A14 s), (lz_A15 s), (lz_A16 s))))))))))))))) : lz_backTo_7 post x1 (n + 1) x2 s := h
theorem lz_v_backTo {post : St1 → Prop} {u : St1} {p0 : Int32} (h : ∀ x2_1 : Int32, x2_1 = (lz_tl u) - 1 → (∃ fu7 : Nat, lz_backTo_7 post p0 fu7 x2_1 u)) : wpX_backTo post u p0 := h
def lz_turnLast_7 (post : Int32 → St1 → Prop) (x1 : Int32) (n : Nat) (x2 : Int32) (x3 : Int32) (x4 : Int32) (s : St1) : Prop := wX_turnLast_7 post x1 (lz_made s) (lz_inf s) (lz_yes s) (lz_no s) (lz_tl s) (lz_lv s) (lz_dec s) (lz_cnt s) (lz_ln s) (lz_cl s) (lz_cy s) (lz_cn s) (lz_mv s) (lz_A1 s) (lz_A2 s) (lz_A3 s) (lz_A4 s) (lz_A5 s) (lz_A6 s) (lz_A7 s) (lz_A8 s) (lz_A9 s) (lz_A10 s) (lz_A11 s) (lz_A12 s) (lz_A13 s) (lz_A14 s) (lz_A15 s) (lz_A16 s) n x2 x3 x4
theorem lz_v_turnLast_7 {post : Int32 → St1 → Prop} {x1 : Int32} {n : Nat} {x2 : Int32} {x3 : Int32} {x4 : Int32} {s : St1} (h : ((12 ≤ x4 → (wpX_backTo (fun u1 => (wpX_assign (fun u2 => (post 1 u2)) u1 x2 1 0 x3)) s (x1 - 1))) ∧ (¬ 12 ≤ x4 → (((((lz_dec s) >>> (x4 &&& 31)) &&& 1) = 1 → (vp_in x4 12 ∧ ((((lz_A10 s) x4.toNatClampNeg) = x1 → (∀ x4_135 : Int32, x4_135 = x4 + 1 → (lz_turnLast_7 post x1 n x4 x3 x4_135 s))) ∧ (¬ ((lz_A10 s) x4.toNatClampNeg) = x1 → (vp_in x4 12 ∧ ((x1 ≤ ((lz_A10 s) x4.toNatClampNeg) → (∀ x4_132 : Int32, x4_132 = x4 + 1 → (lz_turnLast_7 post x1 n x2 x3 x4_132 s))) ∧ (¬ x1 ≤ ((lz_A10 s) x4.toNatClampNeg) → (∀ x3_133 : Int32, x3_133 = x3 ||| ((1 : Int32) <<< (x4 &&& 31)) → (∀ x4_134 : Int32, x4_134 = x4 + 1 → (lz_turnLast_7 post x1 n x2 x3_133 x4_134 s)))))))))) ∧ (¬ (((lz_dec s) >>> (x4 &&& 31)) &&& 1) = 1 → (∀ x4_127 : Int32, x4_127 = x4 + 1 → (lz_turnLast_7 post x1 n x2 x3 x4_127 s))))))) : lz_turnLast_7 post x1 (n + 1) x2 x3 x4 s := h
theorem lz_v_turnLast {post : Int32 → St1 → Prop} {u : St1} {p0 : Int32} (h : ∃ fu7 : Nat, lz_turnLast_7 post p0 fu7 0 0 0 u) : wpX_turnLast post u p0 := h
theorem lz_v_learn {post : Int32 → St1 → Prop} {u : St1} (h : wpX_highestLevel (fun r_1 => ((r_1 = 0 → (post 0 u)) ∧ (¬ r_1 = 0 → (((lz_ln u) = 128 → (wpX_turnLast (fun r_135 u1 => (narrow .boolean (.int r_135) = .int r_135 ∧ (post r_135 u1))) u r_1)) ∧ (¬ (lz_ln u) = 128 → (wpX_resolve (fun u2 => (wpX_below (fun r_66 => (wpX_highestLevel (fun r_67 => (vp_in (lz_ln u2) 128 ∧ ∀ am3815_69 : Nat → Int32, am3815_69 = upd (lz_A15 u2) (lz_ln u2).toNatClampNeg (lz_cn u2) → (vp_in (lz_ln u2) 128 ∧ ∀ am3816_71 : Nat → Int32, am3816_71 = upd (lz_A16 u2) (lz_ln u2).toNatClampNeg (lz_cy u2) → (∀ f_72 : Int32, f_72 = (lz_ln u2) + 1 → (wpX_backTo (fun u3 => (post 1 u3)) ((lz_made u2), (lz_inf u2), (lz_yes u2), (lz_no u2), (lz_tl u2), (lz_lv u2), (lz_dec u2), (lz_cnt u2), f_72, (lz_cl u2), (lz_cy u2), (lz_cn u2), (lz_mv u2), (lz_A1 u2), (lz_A2 u2), (lz_A3 u2), (lz_A4 u2), (lz_A5 u2), (lz_A6 u2), (lz_A7 u2), (lz_A8 u2), (lz_A9 u2), (lz_A10 u2), (lz_A11 u2), (lz_A12 u2), (lz_A13 u2), (lz_A14 u2), am3815_69, am3816_71) r_67))))) u2 r_66)) u2 ((lz_cy u2) ||| (lz_cn u2)) r_1)) u r_1)))))) u ((lz_cy u) ||| (lz_cn u))) : wpX_learn post u := h
def lz_search_7 (post : Int32 → St1 → Prop) (n : Nat) (x1 : Int32) (x2 : Int32) (s : St1) : Prop := wX_search_7 post n x1 x2 (lz_made s) (lz_inf s) (lz_yes s) (lz_no s) (lz_tl s) (lz_lv s) (lz_dec s) (lz_cnt s) (lz_ln s) (lz_cl s) (lz_cy s) (lz_cn s) (lz_mv s) (lz_A1 s) (lz_A2 s) (lz_A3 s) (lz_A4 s) (lz_A5 s) (lz_A6 s) (lz_A7 s) (lz_A8 s) (lz_A9 s) (lz_A10 s) (lz_A11 s) (lz_A12 s) (lz_A13 s) (lz_A14 s) (lz_A15 s) (lz_A16 s)
theorem lz_v_search_7 {post : Int32 → St1 → Prop} {n : Nat} {x1 : Int32} {x2 : Int32} {s : St1} (h : ((20000 ≤ x2 → (post 0 s)) ∧ (¬ 20000 ≤ x2 → ((x1 = 0 → (post 0 s)) ∧ (¬ x1 = 0 → (wpX_propagate (fun u1 => (((lz_cl u1) = 0 → (∀ x3_128 : Int32, x3_128 = 4095 &&& (((lz_yes u1) ||| (lz_no u1)) ^^^ (- 1)) → ((x3_128 = 0 → (post 1 u1)) ∧ (¬ x3_128 = 0 → (wpX_decide (fun u2 => (∀ x2_192 : Int32, x2_192 = x2 + 1 → (lz_search_7 post n x1 x2_192 u2))) u1 x3_128))))) ∧ (¬ (lz_cl u1) = 0 → (wpX_learn (fun r_193 u3 => (∀ x2_255 : Int32, x2_255 = x2 + 1 → (lz_search_7 post n r_193 x2_255 u3))) u1)))) s)))))) : lz_search_7 post (n + 1) x1 x2 s := h
theorem lz_v_search {post : Int32 → St1 → Prop} {u : St1} (h : wpX_begin (fun r_1 u1 => (∃ fu7 : Nat, lz_search_7 post fu7 r_1 0 u1)) u) : wpX_search post u := h
def lz_answer_4 (post : Int32 → Prop) (n : Nat) (x1 : Int32) (x2 : Int32) (s : St1) : Prop := wX_answer_4 post (lz_made s) (lz_inf s) (lz_yes s) (lz_no s) (lz_tl s) (lz_lv s) (lz_dec s) (lz_cnt s) (lz_ln s) (lz_cl s) (lz_cy s) (lz_cn s) (lz_mv s) (lz_A1 s) (lz_A2 s) (lz_A3 s) (lz_A4 s) (lz_A5 s) (lz_A6 s) (lz_A7 s) (lz_A8 s) (lz_A9 s) (lz_A10 s) (lz_A11 s) (lz_A12 s) (lz_A13 s) (lz_A14 s) (lz_A15 s) (lz_A16 s) n x1 x2
theorem lz_v_answer_4 {post : Int32 → Prop} {n : Nat} {x1 : Int32} {x2 : Int32} {s : St1} (h : ((4 ≤ x2 → (post x1)) ∧ (¬ 4 ≤ x2 → (wpX_low (fun r_2 => (∀ x1_3 : Int32, x1_3 = (x1 * 4) + r_2 → (∀ x2_4 : Int32, x2_4 = x2 + 1 → (lz_answer_4 post n x1_3 x2_4 s)))) s x2)))) : lz_answer_4 post (n + 1) x1 x2 s := h
theorem lz_v_answer {post : Int32 → Prop} {u : St1} (h : ∃ fu4 : Nat, lz_answer_4 post fu4 0 0 u) : wpX_answer post u := h
def lz_after_60 (post : Int32 → St1 → Prop) (J46 : Int32 → St1 → Prop) (x1 : Int32) (x2 : Int32) (n : Nat) (x3 : Int32) (s : St1) : Prop := wX_after_60 post (fun z y0 y1 y2 y3 y4 y5 y6 y7 y8 y9 y10 y11 y12 y13 y14 y15 y16 y17 y18 y19 y20 y21 y22 y23 y24 y25 y26 y27 y28 => J46 z (y0, y1, y2, y3, y4, y5, y6, y7, y8, y9, y10, y11, y12, y13, y14, y15, y16, y17, y18, y19, y20, y21, y22, y23, y24, y25, y26, y27, y28)) x1 x2 (lz_made s) (lz_inf s) (lz_yes s) (lz_no s) (lz_tl s) (lz_lv s) (lz_dec s) (lz_cnt s) (lz_ln s) (lz_cl s) (lz_cy s) (lz_cn s) (lz_mv s) n x3 (lz_A1 s) (lz_A2 s) (lz_A3 s) (lz_A4 s) (lz_A5 s) (lz_A6 s) (lz_A7 s) (lz_A8 s) (lz_A9 s) (lz_A10 s) (lz_A11 s) (lz_A12 s) (lz_A13 s) (lz_A14 s) (lz_A15 s) (lz_A16 s)
theorem lz_v_after_60 {post : Int32 → St1 → Prop} {J46 : Int32 → St1 → Prop} {x1 : Int32} {x2 : Int32} {n : Nat} {x3 : Int32} {s : St1} (h : ((x2 ≤ x3 → (vp_in x2 4 ∧ ∀ am5513_69 : Nat → Int32, am5513_69 = upd (lz_A13 s) x2.toNatClampNeg (((x1 >>> ((2 * (3 - x2)) &&& 31)) &&& 3) + 1) → (wpX_search (fun r_70 u1 => ((r_70 = 0 → (∀ x2_133 : Int32, x2_133 = x2 + (- 1) → (J46 x2_133 u1))) ∧ (¬ r_70 = 0 → (wpX_answer (fun r_134 => (post r_134 u1)) u1)))) ((lz_made s), (lz_inf s), (lz_yes s), (lz_no s), (lz_tl s), (lz_lv s), (lz_dec s), (lz_cnt s), (lz_ln s), (lz_cl s), (lz_cy s), (lz_cn s), (lz_mv s), (lz_A1 s), (lz_A2 s), (lz_A3 s), (lz_A4 s), (lz_A5 s), (lz_A6 s), (lz_A7 s), (lz_A8 s), (lz_A9 s), (lz_A10 s), (lz_A11 s), (lz_A12 s), am5513_69, (lz_A14 s), (lz_A15 s), (lz_A16 s))))) ∧ (¬ x2 ≤ x3 → (∀ x4_135 : Int32, x4_135 = (x1 >>> ((2 * (3 - x3)) &&& 31)) &&& 3 → (vp_in x3 4 ∧ ∀ am5513_137 : Nat → Int32, am5513_137 = upd (lz_A13 s) x3.toNatClampNeg x4_135 → (vp_in x3 4 ∧ ∀ am5514_139 : Nat → Int32, am5514_139 = upd (lz_A14 s) x3.toNatClampNeg x4_135 → (∀ x3_140 : Int32, x3_140 = x3 + 1 → (lz_after_60 post J46 x1 x2 n x3_140 ((lz_made s), (lz_inf s), (lz_yes s), (lz_no s), (lz_tl s), (lz_lv s), (lz_dec s), (lz_cnt s), (lz_ln s), (lz_cl s), (lz_cy s), (lz_cn s), (lz_mv s), (lz_A1 s), (lz_A2 s), (lz_A3 s), (lz_A4 s), (lz_A5 s), (lz_A6 s), (lz_A7 s), (lz_A8 s), (lz_A9 s), (lz_A10 s), (lz_A11 s), (lz_A12 s), am5513_137, am5514_139, (lz_A15 s), (lz_A16 s)))))))))) : lz_after_60 post J46 x1 x2 (n + 1) x3 s := h
def lz_after_46 (post : Int32 → St1 → Prop) (x1 : Int32) (n : Nat) (x2 : Int32) (s : St1) : Prop := wX_after_46 post x1 n x2 (lz_made s) (lz_inf s) (lz_yes s) (lz_no s) (lz_tl s) (lz_lv s) (lz_dec s) (lz_cnt s) (lz_ln s) (lz_cl s) (lz_cy s) (lz_cn s) (lz_mv s) (lz_A1 s) (lz_A2 s) (lz_A3 s) (lz_A4 s) (lz_A5 s) (lz_A6 s) (lz_A7 s) (lz_A8 s) (lz_A9 s) (lz_A10 s) (lz_A11 s) (lz_A12 s) (lz_A13 s) (lz_A14 s) (lz_A15 s) (lz_A16 s)
theorem lz_v_after_46 {post : Int32 → St1 → Prop} {x1 : Int32} {n : Nat} {x2 : Int32} {s : St1} (h : ((x2 < 0 → (post (- 4) s)) ∧ (¬ x2 < 0 → (wpX_ask (fun u1 => (∃ fu60 : Nat, lz_after_60 post (lz_after_46 post x1 n) x1 x2 fu60 0 u1)) s (lz_inf s))))) : lz_after_46 post x1 (n + 1) x2 s := h
theorem lz_v_after {post : Int32 → St1 → Prop} {u : St1} {p0 : Int32} (h : ((p0 < (- 1) → (post (- 1) u)) ∧ (¬ p0 < (- 1) → ((p0 ≤ 255 → ((p0 = (- 1) → (wpX_ask (fun u1 => (wpX_search (fun r_203 u2 => ((r_203 = 0 → (post (- 4) u2)) ∧ (¬ r_203 = 0 → (wpX_answer (fun r_266 => (post r_266 u2)) u2)))) u1)) u (lz_inf u))) ∧ (¬ p0 = (- 1) → (∃ fu46 : Nat, lz_after_46 post p0 fu46 3 u)))) ∧ (¬ p0 ≤ 255 → (post (- 1) u)))))) : wpX_after post u p0 := h
theorem lz_v_solvable {post : Int32 → St1 → Prop} {u : St1} (h : wpX_ask (fun u1 => (wpX_search (fun r_63 u2 => (narrow .boolean (.int r_63) = .int r_63 ∧ (post r_63 u2))) u1)) u (lz_inf u)) : wpX_solvable post u := h
def lz_blame_24 (post : Int32 → St1 → Prop) (n : Nat) (x1 : Int32) (x2 : Int32) (s : St1) : Prop := wX_blame_24 post n x1 x2 (lz_made s) (lz_inf s) (lz_yes s) (lz_no s) (lz_tl s) (lz_lv s) (lz_dec s) (lz_cnt s) (lz_ln s) (lz_cl s) (lz_cy s) (lz_cn s) (lz_mv s) (lz_A1 s) (lz_A2 s) (lz_A3 s) (lz_A4 s) (lz_A5 s) (lz_A6 s) (lz_A7 s) (lz_A8 s) (lz_A9 s) (lz_A10 s) (lz_A11 s) (lz_A12 s) (lz_A13 s) (lz_A14 s) (lz_A15 s) (lz_A16 s)
theorem lz_v_blame_24 {post : Int32 → St1 → Prop} {n : Nat} {x1 : Int32} {x2 : Int32} {s : St1} (h : (((lz_made s) ≤ x2 → (post x1 s)) ∧ (¬ (lz_made s) ≤ x2 → ((((x1 >>> (x2 &&& 31)) &&& 1) = 1 → (wpX_ask (fun u1 => (wpX_search (fun r_191 u2 => ((r_191 = 0 → (∀ x1_255 : Int32, x1_255 = x1 &&& (((1 : Int32) <<< (x2 &&& 31)) ^^^ (- 1)) → (∀ x2_256 : Int32, x2_256 = x2 + 1 → (lz_blame_24 post n x1_255 x2_256 u2)))) ∧ (¬ r_191 = 0 → (∀ x2_254 : Int32, x2_254 = x2 + 1 → (lz_blame_24 post n x1 x2_254 u2))))) u1)) s (x1 &&& (((1 : Int32) <<< (x2 &&& 31)) ^^^ (- 1))))) ∧ (¬ ((x1 >>> (x2 &&& 31)) &&& 1) = 1 → (∀ x2_128 : Int32, x2_128 = x2 + 1 → (lz_blame_24 post n x1 x2_128 s))))))) : lz_blame_24 post (n + 1) x1 x2 s := h
theorem lz_v_blame {post : Int32 → St1 → Prop} {u : St1} (h : wpX_ask (fun u1 => (wpX_search (fun r_63 u2 => ((r_63 = 0 → (∃ fu24 : Nat, lz_blame_24 post fu24 (lz_inf u2) 0 u2)) ∧ (¬ r_63 = 0 → (post 0 u2)))) u1)) u (lz_inf u)) : wpX_blame post u := h
theorem lz_v_firstWith {post : Int32 → St1 → Prop} {u : St1} {p0 : Int32} {p1 : Int32} (h : ((p0 < 0 → (post (- 1) u)) ∧ (¬ p0 < 0 → ((3 < p0 → (post (- 1) u)) ∧ (¬ 3 < p0 → ((p1 < 0 → (post (- 1) u)) ∧ (¬ p1 < 0 → ((p1 ≤ 3 → (wpX_ask (fun u1 => (vp_in p0 4 ∧ ∀ am2513_68 : Nat → Int32, am2513_68 = upd (lz_A13 u1) p0.toNatClampNeg p1 → (vp_in p0 4 ∧ ∀ am2514_70 : Nat → Int32, am2514_70 = upd (lz_A14 u1) p0.toNatClampNeg p1 → (wpX_search (fun r_71 u2 => ((r_71 = 0 → (post (- 4) u2)) ∧ (¬ r_71 = 0 → (wpX_answer (fun r_134 => (post r_134 u2)) u2)))) ((lz_made u1), (lz_inf u1), (lz_yes u1), (lz_no u1), (lz_tl u1), (lz_lv u1), (lz_dec u1), (lz_cnt u1), (lz_ln u1), (lz_cl u1), (lz_cy u1), (lz_cn u1), (lz_mv u1), (lz_A1 u1), (lz_A2 u1), (lz_A3 u1), (lz_A4 u1), (lz_A5 u1), (lz_A6 u1), (lz_A7 u1), (lz_A8 u1), (lz_A9 u1), (lz_A10 u1), (lz_A11 u1), (lz_A12 u1), am2513_68, am2514_70, (lz_A15 u1), (lz_A16 u1)))))) u (lz_inf u))) ∧ (¬ p1 ≤ 3 → (post (- 1) u)))))))))) : wpX_firstWith post u p0 p1 := h
def lz_values_15 (post : Int32 → St1 → Prop) (x1 : Int32) (n : Nat) (x2 : Int32) (x3 : Int32) (s : St1) : Prop := wX_values_15 post x1 n x2 x3 (lz_made s) (lz_inf s) (lz_yes s) (lz_no s) (lz_tl s) (lz_lv s) (lz_dec s) (lz_cnt s) (lz_ln s) (lz_cl s) (lz_cy s) (lz_cn s) (lz_mv s) (lz_A1 s) (lz_A2 s) (lz_A3 s) (lz_A4 s) (lz_A5 s) (lz_A6 s) (lz_A7 s) (lz_A8 s) (lz_A9 s) (lz_A10 s) (lz_A11 s) (lz_A12 s) (lz_A13 s) (lz_A14 s) (lz_A15 s) (lz_A16 s)
theorem lz_v_values_15 {post : Int32 → St1 → Prop} {x1 : Int32} {n : Nat} {x2 : Int32} {x3 : Int32} {s : St1} (h : ((4 ≤ x3 → (post x2 s)) ∧ (¬ 4 ≤ x3 → (wpX_firstWith (fun r_4 u1 => ((r_4 < 0 → (∀ x3_67 : Int32, x3_67 = x3 + 1 → (lz_values_15 post x1 n x2 x3_67 u1))) ∧ (¬ r_4 < 0 → (∀ x2_68 : Int32, x2_68 = x2 ||| ((1 : Int32) <<< (x3 &&& 31)) → (∀ x3_69 : Int32, x3_69 = x3 + 1 → (lz_values_15 post x1 n x2_68 x3_69 u1)))))) s x1 x3)))) : lz_values_15 post x1 (n + 1) x2 x3 s := h
theorem lz_v_values {post : Int32 → St1 → Prop} {u : St1} {p0 : Int32} (h : ((p0 < 0 → (post (- 1) u)) ∧ (¬ p0 < 0 → ((p0 ≤ 3 → (∃ fu15 : Nat, lz_values_15 post p0 fu15 0 0 u)) ∧ (¬ p0 ≤ 3 → (post (- 1) u)))))) : wpX_values post u p0 := h
theorem lz_v_force {post : Int32 → St1 → Prop} {u : St1} {p0 : Int32} {p1 : Int32} (h : ((p0 < 0 → (post (- 1) u)) ∧ (¬ p0 < 0 → ((p0 < (lz_made u) → (∀ x3_3 : Int32, x3_3 = ((lz_inf u) >>> (p0 &&& 31)) &&& 1 → (∀ f_4 : Int32, f_4 = (lz_inf u) &&& (((1 : Int32) <<< (p0 &&& 31)) ^^^ (- 1)) → ((p1 = 0 → (post x3_3 ((lz_made u), f_4, (lz_yes u), (lz_no u), (lz_tl u), (lz_lv u), (lz_dec u), (lz_cnt u), (lz_ln u), (lz_cl u), (lz_cy u), (lz_cn u), (lz_mv u), (lz_A1 u), (lz_A2 u), (lz_A3 u), (lz_A4 u), (lz_A5 u), (lz_A6 u), (lz_A7 u), (lz_A8 u), (lz_A9 u), (lz_A10 u), (lz_A11 u), (lz_A12 u), (lz_A13 u), (lz_A14 u), (lz_A15 u), (lz_A16 u)))) ∧ (¬ p1 = 0 → (∀ f_6 : Int32, f_6 = f_4 ||| ((1 : Int32) <<< (p0 &&& 31)) → (post x3_3 ((lz_made u), f_6, (lz_yes u), (lz_no u), (lz_tl u), (lz_lv u), (lz_dec u), (lz_cnt u), (lz_ln u), (lz_cl u), (lz_cy u), (lz_cn u), (lz_mv u), (lz_A1 u), (lz_A2 u), (lz_A3 u), (lz_A4 u), (lz_A5 u), (lz_A6 u), (lz_A7 u), (lz_A8 u), (lz_A9 u), (lz_A10 u), (lz_A11 u), (lz_A12 u), (lz_A13 u), (lz_A14 u), (lz_A15 u), (lz_A16 u))))))))) ∧ (¬ p0 < (lz_made u) → (post (- 1) u)))))) : wpX_force post u p0 p1 := h
theorem lz_v_clear {post : St1 → Prop} {u : St1} (h : post (0, 0, (lz_yes u), (lz_no u), (lz_tl u), (lz_lv u), (lz_dec u), (lz_cnt u), (lz_ln u), (lz_cl u), (lz_cy u), (lz_cn u), (lz_mv u), (lz_A1 u), (lz_A2 u), (lz_A3 u), (lz_A4 u), (lz_A5 u), (lz_A6 u), (lz_A7 u), (lz_A8 u), (lz_A9 u), (lz_A10 u), (lz_A11 u), (lz_A12 u), (lz_A13 u), (lz_A14 u), (lz_A15 u), (lz_A16 u))) : wpX_clear post u := h
theorem lz_v_accept {post : Int32 → St1 → Prop} {u : St1} (h : ∀ f_1 : Int32, f_1 = (lz_inf u) ||| ((1 : Int32) <<< ((lz_made u) &&& 31)) → (∀ f_2 : Int32, f_2 = (lz_made u) + 1 → (post (f_2 - 1) (f_2, f_1, (lz_yes u), (lz_no u), (lz_tl u), (lz_lv u), (lz_dec u), (lz_cnt u), (lz_ln u), (lz_cl u), (lz_cy u), (lz_cn u), (lz_mv u), (lz_A1 u), (lz_A2 u), (lz_A3 u), (lz_A4 u), (lz_A5 u), (lz_A6 u), (lz_A7 u), (lz_A8 u), (lz_A9 u), (lz_A10 u), (lz_A11 u), (lz_A12 u), (lz_A13 u), (lz_A14 u), (lz_A15 u), (lz_A16 u))))) : wpX_accept post u := h
def lz_either_135 (post : Int32 → St1 → Prop) (s : St1) : Prop := wX_either_135 post (lz_made s) (lz_inf s) (lz_yes s) (lz_no s) (lz_tl s) (lz_lv s) (lz_dec s) (lz_cnt s) (lz_ln s) (lz_cl s) (lz_cy s) (lz_cn s) (lz_mv s) (lz_A1 s) (lz_A2 s) (lz_A3 s) (lz_A4 s) (lz_A5 s) (lz_A6 s) (lz_A7 s) (lz_A8 s) (lz_A9 s) (lz_A10 s) (lz_A11 s) (lz_A12 s) (lz_A13 s) (lz_A14 s) (lz_A15 s) (lz_A16 s)
theorem lz_v_either_135 {post : Int32 → St1 → Prop} {s : St1} (h : wpX_accept (fun r_17 u1 => (post r_17 u1)) s) : lz_either_135 post s := h
def lz_either_87 (post : Int32 → St1 → Prop) (x1 : Int32) (x2 : Int32) (x3 : Int32) (x4 : Int32) (z0 : Int32) (z1 : Int32) (s : St1) : Prop := wX_either_87 post x1 x2 x3 x4 z0 z1 (lz_made s) (lz_inf s) (lz_yes s) (lz_no s) (lz_tl s) (lz_lv s) (lz_dec s) (lz_cnt s) (lz_ln s) (lz_cl s) (lz_cy s) (lz_cn s) (lz_mv s) (lz_A1 s) (lz_A2 s) (lz_A3 s) (lz_A4 s) (lz_A5 s) (lz_A6 s) (lz_A7 s) (lz_A8 s) (lz_A9 s) (lz_A10 s) (lz_A11 s) (lz_A12 s) (lz_A13 s) (lz_A14 s) (lz_A15 s) (lz_A16 s)
theorem lz_v_either_87 {post : Int32 → St1 → Prop} {x1 : Int32} {x2 : Int32} {x3 : Int32} {x4 : Int32} {z0 : Int32} {z1 : Int32} {s : St1} (h : vp_in z1 11 ∧ ∀ a8_14 : Nat → Int32, a8_14 = upd (lz_A8 s) z1.toNatClampNeg (vp_nar .boolean z0) → (vp_in (lz_made s) 11 ∧ (((a8_14 (lz_made s).toNatClampNeg) = 0 → (vp_in (lz_made s) 11 ∧ ∀ a6_80 : Nat → Int32, a6_80 = upd (lz_A6 s) (lz_made s).toNatClampNeg ((1 : Int32) <<< ((((x1 * 3) + x2) - 1) &&& 31)) → (vp_in (lz_made s) 11 ∧ ∀ a7_82 : Nat → Int32, a7_82 = upd (lz_A7 s) (lz_made s).toNatClampNeg ((1 : Int32) <<< (((x3 * 3) + x4) &&& 31)) → (lz_either_135 post ((lz_made s), (lz_inf s), (lz_yes s), (lz_no s), (lz_tl s), (lz_lv s), (lz_dec s), (lz_cnt s), (lz_ln s), (lz_cl s), (lz_cy s), (lz_cn s), (lz_mv s), (lz_A1 s), (lz_A2 s), (lz_A3 s), (lz_A4 s), (lz_A5 s), a6_80, a7_82, a8_14, (lz_A9 s), (lz_A10 s), (lz_A11 s), (lz_A12 s), (lz_A13 s), (lz_A14 s), (lz_A15 s), (lz_A16 s)))))) ∧ (¬ (a8_14 (lz_made s).toNatClampNeg) = 0 → (lz_either_135 post ((lz_made s), (lz_inf s), (lz_yes s), (lz_no s), (lz_tl s), (lz_lv s), (lz_dec s), (lz_cnt s), (lz_ln s), (lz_cl s), (lz_cy s), (lz_cn s), (lz_mv s), (lz_A1 s), (lz_A2 s), (lz_A3 s), (lz_A4 s), (lz_A5 s), (lz_A6 s), (lz_A7 s), a8_14, (lz_A9 s), (lz_A10 s), (lz_A11 s), (lz_A12 s), (lz_A13 s), (lz_A14 s), (lz_A15 s), (lz_A16 s))))))) : lz_either_87 post x1 x2 x3 x4 z0 z1 s := h
def lz_either_82 (post : Int32 → St1 → Prop) (x1 : Int32) (x2 : Int32) (x3 : Int32) (x4 : Int32) (z0 : Int32) (s : St1) : Prop := wX_either_82 post x1 x2 x3 x4 z0 (lz_made s) (lz_inf s) (lz_yes s) (lz_no s) (lz_tl s) (lz_lv s) (lz_dec s) (lz_cnt s) (lz_ln s) (lz_cl s) (lz_cy s) (lz_cn s) (lz_mv s) (lz_A1 s) (lz_A2 s) (lz_A3 s) (lz_A4 s) (lz_A5 s) (lz_A6 s) (lz_A7 s) (lz_A8 s) (lz_A9 s) (lz_A10 s) (lz_A11 s) (lz_A12 s) (lz_A13 s) (lz_A14 s) (lz_A15 s) (lz_A16 s)
theorem lz_v_either_82 {post : Int32 → St1 → Prop} {x1 : Int32} {x2 : Int32} {x3 : Int32} {x4 : Int32} {z0 : Int32} {s : St1} (h : lz_either_87 post x1 x2 x3 x4 1 z0 s) : lz_either_82 post x1 x2 x3 x4 z0 s := h
theorem lz_v_either {post : Int32 → St1 → Prop} {u : St1} {p0 : Int32} {p1 : Int32} {p2 : Int32} {p3 : Int32} (h : ((p0 < 0 → (post (- 1) u)) ∧ (¬ p0 < 0 → ((3 < p0 → (post (- 1) u)) ∧ (¬ 3 < p0 → ((p2 < 0 → (post (- 1) u)) ∧ (¬ p2 < 0 → ((p2 ≤ 3 → ((p1 < 0 → (post (- 1) u)) ∧ (¬ p1 < 0 → ((3 < p1 → (post (- 1) u)) ∧ (¬ 3 < p1 → ((p3 < 0 → (post (- 1) u)) ∧ (¬ p3 < 0 → ((p3 ≤ 3 → (((lz_made u) = 10 → (post (- 2) u)) ∧ (¬ (lz_made u) = 10 → (vp_in (lz_made u) 11 ∧ ∀ a2_11 : Nat → Int32, a2_11 = upd (lz_A2 u) (lz_made u).toNatClampNeg 2 → ((p1 = 0 → (lz_either_82 post p0 p1 p2 p3 (lz_made u) ((lz_made u), (lz_inf u), (lz_yes u), (lz_no u), (lz_tl u), (lz_lv u), (lz_dec u), (lz_cnt u), (lz_ln u), (lz_cl u), (lz_cy u), (lz_cn u), (lz_mv u), (lz_A1 u), a2_11, (lz_A3 u), (lz_A4 u), (lz_A5 u), (lz_A6 u), (lz_A7 u), (lz_A8 u), (lz_A9 u), (lz_A10 u), (lz_A11 u), (lz_A12 u), (lz_A13 u), (lz_A14 u), (lz_A15 u), (lz_A16 u)))) ∧ (¬ p1 = 0 → ((p3 = 3 → (lz_either_82 post p0 p1 p2 p3 (lz_made u) ((lz_made u), (lz_inf u), (lz_yes u), (lz_no u), (lz_tl u), (lz_lv u), (lz_dec u), (lz_cnt u), (lz_ln u), (lz_cl u), (lz_cy u), (lz_cn u), (lz_mv u), (lz_A1 u), a2_11, (lz_A3 u), (lz_A4 u), (lz_A5 u), (lz_A6 u), (lz_A7 u), (lz_A8 u), (lz_A9 u), (lz_A10 u), (lz_A11 u), (lz_A12 u), (lz_A13 u), (lz_A14 u), (lz_A15 u), (lz_A16 u)))) ∧ (¬ p3 = 3 → (lz_either_87 post p0 p1 p2 p3 0 (lz_made u) ((lz_made u), (lz_inf u), (lz_yes u), (lz_no u), (lz_tl u), (lz_lv u), (lz_dec u), (lz_cnt u), (lz_ln u), (lz_cl u), (lz_cy u), (lz_cn u), (lz_mv u), (lz_A1 u), a2_11, (lz_A3 u), (lz_A4 u), (lz_A5 u), (lz_A6 u), (lz_A7 u), (lz_A8 u), (lz_A9 u), (lz_A10 u), (lz_A11 u), (lz_A12 u), (lz_A13 u), (lz_A14 u), (lz_A15 u), (lz_A16 u))))))))))) ∧ (¬ p3 ≤ 3 → (post (- 1) u)))))))))) ∧ (¬ p2 ≤ 3 → (post (- 1) u)))))))))) : wpX_either post u p0 p1 p2 p3 := h
theorem lz_v_differ {post : Int32 → St1 → Prop} {u : St1} {p0 : Int32} (h : ((p0 < 0 → (post (- 1) u)) ∧ (¬ p0 < 0 → ((p0 ≤ 15 → (((lz_made u) = 10 → (post (- 2) u)) ∧ (¬ (lz_made u) = 10 → (vp_in (lz_made u) 11 ∧ ∀ a2_5 : Nat → Int32, a2_5 = upd (lz_A2 u) (lz_made u).toNatClampNeg 1 → (vp_in (lz_made u) 11 ∧ ∀ a5_7 : Nat → Int32, a5_7 = upd (lz_A5 u) (lz_made u).toNatClampNeg p0 → (wpX_accept (fun r_8 u1 => (post r_8 u1)) ((lz_made u), (lz_inf u), (lz_yes u), (lz_no u), (lz_tl u), (lz_lv u), (lz_dec u), (lz_cnt u), (lz_ln u), (lz_cl u), (lz_cy u), (lz_cn u), (lz_mv u), (lz_A1 u), a2_5, (lz_A3 u), (lz_A4 u), a5_7, (lz_A6 u), (lz_A7 u), (lz_A8 u), (lz_A9 u), (lz_A10 u), (lz_A11 u), (lz_A12 u), (lz_A13 u), (lz_A14 u), (lz_A15 u), (lz_A16 u)))))))) ∧ (¬ p0 ≤ 15 → (post (- 1) u)))))) : wpX_differ post u p0 := h
def lz_setLinear_17 (post : St1 → Prop) (x1 : Int32) (x2 : Int32) (n : Nat) (x4 : Int32) (s : St1) : Prop := wX_setLinear_17 post x1 x2 (lz_made s) (lz_inf s) (lz_yes s) (lz_no s) (lz_tl s) (lz_lv s) (lz_dec s) (lz_cnt s) (lz_ln s) (lz_cl s) (lz_cy s) (lz_cn s) (lz_mv s) n x4 (lz_A1 s) (lz_A2 s) (lz_A3 s) (lz_A4 s) (lz_A5 s) (lz_A6 s) (lz_A7 s) (lz_A8 s) (lz_A9 s) (lz_A10 s) (lz_A11 s) (lz_A12 s) (lz_A13 s) (lz_A14 s) (lz_A15 s) (lz_A16 s)
theorem lz_v_setLinear_17 {post : St1 → Prop} {x1 : Int32} {x2 : Int32} {n : Nat} {x4 : Int32} {s : St1} (h : ((4 ≤ x4 → (post s)) ∧ (¬ 4 ≤ x4 → (vp_in x4 4 ∧ (vp_in ((x1 * 4) + x4) 44 ∧ ∀ a3_8 : Nat → Int32, a3_8 = upd (lz_A3 s) ((x1 * 4) + x4).toNatClampNeg (x2 * ((lz_A1 s) x4.toNatClampNeg)) → (∀ x4_9 : Int32, x4_9 = x4 + 1 → (lz_setLinear_17 post x1 x2 n x4_9 ((lz_made s), (lz_inf s), (lz_yes s), (lz_no s), (lz_tl s), (lz_lv s), (lz_dec s), (lz_cnt s), (lz_ln s), (lz_cl s), (lz_cy s), (lz_cn s), (lz_mv s), (lz_A1 s), (lz_A2 s), a3_8, (lz_A4 s), (lz_A5 s), (lz_A6 s), (lz_A7 s), (lz_A8 s), (lz_A9 s), (lz_A10 s), (lz_A11 s), (lz_A12 s), (lz_A13 s), (lz_A14 s), (lz_A15 s), (lz_A16 s))))))))) : lz_setLinear_17 post x1 x2 (n + 1) x4 s := h
theorem lz_v_setLinear {post : St1 → Prop} {u : St1} {p0 : Int32} {p1 : Int32} {p2 : Int32} (h : vp_in p0 11 ∧ ∀ a2_2 : Nat → Int32, a2_2 = upd (lz_A2 u) p0.toNatClampNeg 0 → (vp_in p0 11 ∧ ∀ a4_4 : Nat → Int32, a4_4 = upd (lz_A4 u) p0.toNatClampNeg p2 → (∃ fu17 : Nat, lz_setLinear_17 post p0 p1 fu17 0 ((lz_made u), (lz_inf u), (lz_yes u), (lz_no u), (lz_tl u), (lz_lv u), (lz_dec u), (lz_cnt u), (lz_ln u), (lz_cl u), (lz_cy u), (lz_cn u), (lz_mv u), (lz_A1 u), a2_2, (lz_A3 u), a4_4, (lz_A5 u), (lz_A6 u), (lz_A7 u), (lz_A8 u), (lz_A9 u), (lz_A10 u), (lz_A11 u), (lz_A12 u), (lz_A13 u), (lz_A14 u), (lz_A15 u), (lz_A16 u))))) : wpX_setLinear post u p0 p1 p2 := h
theorem lz_v_linear {post : Int32 → St1 → Prop} {u : St1} {p0 : Int32} (h : ((p0 < (- 60) → (post (- 1) u)) ∧ (¬ p0 < (- 60) → ((p0 ≤ 60 → (((lz_made u) = 10 → (post (- 2) u)) ∧ (¬ (lz_made u) = 10 → (wpX_setLinear (fun u1 => (wpX_accept (fun r_66 u2 => (post r_66 u2)) u1)) u (lz_made u) 1 p0)))) ∧ (¬ p0 ≤ 60 → (post (- 1) u)))))) : wpX_linear post u p0 := h
theorem lz_v_factor {post : Int32 → St1 → Prop} {u : St1} {p0 : Int32} {p1 : Int32} (h : ((p0 < 0 → (post (- 1) u)) ∧ (¬ p0 < 0 → ((3 < p0 → (post (- 1) u)) ∧ (¬ 3 < p0 → ((p1 < (- 5) → (post (- 1) u)) ∧ (¬ p1 < (- 5) → ((p1 ≤ 5 → (vp_in p0 4 ∧ (∀ x3_6 : Int32, x3_6 = (lz_A1 u) p0.toNatClampNeg → (vp_in p0 4 ∧ ∀ a1_8 : Nat → Int32, a1_8 = upd (lz_A1 u) p0.toNatClampNeg p1 → (post x3_6 ((lz_made u), (lz_inf u), (lz_yes u), (lz_no u), (lz_tl u), (lz_lv u), (lz_dec u), (lz_cnt u), (lz_ln u), (lz_cl u), (lz_cy u), (lz_cn u), (lz_mv u), a1_8, (lz_A2 u), (lz_A3 u), (lz_A4 u), (lz_A5 u), (lz_A6 u), (lz_A7 u), (lz_A8 u), (lz_A9 u), (lz_A10 u), (lz_A11 u), (lz_A12 u), (lz_A13 u), (lz_A14 u), (lz_A15 u), (lz_A16 u))))))) ∧ (¬ p1 ≤ 5 → (post (- 1) u)))))))))) : wpX_factor post u p0 p1 := h
theorem lz_v_turn {post : St1 → Prop} {u : St1} {p1 : Int32} {p2 : Int32} (h : ∀ x3_1 : Int32, x3_1 = p1 &&& 15 → ((6 ≤ x3_1 → ((9 ≤ x3_1 → ((x3_1 = 9 → (wpX_differ (fun r_256 u1 => (post u1)) u (p2 &&& 15))) ∧ (¬ x3_1 = 9 → ((13 ≤ x3_1 → ((15 ≤ x3_1 → (((p2 &&& 7) = 0 → (wpX_clear (fun u2 => (post u2)) u)) ∧ (¬ (p2 &&& 7) = 0 → (wpX_force (fun r_8 u3 => (post u3)) u ((p2 >>> ((3 : Int32) &&& 31)) &&& 7) 1)))) ∧ (¬ 15 ≤ x3_1 → (wpX_force (fun r_132 u4 => (post u4)) u (p2 &&& 15) ((p2 >>> ((4 : Int32) &&& 31)) &&& 1))))) ∧ (¬ 13 ≤ x3_1 → (wpX_either (fun r_194 u5 => (post u5)) u (p2 &&& 3) ((p2 >>> ((2 : Int32) &&& 31)) &&& 3) ((p2 >>> ((4 : Int32) &&& 31)) &&& 3) ((p2 >>> ((6 : Int32) &&& 31)) &&& 3))))))) ∧ (¬ 9 ≤ x3_1 → (wpX_linear (fun r_318 u6 => (post u6)) u ((p2 &&& 31) - 12))))) ∧ (¬ 6 ≤ x3_1 → (wpX_factor (fun r_380 u7 => (post u7)) u (p2 &&& 3) (((p2 >>> ((2 : Int32) &&& 31)) &&& 15) - 8))))) : wpL_turn post u p1 p2 := h
def lz_law_190 (post : Int32 → Prop) (L : Nat) (xs : Nat → Int32) (x2 : Int32) (x4 : Int32) (x5 : Int32) (x6 : Int32) (x7 : Int32) (kc : Nat) (ks : Nat) (s : St1) : Prop := wL_law_190 post L xs x2 x4 x5 x6 x7 kc ks (lz_made s) (lz_inf s) (lz_yes s) (lz_no s) (lz_tl s) (lz_lv s) (lz_dec s) (lz_cnt s) (lz_ln s) (lz_cl s) (lz_cy s) (lz_cn s) (lz_mv s) (lz_A1 s) (lz_A2 s) (lz_A3 s) (lz_A4 s) (lz_A5 s) (lz_A6 s) (lz_A7 s) (lz_A8 s) (lz_A9 s) (lz_A10 s) (lz_A11 s) (lz_A12 s) (lz_A13 s) (lz_A14 s) (lz_A15 s) (lz_A16 s)
theorem lz_v_law_190 {post : Int32 → Prop} {L : Nat} {xs : Nat → Int32} {x2 : Int32} {x4 : Int32} {x5 : Int32} {x6 : Int32} {x7 : Int32} {kc : Nat} {ks : Nat} {s : St1} (h : ((x2 = (- 4) → (wpX_values (fun r_261 u1 => ((r_261 = x4 → (wpX_values (fun r_324 u2 => ((r_324 = x5 → (wpX_values (fun r_387 u3 => ((r_387 = x6 → (wpX_values (fun r_450 u4 => ((r_450 = x7 → (post 1)) ∧ (¬ r_450 = x7 → (post 0)))) u3 3)) ∧ (¬ r_387 = x6 → (post 0)))) u2 2)) ∧ (¬ r_324 = x5 → (post 0)))) u1 1)) ∧ (¬ r_261 = x4 → (post 0)))) s 0)) ∧ (¬ x2 = (- 4) → (post 0)))) : lz_law_190 post L xs x2 x4 x5 x6 x7 kc ks s := h
def lz_law_98 (post : Int32 → Prop) (L : Nat) (xs : Nat → Int32) (kc : Nat) (ks : Nat) (n : Nat) (x2 : Int32) (x4 : Int32) (x5 : Int32) (x6 : Int32) (x7 : Int32) (x8 : Int32) (x9 : Int32) (s : St1) : Prop := wL_law_98 post L xs kc ks n x2 x4 x5 x6 x7 x8 x9 (lz_made s) (lz_inf s) (lz_yes s) (lz_no s) (lz_tl s) (lz_lv s) (lz_dec s) (lz_cnt s) (lz_ln s) (lz_cl s) (lz_cy s) (lz_cn s) (lz_mv s) (lz_A1 s) (lz_A2 s) (lz_A3 s) (lz_A4 s) (lz_A5 s) (lz_A6 s) (lz_A7 s) (lz_A8 s) (lz_A9 s) (lz_A10 s) (lz_A11 s) (lz_A12 s) (lz_A13 s) (lz_A14 s) (lz_A15 s) (lz_A16 s)
theorem lz_v_law_98 {post : Int32 → Prop} {L : Nat} {xs : Nat → Int32} {kc : Nat} {ks : Nat} {n : Nat} {x2 : Int32} {x4 : Int32} {x5 : Int32} {x6 : Int32} {x7 : Int32} {x8 : Int32} {x9 : Int32} {s : St1} (h : ((256 ≤ x9 → (lz_law_190 post L xs x2 x4 x5 x6 x7 kc ks s)) ∧ (¬ 256 ≤ x9 → ((x2 = (- 4) → (lz_law_190 post L xs x2 x4 x5 x6 x7 kc ks s)) ∧ (¬ x2 = (- 4) → ((x2 ≤ x8 → (post 0)) ∧ (¬ x2 ≤ x8 → ((x2 ≤ 255 → (∀ x4_516 : Int32, x4_516 = x4 ||| ((1 : Int32) <<< (((x2 >>> ((6 : Int32) &&& 31)) &&& 3) &&& 31)) → (∀ x5_517 : Int32, x5_517 = x5 ||| ((1 : Int32) <<< (((x2 >>> ((4 : Int32) &&& 31)) &&& 3) &&& 31)) → (∀ x6_518 : Int32, x6_518 = x6 ||| ((1 : Int32) <<< (((x2 >>> ((2 : Int32) &&& 31)) &&& 3) &&& 31)) → (∀ x7_519 : Int32, x7_519 = x7 ||| ((1 : Int32) <<< ((x2 &&& 3) &&& 31)) → (wpX_after (fun r_520 u1 => (∀ x9_582 : Int32, x9_582 = x9 + 1 → (lz_law_98 post L xs kc ks n r_520 x4_516 x5_517 x6_518 x7_519 x2 x9_582 u1))) s x2)))))) ∧ (¬ x2 ≤ 255 → (post 0)))))))))) : lz_law_98 post L xs kc ks (n + 1) x2 x4 x5 x6 x7 x8 x9 s := h
def lz_law_75 (post : Int32 → Prop) (L : Nat) (xs : Nat → Int32) (x2 : Int32) (z0 : Int32) (z1 : Int32) (kc : Nat) (ks : Nat) (s : St1) : Prop := wL_law_75 post L xs x2 z0 z1 kc ks (lz_made s) (lz_inf s) (lz_yes s) (lz_no s) (lz_tl s) (lz_lv s) (lz_dec s) (lz_cnt s) (lz_ln s) (lz_cl s) (lz_cy s) (lz_cn s) (lz_mv s) (lz_A1 s) (lz_A2 s) (lz_A3 s) (lz_A4 s) (lz_A5 s) (lz_A6 s) (lz_A7 s) (lz_A8 s) (lz_A9 s) (lz_A10 s) (lz_A11 s) (lz_A12 s) (lz_A13 s) (lz_A14 s) (lz_A15 s) (lz_A16 s)
theorem lz_v_law_75 {post : Int32 → Prop} {L : Nat} {xs : Nat → Int32} {x2 : Int32} {z0 : Int32} {z1 : Int32} {kc : Nat} {ks : Nat} {s : St1} (h : ((z1 = z0 → (∃ fu98 : Nat, lz_law_98 post L xs kc ks fu98 x2 0 0 0 0 (- 1) 0 s)) ∧ (¬ z1 = z0 → (post 0)))) : lz_law_75 post L xs x2 z0 z1 kc ks s := h
def lz_law_59 (post : Int32 → Prop) (L : Nat) (xs : Nat → Int32) (x2 : Int32) (x3 : Int32) (z0 : Int32) (z1 : Int32) (kc : Nat) (ks : Nat) (s : St1) : Prop := wL_law_59 post L xs x2 x3 z0 z1 kc ks (lz_made s) (lz_inf s) (lz_yes s) (lz_no s) (lz_tl s) (lz_lv s) (lz_dec s) (lz_cnt s) (lz_ln s) (lz_cl s) (lz_cy s) (lz_cn s) (lz_mv s) (lz_A1 s) (lz_A2 s) (lz_A3 s) (lz_A4 s) (lz_A5 s) (lz_A6 s) (lz_A7 s) (lz_A8 s) (lz_A9 s) (lz_A10 s) (lz_A11 s) (lz_A12 s) (lz_A13 s) (lz_A14 s) (lz_A15 s) (lz_A16 s)
theorem lz_v_law_59 {post : Int32 → Prop} {L : Nat} {xs : Nat → Int32} {x2 : Int32} {x3 : Int32} {z0 : Int32} {z1 : Int32} {kc : Nat} {ks : Nat} {s : St1} (h : ((z1 = z0 → (wpX_blame (fun r_195 u1 => ((r_195 = 0 → (lz_law_75 post L xs x2 1 x3 kc ks u1)) ∧ (¬ r_195 = 0 → (lz_law_75 post L xs x2 0 x3 kc ks u1)))) s)) ∧ (¬ z1 = z0 → (post 0)))) : lz_law_59 post L xs x2 x3 z0 z1 kc ks s := h
def lz_law_10 (post : Int32 → Prop) (L : Nat) (xs : Nat → Int32) (kc : Nat) (ks : Nat) (n : Nat) (x2 : Int32) (s : St1) : Prop := wL_law_10 post L xs kc ks n x2 (lz_made s) (lz_inf s) (lz_yes s) (lz_no s) (lz_tl s) (lz_lv s) (lz_dec s) (lz_cnt s) (lz_ln s) (lz_cl s) (lz_cy s) (lz_cn s) (lz_mv s) (lz_A1 s) (lz_A2 s) (lz_A3 s) (lz_A4 s) (lz_A5 s) (lz_A6 s) (lz_A7 s) (lz_A8 s) (lz_A9 s) (lz_A10 s) (lz_A11 s) (lz_A12 s) (lz_A13 s) (lz_A14 s) (lz_A15 s) (lz_A16 s)
theorem lz_v_law_10 {post : Int32 → Prop} {L : Nat} {xs : Nat → Int32} {kc : Nat} {ks : Nat} {n : Nat} {x2 : Int32} {s : St1} (h : (((Int32.ofNat L) ≤ (x2 + 1) → (wpX_after (fun r_69 u1 => (wpX_solvable (fun r_131 u2 => ((r_69 = (- 4) → (lz_law_59 post L xs r_69 r_131 0 r_131 kc ks u2)) ∧ (¬ r_69 = (- 4) → (lz_law_59 post L xs r_69 r_131 1 r_131 kc ks u2)))) u1)) s (- 1))) ∧ (¬ (Int32.ofNat L) ≤ (x2 + 1) → (vp_in x2 L ∧ (vp_in (x2 + 1) L ∧ (wpL_turn (fun u3 => (∀ x2_647 : Int32, x2_647 = x2 + 2 → (lz_law_10 post L xs kc ks n x2_647 u3))) s (xs x2.toNatClampNeg) (xs (x2 + 1).toNatClampNeg))))))) : lz_law_10 post L xs kc ks (n + 1) x2 s := h
end
section
/-! the picture of a state -/
def lz_lin (co : Nat → Int32) (c m : Nat) : Int := (co (c * 4 + 0)).toInt * (lz_dg m 0 : Int) + (co (c * 4 + 1)).toInt * (lz_dg m 1 : Int) + (co (c * 4 + 2)).toInt * (lz_dg m 2 : Int) + (co (c * 4 + 3)).toInt * (lz_dg m 3 : Int)
def lz_con (kd co bd mb ey en al : Nat → Int32) (c m : Nat) : Prop :=
  (kd c = 0 → lz_lin co c m ≤ (bd c).toInt) ∧
  (¬ kd c = 0 → kd c = 1 → ∀ i j, i < j → j < 4 → lz_bt (mb c) i = true → lz_bt (mb c) j = true → lz_dg m i ≠ lz_dg m j) ∧
  (¬ kd c = 0 → ¬ kd c = 1 → al c = 0 → (∃ b, lz_bt (ey c) b = true ∧ lz_at m b = true) ∨ (∃ b, lz_bt (en c) b = true ∧ lz_at m b = false))
abbrev lz_FS : Type := Int32 × Int32 × Int32 × (Nat → Int32) × (Nat → Int32) × (Nat → Int32) × (Nat → Int32) × (Nat → Int32) × (Nat → Int32) × (Nat → Int32) × (Nat → Int32) × (Nat → Int32) × (Nat → Int32)
/-- what a search leaves as it is -/
def lz_fs (u : St1) : lz_FS := (lz_made u, lz_inf u, lz_cnt u, lz_A1 u, lz_A2 u, lz_A3 u, lz_A4 u, lz_A5 u, lz_A6 u, lz_A7 u, lz_A8 u, lz_A13 u, lz_A14 u)
/-- what a propagation leaves as it is -/
def lz_fr (u : St1) : lz_FS × Int32 × Int32 × Int32 × (Nat → Int32) × (Nat → Int32) := (lz_fs u, lz_lv u, lz_dec u, lz_ln u, lz_A15 u, lz_A16 u)
def lz_solf (f : lz_FS) (m : Nat) : Prop := m < 256 ∧ (∀ i, i < 4 → (f.2.2.2.2.2.2.2.2.2.2.2.1 i).toInt ≤ (lz_dg m i : Int) ∧ (lz_dg m i : Int) ≤ (f.2.2.2.2.2.2.2.2.2.2.2.2 i).toInt) ∧
  (∀ c, c < 11 → lz_bt f.2.2.1 c = true → lz_con f.2.2.2.2.1 f.2.2.2.2.2.1 f.2.2.2.2.2.2.1 f.2.2.2.2.2.2.2.1 f.2.2.2.2.2.2.2.2.1 f.2.2.2.2.2.2.2.2.2.1 f.2.2.2.2.2.2.2.2.2.2.1 c m)
def lz_sol (u : St1) (m : Nat) : Prop := lz_solf (lz_fs u) m
theorem lz_sol_iff (u : St1) (m : Nat) : lz_sol u m ↔ (m < 256 ∧ (∀ i, i < 4 → (lz_A13 u i).toInt ≤ (lz_dg m i : Int) ∧ (lz_dg m i : Int) ≤ (lz_A14 u i).toInt) ∧
  (∀ c, c < 11 → lz_bt (lz_cnt u) c = true → lz_con (lz_A2 u) (lz_A3 u) (lz_A4 u) (lz_A5 u) (lz_A6 u) (lz_A7 u) (lz_A8 u) c m)) := Iff.rfl
def lz_wff (f : lz_FS) : Prop := ∀ c, c < 11 → (∀ i, i < 4 → -5 ≤ (f.2.2.2.2.2.1 (c * 4 + i)).toInt ∧ (f.2.2.2.2.2.1 (c * 4 + i)).toInt ≤ 5) ∧ (-60 ≤ (f.2.2.2.2.2.2.1 c).toInt ∧ (f.2.2.2.2.2.2.1 c).toInt ≤ 60) ∧
  (∀ b, lz_bt (f.2.2.2.2.2.2.2.2.1 c) b = true → b < 12) ∧ (∀ b, lz_bt (f.2.2.2.2.2.2.2.2.2.1 c) b = true → b < 12)
/-- the constraints are well formed -/
def lz_wf (u : St1) : Prop := lz_wff (lz_fs u)
theorem lz_wf_iff (u : St1) : lz_wf u ↔ ∀ c, c < 11 → (∀ i, i < 4 → -5 ≤ (lz_A3 u (c * 4 + i)).toInt ∧ (lz_A3 u (c * 4 + i)).toInt ≤ 5) ∧ (-60 ≤ (lz_A4 u c).toInt ∧ (lz_A4 u c).toInt ≤ 60) ∧
  (∀ b, lz_bt (lz_A6 u c) b = true → b < 12) ∧ (∀ b, lz_bt (lz_A7 u c) b = true → b < 12) := Iff.rfl
def lz_Sol (u : St1) (S : Nat → Bool) : Prop := ∃ m, lz_sol u m ∧ S = lz_at m
theorem lz_Sol_fs {u v : St1} (h : lz_fs u = lz_fs v) : lz_Sol u = lz_Sol v := by
  unfold lz_Sol lz_sol
  rw [h]
theorem lz_fs_fr {u v : St1} (h : lz_fr u = lz_fr v) : lz_fs u = lz_fs v := congrArg (fun z => z.1) h
theorem lz_fr_lv {u v : St1} (h : lz_fr u = lz_fr v) : lz_lv u = lz_lv v := congrArg (fun z => z.2.1) h
theorem lz_fr_dec {u v : St1} (h : lz_fr u = lz_fr v) : lz_dec u = lz_dec v := congrArg (fun z => z.2.2.1) h
theorem lz_fr_ln {u v : St1} (h : lz_fr u = lz_fr v) : lz_ln u = lz_ln v := congrArg (fun z => z.2.2.2.1) h
theorem lz_fr_15 {u v : St1} (h : lz_fr u = lz_fr v) : lz_A15 u = lz_A15 v := congrArg (fun z => z.2.2.2.2.1) h
theorem lz_fr_16 {u v : St1} (h : lz_fr u = lz_fr v) : lz_A16 u = lz_A16 v := congrArg (fun z => z.2.2.2.2.2) h
theorem lz_fs_made {u v : St1} (h : lz_fs u = lz_fs v) : lz_made u = lz_made v := congrArg (fun z => z.1) h
theorem lz_fs_inf {u v : St1} (h : lz_fs u = lz_fs v) : lz_inf u = lz_inf v := congrArg (fun z => z.2.1) h
theorem lz_fs_cnt {u v : St1} (h : lz_fs u = lz_fs v) : lz_cnt u = lz_cnt v := congrArg (fun z => z.2.2.1) h
theorem lz_fs_2 {u v : St1} (h : lz_fs u = lz_fs v) : lz_A2 u = lz_A2 v := congrArg (fun z => z.2.2.2.2.1) h
theorem lz_fs_3 {u v : St1} (h : lz_fs u = lz_fs v) : lz_A3 u = lz_A3 v := congrArg (fun z => z.2.2.2.2.2.1) h
theorem lz_fs_4 {u v : St1} (h : lz_fs u = lz_fs v) : lz_A4 u = lz_A4 v := congrArg (fun z => z.2.2.2.2.2.2.1) h
theorem lz_fs_5 {u v : St1} (h : lz_fs u = lz_fs v) : lz_A5 u = lz_A5 v := congrArg (fun z => z.2.2.2.2.2.2.2.1) h
theorem lz_fs_6 {u v : St1} (h : lz_fs u = lz_fs v) : lz_A6 u = lz_A6 v := congrArg (fun z => z.2.2.2.2.2.2.2.2.1) h
theorem lz_fs_7 {u v : St1} (h : lz_fs u = lz_fs v) : lz_A7 u = lz_A7 v := congrArg (fun z => z.2.2.2.2.2.2.2.2.2.1) h
theorem lz_fs_8 {u v : St1} (h : lz_fs u = lz_fs v) : lz_A8 u = lz_A8 v := congrArg (fun z => z.2.2.2.2.2.2.2.2.2.2.1) h
theorem lz_fs_13 {u v : St1} (h : lz_fs u = lz_fs v) : lz_A13 u = lz_A13 v := congrArg (fun z => z.2.2.2.2.2.2.2.2.2.2.2.1) h
theorem lz_fs_14 {u v : St1} (h : lz_fs u = lz_fs v) : lz_A14 u = lz_A14 v := congrArg (fun z => z.2.2.2.2.2.2.2.2.2.2.2.2) h
theorem lz_wf_fs {u v : St1} (h : lz_fs u = lz_fs v) (w : lz_wf v) : lz_wf u := by
  unfold lz_wf
  rw [h]
  exact w
theorem lz_sol_fs {u v : St1} (h : lz_fs u = lz_fs v) {m : Nat} (w : lz_sol v m) : lz_sol u m := by
  unfold lz_sol
  rw [h]
  exact w
/-- the bounds asked for, as atoms -/
def lz_BY (A : Nat → Int32) (j b : Nat) : Prop := b / 3 < j ∧ A (b / 3) = nI (b % 3 + 1)
def lz_BN (A : Nat → Int32) (j b : Nat) : Prop := b / 3 < j ∧ A (b / 3) = nI (b % 3)
def lz_JB (u : St1) (j n k : Nat) (τ ℓ : Nat → Nat) : Prop :=
  lz_tl u = nI n ∧ lz_lv u = nI k ∧ (∀ t, t < n → lz_A9 u t = nI (τ t)) ∧ (∀ a, lz_as (lz_bt (lz_yes u)) (lz_bt (lz_no u)) a → lz_A10 u a = nI (ℓ a)) ∧
  lz_P (lz_Sol u) (lz_BY (lz_A13 u) j) (lz_BN (lz_A14 u) j) (lz_bt (lz_yes u)) (lz_bt (lz_no u)) (lz_bt (lz_dec u)) n k τ ℓ (fun a b => lz_bt (lz_A11 u a) b) (fun a b => lz_bt (lz_A12 u a) b)
def lz_J (u : St1) : Prop := ∃ (n k : Nat) (τ ℓ : Nat → Nat), lz_JB u 4 n k τ ℓ
theorem lz_J_dis {u : St1} (h : lz_J u) {a : Nat} (h1 : lz_bt (lz_yes u) a = true) (h2 : lz_bt (lz_no u) a = true) : False := by
  obtain ⟨n, k, τ, ℓ, _, _, _, _, hP⟩ := h
  exact hP.1.1 a h1 h2
theorem lz_J_12 {u : St1} (h : lz_J u) {a : Nat} (ha : lz_as (lz_bt (lz_yes u)) (lz_bt (lz_no u)) a) : a < 12 := by
  obtain ⟨n, k, τ, ℓ, _, _, _, _, hP⟩ := h
  exact lz_T_12 hP.1 ha
theorem lz_J_tl {u : St1} (h : lz_J u) : (lz_tl u).toNatClampNeg ≤ 12 := by
  obtain ⟨n, k, τ, ℓ, h1, _, _, _, hP⟩ := h
  have := lz_T_n hP.1
  rw [h1, nI_clamp (by omega)]
  exact this
theorem lz_J_in {u : St1} (h : lz_J u) {a : Nat} (ha : a < 12) (hna : ¬ lz_as (lz_bt (lz_yes u)) (lz_bt (lz_no u)) a) : vp_in (lz_tl u) 12 := by
  obtain ⟨n, k, τ, ℓ, h1, _, _, _, hP⟩ := h
  rw [h1]
  exact vp_in_nI (lz_T_n' hP.1 ha hna) (by omega)
/-! assign -/
def lz_asg (u : St1) (p0 : Int32) (v : Bool) (RY RN : Int32) : St1 :=
  (lz_made u, lz_inf u, (if v = true then lz_yes u ||| ((1 : Int32) <<< (p0 &&& 31)) else lz_yes u), (if v = true then lz_no u else lz_no u ||| ((1 : Int32) <<< (p0 &&& 31))), lz_tl u + 1, lz_lv u, lz_dec u, lz_cnt u, lz_ln u, lz_cl u, lz_cy u, lz_cn u, lz_mv u,
   lz_A1 u, lz_A2 u, lz_A3 u, lz_A4 u, lz_A5 u, lz_A6 u, lz_A7 u, lz_A8 u, upd (lz_A9 u) (lz_tl u).toNatClampNeg p0, upd (lz_A10 u) p0.toNatClampNeg (lz_lv u), upd (lz_A11 u) p0.toNatClampNeg RY, upd (lz_A12 u) p0.toNatClampNeg RN, lz_A13 u, lz_A14 u, lz_A15 u, lz_A16 u)
theorem lz_assign {post : St1 → Prop} {u : St1} {p0 : Int32} (v : Bool) {p1 RY RN : Int32} (h1 : vp_in (lz_tl u) 12) (h2 : vp_in p0 12) (e1 : p1 = if v = true then 1 else 0) (hp : post (lz_asg u p0 v RY RN)) : wpX_assign post u p0 p1 RY RN := by
  apply lz_v_assign
  cases v with
  | false => exact br_t e1 (fun f ef => by subst ef; exact lz_v_assign_31 ⟨h1, fun _ q1 _ q2 => ⟨h2, fun _ q3 => ⟨h2, fun _ q4 => ⟨h2, fun _ q5 => by subst q1 q2 q3 q4 q5; exact hp⟩⟩⟩⟩)
  | true => exact br_f (by rw [e1]; decide) (fun f ef => by subst ef; exact lz_v_assign_31 ⟨h1, fun _ q1 _ q2 => ⟨h2, fun _ q3 => ⟨h2, fun _ q4 => ⟨h2, fun _ q5 => by subst q1 q2 q3 q4 q5; exact hp⟩⟩⟩⟩)
theorem lz_asg_y (u : St1) {a : Nat} (ha : a < 32) (v : Bool) (RY RN : Int32) (b : Nat) : lz_bt (lz_yes (lz_asg u (nI a) v RY RN)) b = (lz_bt (lz_yes u) b || (v && decide (b = a))) := by
  cases v with
  | true =>
    show lz_bt (lz_yes u ||| ((1 : Int32) <<< (nI a &&& 31))) b = _
    rw [lz_or, lz_b1 ha, Bool.true_and]
  | false =>
    show lz_bt (lz_yes u) b = _
    rw [Bool.false_and, Bool.or_false]
theorem lz_asg_n (u : St1) {a : Nat} (ha : a < 32) (v : Bool) (RY RN : Int32) (b : Nat) : lz_bt (lz_no (lz_asg u (nI a) v RY RN)) b = (lz_bt (lz_no u) b || (!v && decide (b = a))) := by
  cases v with
  | false =>
    show lz_bt (lz_no u ||| ((1 : Int32) <<< (nI a &&& 31))) b = _
    rw [lz_or, lz_b1 ha, Bool.not_false, Bool.true_and]
  | true =>
    show lz_bt (lz_no u) b = _
    rw [Bool.not_true, Bool.false_and, Bool.or_false]
theorem lz_asg_X {u : St1} {n a k : Nat} {τ ℓ : Nat → Nat} (ha : a < 12) (v : Bool) (RY RN : Int32) : lz_X a v k (lz_bt (lz_yes u)) (lz_bt (lz_no u)) (lz_bt (lz_yes (lz_asg u (nI a) v RY RN))) (lz_bt (lz_no (lz_asg u (nI a) v RY RN))) n τ (fun t => if t = n then a else τ t) ℓ (fun b => if b = a then k else ℓ b) := by
  refine ⟨lz_asg_y u (by omega) v RY RN, lz_asg_n u (by omega) v RY RN, fun t ht => ?_, ?_, fun b hb => ?_, ?_⟩
  · show (if t = n then a else τ t) = τ t
    rw [if_neg (by omega)]
  · show (if n = n then a else τ n) = a
    rw [if_pos rfl]
  · show (if b = a then k else ℓ b) = ℓ b
    rw [if_neg hb]
  · show (if a = a then k else ℓ a) = k
    rw [if_pos rfl]
theorem lz_asg_9 {u : St1} {n a : Nat} {τ : Nat → Nat} (h1 : lz_tl u = nI n) (hn : n < 12) (h3 : ∀ t, t < n → lz_A9 u t = nI (τ t)) (v : Bool) (RY RN : Int32) (t : Nat) (ht : t < n + 1) : lz_A9 (lz_asg u (nI a) v RY RN) t = nI (if t = n then a else τ t) := by
  show upd (lz_A9 u) (lz_tl u).toNatClampNeg (nI a) t = _
  rw [h1, nI_clamp (by omega)]
  by_cases e : t = n
  · rw [if_pos e, e, pk_us]
  · rw [if_neg e, pk_un e]
    exact h3 t (by omega)
theorem lz_asg_10 {u : St1} {n a k : Nat} {τ ℓ : Nat → Nat} (ha : a < 12) (h2 : lz_lv u = nI k) (h4 : ∀ b, lz_as (lz_bt (lz_yes u)) (lz_bt (lz_no u)) b → lz_A10 u b = nI (ℓ b)) (v : Bool) (RY RN : Int32) (b : Nat)
    (hb : lz_as (lz_bt (lz_yes (lz_asg u (nI a) v RY RN))) (lz_bt (lz_no (lz_asg u (nI a) v RY RN))) b) : lz_A10 (lz_asg u (nI a) v RY RN) b = nI (if b = a then k else ℓ b) := by
  show upd (lz_A10 u) (nI a).toNatClampNeg (lz_lv u) b = _
  rw [nI_clamp (by omega)]
  by_cases e : b = a
  · rw [if_pos e, e, pk_us, h2]
  · rw [if_neg e, pk_un e]
    exact h4 b (lz_X_sa (lz_asg_X (n := n) (τ := τ) (ℓ := ℓ) (k := k) ha v RY RN) e hb)
theorem lz_asg_w {f : Nat → Int32} {a : Nat} (ha : a < 12) (R : Int32) : (∀ b, b ≠ a → (fun c => lz_bt (upd f (nI a).toNatClampNeg R b) c) = (fun c => lz_bt (f b) c)) ∧ upd f (nI a).toNatClampNeg R a = R := by
  rw [nI_clamp (by omega)]
  exact ⟨fun b hb => by rw [pk_un hb], pk_us⟩
theorem lz_JB_asg {u : St1} {j n k : Nat} {τ ℓ : Nat → Nat} (h : lz_JB u j n k τ ℓ) {a : Nat} (ha : a < 12) (hna : ¬ lz_as (lz_bt (lz_yes u)) (lz_bt (lz_no u)) a) (v : Bool) {RY RN : Int32}
    (hy : ∀ b, lz_bt RY b = true → lz_bt (lz_yes u) b = true) (hn : ∀ b, lz_bt RN b = true → lz_bt (lz_no u) b = true)
    (hr : ∀ m, lz_sol u m → (∀ b, lz_bt RY b = true → lz_at m b = true) → (∀ b, lz_bt RN b = true → lz_at m b = false) → lz_at m a = v) :
    lz_JB (lz_asg u (nI a) v RY RN) j (n + 1) k (fun t => if t = n then a else τ t) (fun b => if b = a then k else ℓ b) := by
  obtain ⟨h1, h2, h3, h4, hP⟩ := h
  have hn12 := lz_T_n' hP.1 ha hna
  refine ⟨?_, h2, lz_asg_9 h1 hn12 h3 v RY RN, lz_asg_10 (n := n) (τ := τ) ha h2 h4 v RY RN, ?_⟩
  · show lz_tl u + 1 = nI (n + 1)
    rw [h1, nI_1]
  · have w1 := lz_asg_w (f := lz_A11 u) ha RY
    have w2 := lz_asg_w (f := lz_A12 u) ha RN
    refine lz_P_asg (WY' := fun c b => lz_bt (upd (lz_A11 u) (nI a).toNatClampNeg RY c) b) (WN' := fun c b => lz_bt (upd (lz_A12 u) (nI a).toNatClampNeg RN c) b) hP (lz_asg_X ha v RY RN) ha hna w1.1 w2.1 ?_ ?_ ?_
    · intro b hb
      rw [w1.2] at hb
      exact hy b hb
    · intro b hb
      rw [w2.2] at hb
      exact hn b hb
    · intro S hS s1 s2
      obtain ⟨m, hm, e⟩ := hS
      subst e
      refine hr m hm (fun b hb => s1 b ?_) (fun b hb => s2 b ?_)
      · rw [w1.2]
        exact hb
      · rw [w2.2]
        exact hb
/-! progress of a propagator -/
def lz_Cu (u : St1) : Prop := lz_C (lz_Sol u) (lz_bt (lz_yes u)) (lz_bt (lz_no u)) (lz_bt (lz_cy u)) (lz_bt (lz_cn u))
def lz_Pg (u s : St1) : Prop := lz_fr s = lz_fr u ∧ lz_J s ∧ (∀ b, lz_bt (lz_yes u) b = true → lz_bt (lz_yes s) b = true) ∧ (∀ b, lz_bt (lz_no u) b = true → lz_bt (lz_no s) b = true) ∧
  ((lz_cl s = 1 ∧ lz_Cu s) ∨ (lz_cl s = 0 ∧ lz_mv s = 1 ∧ (lz_tl u).toNatClampNeg < (lz_tl s).toNatClampNeg))
def lz_St (u s : St1) (C : Prop) : Prop := (s = u ∧ C) ∨ lz_Pg u s
theorem lz_St_0 {u : St1} {C : Prop} (h : C) : lz_St u u C := Or.inl ⟨rfl, h⟩
theorem lz_St_imp {u s : St1} {C C2 : Prop} (h : lz_St u s C) (f : s = u → C → C2) : lz_St u s C2 := by
  rcases h with ⟨e, c⟩ | h
  · exact Or.inl ⟨e, f e c⟩
  · exact Or.inr h
theorem lz_Pg_tr {u s t : St1} (h : lz_Pg u s) (hc : lz_cl s = 0) (h' : lz_Pg s t) : lz_Pg u t := by
  obtain ⟨a1, a2, a3, a4, a5⟩ := h
  obtain ⟨b1, b2, b3, b4, b5⟩ := h'
  refine ⟨by rw [b1, a1], b2, fun b hb => b3 b (a3 b hb), fun b hb => b4 b (a4 b hb), ?_⟩
  rcases b5 with b5 | ⟨b5, b6, b7⟩
  · exact Or.inl b5
  · rcases a5 with ⟨a5, _⟩ | ⟨_, _, a7⟩
    · rw [hc] at a5
      exact absurd a5 (by decide)
    · exact Or.inr ⟨b5, b6, by omega⟩
theorem lz_St_tr {u s t : St1} {C C2 : Prop} {D : St1 → Prop} (h : lz_St u s C) (hc : lz_cl s = 0) (h' : lz_St s t (D s)) (hC : C → D u → C2) : lz_St u t C2 := by
  rcases h with ⟨e, c⟩ | h
  · subst e
    rcases h' with ⟨e', d⟩ | h'
    · exact Or.inl ⟨e', hC c d⟩
    · exact Or.inr h'
  · rcases h' with ⟨e', d⟩ | h'
    · exact Or.inr (e' ▸ h)
    · exact Or.inr (lz_Pg_tr h hc h')
theorem lz_St_J {u s : St1} {C : Prop} (h : lz_St u s C) (hJ : lz_J u) : lz_J s := by
  rcases h with ⟨e, _⟩ | h
  · exact e ▸ hJ
  · exact h.2.1
theorem lz_St_fr {u s : St1} {C : Prop} (h : lz_St u s C) : lz_fr s = lz_fr u := by
  rcases h with ⟨e, _⟩ | h
  · rw [e]
  · exact h.1
theorem lz_St_fs {u s : St1} {C : Prop} (h : lz_St u s C) : lz_fs s = lz_fs u := lz_fs_fr (lz_St_fr h)
theorem lz_St_y {u s : St1} {C : Prop} (h : lz_St u s C) (b : Nat) (hb : lz_bt (lz_yes u) b = true) : lz_bt (lz_yes s) b = true := by
  rcases h with ⟨e, _⟩ | h
  · rw [e]; exact hb
  · exact h.2.2.1 b hb
theorem lz_St_n {u s : St1} {C : Prop} (h : lz_St u s C) (b : Nat) (hb : lz_bt (lz_no u) b = true) : lz_bt (lz_no s) b = true := by
  rcases h with ⟨e, _⟩ | h
  · rw [e]; exact hb
  · exact h.2.2.2.1 b hb
theorem lz_St_cl {u s : St1} {C C2 : Prop} (h : lz_St u s C) (hu : lz_cl u = 0) (hs : ¬ lz_cl s = 0) : lz_St u s C2 := by
  rcases h with ⟨e, _⟩ | h
  · rw [e] at hs
    exact absurd hu hs
  · exact Or.inr h
/-! clashOn, imply -/
def lz_clo (u : St1) (p0 p1 : Int32) : St1 :=
  (lz_made u, lz_inf u, lz_yes u, lz_no u, lz_tl u, lz_lv u, lz_dec u, lz_cnt u, lz_ln u, 1, p0, p1, lz_mv u, lz_A1 u, lz_A2 u, lz_A3 u, lz_A4 u, lz_A5 u, lz_A6 u, lz_A7 u, lz_A8 u, lz_A9 u, lz_A10 u, lz_A11 u, lz_A12 u, lz_A13 u, lz_A14 u, lz_A15 u, lz_A16 u)
theorem lz_clo_Pg {u : St1} {p0 p1 : Int32} (hJ : lz_J u) (hy : ∀ b, lz_bt p0 b = true → lz_bt (lz_yes u) b = true) (hn : ∀ b, lz_bt p1 b = true → lz_bt (lz_no u) b = true)
    (hr : ∀ m, lz_sol u m → (∀ b, lz_bt p0 b = true → lz_at m b = true) → (∀ b, lz_bt p1 b = true → lz_at m b = false) → False) : lz_Pg u (lz_clo u p0 p1) := by
  refine ⟨rfl, hJ, fun b hb => hb, fun b hb => hb, Or.inl ⟨rfl, hy, hn, ?_⟩⟩
  intro S hS s1 s2
  obtain ⟨m, hm, e⟩ := hS
  subst e
  exact hr m hm s1 s2
theorem lz_clashOn {post : St1 → Prop} {u : St1} {p0 p1 : Int32} {C : Prop} (hJ : lz_J u) (hy : ∀ b, lz_bt p0 b = true → lz_bt (lz_yes u) b = true) (hn : ∀ b, lz_bt p1 b = true → lz_bt (lz_no u) b = true)
    (hr : ∀ m, lz_sol u m → (∀ b, lz_bt p0 b = true → lz_at m b = true) → (∀ b, lz_bt p1 b = true → lz_at m b = false) → False) (hp : ∀ s, lz_St u s C → post s) : wpX_clashOn post u p0 p1 :=
  lz_v_clashOn (hp _ (Or.inr (lz_clo_Pg hJ hy hn hr)))
def lz_mv1 (u : St1) : St1 :=
  (lz_made u, lz_inf u, lz_yes u, lz_no u, lz_tl u, lz_lv u, lz_dec u, lz_cnt u, lz_ln u, lz_cl u, lz_cy u, lz_cn u, 1, lz_A1 u, lz_A2 u, lz_A3 u, lz_A4 u, lz_A5 u, lz_A6 u, lz_A7 u, lz_A8 u, lz_A9 u, lz_A10 u, lz_A11 u, lz_A12 u, lz_A13 u, lz_A14 u, lz_A15 u, lz_A16 u)
theorem lz_mv1_J {s : St1} (h : lz_J s) : lz_J (lz_mv1 s) := h
theorem lz_mv1_fr (s : St1) : lz_fr (lz_mv1 s) = lz_fr s := rfl
theorem lz_mv1_y (s : St1) : lz_yes (lz_mv1 s) = lz_yes s := rfl
theorem lz_mv1_n (s : St1) : lz_no (lz_mv1 s) = lz_no s := rfl
theorem lz_mv1_t (s : St1) : lz_tl (lz_mv1 s) = lz_tl s := rfl
theorem lz_mv1_c (s : St1) : lz_cl (lz_mv1 s) = lz_cl s := rfl
theorem lz_mv1_m (s : St1) : lz_mv (lz_mv1 s) = 1 := rfl
theorem lz_asg_fr (u : St1) (p0 : Int32) (v : Bool) (RY RN : Int32) : lz_fr (lz_asg u p0 v RY RN) = lz_fr u := rfl
theorem lz_asg_c (u : St1) (p0 : Int32) (v : Bool) (RY RN : Int32) : lz_cl (lz_asg u p0 v RY RN) = lz_cl u := rfl
theorem lz_asg_t (u : St1) (p0 : Int32) (v : Bool) (RY RN : Int32) : lz_tl (lz_asg u p0 v RY RN) = lz_tl u + 1 := rfl
theorem lz_asg_Pg {u : St1} (hJ : lz_J u) (hc : lz_cl u = 0) {a : Nat} (ha : a < 12) (hna : ¬ lz_as (lz_bt (lz_yes u)) (lz_bt (lz_no u)) a) (v : Bool) {RY RN : Int32}
    (hy : ∀ b, lz_bt RY b = true → lz_bt (lz_yes u) b = true) (hn : ∀ b, lz_bt RN b = true → lz_bt (lz_no u) b = true)
    (hr : ∀ m, lz_sol u m → (∀ b, lz_bt RY b = true → lz_at m b = true) → (∀ b, lz_bt RN b = true → lz_at m b = false) → lz_at m a = v) : lz_Pg u (lz_mv1 (lz_asg u (nI a) v RY RN)) := by
  obtain ⟨n, k, τ, ℓ, h⟩ := hJ
  have hn12 := lz_T_n' h.2.2.2.2.1 ha hna
  have h' : lz_J (lz_asg u (nI a) v RY RN) := ⟨_, _, _, _, lz_JB_asg h ha hna v hy hn hr⟩
  refine ⟨by rw [lz_mv1_fr, lz_asg_fr], lz_mv1_J h', fun b hb => ?_, fun b hb => ?_, Or.inr ⟨by rw [lz_mv1_c, lz_asg_c, hc], lz_mv1_m _, ?_⟩⟩
  · rw [lz_mv1_y, lz_asg_y u (by omega), hb, Bool.true_or]
  · rw [lz_mv1_n, lz_asg_n u (by omega), hb, Bool.true_or]
  · rw [lz_mv1_t, lz_asg_t, h.1, nI_1, nI_clamp (by omega), nI_clamp (by omega)]
    omega
def lz_val (u : St1) (a : Nat) (v : Bool) : Prop := if v = true then lz_bt (lz_yes u) a = true else lz_bt (lz_no u) a = true
theorem lz_imply_59w {post : St1 → Prop} {u : St1} (hJ : lz_J u) (hc : lz_cl u = 0) {a : Nat} (ha : a < 12) (v : Bool) {p1 RY RN : Int32} (e1 : p1 = if v = true then 1 else 0)
    (hy : ∀ b, lz_bt RY b = true → lz_bt (lz_yes u) b = true) (hn : ∀ b, lz_bt RN b = true → lz_bt (lz_no u) b = true)
    (hr : ∀ m, lz_sol u m → (∀ b, lz_bt RY b = true → lz_at m b = true) → (∀ b, lz_bt RN b = true → lz_at m b = false) → lz_at m a = v)
    (hx : if v = true then lz_bt (lz_no u) a = false else lz_bt (lz_yes u) a = false) (hp : ∀ s, lz_St u s (lz_val u a v) → post s) : lz_imply_59 post (nI a) p1 RY RN ((1 : Int32) <<< (nI a &&& 31)) u := by
  apply lz_v_imply_59
  rw [lz_and1 _ (by omega), lz_or]
  refine br_c (fun h => ?_) (fun h => ?_)
  · have hna : ¬ lz_as (lz_bt (lz_yes u)) (lz_bt (lz_no u)) a := by
      rw [Bool.or_eq_false_iff] at h
      intro z
      rcases z with z | z
      · rw [h.1] at z; exact absurd z (by decide)
      · rw [h.2] at z; exact absurd z (by decide)
    exact lz_assign v (lz_J_in hJ ha hna) (vp_in_nI ha (by omega)) e1 (hp _ (Or.inr (lz_asg_Pg hJ hc ha hna v hy hn hr)))
  · refine hp u (lz_St_0 ?_)
    unfold lz_val
    cases v with
    | true =>
      rw [if_pos rfl] at hx ⊢
      rw [hx, Bool.or_false] at h
      cases z : lz_bt (lz_yes u) a with
      | true => rfl
      | false => exact absurd z h
    | false =>
      rw [if_neg (by decide)] at hx ⊢
      rw [hx, Bool.false_or] at h
      cases z : lz_bt (lz_no u) a with
      | true => rfl
      | false => exact absurd z h
theorem lz_imply {post : St1 → Prop} {u : St1} (hJ : lz_J u) (hc : lz_cl u = 0) {a : Nat} (ha : a < 12) (v : Bool) {p0 p1 RY RN : Int32} (e0 : p0 = nI a) (e1 : p1 = if v = true then 1 else 0)
    (hy : ∀ b, lz_bt RY b = true → lz_bt (lz_yes u) b = true) (hn : ∀ b, lz_bt RN b = true → lz_bt (lz_no u) b = true)
    (hr : ∀ m, lz_sol u m → (∀ b, lz_bt RY b = true → lz_at m b = true) → (∀ b, lz_bt RN b = true → lz_at m b = false) → lz_at m a = v)
    (hp : ∀ s, lz_St u s (lz_val u a v) → post s) : wpX_imply post u p0 p1 RY RN := by
  subst e0
  apply lz_v_imply
  intro x5 e5
  subst e5
  cases v with
  | true =>
    refine br_f (by rw [e1]; decide) (br_c (fun h => ?_) (fun h => ?_))
    · rw [lz_and1 _ (by omega)] at h
      exact lz_v_imply_32 (br_f (by rw [e1]; decide) (lz_imply_59w hJ hc ha true e1 hy hn hr (by rw [if_pos rfl]; exact h) hp))
    · rw [lz_and1 _ (by omega)] at h
      have hno : lz_bt (lz_no u) a = true := by
        cases z : lz_bt (lz_no u) a with
        | true => rfl
        | false => exact absurd z h
      refine lz_clashOn hJ hy ?_ ?_ hp
      · intro b hb
        rw [lz_or, Bool.or_eq_true] at hb
        rcases hb with hb | hb
        · exact hn b hb
        · rw [lz_b1e (by omega) hb]; exact hno
      · intro m hm s1 s2
        have q1 := hr m hm s1 (fun b hb => s2 b (by rw [lz_or, hb, Bool.true_or]))
        have q2 := s2 a (by rw [lz_or, lz_b1s (by omega), Bool.or_true])
        rw [q1] at q2
        exact absurd q2 (by decide)
  | false =>
    refine br_t e1 (lz_v_imply_32 (br_t e1 (br_c (fun h => ?_) (fun h => ?_))))
    · rw [lz_and1 _ (by omega)] at h
      exact lz_imply_59w hJ hc ha false e1 hy hn hr (by rw [if_neg (by decide)]; exact h) hp
    · rw [lz_and1 _ (by omega)] at h
      have hye : lz_bt (lz_yes u) a = true := by
        cases z : lz_bt (lz_yes u) a with
        | true => rfl
        | false => exact absurd z h
      refine lz_clashOn hJ ?_ hn ?_ hp
      · intro b hb
        rw [lz_or, Bool.or_eq_true] at hb
        rcases hb with hb | hb
        · exact hy b hb
        · rw [lz_b1e (by omega) hb]; exact hye
      · intro m hm s1 s2
        have q1 := hr m hm (fun b hb => s1 b (by rw [lz_or, hb, Bool.true_or])) s2
        have q2 := s1 a (by rw [lz_or, lz_b1s (by omega), Bool.or_true])
        rw [q1] at q2
        exact absurd q2 (by decide)
end
section
/-! chain -/
theorem lz_nf {x : Bool} (h : ¬ x = true) : x = false := by
  cases x with
  | false => rfl
  | true => exact absurd rfl h
theorem lz_ft {x : Bool} (h : ¬ x = false) : x = true := by
  cases x with
  | true => rfl
  | false => exact absurd rfl h
theorem lz_e0 (b : Nat) (P : Prop) (h : lz_bt 0 b = true) : P := by
  rw [lz_b0] at h
  exact absurd h (by decide)
def lz_dn (u : St1) (i v : Nat) : Prop := ∀ w, 1 ≤ w → w < v → lz_bt (lz_no u) (i * 3 + w - 1) = true → lz_bt (lz_no u) (i * 3 + w) = true
def lz_up (u : St1) (i v : Nat) : Prop := ∀ w, v < w → w ≤ 3 → lz_bt (lz_yes u) (i * 3 + w - 1) = true → lz_bt (lz_yes u) (i * 3 + w - 2) = true
theorem lz_chain_61w {post : St1 → Prop} {J2 : Int32 → St1 → Prop} {u s : St1} {C : Prop} {i : Nat} (hi : i < 4) (hJ : lz_J u) (hc : lz_cl u = 0) (h : lz_St u s C)
    (hk : ∀ t, lz_St u t (C ∧ lz_dn u i 3) → J2 (nI (i + 1)) t) : ∃ fu, lz_chain_61 post J2 (nI i) fu 1 s := by
  refine pk_loop (fun n v t => lz_chain_61 post J2 (nI i) n (nI v) t) (fun v t => 1 ≤ v ∧ lz_St u t (C ∧ lz_dn u i v)) 3 1 s (by omega) ?_ ?_ ?_
  · exact ⟨by omega, lz_St_imp h (fun _ c => ⟨c, fun w h1 h2 => absurd h2 (by omega)⟩)⟩
  · intro n t ht
    exact lz_v_chain_61 (pk_le 3 3 (fun _ => nm_r (nI_1 i) (hk t ht.2)) (fun z => absurd z (by omega)))
  · intro n v t hv ht hw
    obtain ⟨h1, ht⟩ := ht
    refine lz_v_chain_61 (pk_le 3 v (fun z => absurd z (by omega)) (fun _ => br_c (fun hct => ?_) (fun hct => nm_r (nI_1 i) (hk t (lz_St_cl ht hc hct)))))
    refine nm_r (lz_at1 i v h1) ?_
    rw [lz_bit _ (by omega)]
    refine br_c (fun hb => ?_) (fun hb => nm_r (nI_1 v) (hw t ⟨by omega, lz_St_imp ht (fun e c => ⟨c.1, fun w w1 w2 hn => ?_⟩)⟩))
    · have e1 : nI (i * 3 + v - 1) + 1 = nI (i * 3 + v) := by rw [nI_1, show i * 3 + v - 1 + 1 = i * 3 + v by omega]
      refine lz_imply (lz_St_J ht hJ) hct (a := i * 3 + v) (by omega) false e1 rfl (fun b hb => lz_e0 b _ hb) (fun b hb2 => ?_) (fun m hm _ s2 => ?_) (fun t' ht' => nm_r (nI_1 v) (hw t' ⟨by omega, lz_St_tr (D := fun z => lz_val z (i * 3 + v) false) ht hct ht' (fun c d => ⟨c.1, fun w w1 w2 hn => ?_⟩)⟩))
      · rw [lz_b1e (by omega) hb2]
        exact hb
      · have q := s2 (i * 3 + v - 1) (lz_b1s (by omega))
        rw [lz_atf h1 (by omega)] at q
        exact (lz_atf (m := m) (j := i) (v := v + 1) (by omega) (by omega)).mpr (by omega)
      · by_cases e : w = v
        · rw [e]
          exact d
        · exact c.2 w w1 (by omega) hn
    · by_cases e2 : w = v
      · rw [e2, ← e] at hn
        exact absurd hn hb
      · exact c.2 w w1 (by omega) hn
theorem lz_chain_9w {post : St1 → Prop} {J2 : Int32 → St1 → Prop} {u s : St1} {C : Prop} {i : Nat} (hi : i < 4) (hJ : lz_J u) (hc : lz_cl u = 0) (h : lz_St u s C)
    (hk : ∀ t, lz_St u t ((C ∧ lz_up u i 1) ∧ lz_dn u i 3) → J2 (nI (i + 1)) t) : ∃ fu, lz_chain_9 post J2 (nI i) fu 3 s := by
  refine ⟨3, pk_loopD (fun n j t => lz_chain_9 post J2 (nI i) n (nI (j + 1)) t) (fun j t => j ≤ 2 ∧ lz_St u t (C ∧ lz_up u i (j + 1))) ?_ ?_ 2 s ?_⟩
  · intro n t ht
    exact lz_v_chain_9 (pk_le 1 1 (fun _ => lz_chain_61w hi hJ hc ht.2 hk) (fun z => absurd z (by omega)))
  · intro n j t ht hw
    obtain ⟨hj, ht⟩ := ht
    refine lz_v_chain_9 (pk_le (j + 1 + 1) 1 (fun z => absurd z (by omega)) (fun _ => br_c (fun hct => ?_) (fun hct => lz_chain_61w hi hJ hc (lz_St_cl ht hc hct) hk)))
    refine nm_r (lz_at1 i (j + 1 + 1) (by omega)) ?_
    rw [lz_bit _ (by omega)]
    refine br_c (fun hb => ?_) (fun hb => nm_r (pk_m1 (j + 1)) (hw t ⟨by omega, lz_St_imp ht (fun e c => ⟨c.1, fun w w1 w2 hn => ?_⟩)⟩))
    · have e1 : nI (i * 3 + (j + 1 + 1) - 1) - 1 = nI (i * 3 + j) := by
        show nI (i * 3 + (j + 1 + 1) - 1) - nI 1 = _
        rw [pk_sub (by omega), show i * 3 + (j + 1 + 1) - 1 - 1 = i * 3 + j by omega]
      refine lz_imply (lz_St_J ht hJ) hct (a := i * 3 + j) (by omega) true e1 rfl (fun b hb2 => ?_) (fun b hb => lz_e0 b _ hb) (fun m hm s1 _ => ?_) (fun t' ht' => nm_r (pk_m1 (j + 1)) (hw t' ⟨by omega, lz_St_tr (D := fun z => lz_val z (i * 3 + j) true) ht hct ht' (fun c d => ⟨c.1, fun w w1 w2 hn => ?_⟩)⟩))
      · rw [lz_b1e (by omega) hb2]
        exact hb
      · have q := s1 (i * 3 + (j + 1 + 1) - 1) (lz_b1s (by omega))
        rw [lz_atv (by omega) (by omega)] at q
        have := (lz_atv (m := m) (j := i) (v := j + 1) (by omega) (by omega)).mpr (by omega)
        exact this
      · by_cases e : w = j + 1 + 1
        · rw [e, show i * 3 + (j + 1 + 1) - 2 = i * 3 + j by omega]
          exact d
        · exact c.2 w (by omega) w2 hn
    · by_cases e2 : w = j + 1 + 1
      · rw [e2, ← e] at hn
        exact absurd hn hb
      · exact c.2 w (by omega) w2 hn
  · exact ⟨by omega, lz_St_imp h (fun _ c => ⟨c, fun w h1 h2 => absurd h2 (by omega)⟩)⟩
theorem lz_chain {post : St1 → Prop} {u : St1} (hJ : lz_J u) (hc : lz_cl u = 0) (hp : ∀ s, lz_St u s (lz_ch (lz_bt (lz_yes u)) (lz_bt (lz_no u))) → post s) : wpX_chain post u := by
  apply lz_v_chain
  refine pk_loop (fun n i t => lz_chain_2 post n (nI i) t) (fun i t => lz_St u t (∀ j, j < i → lz_up u j 1 ∧ lz_dn u j 3)) 4 0 u (by omega) ?_ ?_ ?_
  · exact lz_St_0 (fun j hj => absurd hj (by omega))
  · intro n t ht
    refine lz_v_chain_2 (pk_le 4 4 (fun _ => hp t (lz_St_imp ht (fun _ c i hi => ?_))) (fun z => absurd z (by omega)))
    obtain ⟨c1, c2⟩ := c i hi
    exact ⟨fun z => c1 3 (by omega) (by omega) z, fun z => c1 2 (by omega) (by omega) z, fun z => c2 1 (by omega) (by omega) z, fun z => c2 2 (by omega) (by omega) z⟩
  · intro n i t hi ht hw
    refine lz_v_chain_2 (pk_le 4 i (fun z => absurd z (by omega)) (fun _ => lz_chain_9w hi hJ hc ht (fun t' ht' => hw t' (lz_St_imp ht' (fun _ c j hj => ?_)))))
    by_cases e : j = i
    · rw [e]
      exact ⟨c.1.2, c.2⟩
    · exact c.1.1 j (by omega)
/-! lone, clause -/
theorem lz_lone {post : Int32 → Prop} {u : St1} {x : Int32} (h0 : post (-1)) (h1 : ∀ a, a < 12 → x = (1 : Int32) <<< (nI a &&& 31) → post (nI a)) : wpX_lone post u x := by
  apply lz_v_lone
  refine pk_loop (σ := Unit) (fun n a _ => lz_lone_2 post x n (nI a) u) (fun _ _ => True) 12 0 () (by omega) trivial ?_ ?_
  · intro n _ _
    exact lz_v_lone_2 (pk_le 12 12 (fun _ => h0) (fun z => absurd z (by omega)))
  · intro n a _ ha _ hw
    exact lz_v_lone_2 (pk_le 12 a (fun z => absurd z (by omega)) (fun _ => br_c (fun e => h1 a ha e) (fun _ => nm_r (nI_1 a) (hw () trivial))))
def lz_cc (u : St1) (MY MN : Int32) : Prop := ¬ ((∀ b, lz_bt MY b = true → lz_bt (lz_no u) b = true) ∧ (∀ b, lz_bt MN b = true → lz_bt (lz_yes u) b = true))
theorem lz_clause_56w {post : St1 → Prop} {u : St1} (hJ : lz_J u) (hc : lz_cl u = 0) {MY MN x3 x4 : Int32} (e3 : x3 = MY &&& (lz_no u ^^^ (-1))) (e4 : x4 = MN &&& (lz_yes u ^^^ (-1)))
    (hv : ∀ m, lz_sol u m → (∃ b, lz_bt MY b = true ∧ lz_at m b = true) ∨ (∃ b, lz_bt MN b = true ∧ lz_at m b = false)) (hcc : lz_cc u MY MN)
    (hp : ∀ s, lz_St u s (lz_cc u MY MN) → post s) : lz_clause_56 post MY MN x3 x4 u := by
  have b3 : ∀ b, lz_bt x3 b = (lz_bt MY b && !lz_bt (lz_no u) b) := fun b => by rw [e3, lz_nt]
  have b4 : ∀ b, lz_bt x4 b = (lz_bt MN b && !lz_bt (lz_yes u) b) := fun b => by rw [e4, lz_nt]
  have hp' : ∀ a v, ∀ s, lz_St u s (lz_val u a v) → post s := fun a v s hs => hp s (lz_St_imp hs (fun _ _ => hcc))
  apply lz_v_clause_56
  refine br_c (fun z4 => ?_) (fun z4 => br_c (fun z3 => ?_) (fun z3 => hp u (lz_St_0 hcc)))
  · have y4 : ∀ b, lz_bt MN b = true → lz_bt (lz_yes u) b = true := by rw [e4] at z4; exact lz_nt0.mp z4
    refine lz_lone (br_t (by decide) (hp u (lz_St_0 hcc))) (fun a ha ea => br_f (nI_pos (by omega)) ?_)
    refine lz_imply hJ hc ha true rfl rfl y4 (fun b hb => ?_) (fun m hm s1 s2 => ?_) (hp' a true)
    · rw [lz_nt, b3] at hb
      cases q : lz_bt MY b with
      | false => rw [q, Bool.false_and] at hb; exact absurd hb (by decide)
      | true =>
        rw [q] at hb
        cases q2 : lz_bt (lz_no u) b with
        | true => rfl
        | false => rw [q2] at hb; exact absurd hb (by decide)
    · rcases hv m hm with ⟨b, h1, h2⟩ | ⟨b, h1, h2⟩
      · by_cases e : b = a
        · rw [← e]; exact h2
        · have := s2 b (by rw [lz_nt, h1, ea, lz_b1 (by omega), decide_eq_false e]; rfl)
          rw [h2] at this
          exact absurd this (by decide)
      · have := s1 b h1
        rw [h2] at this
        exact absurd this (by decide)
  · have y3 : ∀ b, lz_bt MY b = true → lz_bt (lz_no u) b = true := by rw [e3] at z3; exact lz_nt0.mp z3
    refine lz_lone (br_t (by decide) (hp u (lz_St_0 hcc))) (fun a ha ea => br_f (nI_pos (by omega)) ?_)
    refine lz_imply hJ hc ha false rfl rfl (fun b hb => ?_) y3 (fun m hm s1 s2 => ?_) (hp' a false)
    · rw [lz_nt, b4] at hb
      cases q : lz_bt MN b with
      | false => rw [q, Bool.false_and] at hb; exact absurd hb (by decide)
      | true =>
        rw [q] at hb
        cases q2 : lz_bt (lz_yes u) b with
        | true => rfl
        | false => rw [q2] at hb; exact absurd hb (by decide)
    · rcases hv m hm with ⟨b, h1, h2⟩ | ⟨b, h1, h2⟩
      · have := s2 b h1
        rw [h2] at this
        exact absurd this (by decide)
      · by_cases e : b = a
        · rw [← e]; exact h2
        · have := s1 b (by rw [lz_nt, h1, ea, lz_b1 (by omega), decide_eq_false e]; rfl)
          rw [h2] at this
          exact absurd this (by decide)
theorem lz_clause {post : St1 → Prop} {u : St1} (hJ : lz_J u) (hc : lz_cl u = 0) {MY MN : Int32}
    (hv : ∀ m, lz_sol u m → (∃ b, lz_bt MY b = true ∧ lz_at m b = true) ∨ (∃ b, lz_bt MN b = true ∧ lz_at m b = false))
    (hp : ∀ s, lz_St u s (lz_cc u MY MN) → post s) : wpX_clause post u MY MN := by
  apply lz_v_clause
  refine br_c (fun h1 => br_c (fun h2 => nm_e (nm_e ?_)) (fun h2 => ?_)) (fun h1 => ?_)
  · refine br_c (fun z3 => br_c (fun z4 => ?_) (fun z4 => ?_)) (fun z3 => ?_)
    · have y3 := lz_nt0.mp z3
      have y4 := lz_nt0.mp z4
      refine lz_clashOn hJ y4 y3 (fun m hm s1 s2 => ?_) hp
      rcases hv m hm with ⟨b, q1, q2⟩ | ⟨b, q1, q2⟩
      · rw [s2 b q1] at q2
        exact absurd q2 (by decide)
      · rw [s1 b q1] at q2
        exact absurd q2 (by decide)
    · exact lz_clause_56w hJ hc rfl rfl hv (fun z => z4 (lz_nt0.mpr z.2)) hp
    · exact lz_clause_56w hJ hc rfl rfl hv (fun z => z3 (lz_nt0.mpr z.1)) hp
  · refine hp u (lz_St_0 (fun z => ?_))
    obtain ⟨b, hb⟩ := lz_nz h2
    rw [lz_and, Bool.and_eq_true] at hb
    exact lz_J_dis hJ (z.2 b hb.1) hb.2
  · refine hp u (lz_St_0 (fun z => ?_))
    obtain ⟨b, hb⟩ := lz_nz h1
    rw [lz_and, Bool.and_eq_true] at hb
    exact lz_J_dis hJ hb.2 (z.1 b hb.1)
end
section
/-! low, high, their atoms -/
def lz_lop (Y : Nat → Bool) (i : Nat) : Nat → Nat
  | 0 => 0
  | w + 1 => if Y (i * 3 + w) = true then w + 1 else lz_lop Y i w
def lz_hop (N : Nat → Bool) (i : Nat) : Nat → Nat
  | 0 => 3
  | k + 1 => if N (i * 3 + (2 - k)) = true then 2 - k else lz_hop N i k
theorem lz_lop3 (Y : Nat → Bool) (i : Nat) : lz_lop Y i 3 = lz_lo Y i := rfl
theorem lz_hop3 (N : Nat → Bool) (i : Nat) : lz_hop N i 3 = lz_hi N i := rfl
theorem lz_low {post : Int32 → Prop} {u : St1} {i : Nat} (hi : i < 4) (hp : post (nI (lz_lo (lz_bt (lz_yes u)) i))) : wpX_low post u (nI i) := by
  apply lz_v_low
  refine pk_loop (fun n w (f : Nat) => lz_low_4 post (nI i) n (nI f) (nI (w + 1)) u) (fun w f => f = lz_lop (lz_bt (lz_yes u)) i w) 3 0 0 (by omega) rfl ?_ ?_
  · intro n f hf
    refine lz_v_low_4 (pk_lt 3 (3 + 1) (fun _ => ?_) (fun z => absurd z (by omega)))
    rw [hf, lz_lop3]
    exact hp
  · intro n w f hw hf hk
    refine lz_v_low_4 (pk_lt 3 (w + 1) (fun z => absurd z (by omega)) (fun _ => ?_))
    rw [lz_at1 i (w + 1) (by omega), lz_bit _ (by omega), show i * 3 + (w + 1) - 1 = i * 3 + w by omega]
    refine br_c (fun hb => nm_r (nI_1 (w + 1)) (hk (w + 1) ?_)) (fun hb => nm_r (nI_1 (w + 1)) (hk f ?_))
    · show w + 1 = (if lz_bt (lz_yes u) (i * 3 + w) = true then w + 1 else lz_lop (lz_bt (lz_yes u)) i w)
      rw [if_pos hb]
    · show f = (if lz_bt (lz_yes u) (i * 3 + w) = true then w + 1 else lz_lop (lz_bt (lz_yes u)) i w)
      rw [if_neg hb]
      exact hf
theorem lz_high {post : Int32 → Prop} {u : St1} {i : Nat} (hi : i < 4) (hp : post (nI (lz_hi (lz_bt (lz_no u)) i))) : wpX_high post u (nI i) := by
  apply lz_v_high
  refine ⟨3 + 1, pk_loopD (fun n j (f : Nat) => lz_high_4 post (nI i) n (nI f) (nI j) u) (fun j f => j ≤ 3 ∧ f = lz_hop (lz_bt (lz_no u)) i (3 - j)) ?_ ?_ 3 3 ⟨by omega, rfl⟩⟩
  · intro n f hf
    refine lz_v_high_4 (pk_lt 0 1 (fun _ => ?_) (fun z => absurd z (by omega)))
    rw [hf.2, lz_hop3]
    exact hp
  · intro n j f hf hk
    obtain ⟨hj, hf⟩ := hf
    have e : lz_hop (lz_bt (lz_no u)) i (3 - j) = if lz_bt (lz_no u) (i * 3 + j) = true then j else lz_hop (lz_bt (lz_no u)) i (3 - (j + 1)) := by
      rw [show 3 - j = (2 - j) + 1 by omega, show 3 - (j + 1) = 2 - j by omega]
      show (if lz_bt (lz_no u) (i * 3 + (2 - (2 - j))) = true then 2 - (2 - j) else lz_hop (lz_bt (lz_no u)) i (2 - j)) = _
      rw [show 2 - (2 - j) = j by omega]
    refine lz_v_high_4 (pk_lt (j + 1) 1 (fun z => absurd z (by omega)) (fun _ => ?_))
    rw [lz_at1 i (j + 1) (by omega), lz_bit _ (by omega), show i * 3 + (j + 1) - 1 = i * 3 + j by omega]
    refine br_c (fun hb => nm_r (nI_pred j) (nm_r (pk_m1 j) (hk j ⟨by omega, ?_⟩))) (fun hb => nm_r (pk_m1 j) (hk f ⟨by omega, ?_⟩))
    · rw [e, if_pos hb]
    · rw [e, if_neg hb]
      exact hf
def lz_la (Y : Nat → Bool) (i : Nat) : Int32 := if lz_lo Y i = 0 then 0 else (1 : Int32) <<< (nI (i * 3 + lz_lo Y i - 1) &&& 31)
def lz_ha (N : Nat → Bool) (i : Nat) : Int32 := if lz_hi N i = 3 then 0 else (1 : Int32) <<< (nI (i * 3 + lz_hi N i) &&& 31)
theorem lz_lowAtom {post : Int32 → Prop} {u : St1} {i : Nat} (hi : i < 4) (hp : post (lz_la (lz_bt (lz_yes u)) i)) : wpX_lowAtom post u (nI i) := by
  refine lz_v_lowAtom (lz_low hi ?_)
  have l := lz_lo_le (lz_bt (lz_yes u)) i
  unfold lz_la at hp
  refine pk_eq (lz_lo (lz_bt (lz_yes u)) i) 0 (fun z => ?_) (fun z => ?_)
  · rw [if_pos z] at hp
    exact hp
  · rw [if_neg z] at hp
    rw [lz_at1 i _ (by omega)]
    exact hp
theorem lz_highAtom {post : Int32 → Prop} {u : St1} {i : Nat} (hi : i < 4) (hp : post (lz_ha (lz_bt (lz_no u)) i)) : wpX_highAtom post u (nI i) := by
  refine lz_v_highAtom (lz_high hi ?_)
  have l := lz_hi_le (lz_bt (lz_no u)) i
  unfold lz_ha at hp
  refine pk_eq (lz_hi (lz_bt (lz_no u)) i) 3 (fun z => ?_) (fun z => ?_)
  · rw [if_pos z] at hp
    exact hp
  · rw [if_neg z] at hp
    rw [lz_at0]
    exact hp
theorem lz_la_b {Y : Nat → Bool} {i b : Nat} (hi : i < 4) (h : lz_bt (lz_la Y i) b = true) : 1 ≤ lz_lo Y i ∧ b = i * 3 + lz_lo Y i - 1 := by
  have l := lz_lo_le Y i
  unfold lz_la at h
  by_cases z : lz_lo Y i = 0
  · rw [if_pos z] at h
    exact lz_e0 b _ h
  · rw [if_neg z] at h
    exact ⟨by omega, lz_b1e (by omega) h⟩
theorem lz_la_y {Y : Nat → Bool} {i b : Nat} (hi : i < 4) (h : lz_bt (lz_la Y i) b = true) : Y b = true := by
  obtain ⟨h1, h2⟩ := lz_la_b hi h
  rw [h2]
  exact lz_lo_y h1
theorem lz_la_3 {Y : Nat → Bool} {i b : Nat} (hi : i < 4) (h : lz_bt (lz_la Y i) b = true) : b / 3 = i := by
  obtain ⟨h1, h2⟩ := lz_la_b hi h
  have l := lz_lo_le Y i
  omega
theorem lz_la_s {Y : Nat → Bool} {i m : Nat} (hi : i < 4) (h : ∀ b, lz_bt (lz_la Y i) b = true → lz_at m b = true) : lz_lo Y i ≤ lz_dg m i := by
  have l := lz_lo_le Y i
  rcases Nat.eq_zero_or_pos (lz_lo Y i) with z | z
  · omega
  · have q := h (i * 3 + lz_lo Y i - 1) (by unfold lz_la; rw [if_neg (by omega)]; exact lz_b1s (by omega))
    exact (lz_atv z l).mp q
theorem lz_ha_b {N : Nat → Bool} {i b : Nat} (hi : i < 4) (h : lz_bt (lz_ha N i) b = true) : lz_hi N i < 3 ∧ b = i * 3 + lz_hi N i := by
  have l := lz_hi_le N i
  unfold lz_ha at h
  by_cases z : lz_hi N i = 3
  · rw [if_pos z] at h
    exact lz_e0 b _ h
  · rw [if_neg z] at h
    exact ⟨by omega, lz_b1e (by omega) h⟩
theorem lz_ha_n {N : Nat → Bool} {i b : Nat} (hi : i < 4) (h : lz_bt (lz_ha N i) b = true) : N b = true := by
  obtain ⟨h1, h2⟩ := lz_ha_b hi h
  rw [h2]
  exact lz_hi_n h1
theorem lz_ha_3 {N : Nat → Bool} {i b : Nat} (hi : i < 4) (h : lz_bt (lz_ha N i) b = true) : b / 3 = i := by
  obtain ⟨h1, h2⟩ := lz_ha_b hi h
  omega
theorem lz_ha_s {N : Nat → Bool} {i m : Nat} (hi : i < 4) (h : ∀ b, lz_bt (lz_ha N i) b = true → lz_at m b = false) : lz_dg m i ≤ lz_hi N i := by
  have l := lz_hi_le N i
  have l2 := lz_dg_le m i
  rcases Nat.lt_or_ge (lz_hi N i) 3 with z | z
  · have q := h (i * 3 + lz_hi N i) (by unfold lz_ha; rw [if_neg (by omega)]; exact lz_b1s (by omega))
    have := (lz_atf (m := m) (j := i) (v := lz_hi N i + 1) (by omega) (by omega)).mp q
    omega
  · omega
/-! the least term -/
def lz_tm (co : Nat → Int32) (Y N : Nat → Bool) (c i : Nat) : Int := if (co (c * 4 + i)).toInt ≤ 0 then (co (c * 4 + i)).toInt * (lz_hi N i : Int) else (co (c * 4 + i)).toInt * (lz_lo Y i : Int)
def lz_sm (co : Nat → Int32) (Y N : Nat → Bool) (c : Nat) : Nat → Int
  | 0 => 0
  | i + 1 => lz_sm co Y N c i + lz_tm co Y N c i
theorem lz_z32 : (0 : Int32).toInt = 0 := by decide
theorem lz_leastTerm {post : Int32 → Prop} {u : St1} {c i : Nat} (hc : c < 11) (hi : i < 4) (hw : lz_wf u) (hp : ∀ r : Int32, r.toInt = lz_tm (lz_A3 u) (lz_bt (lz_yes u)) (lz_bt (lz_no u)) c i → post r) : wpX_leastTerm post u (nI c) (nI i) := by
  apply lz_v_leastTerm
  rw [lz_c4, nI_clamp (by omega)]
  obtain ⟨w1, w2⟩ := ((lz_wf_iff u).mp hw c hc).1 i hi
  refine ⟨vp_in_nI (by omega) (by omega), nm_e ?_⟩
  rw [Int32.le_iff_toInt_le, lz_z32]
  refine br_c (fun h => lz_high hi (hp _ ?_)) (fun h => lz_low hi (hp _ ?_))
  · have l := lz_hi_le (lz_bt (lz_no u)) i
    have b := lz_mulr w1 w2 l
    rw [lz_imul rfl (lz_nT (by omega)) (by omega) (by omega)]
    unfold lz_tm
    rw [if_pos h]
  · have l := lz_lo_le (lz_bt (lz_yes u)) i
    have b := lz_mulr w1 w2 l
    rw [lz_imul rfl (lz_nT (by omega)) (by omega) (by omega)]
    unfold lz_tm
    rw [if_neg h]
theorem lz_tm_b {co : Nat → Int32} {c i : Nat} (Y N : Nat → Bool) (w1 : -5 ≤ (co (c * 4 + i)).toInt) (w2 : (co (c * 4 + i)).toInt ≤ 5) : -15 ≤ lz_tm co Y N c i ∧ lz_tm co Y N c i ≤ 15 := by
  unfold lz_tm
  split
  · exact lz_mulr w1 w2 (lz_hi_le N i)
  · exact lz_mulr w1 w2 (lz_lo_le Y i)
theorem lz_sm_b {co : Nat → Int32} {c : Nat} (Y N : Nat → Bool) (w : ∀ i, i < 4 → -5 ≤ (co (c * 4 + i)).toInt ∧ (co (c * 4 + i)).toInt ≤ 5) : ∀ i, i ≤ 4 → -60 ≤ lz_sm co Y N c i ∧ lz_sm co Y N c i ≤ 60 := by
  have t0 := lz_tm_b Y N (w 0 (by omega)).1 (w 0 (by omega)).2
  have t1 := lz_tm_b Y N (w 1 (by omega)).1 (w 1 (by omega)).2
  have t2 := lz_tm_b Y N (w 2 (by omega)).1 (w 2 (by omega)).2
  have t3 := lz_tm_b Y N (w 3 (by omega)).1 (w 3 (by omega)).2
  intro i hi
  have k : i = 0 ∨ i = 1 ∨ i = 2 ∨ i = 3 ∨ i = 4 := by omega
  rcases k with e | e | e | e | e <;> subst e <;> simp only [lz_sm] <;> omega
theorem lz_tm_s {co : Nat → Int32} {c i m : Nat} {Y N : Nat → Bool} (hi : i < 4) (h1 : 0 < (co (c * 4 + i)).toInt → ∀ b, lz_bt (lz_la Y i) b = true → lz_at m b = true) (h2 : (co (c * 4 + i)).toInt < 0 → ∀ b, lz_bt (lz_ha N i) b = true → lz_at m b = false) :
    lz_tm co Y N c i ≤ (co (c * 4 + i)).toInt * (lz_dg m i : Int) := by
  unfold lz_tm
  split
  · rename_i h
    rcases Int.lt_or_eq_of_le h with z | z
    · exact Int.mul_le_mul_of_nonpos_left (by omega) (Int.ofNat_le.mpr (lz_ha_s hi (h2 z)))
    · rw [z]
      omega
  · rename_i h
    exact Int.mul_le_mul_of_nonneg_left (Int.ofNat_le.mpr (lz_la_s hi (h1 (by omega)))) (by omega)
theorem lz_tm_m {co : Nat → Int32} {c i : Nat} {Y N Y' N' : Nat → Bool} (hY : ∀ b, Y b = true → Y' b = true) (hN : ∀ b, N b = true → N' b = true) : lz_tm co Y N c i ≤ lz_tm co Y' N' c i := by
  unfold lz_tm
  split
  · exact Int.mul_le_mul_of_nonpos_left (by omega) (Int.ofNat_le.mpr (lz_hi_mono hN i))
  · exact Int.mul_le_mul_of_nonneg_left (Int.ofNat_le.mpr (lz_lo_mono hY i)) (by omega)
/-! squeeze -/
theorem lz_squeeze_45w {post : St1 → Prop} {J3 : Int32 → St1 → Prop} {u s : St1} (hJ : lz_J u) (hc : lz_cl u = 0) (hs : lz_St u s True) {i w : Nat} (hi : i < 4) (hw : w < 3) {a room RY RN : Int32} (ha1 : -5 ≤ a.toInt) (ha2 : a.toInt ≤ 5)
    (hy : ∀ b, lz_bt RY b = true → lz_bt (lz_yes u) b = true) (hn : ∀ b, lz_bt RN b = true → lz_bt (lz_no u) b = true)
    (hv : ∀ m, lz_sol u m → (∀ b, lz_bt RY b = true → lz_at m b = true) → (∀ b, lz_bt RN b = true → lz_at m b = false) → a.toInt * (lz_dg m i : Int) ≤ room.toInt)
    (hk : ∀ t, lz_St u t True → J3 (nI (w + 1 + 1)) t) : lz_squeeze_45 post J3 (nI i) a room RY RN (nI (w + 1)) s := by
  apply lz_v_squeeze_45
  refine br_c (fun _ => nm_r (nI_1 (w + 1)) (hk s hs)) (fun h0 => br_c (fun _ => nm_r (nI_1 (w + 1)) (hk s hs)) (fun h1 => br_c (fun hcs => ?_) (fun _ => nm_r (nI_1 (w + 1)) (hk s hs))))
  have bw := lz_mulr ha1 ha2 (show w ≤ 3 by omega)
  rw [nI_pred, Int32.le_iff_toInt_le, lz_imul rfl (lz_nT (show w < 1000000 by omega)) (by omega) (by omega)] at h1
  rw [Int32.le_iff_toInt_le, lz_z32] at h0
  refine lz_imply (lz_St_J hs hJ) hcs (a := i * 3 + w) (by omega) true (by rw [lz_at1 i (w + 1) (by omega)]; rfl) rfl (fun b hb => lz_St_y hs b (hy b hb)) (fun b hb => lz_St_n hs b (hn b hb)) (fun m hm s1 s2 => ?_)
    (fun t ht => nm_r (nI_1 (w + 1)) (hk t (lz_St_tr (D := fun z => lz_val z (i * 3 + w) true) hs hcs ht (fun _ _ => trivial))))
  have q := hv m (lz_sol_fs (lz_St_fs hs).symm hm) s1 s2
  refine (lz_atv (m := m) (j := i) (v := w + 1) (by omega) (by omega)).mpr ?_
  rcases Nat.lt_or_ge w (lz_dg m i) with z | z
  · exact z
  · have := Int.mul_le_mul_of_nonpos_left (a := a.toInt) (by omega) (Int.ofNat_le.mpr z)
    omega
theorem lz_squeeze {post : St1 → Prop} {u : St1} (hJ : lz_J u) (hc : lz_cl u = 0) {i : Nat} (hi : i < 4) {a room RY RN : Int32} (ha1 : -5 ≤ a.toInt) (ha2 : a.toInt ≤ 5)
    (hy : ∀ b, lz_bt RY b = true → lz_bt (lz_yes u) b = true) (hn : ∀ b, lz_bt RN b = true → lz_bt (lz_no u) b = true)
    (hv : ∀ m, lz_sol u m → (∀ b, lz_bt RY b = true → lz_at m b = true) → (∀ b, lz_bt RN b = true → lz_at m b = false) → a.toInt * (lz_dg m i : Int) ≤ room.toInt)
    (hp : ∀ s, lz_St u s True → post s) : wpX_squeeze post u (nI i) a room RY RN := by
  apply lz_v_squeeze
  refine pk_loop (fun n w t => lz_squeeze_3 post (nI i) a room RY RN n (nI (w + 1)) t) (fun _ t => lz_St u t True) 3 0 u (by omega) (lz_St_0 trivial) ?_ ?_
  · intro n t ht
    exact lz_v_squeeze_3 (pk_lt 3 (3 + 1) (fun _ => hp t ht) (fun z => absurd z (by omega)))
  · intro n w t hw ht hk
    refine lz_v_squeeze_3 (pk_lt 3 (w + 1) (fun z => absurd z (by omega)) (fun _ => ?_))
    have k45 : ∀ t', lz_St u t' True → lz_squeeze_45 post (lz_squeeze_3 post (nI i) a room RY RN n) (nI i) a room RY RN (nI (w + 1)) t' := fun t' ht' => lz_squeeze_45w hJ hc ht' hi hw ha1 ha2 hy hn hv hk
    refine br_c (fun _ => k45 t ht) (fun h0 => br_c (fun _ => k45 t ht) (fun h1 => br_c (fun hct => ?_) (fun _ => k45 t ht)))
    have bw := lz_mulr ha1 ha2 (show w + 1 ≤ 3 by omega)
    rw [Int32.le_iff_toInt_le, lz_imul rfl (lz_nT (show w + 1 < 1000000 by omega)) (by omega) (by omega)] at h1
    rw [Int32.le_iff_toInt_le, lz_z32] at h0
    refine lz_imply (lz_St_J ht hJ) hct (a := i * 3 + w) (by omega) false (by rw [lz_at1 i (w + 1) (by omega)]; rfl) rfl (fun b hb => lz_St_y ht b (hy b hb)) (fun b hb => lz_St_n ht b (hn b hb)) (fun m hm s1 s2 => ?_)
      (fun t' ht' => k45 t' (lz_St_tr (D := fun z => lz_val z (i * 3 + w) false) ht hct ht' (fun _ _ => trivial)))
    have q := hv m (lz_sol_fs (lz_St_fs ht).symm hm) s1 s2
    refine (lz_atf (m := m) (j := i) (v := w + 1) (by omega) (by omega)).mpr ?_
    rcases Nat.lt_or_ge (lz_dg m i) (w + 1) with z | z
    · exact z
    · have := Int.mul_le_mul_of_nonneg_left (c := a.toInt) (Int.ofNat_le.mpr z) (by omega)
      omega
/-! linearWake -/
theorem lz_msk {i : Nat} (hi : i < 4) (x : Int32) (b : Nat) : lz_bt (x &&& (((7 : Int32) <<< ((nI i * 3) &&& 31)) ^^^ (-1))) b = (lz_bt x b && !decide (b / 3 = i)) := by
  rw [lz_nt]
  rcases Nat.lt_or_ge b 32 with h | h
  · rw [show nI i * 3 = nI (i * 3) from pk_mul i 3, lz_shl (i * 3) (by omega) 7 h, lz_7, ← Bool.decide_and]
    rw [show decide (i * 3 ≤ b ∧ b - i * 3 < 3) = decide (b / 3 = i) from decide_eq_decide.mpr (by omega)]
  · rw [lz_big (x := x) h, Bool.false_and, Bool.false_and]
theorem lz_room {P T : Nat → Int} {B R : Int} {i : Nat} (hi : i < 4) (hl : P 0 + P 1 + P 2 + P 3 ≤ B) (h : ∀ j, j < 4 → j ≠ i → T j ≤ P j) (hr : T i ≤ R) : P i ≤ B - (0 + T 0 + T 1 + T 2 + T 3) + R := by
  have k : i = 0 ∨ i = 1 ∨ i = 2 ∨ i = 3 := by omega
  rcases k with e | e | e | e
  · subst e
    have h1 := h 1 (by omega) (by omega)
    have h2 := h 2 (by omega) (by omega)
    have h3 := h 3 (by omega) (by omega)
    omega
  · subst e
    have h1 := h 0 (by omega) (by omega)
    have h2 := h 2 (by omega) (by omega)
    have h3 := h 3 (by omega) (by omega)
    omega
  · subst e
    have h1 := h 0 (by omega) (by omega)
    have h2 := h 1 (by omega) (by omega)
    have h3 := h 3 (by omega) (by omega)
    omega
  · subst e
    have h1 := h 0 (by omega) (by omega)
    have h2 := h 1 (by omega) (by omega)
    have h3 := h 2 (by omega) (by omega)
    omega
/-- what the first loop has gathered -/
def lz_LG (u : St1) (c i : Nat) (s : Int32 × Int32 × Int32) : Prop :=
  s.1.toInt = lz_sm (lz_A3 u) (lz_bt (lz_yes u)) (lz_bt (lz_no u)) c i ∧ (∀ b, lz_bt s.2.1 b = true → lz_bt (lz_yes u) b = true) ∧ (∀ b, lz_bt s.2.2 b = true → lz_bt (lz_no u) b = true) ∧
  ∀ j, j < i → (0 < (lz_A3 u (c * 4 + j)).toInt → ∀ b, lz_bt (lz_la (lz_bt (lz_yes u)) j) b = true → lz_bt s.2.1 b = true) ∧ ((lz_A3 u (c * 4 + j)).toInt < 0 → ∀ b, lz_bt (lz_ha (lz_bt (lz_no u)) j) b = true → lz_bt s.2.2 b = true)
theorem lz_linearWake_108w {post : St1 → Prop} {u : St1} (hJ : lz_J u) (hw : lz_wf u) (hc : lz_cl u = 0) {c : Nat} (hc11 : c < 11) {x2 x3 x4 : Int32} (hg : lz_LG u c 4 (x2, x3, x4)) {C : Prop} (hC : C)
    (hcon : ∀ m, lz_sol u m → lz_lin (lz_A3 u) c m ≤ (lz_A4 u c).toInt) (hp : ∀ s, lz_St u s C → post s) : ∃ fu, lz_linearWake_108 post (nI c) x2 x3 x4 fu 0 u := by
  refine pk_loop (fun n i t => lz_linearWake_108 post (nI c) x2 x3 x4 n (nI i) t) (fun _ t => lz_St u t C) 4 0 u (by omega) (lz_St_0 hC) ?_ ?_
  · intro n t ht
    exact lz_v_linearWake_108 (pk_le 4 4 (fun _ => hp t ht) (fun z => absurd z (by omega)))
  · intro n i t hi ht hk
    refine lz_v_linearWake_108 (pk_le 4 i (fun z => absurd z (by omega)) (fun _ => br_c (fun hct => ?_) (fun _ => hp t ht)))
    have fs := lz_St_fs ht
    have hwt := lz_wf_fs fs hw
    obtain ⟨g1, g2, g3, g4⟩ := hg
    obtain ⟨wc, wb, _, _⟩ := (lz_wf_iff u).mp hw c hc11
    have hsb := lz_sm_b (lz_bt (lz_yes u)) (lz_bt (lz_no u)) wc 4 (by omega)
    refine lz_leastTerm hc11 hi hwt (fun r hr => ⟨vp_in_nI hc11 (by omega), nm_e (nm_e ⟨?_, ?_⟩)⟩)
    · rw [lz_c4]
      exact vp_in_nI (by omega) (by omega)
    · rw [lz_c4, nI_clamp (show c * 4 + i < 2 ^ 31 by omega), nI_clamp (show c < 2 ^ 31 by omega)]
      rw [lz_fs_3 fs] at hr ⊢
      rw [lz_fs_4 fs]
      have hrb := lz_tm_b (lz_bt (lz_yes t)) (lz_bt (lz_no t)) (wc i hi).1 (wc i hi).2
      have e1 : (lz_A4 u c - x2).toInt = (lz_A4 u c).toInt - lz_sm (lz_A3 u) (lz_bt (lz_yes u)) (lz_bt (lz_no u)) c 4 := lz_isub rfl g1 (by omega) (by omega)
      have e2 := lz_iadd e1 hr (by omega) (by omega)
      refine lz_squeeze (lz_St_J ht hJ) hct hi (wc i hi).1 (wc i hi).2 (fun b hb => ?_) (fun b hb => ?_) (fun m hm s1 s2 => ?_) (fun t' ht' => nm_r (nI_1 i) (hk t' (lz_St_tr (D := fun _ => True) ht hct ht' (fun z _ => z))))
      · rw [lz_msk hi, Bool.and_eq_true] at hb
        exact lz_St_y ht b (g2 b hb.1)
      · rw [lz_msk hi, Bool.and_eq_true] at hb
        exact lz_St_n ht b (g3 b hb.1)
      · rw [e2]
        have hl := hcon m (lz_sol_fs fs.symm hm)
        refine lz_room (P := fun j => (lz_A3 u (c * 4 + j)).toInt * (lz_dg m j : Int)) (T := fun j => lz_tm (lz_A3 u) (lz_bt (lz_yes u)) (lz_bt (lz_no u)) c j) hi hl (fun j hj hji => ?_) ?_
        · refine lz_tm_s hj (fun z b hb => s1 b ?_) (fun z b hb => s2 b ?_)
          · rw [lz_msk hi, (g4 j hj).1 z b hb, lz_la_3 hj hb, decide_eq_false hji]
            rfl
          · rw [lz_msk hi, (g4 j hj).2 z b hb, lz_ha_3 hj hb, decide_eq_false hji]
            rfl
        · exact lz_tm_m (fun b hb => lz_St_y ht b hb) (fun b hb => lz_St_n ht b hb)
def lz_kl (u : St1) (c : Nat) : Prop := lz_sm (lz_A3 u) (lz_bt (lz_yes u)) (lz_bt (lz_no u)) c 4 ≤ (lz_A4 u c).toInt
theorem lz_linearWake {post : St1 → Prop} {u : St1} (hJ : lz_J u) (hw : lz_wf u) (hc : lz_cl u = 0) {c : Nat} (hc11 : c < 11)
    (hcon : ∀ m, lz_sol u m → lz_lin (lz_A3 u) c m ≤ (lz_A4 u c).toInt) (hp : ∀ s, lz_St u s (lz_kl u c) → post s) : wpX_linearWake post u (nI c) := by
  apply lz_v_linearWake
  obtain ⟨wc, wb, _, _⟩ := (lz_wf_iff u).mp hw c hc11
  refine pk_loop (fun n i (s : Int32 × Int32 × Int32) => lz_linearWake_10 post (nI c) n s.1 s.2.1 s.2.2 (nI i) u) (fun i s => lz_LG u c i s) 4 0 (0, 0, 0) (by omega) ?_ ?_ ?_
  · exact ⟨rfl, fun b hb => lz_e0 b _ hb, fun b hb => lz_e0 b _ hb, fun j hj => absurd hj (by omega)⟩
  · intro n s hs
    obtain ⟨x2, x3, x4⟩ := s
    refine lz_v_linearWake_10 (pk_le 4 4 (fun _ => ⟨vp_in_nI hc11 (by omega), ?_⟩) (fun z => absurd z (by omega)))
    rw [nI_clamp (show c < 2 ^ 31 by omega), Int32.le_iff_toInt_le]
    have g1 : x2.toInt = _ := hs.1
    rw [g1]
    refine br_c (fun h => lz_linearWake_108w hJ hw hc hc11 hs h hcon hp) (fun h => lz_clashOn hJ hs.2.1 hs.2.2.1 (fun m hm s1 s2 => h ?_) hp)
    have hl := hcon m hm
    have t : ∀ j, j < 4 → lz_tm (lz_A3 u) (lz_bt (lz_yes u)) (lz_bt (lz_no u)) c j ≤ (lz_A3 u (c * 4 + j)).toInt * (lz_dg m j : Int) := fun j hj =>
      lz_tm_s hj (fun z b hb => s1 b ((hs.2.2.2 j hj).1 z b hb)) (fun z b hb => s2 b ((hs.2.2.2 j hj).2 z b hb))
    have t0 := t 0 (by omega)
    have t1 := t 1 (by omega)
    have t2 := t 2 (by omega)
    have t3 := t 3 (by omega)
    unfold lz_lin at hl
    simp only [lz_sm]
    omega
  · intro n i s hi hs hk
    obtain ⟨x2, x3, x4⟩ := s
    obtain ⟨g1, g2, g3, g4⟩ := hs
    have g1' : x2.toInt = lz_sm (lz_A3 u) (lz_bt (lz_yes u)) (lz_bt (lz_no u)) c i := g1
    have hsb := lz_sm_b (lz_bt (lz_yes u)) (lz_bt (lz_no u)) wc i (by omega)
    have htb := lz_tm_b (lz_bt (lz_yes u)) (lz_bt (lz_no u)) (wc i hi).1 (wc i hi).2
    refine lz_v_linearWake_10 (pk_le 4 i (fun z => absurd z (by omega)) (fun _ => lz_leastTerm hc11 hi hw (fun r hr => nm_e ?_)))
    have e2 := lz_iadd g1' hr (by omega) (by omega)
    rw [lz_c4, nI_clamp (show c * 4 + i < 2 ^ 31 by omega), Int32.le_iff_toInt_le, Int32.le_iff_toInt_le, lz_z32]
    have hin : vp_in (nI (c * 4 + i)) 44 := vp_in_nI (by omega) (by omega)
    refine ⟨hin, br_c (fun h => ⟨hin, br_c (fun h2 => nm_r (nI_1 i) (hk (x2 + r, x3, x4) ⟨e2, g2, g3, fun j hj => ?_⟩)) (fun h2 => lz_highAtom hi (nm_e (nm_r (nI_1 i) (hk (x2 + r, x3, x4 ||| lz_ha (lz_bt (lz_no u)) i) ⟨e2, g2, fun b hb => ?_, fun j hj => ?_⟩))))⟩) (fun h => lz_lowAtom hi (nm_e (nm_r (nI_1 i) (hk (x2 + r, x3 ||| lz_la (lz_bt (lz_yes u)) i, x4) ⟨e2, fun b hb => ?_, g3, fun j hj => ?_⟩))))⟩
    · by_cases e : j = i
      · rw [e]
        exact ⟨fun z => absurd z (by omega), fun z => absurd z (by omega)⟩
      · exact g4 j (by omega)
    · have hb' : lz_bt (x4 ||| lz_ha (lz_bt (lz_no u)) i) b = true := hb
      rw [lz_or, Bool.or_eq_true] at hb'
      rcases hb' with hb' | hb'
      · exact g3 b hb'
      · exact lz_ha_n hi hb'
    · show (0 < (lz_A3 u (c * 4 + j)).toInt → ∀ b, lz_bt (lz_la (lz_bt (lz_yes u)) j) b = true → lz_bt x3 b = true) ∧ ((lz_A3 u (c * 4 + j)).toInt < 0 → ∀ b, lz_bt (lz_ha (lz_bt (lz_no u)) j) b = true → lz_bt (x4 ||| lz_ha (lz_bt (lz_no u)) i) b = true)
      by_cases e : j = i
      · rw [e]
        exact ⟨fun z => absurd z (by omega), fun z b hb => by rw [lz_or, hb, Bool.or_true]⟩
      · have q := g4 j (by omega)
        exact ⟨q.1, fun z b hb => by
          have q2 : lz_bt x4 b = true := q.2 z b hb
          rw [lz_or, q2, Bool.true_or]⟩
    · have hb' : lz_bt (x3 ||| lz_la (lz_bt (lz_yes u)) i) b = true := hb
      rw [lz_or, Bool.or_eq_true] at hb'
      rcases hb' with hb' | hb'
      · exact g2 b hb'
      · exact lz_la_y hi hb'
    · show (0 < (lz_A3 u (c * 4 + j)).toInt → ∀ b, lz_bt (lz_la (lz_bt (lz_yes u)) j) b = true → lz_bt (x3 ||| lz_la (lz_bt (lz_yes u)) i) b = true) ∧ ((lz_A3 u (c * 4 + j)).toInt < 0 → ∀ b, lz_bt (lz_ha (lz_bt (lz_no u)) j) b = true → lz_bt x4 b = true)
      by_cases e : j = i
      · rw [e]
        exact ⟨fun z b hb => by rw [lz_or, hb, Bool.or_true], fun z => absurd z (by omega)⟩
      · have q := g4 j (by omega)
        exact ⟨fun z b hb => by
          have q2 : lz_bt x3 b = true := q.1 z b hb
          rw [lz_or, q2, Bool.true_or], q.2⟩
end
section
/-! counting -/
def lz_ct (P : Nat → Bool) : Nat → Nat
  | 0 => 0
  | n + 1 => (if P n = true then 1 else 0) + lz_ct P n
theorem lz_ct_s {P : Nat → Bool} {n : Nat} : lz_ct P (n + 1) = (if P n = true then 1 else 0) + lz_ct P n := rfl
theorem lz_ct_0 {P : Nat → Bool} : ∀ n, (∀ j, j < n → P j = false) → lz_ct P n = 0 := by
  intro n
  induction n with
  | zero => intro _; rfl
  | succ n ih =>
    intro h
    rw [lz_ct_s, ih (fun j hj => h j (by omega)), if_neg (by rw [h n (by omega)]; decide)]
theorem lz_ct_eq {P Q : Nat → Bool} : ∀ n, (∀ j, j < n → P j = Q j) → lz_ct P n = lz_ct Q n := by
  intro n
  induction n with
  | zero => intro _; rfl
  | succ n ih =>
    intro h
    rw [lz_ct_s, lz_ct_s, ih (fun j hj => h j (by omega)), h n (by omega)]
theorem lz_ct_split {P Q : Nat → Bool} : ∀ n, (∀ i j, i < n → j < n → P i = true → Q i = true → P j = true → Q j = true → i = j) → lz_ct P n ≤ lz_ct (fun j => P j && !Q j) n + 1 := by
  intro n
  induction n with
  | zero => intro _; exact Nat.zero_le _
  | succ n ih =>
    intro h
    rw [lz_ct_s, lz_ct_s]
    have ih' := ih (fun i j hi hj => h i j (by omega) (by omega))
    cases p : P n with
    | false => simp only [Bool.false_and]; simp; exact ih'
    | true =>
      cases q : Q n with
      | false => simp; omega
      | true =>
        have e : lz_ct P n = lz_ct (fun j => P j && !Q j) n := by
          refine lz_ct_eq n (fun j hj => ?_)
          cases pj : P j with
          | false => rfl
          | true =>
            cases qj : Q j with
            | false => rfl
            | true =>
              have := h j n (by omega) (by omega) pj qj p q
              omega
        simp
        omega
theorem lz_ct_pig {f : Nat → Nat} : ∀ (m : Nat) (P : Nat → Bool) (n : Nat), (∀ i j, i < n → j < n → P i = true → P j = true → f i = f j → i = j) → (∀ j, j < n → P j = true → f j < m) → lz_ct P n ≤ m := by
  intro m
  induction m with
  | zero =>
    intro P n _ h
    rw [lz_ct_0 n (fun j hj => by
      cases p : P j with
      | false => rfl
      | true => exact absurd (h j hj p) (by omega))]
    exact Nat.le_refl _
  | succ m ih =>
    intro P n h1 h2
    have s := lz_ct_split (P := P) (Q := fun j => decide (f j = m)) n (fun i j hi hj p q p' q' => h1 i j hi hj p p' (by rw [of_decide_eq_true q, of_decide_eq_true q']))
    have t := ih (fun j => P j && !decide (f j = m)) n (fun i j hi hj p p' e => by
      rw [Bool.and_eq_true] at p p'
      exact h1 i j hi hj p.1 p'.1 e) (fun j hj p => by
      rw [Bool.and_eq_true, Bool.not_eq_true', decide_eq_false_iff_not] at p
      have := h2 j hj p.1
      omega)
    omega
theorem lz_ct_add {P : Nat → Bool} {i : Nat} (hp : P i = false) : ∀ n, lz_ct (fun j => P j || decide (j = i)) n = lz_ct P n + (if i < n then 1 else 0) := by
  intro n
  induction n with
  | zero => rfl
  | succ n ih =>
    rw [lz_ct_s, lz_ct_s, ih]
    by_cases e : n = i
    · subst e
      rw [hp, if_neg (show ¬ n < n by omega), if_pos (show n < n + 1 by omega)]
      simp
      omega
    · have d : decide (n = i) = false := decide_eq_false e
      have k : (if i < n + 1 then 1 else 0) = (if i < n then 1 else 0) := by
        by_cases z : i < n
        · rw [if_pos z, if_pos (by omega)]
        · rw [if_neg z, if_neg (by omega)]
      rw [k, d, Bool.or_false]
      omega
/-! pushOut -/
theorem lz_pushOut_66w {post : St1 → Prop} {u s : St1} (hJ : lz_J u) (hs : lz_St u s True) {i fr to h : Nat} (hi : i < 4) (hft : fr ≤ to) (hto : to < 4) (hh : h = lz_hi (lz_bt (lz_no u)) i) {RY RN : Int32}
    (hy : ∀ b, lz_bt RY b = true → lz_bt (lz_yes u) b = true) (hn : ∀ b, lz_bt RN b = true → lz_bt (lz_no u) b = true)
    (hv : ∀ m, lz_sol u m → (∀ b, lz_bt RY b = true → lz_at m b = true) → (∀ b, lz_bt RN b = true → lz_at m b = false) → lz_dg m i < fr ∨ to < lz_dg m i)
    (hp : ∀ t, lz_St u t True → post t) : lz_pushOut_66 post (nI i) (nI fr) (nI to) RY RN (nI h) s := by
  have hl := lz_hi_le (lz_bt (lz_no u)) i
  apply lz_v_pushOut_66
  refine br_c (fun hc => pk_lt h fr (fun _ => hp s hs) (fun z1 => pk_lt to h (fun _ => hp s hs) (fun z2 => ?_))) (fun _ => hp s hs)
  have hJs := lz_St_J hs hJ
  have fs := lz_St_fs hs
  refine lz_highAtom hi (nm_e ?_)
  have hm := lz_hi_mono (fun b hb => lz_St_n hs b hb) i
  have rn : ∀ b, lz_bt (RN ||| lz_ha (lz_bt (lz_no s)) i) b = true → lz_bt (lz_no s) b = true := by
    intro b hb
    rw [lz_or, Bool.or_eq_true] at hb
    rcases hb with hb | hb
    · exact lz_St_n hs b (hn b hb)
    · exact lz_ha_n hi hb
  have sem : ∀ m, lz_sol s m → (∀ b, lz_bt RY b = true → lz_at m b = true) → (∀ b, lz_bt (RN ||| lz_ha (lz_bt (lz_no s)) i) b = true → lz_at m b = false) → lz_dg m i < fr := by
    intro m hm' s1 s2
    have q1 := hv m (lz_sol_fs fs.symm hm') s1 (fun b hb => s2 b (by rw [lz_or, hb, Bool.true_or]))
    have q2 := lz_ha_s (N := lz_bt (lz_no s)) (m := m) hi (fun b hb => s2 b (by rw [lz_or, hb, Bool.or_true]))
    omega
  refine pk_eq fr 0 (fun z => ?_) (fun z => ?_)
  · refine lz_clashOn hJs (fun b hb => lz_St_y hs b (hy b hb)) rn (fun m hm' s1 s2 => ?_) (fun t ht => hp t (lz_St_tr (D := fun _ => True) hs hc ht (fun z _ => z)))
    have := sem m hm' s1 s2
    omega
  · refine lz_imply hJs hc (a := i * 3 + fr - 1) (by omega) false (lz_at1 i fr (by omega)) rfl (fun b hb => lz_St_y hs b (hy b hb)) rn (fun m hm' s1 s2 => ?_) (fun t ht => hp t (lz_St_tr (D := fun z => lz_val z (i * 3 + fr - 1) false) hs hc ht (fun z _ => z)))
    exact (lz_atf (by omega) (by omega)).mpr (sem m hm' s1 s2)
theorem lz_pushOut {post : St1 → Prop} {u : St1} (hJ : lz_J u) (hc : lz_cl u = 0) {i fr to : Nat} (hi : i < 4) (hft : fr ≤ to) (hto : to < 4) {RY RN : Int32}
    (hy : ∀ b, lz_bt RY b = true → lz_bt (lz_yes u) b = true) (hn : ∀ b, lz_bt RN b = true → lz_bt (lz_no u) b = true)
    (hv : ∀ m, lz_sol u m → (∀ b, lz_bt RY b = true → lz_at m b = true) → (∀ b, lz_bt RN b = true → lz_at m b = false) → lz_dg m i < fr ∨ to < lz_dg m i)
    (hp : ∀ t, lz_St u t True → post t) : wpX_pushOut post u (nI i) (nI fr) (nI to) RY RN := by
  have l := lz_lo_le (lz_bt (lz_yes u)) i
  refine lz_v_pushOut (lz_low hi (lz_high hi ?_))
  have k : ∀ t, lz_St u t True → lz_pushOut_66 post (nI i) (nI fr) (nI to) RY RN (nI (lz_hi (lz_bt (lz_no u)) i)) t := fun t ht => lz_pushOut_66w hJ ht hi hft hto rfl hy hn hv hp
  refine pk_lt (lz_lo (lz_bt (lz_yes u)) i) fr (fun _ => k u (lz_St_0 trivial)) (fun z1 => pk_lt to (lz_lo (lz_bt (lz_yes u)) i) (fun _ => k u (lz_St_0 trivial)) (fun z2 => lz_lowAtom hi (nm_e ?_)))
  have ry : ∀ b, lz_bt (RY ||| lz_la (lz_bt (lz_yes u)) i) b = true → lz_bt (lz_yes u) b = true := by
    intro b hb
    rw [lz_or, Bool.or_eq_true] at hb
    rcases hb with hb | hb
    · exact hy b hb
    · exact lz_la_y hi hb
  have sem : ∀ m, lz_sol u m → (∀ b, lz_bt (RY ||| lz_la (lz_bt (lz_yes u)) i) b = true → lz_at m b = true) → (∀ b, lz_bt RN b = true → lz_at m b = false) → to < lz_dg m i := by
    intro m hm s1 s2
    have q1 := hv m hm (fun b hb => s1 b (by rw [lz_or, hb, Bool.true_or])) s2
    have q2 := lz_la_s (Y := lz_bt (lz_yes u)) (m := m) hi (fun b hb => s1 b (by rw [lz_or, hb, Bool.or_true]))
    omega
  refine pk_eq to 3 (fun z => ?_) (fun z => ?_)
  · refine lz_clashOn (C := True) hJ ry hn (fun m hm s1 s2 => ?_) k
    have := sem m hm s1 s2
    have := lz_dg_le m i
    omega
  · refine lz_imply hJ hc (a := i * 3 + to) (by omega) true (lz_at0 i to) rfl ry hn (fun m hm s1 s2 => ?_) (fun t ht => k t (lz_St_imp ht (fun _ _ => trivial)))
    exact (lz_atv (m := m) (j := i) (v := to + 1) (by omega) (by omega)).mpr (by have := sem m hm s1 s2; omega)
/-! hall -/
def lz_in (u : St1) (c fr to i : Nat) : Bool := lz_bt (lz_A5 u c) i && (decide (fr ≤ lz_lo (lz_bt (lz_yes u)) i) && decide (lz_hi (lz_bt (lz_no u)) i ≤ to))
def lz_HG (u : St1) (c fr to i : Nat) (s : Int32 × Int32 × Int32 × Int32) : Prop :=
  (∀ b, lz_bt s.1 b = (decide (b < i) && lz_in u c fr to b)) ∧ s.2.1 = nI (lz_ct (lz_in u c fr to) i) ∧ (∀ b, lz_bt s.2.2.1 b = true → lz_bt (lz_yes u) b = true) ∧ (∀ b, lz_bt s.2.2.2 b = true → lz_bt (lz_no u) b = true) ∧
  ∀ j, j < i → lz_in u c fr to j = true → (∀ b, lz_bt (lz_la (lz_bt (lz_yes u)) j) b = true → lz_bt s.2.2.1 b = true) ∧ (∀ b, lz_bt (lz_ha (lz_bt (lz_no u)) j) b = true → lz_bt s.2.2.2 b = true)
theorem lz_ct_le (P : Nat → Bool) : ∀ n, lz_ct P n ≤ n := by
  intro n
  induction n with
  | zero => exact Nat.le_refl _
  | succ n ih =>
    rw [lz_ct_s]
    split <;> omega
/-- the variables inside keep within the stretch, in every solution that the reasons allow -/
theorem lz_HG_s {u : St1} {c fr to : Nat} {x4 x5 x6 x7 : Int32} (hg : lz_HG u c fr to 4 (x4, x5, x6, x7)) {m : Nat} (s1 : ∀ b, lz_bt x6 b = true → lz_at m b = true) (s2 : ∀ b, lz_bt x7 b = true → lz_at m b = false) {j : Nat} (hj : j < 4)
    (h : lz_in u c fr to j = true) : lz_bt (lz_A5 u c) j = true ∧ fr ≤ lz_dg m j ∧ lz_dg m j ≤ to := by
  obtain ⟨g1, g2, g3, g4, g5⟩ := hg
  obtain ⟨q1, q2⟩ := g5 j hj h
  have r1 := lz_la_s (Y := lz_bt (lz_yes u)) (m := m) hj (fun b hb => s1 b (q1 b hb))
  have r2 := lz_ha_s (N := lz_bt (lz_no u)) (m := m) hj (fun b hb => s2 b (q2 b hb))
  unfold lz_in at h
  rw [Bool.and_eq_true, Bool.and_eq_true, decide_eq_true_iff, decide_eq_true_iff] at h
  exact ⟨h.1, by omega, by omega⟩
theorem lz_hall_142w {post : St1 → Prop} {u : St1} (hJ : lz_J u) (hc : lz_cl u = 0) {c fr to : Nat} (hc11 : c < 11) (hft : fr ≤ to) (hto : to < 4) {x4 x5 x6 x7 : Int32} (hg : lz_HG u c fr to 4 (x4, x5, x6, x7)) (hq : lz_ct (lz_in u c fr to) 4 = to - fr + 1) {C : Prop} (hC : C)
    (hcon : ∀ m, lz_sol u m → ∀ i j, i < j → j < 4 → lz_bt (lz_A5 u c) i = true → lz_bt (lz_A5 u c) j = true → lz_dg m i ≠ lz_dg m j) (hp : ∀ s, lz_St u s C → post s) :
    ∃ fu, lz_hall_142 post (nI c) (nI fr) (nI to) x4 x6 x7 fu 0 u := by
  refine pk_loop (fun n i t => lz_hall_142 post (nI c) (nI fr) (nI to) x4 x6 x7 n (nI i) t) (fun _ t => lz_St u t C) 4 0 u (by omega) (lz_St_0 hC) ?_ ?_
  · intro n t ht
    exact lz_v_hall_142 (pk_le 4 4 (fun _ => hp t ht) (fun z => absurd z (by omega)))
  · intro n i t hi ht hk
    refine lz_v_hall_142 (pk_le 4 i (fun z => absurd z (by omega)) (fun _ => br_c (fun hct => ⟨vp_in_nI hc11 (by omega), ?_⟩) (fun _ => hp t ht)))
    have fs := lz_St_fs ht
    rw [nI_clamp (show c < 2 ^ 31 by omega), lz_bit _ (by omega), lz_fs_5 fs]
    refine br_c (fun hb => lz_v_hall_180 (br_f (by decide) ?_)) (fun hb => lz_v_hall_180 (br_t rfl (nm_r (nI_1 i) (hk t ht))))
    rw [lz_nt, hg.1 i, Bool.and_eq_true] at hb
    have hni : lz_in u c fr to i = false := by
      have := hb.2
      rw [decide_eq_true hi, Bool.true_and] at this
      cases z : lz_in u c fr to i with
      | false => rfl
      | true => rw [z] at this; exact absurd this (by decide)
    refine lz_pushOut (lz_St_J ht hJ) hct hi hft hto (fun b hb => lz_St_y ht b (hg.2.2.1 b hb)) (fun b hb => lz_St_n ht b (hg.2.2.2.1 b hb)) (fun m hm s1 s2 => ?_) (fun t' ht' => nm_r (nI_1 i) (hk t' (lz_St_tr (D := fun _ => True) ht hct ht' (fun z _ => z))))
    have hm' := lz_sol_fs fs.symm hm
    apply Classical.byContradiction
    intro hno
    have hall : ∀ j, j < 4 → (lz_in u c fr to j || decide (j = i)) = true → lz_bt (lz_A5 u c) j = true ∧ fr ≤ lz_dg m j ∧ lz_dg m j ≤ to := by
      intro j hj z
      rw [Bool.or_eq_true] at z
      rcases z with z | z
      · exact lz_HG_s hg s1 s2 hj z
      · rw [of_decide_eq_true z]
        exact ⟨hb.1, by omega, by omega⟩
    have key := lz_ct_pig (f := fun j => lz_dg m j - fr) (to - fr + 1) (fun j => lz_in u c fr to j || decide (j = i)) 4 ?_ ?_
    · rw [lz_ct_add hni, if_pos hi, hq] at key
      omega
    · intro a b ha hb' pa pb e
      have qa := hall a ha pa
      have qb := hall b hb' pb
      have e' : lz_dg m a - fr = lz_dg m b - fr := e
      rcases Nat.lt_trichotomy a b with z | z | z
      · exact absurd (show lz_dg m a = lz_dg m b by omega) (hcon m hm' a b z hb' qa.1 qb.1)
      · exact z
      · exact absurd (show lz_dg m b = lz_dg m a by omega) (hcon m hm' b a z ha qb.1 qa.1)
    · intro j hj pj
      have q := hall j hj pj
      show lz_dg m j - fr < to - fr + 1
      omega
def lz_kh (u : St1) (c fr to : Nat) : Prop := lz_ct (lz_in u c fr to) 4 ≤ to - fr + 1
theorem lz_hall {post : St1 → Prop} {u : St1} (hJ : lz_J u) (hc : lz_cl u = 0) {c fr to : Nat} (hc11 : c < 11) (hft : fr ≤ to) (hto : to < 4)
    (hcon : ∀ m, lz_sol u m → ∀ i j, i < j → j < 4 → lz_bt (lz_A5 u c) i = true → lz_bt (lz_A5 u c) j = true → lz_dg m i ≠ lz_dg m j) (hp : ∀ s, lz_St u s (lz_kh u c fr to) → post s) :
    wpX_hall post u (nI c) (nI fr) (nI to) := by
  apply lz_v_hall
  refine pk_loop (fun n i (s : Int32 × Int32 × Int32 × Int32) => lz_hall_15 post (nI c) (nI fr) (nI to) n s.1 s.2.1 s.2.2.1 s.2.2.2 (nI i) u) (fun i s => lz_HG u c fr to i s) 4 0 (0, 0, 0, 0) (by omega) ?_ ?_ ?_
  · refine ⟨fun b => ?_, rfl, fun b hb => lz_e0 b _ hb, fun b hb => lz_e0 b _ hb, fun j hj => absurd hj (by omega)⟩
    rw [decide_eq_false (by omega), Bool.false_and]
    exact lz_b0 b
  · intro n s hs
    obtain ⟨x4, x5, x6, x7⟩ := s
    have e5 : x5 = nI (lz_ct (lz_in u c fr to) 4) := hs.2.1
    have e6 : nI to - nI fr + 1 = nI (to - fr + 1) := by rw [pk_sub hft, nI_1]
    have cl := lz_ct_le (lz_in u c fr to) 4
    refine lz_v_hall_15 (pk_le 4 4 (fun _ => pk_le (lz_ct (lz_in u c fr to) 4) (to - fr + 1) (fun z => ?_) (fun z => ?_) e5 e6) (fun z => absurd z (by omega)))
    · exact pk_eq (lz_ct (lz_in u c fr to) 4) (to - fr + 1) (fun z2 => lz_hall_142w hJ hc hc11 hft hto hs z2 z hcon hp) (fun _ => hp u (lz_St_0 z)) e5 e6
    · refine lz_clashOn hJ hs.2.2.1 hs.2.2.2.1 (fun m hm s1 s2 => ?_) hp
      have key := lz_ct_pig (f := fun j => lz_dg m j - fr) (to - fr + 1) (lz_in u c fr to) 4 ?_ ?_
      · omega
      · intro a b ha hb pa pb e
        have qa := lz_HG_s hs s1 s2 ha pa
        have qb := lz_HG_s hs s1 s2 hb pb
        have e' : lz_dg m a - fr = lz_dg m b - fr := e
        rcases Nat.lt_trichotomy a b with z | z | z
        · exact absurd (show lz_dg m a = lz_dg m b by omega) (hcon m hm a b z hb qa.1 qb.1)
        · exact z
        · exact absurd (show lz_dg m b = lz_dg m a by omega) (hcon m hm b a z ha qb.1 qa.1)
      · intro j hj pj
        have q := lz_HG_s hs s1 s2 hj pj
        show lz_dg m j - fr < to - fr + 1
        omega
  · intro n i s hi hs hk
    obtain ⟨x4, x5, x6, x7⟩ := s
    obtain ⟨g1, g2, g3, g4, g5⟩ := hs
    have e5 : x5 = nI (lz_ct (lz_in u c fr to) i) := g2
    have cl := lz_ct_le (lz_in u c fr to) i
    have ll := lz_lo_le (lz_bt (lz_yes u)) i
    have lh := lz_hi_le (lz_bt (lz_no u)) i
    have skip : lz_in u c fr to i = false → lz_hall_15 post (nI c) (nI fr) (nI to) n x4 x5 x6 x7 (nI (i + 1)) u := by
      intro z
      refine hk (x4, x5, x6, x7) ⟨fun b => ?_, ?_, g3, g4, fun j hj pj => ?_⟩
      · rw [g1 b]
        by_cases e : b = i
        · rw [e, z, Bool.and_false, Bool.and_false]
        · rw [show decide (b < i) = decide (b < i + 1) from decide_eq_decide.mpr (by omega)]
      · show x5 = _
        rw [e5, lz_ct_s, if_neg (by rw [z]; decide), Nat.zero_add]
      · by_cases e : j = i
        · rw [e, z] at pj
          exact absurd pj (by decide)
        · exact g5 j (by omega) pj
    refine lz_v_hall_15 (pk_le 4 i (fun z => absurd z (by omega)) (fun _ => ⟨vp_in_nI hc11 (by omega), ?_⟩))
    rw [nI_clamp (show c < 2 ^ 31 by omega), lz_bit _ (by omega)]
    refine br_c (fun hb => lz_v_hall_41 (br_f (by decide) (lz_low hi ?_))) (fun hb => lz_v_hall_41 (br_t rfl (nm_r (nI_1 i) (skip ?_))))
    · refine pk_lt (lz_lo (lz_bt (lz_yes u)) i) fr (fun z => nm_r (nI_1 i) (skip ?_)) (fun z => lz_high hi (pk_lt to (lz_hi (lz_bt (lz_no u)) i) (fun z2 => nm_r (nI_1 i) (skip ?_)) (fun z2 => ?_)))
      · unfold lz_in
        rw [decide_eq_false (show ¬ fr ≤ lz_lo (lz_bt (lz_yes u)) i by omega), Bool.false_and, Bool.and_false]
      · unfold lz_in
        rw [decide_eq_false (show ¬ lz_hi (lz_bt (lz_no u)) i ≤ to by omega), Bool.and_false, Bool.and_false]
      · have hin : lz_in u c fr to i = true := by
          unfold lz_in
          rw [hb, decide_eq_true z, decide_eq_true z2]
          rfl
        refine nm_e (nm_e (lz_lowAtom hi (nm_e (lz_highAtom hi (nm_e (nm_r (nI_1 i) (hk (x4 ||| ((1 : Int32) <<< (nI i &&& 31)), x5 + 1, x6 ||| lz_la (lz_bt (lz_yes u)) i, x7 ||| lz_ha (lz_bt (lz_no u)) i) ⟨fun b => ?_, ?_, fun b hb => ?_, fun b hb => ?_, fun j hj pj => ⟨fun b hb => ?_, fun b hb => ?_⟩⟩)))))))
        · show lz_bt (x4 ||| ((1 : Int32) <<< (nI i &&& 31))) b = _
          rw [lz_or, lz_b1 (by omega), g1 b]
          by_cases e : b = i
          · rw [e, hin, decide_eq_true rfl, decide_eq_true (show i < i + 1 by omega), Bool.or_true]
            rfl
          · rw [decide_eq_false e, Bool.or_false, show decide (b < i) = decide (b < i + 1) from decide_eq_decide.mpr (by omega)]
        · show x5 + 1 = _
          rw [e5, nI_1, lz_ct_s, if_pos hin, Nat.add_comm]
        · have hb' : lz_bt (x6 ||| lz_la (lz_bt (lz_yes u)) i) b = true := hb
          rw [lz_or, Bool.or_eq_true] at hb'
          rcases hb' with hb' | hb'
          · exact g3 b hb'
          · exact lz_la_y hi hb'
        · have hb' : lz_bt (x7 ||| lz_ha (lz_bt (lz_no u)) i) b = true := hb
          rw [lz_or, Bool.or_eq_true] at hb'
          rcases hb' with hb' | hb'
          · exact g4 b hb'
          · exact lz_ha_n hi hb'
        · show lz_bt (x6 ||| lz_la (lz_bt (lz_yes u)) i) b = true
          by_cases e : j = i
          · rw [e] at hb
            rw [lz_or, hb, Bool.or_true]
          · have q : lz_bt x6 b = true := (g5 j (by omega) pj).1 b hb
            rw [lz_or, q, Bool.true_or]
        · show lz_bt (x7 ||| lz_ha (lz_bt (lz_no u)) i) b = true
          by_cases e : j = i
          · rw [e] at hb
            rw [lz_or, hb, Bool.or_true]
          · have q : lz_bt x7 b = true := (g5 j (by omega) pj).2 b hb
            rw [lz_or, q, Bool.true_or]
    · unfold lz_in
      rw [lz_nf hb, Bool.false_and]
end
section
/-! wake -/
def lz_ck (u : St1) (c : Nat) : Prop := (lz_A2 u c = 0 → lz_kl u c) ∧ (¬ lz_A2 u c = 0 → lz_A2 u c = 1 → ∀ fr to, fr ≤ to → to < 4 → lz_kh u c fr to) ∧
  (¬ lz_A2 u c = 0 → ¬ lz_A2 u c = 1 → lz_A8 u c = 0 → lz_cc u (lz_A6 u c) (lz_A7 u c))
theorem lz_wake_36w {post : St1 → Prop} {J29 : Int32 → St1 → Prop} {u s : St1} (hJ : lz_J u) (hc : lz_cl u = 0) {c fr : Nat} (hc11 : c < 11) (hfr : fr < 4) {C : Prop} (hs : lz_St u s C)
    (hcon : ∀ m, lz_sol u m → ∀ i j, i < j → j < 4 → lz_bt (lz_A5 u c) i = true → lz_bt (lz_A5 u c) j = true → lz_dg m i ≠ lz_dg m j)
    (hk : ∀ t, lz_St u t (C ∧ ∀ to, fr ≤ to → to < 4 → lz_kh u c fr to) → J29 (nI (fr + 1)) t) : ∃ fu, lz_wake_36 post J29 (nI c) (nI fr) fu (nI fr) s := by
  refine pk_loop (fun n to t => lz_wake_36 post J29 (nI c) (nI fr) n (nI to) t) (fun to t => fr ≤ to ∧ lz_St u t (C ∧ ∀ q, fr ≤ q → q < to → lz_kh u c fr q)) 4 fr s (by omega) ?_ ?_ ?_
  · exact ⟨Nat.le_refl _, lz_St_imp hs (fun _ z => ⟨z, fun q q1 q2 => absurd q2 (by omega)⟩)⟩
  · intro n t ht
    exact lz_v_wake_36 (pk_le 4 4 (fun _ => nm_r (nI_1 fr) (hk t ht.2)) (fun z => absurd z (by omega)))
  · intro n to t hto ht hw
    obtain ⟨h1, ht⟩ := ht
    refine lz_v_wake_36 (pk_le 4 to (fun z => absurd z (by omega)) (fun _ => br_c (fun hct => ?_) (fun hct => nm_r (nI_1 to) (hw t ⟨by omega, lz_St_cl ht hc hct⟩))))
    have fs := lz_St_fs ht
    refine lz_hall (lz_St_J ht hJ) hct hc11 h1 hto (fun m hm => by rw [lz_fs_5 fs]; exact hcon m (lz_sol_fs fs.symm hm)) (fun t' ht' => nm_r (nI_1 to) (hw t' ⟨by omega, lz_St_tr (D := fun z => lz_kh z c fr to) ht hct ht' (fun z d => ⟨z.1, fun q q1 q2 => ?_⟩)⟩))
    by_cases e : q = to
    · rw [e]
      exact d
    · exact z.2 q q1 (by omega)
theorem lz_wake {post : St1 → Prop} {u : St1} (hJ : lz_J u) (hw : lz_wf u) (hc : lz_cl u = 0) {c : Nat} (hc11 : c < 11) (hcnt : lz_bt (lz_cnt u) c = true) (hp : ∀ s, lz_St u s (lz_ck u c) → post s) : wpX_wake post u (nI c) := by
  have hcon : ∀ m, lz_sol u m → lz_con (lz_A2 u) (lz_A3 u) (lz_A4 u) (lz_A5 u) (lz_A6 u) (lz_A7 u) (lz_A8 u) c m := fun m hm => ((lz_sol_iff u m).mp hm).2.2 c hc11 hcnt
  have hin : vp_in (nI c) 11 := vp_in_nI hc11 (by omega)
  apply lz_v_wake
  rw [nI_clamp (show c < 2 ^ 31 by omega)]
  refine ⟨hin, br_c (fun k0 => ?_) (fun k0 => ⟨hin, br_c (fun k1 => ?_) (fun k1 => ⟨hin, br_c (fun ka => ⟨hin, hin, ?_⟩) (fun ka => ?_)⟩)⟩)⟩
  · refine lz_linearWake hJ hw hc hc11 (fun m hm => (hcon m hm).1 k0) (fun s hs => hp s (lz_St_imp hs (fun _ z => ⟨fun _ => z, fun n => absurd k0 n, fun n => absurd k0 n⟩)))
  · refine pk_loop (fun n fr t => lz_wake_29 post (nI c) n (nI fr) t) (fun fr t => lz_St u t (∀ f to, f < fr → f ≤ to → to < 4 → lz_kh u c f to)) 4 0 u (by omega) (lz_St_0 (fun f to z => absurd z (by omega))) ?_ ?_
    · intro n t ht
      exact lz_v_wake_29 (pk_le 4 4 (fun _ => hp t (lz_St_imp ht (fun _ z => ⟨fun n => absurd n k0, fun _ _ f to h1 h2 => z f to (by omega) h1 h2, fun _ n => absurd k1 n⟩))) (fun z => absurd z (by omega)))
    · intro n fr t hfr ht hk
      refine lz_v_wake_29 (pk_le 4 fr (fun z => absurd z (by omega)) (fun _ => lz_wake_36w hJ hc hc11 hfr ht (fun m hm => (hcon m hm).2.1 k0 k1) (fun t' ht' => hk t' (lz_St_imp ht' (fun _ z f to h1 h2 h3 => ?_)))))
      by_cases e : f = fr
      · rw [e] at h2 ⊢
        exact z.2 to h2 h3
      · exact z.1 f to (by omega) h2 h3
  · refine lz_clause hJ hc (fun m hm => (hcon m hm).2.2 k0 k1 ka) (fun s hs => hp s (lz_St_imp hs (fun _ z => ⟨fun n => absurd n k0, fun _ n => absurd n k1, fun _ _ _ => z⟩)))
  · exact hp u (lz_St_0 ⟨fun n => absurd n k0, fun _ n => absurd n k1, fun _ _ n => absurd n ka⟩)
/-! propagate -/
def lz_LCq (u : St1) (q : Nat) : Prop := ∀ k, k < q → ∀ m, lz_sol u m → (∃ b, lz_bt (lz_A15 u k) b = true ∧ lz_at m b = true) ∨ (∃ b, lz_bt (lz_A16 u k) b = true ∧ lz_at m b = false)
def lz_LC (u : St1) : Prop := ∃ q, lz_ln u = nI q ∧ q ≤ 128 ∧ lz_LCq u q
theorem lz_LC_fr {u s : St1} (h : lz_fr s = lz_fr u) (hL : lz_LC u) : lz_LC s := by
  obtain ⟨q, h1, h2, h3⟩ := hL
  refine ⟨q, by rw [lz_fr_ln h, h1], h2, fun k hk m hm => ?_⟩
  rw [lz_fr_15 h, lz_fr_16 h]
  exact h3 k hk m (lz_sol_fs (lz_fs_fr h).symm hm)
def lz_ck11 (u : St1) (e : Nat) : Prop := ∀ c, c < e → lz_bt (lz_cnt u) c = true → lz_ck u c
theorem lz_propagate_82w {post : St1 → Prop} {J12 : Int32 → St1 → Prop} {u s : St1} (hJ : lz_J u) (hw : lz_wf u) (hc : lz_cl u = 0) {C : Prop} (hs : lz_St u s C) {r : Nat}
    (hk : ∀ t, lz_St u t (C ∧ lz_ck11 u 11) → J12 (nI (r + 1)) t) : ∃ fu, lz_propagate_82 post J12 (nI r) fu 0 s := by
  refine pk_loop (fun n c t => lz_propagate_82 post J12 (nI r) n (nI c) t) (fun c t => lz_St u t (C ∧ lz_ck11 u c)) 11 0 s (by omega) ?_ ?_ ?_
  · exact lz_St_imp hs (fun _ z => ⟨z, fun c hc => absurd hc (by omega)⟩)
  · intro n t ht
    exact lz_v_propagate_82 (pk_lt 10 11 (fun _ => nm_r (nI_1 r) (hk t ht)) (fun z => absurd z (by omega)))
  · intro n c t hc11 ht hw2
    refine lz_v_propagate_82 (pk_lt 10 c (fun z => absurd z (by omega)) (fun _ => br_c (fun hct => ?_) (fun hct => nm_r (nI_1 r) (hk t (lz_St_cl ht hc hct)))))
    have fs := lz_St_fs ht
    rw [lz_bit _ (by omega)]
    refine br_c (fun hb => ?_) (fun hb => nm_r (nI_1 c) (hw2 t (lz_St_imp ht (fun e z => ⟨z.1, fun q hq hbq => ?_⟩))))
    · refine lz_wake (lz_St_J ht hJ) (lz_wf_fs fs hw) hct hc11 hb (fun t' ht' => nm_r (nI_1 c) (hw2 t' (lz_St_tr (D := fun z => lz_ck z c) ht hct ht' (fun z d => ⟨z.1, fun q hq hbq => ?_⟩))))
      by_cases e : q = c
      · rw [e]
        exact d
      · exact z.2 q (by omega) hbq
    · by_cases e2 : q = c
      · rw [e2, ← e] at hbq
        exact absurd hbq hb
      · exact z.2 q (by omega) hbq
theorem lz_propagate_43w {post : St1 → Prop} {J12 : Int32 → St1 → Prop} {u s : St1} (hJ : lz_J u) (hw : lz_wf u) (hL : lz_LC u) (hc : lz_cl u = 0) {C : Prop} (hs : lz_St u s C) {r : Nat}
    (hk : ∀ t, lz_St u t (C ∧ lz_ck11 u 11) → J12 (nI (r + 1)) t) : ∃ fu, lz_propagate_43 post J12 (nI r) fu 0 s := by
  obtain ⟨q, hq, hq2, hcl⟩ := hL
  refine pk_loop (fun n k t => lz_propagate_43 post J12 (nI r) n (nI k) t) (fun _ t => lz_St u t C) q 0 s (by omega) hs ?_ ?_
  · intro n t ht
    exact lz_v_propagate_43 (pk_le q q (fun _ => lz_propagate_82w hJ hw hc ht hk) (fun z => absurd z (by omega)) (by rw [lz_fr_ln (lz_St_fr ht), hq]))
  · intro n k t hkq ht hw2
    have fr := lz_St_fr ht
    refine lz_v_propagate_43 (pk_le q k (fun z => absurd z (by omega)) (fun _ => br_c (fun hct => ⟨vp_in_nI (by omega) (by omega), vp_in_nI (by omega) (by omega), ?_⟩) (fun hct => lz_propagate_82w hJ hw hc (lz_St_cl ht hc hct) hk)) (by rw [lz_fr_ln fr, hq]))
    rw [nI_clamp (show k < 2 ^ 31 by omega), lz_fr_15 fr, lz_fr_16 fr]
    exact lz_clause (lz_St_J ht hJ) hct (fun m hm => hcl k hkq m (lz_sol_fs (lz_fs_fr fr).symm hm)) (fun t' ht' => nm_r (nI_1 k) (hw2 t' (lz_St_tr (D := fun z => lz_cc z (lz_A15 u k) (lz_A16 u k)) ht hct ht' (fun z _ => z))))
/-- nothing more to draw: every constraint has been looked at -/
def lz_Chk (u : St1) : Prop := lz_ch (lz_bt (lz_yes u)) (lz_bt (lz_no u)) ∧ lz_ck11 u 11
def lz_Rn (u s : St1) : Prop := lz_fr s = lz_fr u ∧ lz_J s ∧ (∀ b, lz_bt (lz_yes u) b = true → lz_bt (lz_yes s) b = true) ∧ (∀ b, lz_bt (lz_no u) b = true → lz_bt (lz_no s) b = true)
def lz_mv0 (u : St1) : St1 :=
  (lz_made u, lz_inf u, lz_yes u, lz_no u, lz_tl u, lz_lv u, lz_dec u, lz_cnt u, lz_ln u, lz_cl u, lz_cy u, lz_cn u, 0, lz_A1 u, lz_A2 u, lz_A3 u, lz_A4 u, lz_A5 u, lz_A6 u, lz_A7 u, lz_A8 u, lz_A9 u, lz_A10 u, lz_A11 u, lz_A12 u, lz_A13 u, lz_A14 u, lz_A15 u, lz_A16 u)
def lz_pst (u : St1) : St1 :=
  (lz_made u, lz_inf u, lz_yes u, lz_no u, lz_tl u, lz_lv u, lz_dec u, lz_cnt u, lz_ln u, 0, lz_cy u, lz_cn u, 1, lz_A1 u, lz_A2 u, lz_A3 u, lz_A4 u, lz_A5 u, lz_A6 u, lz_A7 u, lz_A8 u, lz_A9 u, lz_A10 u, lz_A11 u, lz_A12 u, lz_A13 u, lz_A14 u, lz_A15 u, lz_A16 u)
def lz_PI (u : St1) (p : Nat × St1) : Prop := p.1 ≤ 13 ∧ lz_Rn u p.2 ∧ ((lz_cl p.2 = 1 ∧ lz_Cu p.2) ∨ (lz_cl p.2 = 0 ∧ lz_mv p.2 = 0 ∧ lz_Chk p.2) ∨ (lz_cl p.2 = 0 ∧ lz_mv p.2 = 1 ∧ p.1 ≤ (lz_tl p.2).toNatClampNeg))
theorem lz_propagate {post : St1 → Prop} {u : St1} (hJ : lz_J u) (hw : lz_wf u) (hL : lz_LC u) (hp : ∀ s, lz_Rn u s → ((lz_cl s = 1 ∧ lz_Cu s) ∨ (lz_cl s = 0 ∧ lz_Chk s)) → post s) : wpX_propagate post u := by
  apply lz_v_propagate
  refine loop_m (fun n (p : Nat × St1) => lz_propagate_12 post n (nI p.1) p.2) (lz_PI u) (fun p => 14 - p.1) ?_ (0, lz_pst u) ?_
  · intro n p hI hk
    obtain ⟨r, s⟩ := p
    obtain ⟨hr, hR, hI⟩ := hI
    have hr' : r ≤ 13 := hr
    have hR' : lz_Rn u s := hR
    refine lz_v_propagate_12 (pk_le 16 r (fun z => absurd z (by omega)) (fun _ => ?_))
    rcases hI with ⟨h1, h2⟩ | ⟨h1, h2, h3⟩ | ⟨h1, h2, h3⟩
    · have h1' : lz_cl s = 1 := h1
      refine br_c (fun _ => hp s hR' (Or.inl ⟨h1', h2⟩)) (fun _ => br_f (by rw [h1']; decide) (hp s hR' (Or.inl ⟨h1', h2⟩)))
    · exact br_t h2 (hp s hR' (Or.inr ⟨h1, h3⟩))
    · have h1' : lz_cl s = 0 := h1
      have h2' : lz_mv s = 1 := h2
      have h3' : r ≤ (lz_tl s).toNatClampNeg := h3
      have hJs : lz_J s := hR'.2.1
      have t12 := lz_J_tl hJs
      have fr0 := hR'.1
      refine br_f (by rw [h2']; decide) (br_t h1' ?_)
      have hJ0 : lz_J (lz_mv0 s) := hJs
      have hw0 : lz_wf (lz_mv0 s) := lz_wf_fs (lz_fs_fr fr0) hw
      have hL0 : lz_LC (lz_mv0 s) := lz_LC_fr fr0 hL
      refine lz_chain (u := lz_mv0 s) hJ0 h1' (fun t ht => lz_propagate_43w hJ0 hw0 hL0 h1' ht (fun t' ht' => hk (r + 1, t') ?_ ?_))
      · refine ⟨by show r + 1 ≤ 13; omega, ?_, ?_⟩
        · show lz_Rn u t'
          refine ⟨by rw [lz_St_fr ht']; exact fr0, lz_St_J ht' hJ0, fun b hb => lz_St_y ht' b (hR'.2.2.1 b hb), fun b hb => lz_St_n ht' b (hR'.2.2.2 b hb)⟩
        · rcases ht' with ⟨e, c⟩ | pg
          · rw [e]
            exact Or.inr (Or.inl ⟨h1', rfl, c⟩)
          · rcases pg.2.2.2.2 with z | ⟨z1, z2, z3⟩
            · exact Or.inl z
            · refine Or.inr (Or.inr ⟨z1, z2, ?_⟩)
              have z3' : (lz_tl s).toNatClampNeg < (lz_tl t').toNatClampNeg := z3
              show r + 1 ≤ (lz_tl t').toNatClampNeg
              omega
      · show 14 - (r + 1) < 14 - r
        omega
  · exact ⟨Nat.zero_le _, ⟨rfl, hJ, fun _ hb => hb, fun _ hb => hb⟩, Or.inr (Or.inr ⟨rfl, rfl, Nat.zero_le _⟩)⟩
end
section
/-! decide -/
def lz_dcd (u : St1) (p0 : Int32) : St1 :=
  (lz_made u, lz_inf u, lz_yes u, lz_no u, lz_tl u, lz_lv u + 1, lz_dec u ||| ((1 : Int32) <<< (p0 &&& 31)), lz_cnt u, lz_ln u, lz_cl u, lz_cy u, lz_cn u, lz_mv u, lz_A1 u, lz_A2 u, lz_A3 u, lz_A4 u, lz_A5 u, lz_A6 u, lz_A7 u, lz_A8 u, lz_A9 u, lz_A10 u, lz_A11 u, lz_A12 u, lz_A13 u, lz_A14 u, lz_A15 u, lz_A16 u)
theorem lz_decide {post : St1 → Prop} {u : St1} {x : Int32} {a : Nat} (ha : a < 12) (hb : lz_bt x a = true) (hf : ∀ b, b < a → lz_bt x b = false) (h1 : vp_in (lz_tl u) 12) (hp : post (lz_asg (lz_dcd u (nI a)) (nI a) false 0 0)) : wpX_decide post u x := by
  apply lz_v_decide
  refine pk_loop (σ := Unit) (fun n i _ => lz_decide_2 post x n (nI i) u) (fun _ _ => True) a 0 () (by omega) trivial ?_ ?_
  · intro n _ _
    refine lz_v_decide_2 (pk_le 12 a (fun z => absurd z (by omega)) (fun _ => br_t ((lz_bit x (by omega)).mpr hb) (nm_e (nm_e ?_))))
    exact lz_assign (u := lz_dcd u (nI a)) false h1 (vp_in_nI ha (by omega)) rfl hp
  · intro n i _ hi _ hk
    refine lz_v_decide_2 (pk_le 12 i (fun z => absurd z (by omega)) (fun _ => br_f (fun z => ?_) (nm_r (nI_1 i) (hk () trivial))))
    rw [lz_bit x (by omega), hf i hi] at z
    exact absurd z (by decide)
theorem lz_JB_dec {u : St1} {n k : Nat} {τ ℓ : Nat → Nat} (h : lz_JB u 4 n k τ ℓ) {a : Nat} (ha : a < 12) (hna : ¬ lz_as (lz_bt (lz_yes u)) (lz_bt (lz_no u)) a) (hf : ∀ b, b < a → lz_as (lz_bt (lz_yes u)) (lz_bt (lz_no u)) b) :
    lz_JB (lz_asg (lz_dcd u (nI a)) (nI a) false 0 0) 4 (n + 1) (k + 1) (fun t => if t = n then a else τ t) (fun b => if b = a then k + 1 else ℓ b) := by
  obtain ⟨h1, h2, h3, h4, hP⟩ := h
  have hn12 := lz_T_n' hP.1 ha hna
  have h2' : lz_lv (lz_dcd u (nI a)) = nI (k + 1) := by
    show lz_lv u + 1 = nI (k + 1)
    rw [h2, nI_1]
  refine ⟨?_, h2', lz_asg_9 (u := lz_dcd u (nI a)) h1 hn12 h3 false 0 0, lz_asg_10 (u := lz_dcd u (nI a)) (n := n) (τ := τ) ha h2' h4 false 0 0, ?_⟩
  · show lz_tl u + 1 = nI (n + 1)
    rw [h1, nI_1]
  · have w1 := lz_asg_w (f := lz_A11 u) ha 0
    have w2 := lz_asg_w (f := lz_A12 u) ha 0
    refine lz_P_dec (D' := lz_bt (lz_dec u ||| ((1 : Int32) <<< (nI a &&& 31)))) (WY' := fun c b => lz_bt (upd (lz_A11 u) (nI a).toNatClampNeg 0 c) b) (WN' := fun c b => lz_bt (upd (lz_A12 u) (nI a).toNatClampNeg 0 c) b) hP (lz_asg_X (u := lz_dcd u (nI a)) ha false 0 0) ha hna hf (fun b => ?_) w1.1 w2.1
    rw [lz_or, lz_b1 (by omega)]
/-! levels -/
theorem lz_hl {post : Int32 → Prop} {u : St1} {x : Int32} {ℓ : Nat → Nat} (hℓ : ∀ b, b < 12 → lz_bt x b = true → lz_A10 u b = nI (ℓ b) ∧ ℓ b ≤ 12)
    (hp : ∀ h, (∀ b, b < 12 → lz_bt x b = true → ℓ b ≤ h) → (h = 0 ∨ ∃ b, b < 12 ∧ lz_bt x b = true ∧ ℓ b = h) → post (nI h)) : wpX_highestLevel post u x := by
  apply lz_v_highestLevel
  refine pk_loop (fun n a (h : Nat) => lz_highestLevel_4 post x n (nI h) (nI a) u) (fun a h => h ≤ 12 ∧ (∀ b, b < a → lz_bt x b = true → ℓ b ≤ h) ∧ (h = 0 ∨ ∃ b, b < 12 ∧ lz_bt x b = true ∧ ℓ b = h)) 12 0 0 (by omega) ⟨by omega, fun b hb => absurd hb (by omega), Or.inl rfl⟩ ?_ ?_
  · intro n h hI
    exact lz_v_highestLevel_4 (pk_le 12 12 (fun _ => hp h hI.2.1 hI.2.2) (fun z => absurd z (by omega)))
  · intro n a h ha hI hk
    obtain ⟨i1, i2, i3⟩ := hI
    refine lz_v_highestLevel_4 (pk_le 12 a (fun z => absurd z (by omega)) (fun _ => ?_))
    rw [lz_bit x (by omega), nI_clamp (show a < 2 ^ 31 by omega)]
    have hin : vp_in (nI a) 12 := vp_in_nI ha (by omega)
    refine br_c (fun hb => ⟨hin, ?_⟩) (fun hb => nm_r (nI_1 a) (hk h ⟨i1, fun b hb1 hb2 => ?_, i3⟩))
    · obtain ⟨e, l12⟩ := hℓ a ha hb
      refine pk_le (ℓ a) h (fun z => nm_r (nI_1 a) (hk h ⟨i1, fun b hb1 hb2 => ?_, i3⟩)) (fun z => ⟨hin, nm_r e (nm_r (nI_1 a) (hk (ℓ a) ⟨l12, fun b hb1 hb2 => ?_, Or.inr ⟨a, ha, hb, rfl⟩⟩))⟩) e
      · by_cases c : b = a
        · rw [c]
          exact z
        · exact i2 b (by omega) hb2
      · by_cases c : b = a
        · rw [c]
          exact Nat.le_refl _
        · have := i2 b (by omega) hb2
          omega
    · by_cases c : b = a
      · rw [c] at hb2
        exact absurd hb2 hb
      · exact i2 b (by omega) hb2
def lz_two (x : Int32) (ℓ : Nat → Nat) (top : Nat) : Prop := ∃ b1 b2, b1 ≠ b2 ∧ lz_bt x b1 = true ∧ lz_bt x b2 = true ∧ ℓ b1 = top ∧ ℓ b2 = top
theorem lz_ca {post : Int32 → Prop} {u : St1} {x : Int32} {ℓ : Nat → Nat} {top : Nat} (ht : top ≤ 12) (hℓ : ∀ b, b < 12 → lz_bt x b = true → lz_A10 u b = nI (ℓ b) ∧ ℓ b ≤ 12)
    (hp : ∀ q, q ≤ 12 → (2 ≤ q → lz_two x ℓ top) → post (nI q)) : wpX_countAt post u x (nI top) := by
  apply lz_v_countAt
  refine pk_loop (fun n a (q : Nat) => lz_countAt_5 post x (nI top) n (nI q) (nI a) u) (fun a q => q ≤ a ∧ (1 ≤ q → ∃ b, b < a ∧ lz_bt x b = true ∧ ℓ b = top) ∧ (2 ≤ q → lz_two x ℓ top)) 12 0 0 (by omega) ⟨by omega, fun z => absurd z (by omega), fun z => absurd z (by omega)⟩ ?_ ?_
  · intro n q hI
    exact lz_v_countAt_5 (pk_le 12 12 (fun _ => hp q hI.1 hI.2.2) (fun z => absurd z (by omega)))
  · intro n a q ha hI hk
    obtain ⟨i1, i2, i3⟩ := hI
    have keep : lz_countAt_5 post x (nI top) n (nI q) (nI (a + 1)) u := hk q ⟨by omega, fun z => by
      obtain ⟨b, c1, c2, c3⟩ := i2 z
      exact ⟨b, by omega, c2, c3⟩, i3⟩
    refine lz_v_countAt_5 (pk_le 12 a (fun z => absurd z (by omega)) (fun _ => ?_))
    rw [lz_bit x (by omega), nI_clamp (show a < 2 ^ 31 by omega)]
    refine br_c (fun hb => ⟨vp_in_nI ha (by omega), ?_⟩) (fun hb => nm_r (nI_1 a) keep)
    obtain ⟨e, l12⟩ := hℓ a ha hb
    refine pk_eq (ℓ a) top (fun z => nm_r (nI_1 q) (nm_r (nI_1 a) (hk (q + 1) ⟨by omega, fun _ => ⟨a, by omega, hb, z⟩, fun z2 => ?_⟩))) (fun z => nm_r (nI_1 a) keep) e
    obtain ⟨b, c1, c2, c3⟩ := i2 (by omega)
    exact ⟨b, a, by omega, c2, hb, c3, z⟩
theorem lz_below {post : Int32 → Prop} {u : St1} {x : Int32} {ℓ : Nat → Nat} {top : Nat} (ht : top ≤ 12) (hℓ : ∀ b, b < 12 → lz_bt x b = true → lz_A10 u b = nI (ℓ b) ∧ ℓ b ≤ 12)
    (hp : ∀ r, (∀ b, lz_bt r b = true → lz_bt x b = true) → post r) : wpX_below post u x (nI top) := by
  apply lz_v_below
  refine pk_loop (fun n a (r : Int32) => lz_below_5 post x (nI top) n r (nI a) u) (fun a r => ∀ b, lz_bt r b = true → lz_bt x b = true) 12 0 0 (by omega) (fun b hb => lz_e0 b _ hb) ?_ ?_
  · intro n r hI
    exact lz_v_below_5 (pk_le 12 12 (fun _ => hp r hI) (fun z => absurd z (by omega)))
  · intro n a r ha hI hk
    refine lz_v_below_5 (pk_le 12 a (fun z => absurd z (by omega)) (fun _ => ?_))
    rw [lz_bit x (by omega), nI_clamp (show a < 2 ^ 31 by omega)]
    refine br_c (fun hb => ⟨vp_in_nI ha (by omega), br_c (fun _ => nm_r (nI_1 a) (hk r hI)) (fun _ => nm_e (nm_r (nI_1 a) (hk _ (fun b hb2 => ?_))))⟩) (fun hb => nm_r (nI_1 a) (hk r hI))
    rw [lz_or, Bool.or_eq_true] at hb2
    rcases hb2 with hb2 | hb2
    · exact hI b hb2
    · rw [lz_b1e (by omega) hb2]
      exact hb
/-! resolve -/
def lz_scc (u : St1) (cy cn : Int32) : St1 :=
  (lz_made u, lz_inf u, lz_yes u, lz_no u, lz_tl u, lz_lv u, lz_dec u, lz_cnt u, lz_ln u, lz_cl u, cy, cn, lz_mv u, lz_A1 u, lz_A2 u, lz_A3 u, lz_A4 u, lz_A5 u, lz_A6 u, lz_A7 u, lz_A8 u, lz_A9 u, lz_A10 u, lz_A11 u, lz_A12 u, lz_A13 u, lz_A14 u, lz_A15 u, lz_A16 u)
theorem lz_dm1 (j : Nat) : nI j + (-1) = nI j - 1 := (Int32.sub_eq_add_neg _ _).symm
theorem lz_C_lv {u : St1} {n k : Nat} {τ ℓ : Nat → Nat} (hJ : lz_JB u 4 n k τ ℓ) {cy cn : Int32} (hC : lz_C (lz_Sol u) (lz_bt (lz_yes u)) (lz_bt (lz_no u)) (lz_bt cy) (lz_bt cn)) (b : Nat) (hb : lz_bt (cy ||| cn) b = true) :
    lz_as (lz_bt (lz_yes u)) (lz_bt (lz_no u)) b ∧ lz_A10 u b = nI (ℓ b) ∧ ℓ b ≤ k ∧ k ≤ 12 := by
  obtain ⟨h1, h2, h3, h4, hP⟩ := hJ
  have ha : lz_as (lz_bt (lz_yes u)) (lz_bt (lz_no u)) b := by
    rw [lz_or, Bool.or_eq_true] at hb
    rcases hb with hb | hb
    · exact Or.inl (hC.1 b hb)
    · exact Or.inr (hC.2.1 b hb)
  exact ⟨ha, h4 b ha, lz_T_lv hP.1 ha, lz_TQ_k hP.1 hP.2.1⟩
def lz_RI (u : St1) (n top : Nat) (τ ℓ : Nat → Nat) (j : Nat) (p : Nat × Int32 × Int32) : Prop :=
  j ≤ n ∧ p.1 ≤ 12 ∧ (2 ≤ p.1 → lz_two (p.2.1 ||| p.2.2) ℓ top) ∧ lz_C (lz_Sol u) (lz_bt (lz_yes u)) (lz_bt (lz_no u)) (lz_bt p.2.1) (lz_bt p.2.2) ∧ ∀ b, lz_bt (p.2.1 ||| p.2.2) b = true → ℓ b = top → ∃ s, s < j ∧ τ s = b
theorem lz_resolve {post : St1 → Prop} {u : St1} {n k : Nat} {τ ℓ : Nat → Nat} (hJ : lz_JB u 4 n k τ ℓ) (hC : lz_Cu u) {top : Nat} (ht : top ≤ 12)
    (hp : ∀ cy cn, lz_C (lz_Sol u) (lz_bt (lz_yes u)) (lz_bt (lz_no u)) (lz_bt cy) (lz_bt cn) → post (lz_scc u cy cn)) : wpX_resolve post u (nI top) := by
  have hP := hJ.2.2.2.2
  have n12 := lz_T_n hP.1
  refine lz_v_resolve (lz_ca (ℓ := ℓ) ht (fun b _ hb => ?_) (fun q hq h2 => nm_r (show lz_tl u - 1 = nI n - 1 by rw [hJ.1]) ⟨n + 1, ?_⟩))
  · have := lz_C_lv hJ hC b hb
    exact ⟨this.2.1, by omega⟩
  refine pk_loopD (fun f j (p : Nat × Int32 × Int32) => lz_resolve_22 post (nI top) f (nI p.1) (nI j - 1) (lz_scc u p.2.1 p.2.2)) (fun j p => lz_RI u n top τ ℓ j p) ?_ ?_ n (q, lz_cy u, lz_cn u) ?_
  · intro f p hI
    obtain ⟨q, cy, cn⟩ := p
    exact lz_v_resolve_22 (br_t (by decide) (hp cy cn hI.2.2.2.1))
  · intro f j p hI hk
    obtain ⟨q, cy, cn⟩ := p
    obtain ⟨i1, i2, i3, i4, i5⟩ := hI
    have i1' : j + 1 ≤ n := i1
    have i2' : q ≤ 12 := i2
    have i3' : 2 ≤ q → lz_two (cy ||| cn) ℓ top := i3
    have i4' : lz_C (lz_Sol u) (lz_bt (lz_yes u)) (lz_bt (lz_no u)) (lz_bt cy) (lz_bt cn) := i4
    have i5' : ∀ b, lz_bt (cy ||| cn) b = true → ℓ b = top → ∃ s, s < j + 1 ∧ τ s = b := i5
    have ej : lz_A9 u j = nI (τ j) := hJ.2.2.1 j (by omega)
    have hτ := hP.1.2.1 j (by omega)
    have e10 : lz_A10 u (τ j) = nI (ℓ (τ j)) := hJ.2.2.2.1 _ hτ.2
    have l12 : ℓ (τ j) ≤ 12 := by
      have := lz_T_lv hP.1 hτ.2
      have := lz_TQ_k hP.1 hP.2.1
      omega
    have hinτ : vp_in (nI (τ j)) 12 := vp_in_nI hτ.1 (by omega)
    have keep : (∀ b, lz_bt (cy ||| cn) b = true → ℓ b = top → b ≠ τ j) → lz_resolve_22 post (nI top) f (nI q) (nI j - 1) (lz_scc u cy cn) := by
      intro hne
      refine hk (q, cy, cn) ⟨by omega, i2', i3', i4', fun b hb hl => ?_⟩
      obtain ⟨s, hs, e⟩ := i5' b hb hl
      refine ⟨s, ?_, e⟩
      have : s ≠ j := fun z => hne b hb hl (by rw [← e, z])
      omega
    show lz_resolve_22 post (nI top) (f + 1) (nI q) (nI (j + 1) - 1) (lz_scc u cy cn)
    rw [nI_pred]
    refine lz_v_resolve_22 (br_f (nI_pos (by omega)) (pk_le q 1 (fun _ => hp cy cn i4') (fun z => ⟨vp_in_nI (by omega) (by omega), nm_r (show (lz_A9 (lz_scc u cy cn)) (nI j).toNatClampNeg = nI (τ j) by rw [nI_clamp (by omega)]; exact ej) (nm_e ?_)⟩)))
    rw [lz_and1 _ (by omega), nI_clamp (show τ j < 2 ^ 31 by omega)]
    refine br_c (fun hb => nm_r (lz_dm1 j) (keep (fun b hb2 _ e => ?_))) (fun hb => ⟨hinτ, ?_⟩)
    · rw [e] at hb2
      have hb' : lz_bt (cy ||| cn) (τ j) = false := hb
      rw [hb'] at hb2
      exact absurd hb2 (by decide)
    · have hb' : lz_bt (cy ||| cn) (τ j) = true := lz_ft hb
      refine pk_eq (ℓ (τ j)) top (fun zl => ⟨hinτ, nm_e ⟨hinτ, nm_e ?_⟩⟩) (fun zl => nm_r (lz_dm1 j) (keep (fun b _ hl e => zl (by rw [← e, hl])))) e10
      -- not a decision: another atom of the clash stands before it at this level
      have hnd : lz_bt (lz_dec u) (τ j) = false := by
        cases dq : lz_bt (lz_dec u) (τ j) with
        | false => rfl
        | true =>
          exfalso
          obtain ⟨b1, b2, hne, c1, c2, l1, l2⟩ := i3' (by omega)
          have : ∃ b, b ≠ τ j ∧ lz_bt (cy ||| cn) b = true ∧ ℓ b = top := by
            by_cases z1 : b1 = τ j
            · exact ⟨b2, fun z2 => hne (by rw [z1, z2]), c2, l2⟩
            · exact ⟨b1, z1, c1, l1⟩
          obtain ⟨b, bn, cb, lb⟩ := this
          obtain ⟨s, hs, e⟩ := i5' b cb lb
          have sj : s ≠ j := fun z => bn (by rw [← e, z])
          have := hP.2.1.2.1 j s (by omega) (by omega) dq
          rw [e, lb, zl] at this
          omega
      have hres := lz_C_res (CY' := lz_bt ((cy &&& (((1 : Int32) <<< (nI (τ j) &&& 31)) ^^^ (-1))) ||| lz_A11 u (τ j))) (CN' := lz_bt ((cn &&& (((1 : Int32) <<< (nI (τ j) &&& 31)) ^^^ (-1))) ||| lz_A12 u (τ j))) hP i4' (t := j) (by omega) hnd
        (fun b => by rw [lz_or, lz_nt, lz_b1 (by omega)]) (fun b => by rw [lz_or, lz_nt, lz_b1 (by omega)])
      refine lz_ca (u := lz_scc u _ _) (ℓ := ℓ) ht (fun b _ hb2 => ?_) (fun q' hq' h2' => nm_r (lz_dm1 j) (hk (q', _, _) ⟨by omega, hq', h2', hres, fun b hb2 hl => ?_⟩))
      · have := lz_C_lv hJ hres b hb2
        exact ⟨this.2.1, by omega⟩
      · have hb3 : lz_bt (((cy &&& (((1 : Int32) <<< (nI (τ j) &&& 31)) ^^^ (-1))) ||| lz_A11 u (τ j)) ||| ((cn &&& (((1 : Int32) <<< (nI (τ j) &&& 31)) ^^^ (-1))) ||| lz_A12 u (τ j))) b = true := hb2
        obtain ⟨r1, r2, _⟩ := hP.2.2.1 j (by omega) hnd
        have old : lz_bt (cy ||| cn) b = true → b ≠ τ j → ∃ s, s < j ∧ τ s = b := by
          intro c1 c2
          obtain ⟨s, hs, e⟩ := i5' b c1 hl
          have : s ≠ j := fun z => c2 (by rw [← e, z])
          exact ⟨s, by omega, e⟩
        rw [lz_or, lz_or, lz_or, lz_nt, lz_nt, lz_b1 (by omega), Bool.or_eq_true, Bool.or_eq_true, Bool.or_eq_true, Bool.and_eq_true, Bool.and_eq_true, Bool.not_eq_true', decide_eq_false_iff_not] at hb3
        rcases hb3 with (hb3 | hb3) | (hb3 | hb3)
        · exact old (by rw [lz_or, hb3.1, Bool.true_or]) hb3.2
        · exact (r1 b hb3).2
        · exact old (by rw [lz_or, hb3.1, Bool.or_true]) hb3.2
        · exact (r2 b hb3).2
  · exact ⟨Nat.le_refl _, hq, h2, hC, fun b hb _ => hP.1.2.2.1 b (lz_C_lv hJ hC b hb).1⟩
/-! backTo -/
def lz_bk (u : St1) (y no tl lv d : Int32) : St1 :=
  (lz_made u, lz_inf u, y, no, tl, lv, d, lz_cnt u, lz_ln u, lz_cl u, lz_cy u, lz_cn u, lz_mv u, lz_A1 u, lz_A2 u, lz_A3 u, lz_A4 u, lz_A5 u, lz_A6 u, lz_A7 u, lz_A8 u, lz_A9 u, lz_A10 u, lz_A11 u, lz_A12 u, lz_A13 u, lz_A14 u, lz_A15 u, lz_A16 u)
theorem lz_cut (f : Nat → Nat) (l : Nat) : ∀ n, (∀ s t, s ≤ t → t < n → f s ≤ f t) → ∃ c, c ≤ n ∧ (∀ t, t < c → f t ≤ l) ∧ (∀ t, c ≤ t → t < n → l < f t) := by
  intro n
  induction n with
  | zero => exact fun _ => ⟨0, Nat.le_refl _, fun t ht => absurd ht (by omega), fun t _ ht => absurd ht (by omega)⟩
  | succ n ih =>
    intro h
    obtain ⟨c, h1, h2, h3⟩ := ih (fun s t hst ht => h s t hst (by omega))
    by_cases z : f n ≤ l
    · refine ⟨n + 1, Nat.le_refl _, fun t ht => ?_, fun t h4 h5 => absurd h5 (by omega)⟩
      have := h t n (by omega) (by omega)
      omega
    · refine ⟨c, by omega, h2, fun t h4 h5 => ?_⟩
      by_cases e : t = n
      · rw [e]; omega
      · exact h3 t h4 (by omega)
def lz_less (n m : Nat) (τ : Nat → Nat) (x x' : Int32) : Prop := ∀ b, lz_bt x' b = true ↔ (lz_bt x b = true ∧ ∀ s, m ≤ s → s < n → τ s ≠ b)
theorem lz_less_s {n m : Nat} {τ : Nat → Nat} {x x' : Int32} (h : lz_less n (m + 1) τ x x') (hm : m < n) (ht : τ m < 12) : lz_less n m τ x (x' &&& (((1 : Int32) <<< (nI (τ m) &&& 31)) ^^^ (-1))) := by
  intro b
  rw [lz_nt, lz_b1 (by omega), Bool.and_eq_true, Bool.not_eq_true', decide_eq_false_iff_not, h b]
  constructor
  · intro z
    refine ⟨z.1.1, fun s h1 h2 => ?_⟩
    by_cases e : s = m
    · rw [e]
      exact fun q => z.2 q.symm
    · exact z.1.2 s (by omega) h2
  · intro z
    exact ⟨⟨z.1, fun s h1 h2 => z.2 s (by omega) h2⟩, fun q => z.2 m (Nat.le_refl _) hm q.symm⟩
/-- what is left behind a step back to level l -/
def lz_Bk (u : St1) (ℓ : Nat → Nat) (l : Nat) (y no d : Int32) : Prop :=
  (∀ b, lz_bt y b = true ↔ (lz_bt (lz_yes u) b = true ∧ ℓ b ≤ l)) ∧ (∀ b, lz_bt no b = true ↔ (lz_bt (lz_no u) b = true ∧ ℓ b ≤ l)) ∧ (∀ b, lz_bt d b = true ↔ (lz_bt (lz_dec u) b = true ∧ ℓ b ≤ l))
theorem lz_backTo {post : St1 → Prop} {u : St1} {n k : Nat} {τ ℓ : Nat → Nat} (hJ : lz_JB u 4 n k τ ℓ) {l : Nat} (hl : l ≤ k)
    (hp : ∀ y no d c, lz_JB (lz_bk u y no (nI c) (nI l) d) 4 c l τ ℓ → lz_Bk u ℓ l y no d → post (lz_bk u y no (nI c) (nI l) d)) : wpX_backTo post u (nI l) := by
  have hP := hJ.2.2.2.2
  have n12 := lz_T_n hP.1
  have k12 := lz_TQ_k hP.1 hP.2.1
  obtain ⟨c, c1, c2, c3⟩ := lz_cut (fun t => ℓ (τ t)) l n hP.1.2.2.2.2.1
  have c2' : ∀ t, t < c → ℓ (τ t) ≤ l := c2
  have c3' : ∀ t, c ≤ t → t < n → l < ℓ (τ t) := c3
  have fin : ∀ x x', lz_less n c τ x x' → (∀ b, lz_bt x b = true → lz_as (lz_bt (lz_yes u)) (lz_bt (lz_no u)) b) → ∀ b, lz_bt x' b = true ↔ (lz_bt x b = true ∧ ℓ b ≤ l) := by
    intro x x' h ha b
    rw [h b]
    constructor
    · intro z
      refine ⟨z.1, ?_⟩
      obtain ⟨t, ht, e⟩ := hP.1.2.2.1 b (ha b z.1)
      rcases Nat.lt_or_ge t c with q | q
      · rw [← e]; exact c2' t q
      · exact absurd e (z.2 t q ht)
    · intro z
      refine ⟨z.1, fun s h1 h2 e => ?_⟩
      have := c3' s h1 h2
      rw [e] at this
      omega
  refine lz_v_backTo (nm_r (show lz_tl u - 1 = nI n - 1 by rw [hJ.1]) ⟨n + 1, ?_⟩)
  refine pk_loopD (fun f j (p : Nat × Int32 × Int32 × Int32) => lz_backTo_7 post (nI l) f (nI j - 1) (lz_bk u p.2.1 p.2.2.1 (nI p.1) (lz_lv u) p.2.2.2))
    (fun j p => j ≤ n ∧ p.1 = max c j ∧ lz_less n p.1 τ (lz_yes u) p.2.1 ∧ lz_less n p.1 τ (lz_no u) p.2.2.1 ∧ lz_less n p.1 τ (lz_dec u) p.2.2.2) ?_ ?_ n (n, lz_yes u, lz_no u, lz_dec u) ?_ |> fun z => ?_
  · have e : lz_bk u (lz_yes u) (lz_no u) (nI n) (lz_lv u) (lz_dec u) = u := by
      rw [← hJ.1]
      rfl
    have z' : lz_backTo_7 post (nI l) (n + 1) (nI n - 1) (lz_bk u (lz_yes u) (lz_no u) (nI n) (lz_lv u) (lz_dec u)) := z
    rw [e] at z'
    exact z'
  · intro f p hI
    obtain ⟨m, y, no, d⟩ := p
    obtain ⟨i1, i2, i3, i4, i5⟩ := hI
    have e : m = c := by
      have : m = max c 0 := i2
      omega
    subst e
    have b1 := fin _ _ i3 (fun b hb => Or.inl hb)
    have b2 := fin _ _ i4 (fun b hb => Or.inr hb)
    have b3 := fin _ _ i5 (fun b hb => Or.inr (hP.2.1.1 b hb).1)
    refine lz_v_backTo_7 (br_t (by decide) (hp y no d m ⟨rfl, rfl, fun t ht => hJ.2.2.1 t (by omega), fun b hb => hJ.2.2.2.1 b ?_, ?_⟩ ⟨b1, b2, b3⟩))
    · rcases hb with hb | hb
      · exact Or.inl ((b1 b).mp hb).1
      · exact Or.inr ((b2 b).mp hb).1
    · exact lz_P_back hP hl c1 c2' c3' b1 b2 b3
  · intro f j p hI hk
    obtain ⟨m, y, no, d⟩ := p
    obtain ⟨i1, i2, i3, i4, i5⟩ := hI
    have i1' : j + 1 ≤ n := i1
    have i2' : m = max c (j + 1) := i2
    have ej : lz_A9 u j = nI (τ j) := hJ.2.2.1 j (by omega)
    have hτ := hP.1.2.1 j (by omega)
    have e10 : lz_A10 u (τ j) = nI (ℓ (τ j)) := hJ.2.2.2.1 _ hτ.2
    have lk := lz_T_lv hP.1 hτ.2
    show lz_backTo_7 post (nI l) (f + 1) (nI (j + 1) - 1) (lz_bk u y no (nI m) (lz_lv u) d)
    rw [nI_pred]
    refine lz_v_backTo_7 (br_f (nI_pos (by omega)) ⟨vp_in_nI (by omega) (by omega), nm_r (show (lz_A9 (lz_bk u y no (nI m) (lz_lv u) d)) (nI j).toNatClampNeg = nI (τ j) by rw [nI_clamp (by omega)]; exact ej) ⟨vp_in_nI hτ.1 (by omega), ?_⟩⟩)
    rw [nI_clamp (show τ j < 2 ^ 31 by omega)]
    refine pk_le (ℓ (τ j)) l (fun z => nm_r (lz_dm1 j) (hk (m, y, no, d) ⟨by omega, ?_, i3, i4, i5⟩)) (fun z => nm_e (nm_e (nm_e (nm_r (lz_dm1 j) (hk (j, _, _, _) ⟨by omega, ?_, ?_, ?_, ?_⟩))))) e10
    · show m = max c j
      have : j < c := by
        rcases Nat.lt_or_ge j c with q | q
        · exact q
        · have := c3' j q (by omega)
          omega
      omega
    · show j = max c j
      have : c ≤ j := by
        rcases Nat.lt_or_ge j c with q | q
        · have := c2' j q
          omega
        · exact q
      omega
    all_goals
      have cj : c ≤ j := by
        rcases Nat.lt_or_ge j c with q | q
        · have := c2' j q
          omega
        · exact q
      have em : m = j + 1 := by omega
      subst em
    · exact lz_less_s i3 (by omega) hτ.1
    · exact lz_less_s i4 (by omega) hτ.1
    · exact lz_less_s i5 (by omega) hτ.1
  · refine ⟨Nat.le_refl _, ?_, ?_, ?_, ?_⟩
    · show n = max c n
      omega
    all_goals
      intro b
      exact ⟨fun z => ⟨z, fun s h1 h2 => absurd h2 (Nat.not_lt.mpr h1)⟩, fun z => z.1⟩
end
section
/-! turnLast -/
theorem lz_iffB {x y : Bool} (h : x = true ↔ y = true) : x = y := by
  cases x with
  | true => exact (h.mp rfl).symm
  | false =>
    cases y with
    | false => rfl
    | true => exact (h.mpr rfl)
def lz_rm (u : St1) : Nat := lz_rem (lz_bt (lz_yes u)) (lz_bt (lz_no u)) 12
theorem lz_turnLast {post : Int32 → St1 → Prop} {u : St1} {n k : Nat} {τ ℓ : Nat → Nat} (hJ : lz_JB u 4 n k τ ℓ) (hC : lz_Cu u) {top : Nat} (h1 : 1 ≤ top) (htk : top ≤ k) (hlv : ∀ b, lz_bt (lz_cy u ||| lz_cn u) b = true → ℓ b ≤ top)
    (hp : ∀ s, lz_fs s = lz_fs u → lz_ln s = lz_ln u → lz_A15 s = lz_A15 u → lz_A16 s = lz_A16 u → lz_J s → lz_rm s < lz_rm u → post 1 s) : wpX_turnLast post u (nI top) := by
  have hP := hJ.2.2.2.2
  have k12 := lz_TQ_k hP.1 hP.2.1
  obtain ⟨d, hd, hdl⟩ := hP.2.1.2.2 top h1 htk
  have qd := hP.2.1.1 d hd
  have d12 := lz_T_12 hP.1 (Or.inr qd.1)
  apply lz_v_turnLast
  refine pk_loop (fun f a (p : Int32 × Int32) => lz_turnLast_7 post (nI top) f p.1 p.2 (nI a) u) (fun a p => (d < a → p.1 = nI d) ∧ (∀ b, lz_bt p.2 b = true ↔ (b < a ∧ lz_bt (lz_dec u) b = true ∧ ℓ b < top))) 12 0 (0, 0) (by omega) ?_ ?_ ?_
  · exact ⟨fun z => absurd z (by omega), fun b => ⟨fun z => lz_e0 b _ z, fun z => absurd z.1 (by omega)⟩⟩
  · intro f p hI
    obtain ⟨x2, x3⟩ := p
    have e2 : x2 = nI d := hI.1 d12
    have e3 : ∀ b, lz_bt x3 b = true ↔ (b < 12 ∧ lz_bt (lz_dec u) b = true ∧ ℓ b < top) := hI.2
    subst e2
    refine lz_v_turnLast_7 (pk_le 12 12 (fun _ => ?_) (fun z => absurd z (by omega)))
    have et : nI top - 1 = nI (top - 1) := pk_sub (b := 1) h1
    rw [et]
    refine lz_backTo hJ (by omega) (fun y no dd c hJ' hB => ?_)
    obtain ⟨b1, b2, b3⟩ := hB
    have hna : ¬ lz_as (lz_bt y) (lz_bt no) d := by
      intro z
      rcases z with z | z
      · have := ((b1 d).mp z).2
        omega
      · have := ((b2 d).mp z).2
        omega
    have hin : vp_in (nI c) 12 := vp_in_nI (lz_T_n' hJ'.2.2.2.2.1 d12 hna) (by omega)
    have hJ2 := lz_JB_asg (RY := 0) (RN := x3) hJ' d12 hna true (fun b hb => lz_e0 b _ hb) (fun b hb => ?_) (fun m hm s1 s2 => ?_)
    · refine lz_assign true hin (vp_in_nI d12 (by omega)) rfl (hp _ rfl rfl rfl rfl ⟨_, _, _, _, hJ2⟩ ?_)
      unfold lz_rm
      refine lz_rem_turn (a := d) (fun b hb => ?_) (lz_T_no hP.1 qd.1) qd.1 ?_ d12 12 (by omega) (by omega)
      · have qb := qd.2.2 b hb
        have lb : ℓ b ≤ top - 1 := by omega
        refine ⟨qb.1, ?_, ?_⟩
        · rw [lz_asg_y _ (by omega), decide_eq_false (show ¬ b = d by omega), Bool.and_false, Bool.or_false]
          exact lz_iffB ⟨fun z => ((b1 b).mp z).1, fun z => (b1 b).mpr ⟨z, lb⟩⟩
        · rw [lz_asg_n _ (by omega), decide_eq_false (show ¬ b = d by omega), Bool.and_false, Bool.or_false]
          exact lz_iffB ⟨fun z => ((b2 b).mp z).1, fun z => (b2 b).mpr ⟨z, lb⟩⟩
      · rw [lz_asg_y _ (by omega), decide_eq_true rfl, Bool.and_true, Bool.or_true]
    · obtain ⟨q1, q2, q3⟩ := (e3 b).mp hb
      exact (b2 b).mpr ⟨(hP.2.1.1 b q2).1, by omega⟩
    · obtain ⟨d', q1, q2, q3⟩ := lz_clash hP hC (top := top) (fun b hb => hlv b (by
        rw [lz_or, Bool.or_eq_true]
        exact hb)) (S := lz_at m) ⟨m, hm, rfl⟩
      have d'12 := lz_T_12 hP.1 (Or.inr (hP.2.1.1 d' q1).1)
      rcases Nat.lt_or_ge (ℓ d') top with z | z
      · have := s2 d' ((e3 d').mpr ⟨d'12, q1, z⟩)
        rw [q3] at this
        exact absurd this (by decide)
      · have e : d' = d := lz_Q_u hP.2.1 q1 hd (by omega)
        rw [← e]
        exact q3
  · intro f a p ha hI hk
    obtain ⟨x2, x3⟩ := p
    have i1 : d < a → x2 = nI d := hI.1
    have i2 : ∀ b, lz_bt x3 b = true ↔ (b < a ∧ lz_bt (lz_dec u) b = true ∧ ℓ b < top) := hI.2
    refine lz_v_turnLast_7 (pk_le 12 a (fun z => absurd z (by omega)) (fun _ => ?_))
    rw [lz_bit _ (by omega), nI_clamp (show a < 2 ^ 31 by omega)]
    have hin : vp_in (nI a) 12 := vp_in_nI ha (by omega)
    refine br_c (fun hb => ⟨hin, ?_⟩) (fun hb => nm_r (nI_1 a) (hk (x2, x3) ⟨fun z => i1 ?_, fun b => ?_⟩))
    · have qa := hP.2.1.1 a hb
      have e10 : lz_A10 u a = nI (ℓ a) := hJ.2.2.2.1 a (Or.inr qa.1)
      have la := lz_T_lv hP.1 (Or.inr qa.1)
      refine pk_eq (ℓ a) top (fun z => nm_r (nI_1 a) (hk (nI a, x3) ⟨fun _ => ?_, fun b => ?_⟩)) (fun z => ⟨hin, pk_le top (ℓ a) (fun z2 => nm_r (nI_1 a) (hk (x2, x3) ⟨fun z3 => i1 ?_, fun b => ?_⟩)) (fun z2 => nm_e (nm_r (nI_1 a) (hk (x2, x3 ||| ((1 : Int32) <<< (nI a &&& 31))) ⟨fun z3 => i1 ?_, fun b => ?_⟩))) rfl e10⟩) e10
      · rw [lz_Q_u hP.2.1 hb hd (by omega)]
      · show lz_bt x3 b = true ↔ _
        rw [i2 b]
        constructor
        · exact fun q => ⟨by omega, q.2⟩
        · intro q
          refine ⟨?_, q.2⟩
          have : b ≠ a := fun e => by
            rw [e] at q
            omega
          omega
      · have : d ≠ a := fun e => z (by rw [← e]; exact hdl)
        omega
      · show lz_bt x3 b = true ↔ _
        rw [i2 b]
        constructor
        · exact fun q => ⟨by omega, q.2⟩
        · intro q
          refine ⟨?_, q.2⟩
          have : b ≠ a := fun e => by
            rw [e] at q
            omega
          omega
      · have : d ≠ a := fun e => z (by rw [← e]; exact hdl)
        omega
      · show lz_bt (x3 ||| ((1 : Int32) <<< (nI a &&& 31))) b = true ↔ _
        rw [lz_or, lz_b1 (by omega), Bool.or_eq_true, decide_eq_true_iff, i2 b]
        constructor
        · intro q
          rcases q with q | q
          · exact ⟨by omega, q.2⟩
          · rw [q]
            exact ⟨by omega, hb, by omega⟩
        · intro q
          by_cases e : b = a
          · exact Or.inr e
          · exact Or.inl ⟨by omega, q.2⟩
    · have : d ≠ a := fun e => hb (by rw [← e]; exact hd)
      omega
    · show lz_bt x3 b = true ↔ _
      rw [i2 b]
      constructor
      · exact fun q => ⟨by omega, q.2⟩
      · intro q
        refine ⟨?_, q.2⟩
        have : b ≠ a := fun e => hb (by rw [← e]; exact q.2.1)
        omega
/-! learn -/
def lz_mu (u : St1) : Nat := if lz_ln u = 128 then lz_rm u else 8191 + (128 - (lz_ln u).toNatClampNeg) * 13 + (12 - (lz_lv u).toNatClampNeg)
theorem lz_rm_le (u : St1) : lz_rm u ≤ 8190 := lz_rem_le _ _ 12
def lz_lrn (u : St1) (cy cn : Int32) : St1 :=
  (lz_made u, lz_inf u, lz_yes u, lz_no u, lz_tl u, lz_lv u, lz_dec u, lz_cnt u, lz_ln u + 1, lz_cl u, cy, cn, lz_mv u, lz_A1 u, lz_A2 u, lz_A3 u, lz_A4 u, lz_A5 u, lz_A6 u, lz_A7 u, lz_A8 u, lz_A9 u, lz_A10 u, lz_A11 u, lz_A12 u, lz_A13 u, lz_A14 u, upd (lz_A15 u) (lz_ln u).toNatClampNeg cn, upd (lz_A16 u) (lz_ln u).toNatClampNeg cy)
theorem lz_lrn_LC {u : St1} {cy cn : Int32} {q : Nat} (hq : lz_ln u = nI q) (hq2 : q < 128) (hL : lz_LCq u q) (hC : lz_C (lz_Sol u) (lz_bt (lz_yes u)) (lz_bt (lz_no u)) (lz_bt cy) (lz_bt cn)) : lz_LCq (lz_lrn u cy cn) (q + 1) := by
  intro k hk m hm
  show (∃ b, lz_bt (upd (lz_A15 u) (lz_ln u).toNatClampNeg cn k) b = true ∧ lz_at m b = true) ∨ (∃ b, lz_bt (upd (lz_A16 u) (lz_ln u).toNatClampNeg cy k) b = true ∧ lz_at m b = false)
  rw [hq, nI_clamp (by omega)]
  by_cases e : k = q
  · subst e
    rw [pk_us, pk_us]
    apply Classical.byContradiction
    intro hn
    refine hC.2.2 (lz_at m) ⟨m, hm, rfl⟩ (fun b hb => ?_) (fun b hb => ?_)
    · cases z : lz_at m b with
      | true => rfl
      | false => exact absurd (Or.inr ⟨b, hb, z⟩) hn
    · cases z : lz_at m b with
      | false => rfl
      | true => exact absurd (Or.inl ⟨b, hb, z⟩) hn
  · rw [pk_un e, pk_un e]
    exact hL k (by omega) m hm
theorem lz_nb1 : narrow .boolean (.int 1) = .int 1 := rfl
theorem lz_nb0 : narrow .boolean (.int 0) = .int 0 := rfl
theorem lz_learn {post : Int32 → St1 → Prop} {u : St1} (hJ : lz_J u) (hL : lz_LC u) (hC : lz_Cu u) (hp0 : (∀ m, ¬ lz_sol u m) → post 0 u) (hp1 : ∀ s, lz_fs s = lz_fs u → lz_J s → lz_LC s → lz_mu s < lz_mu u → post 1 s) : wpX_learn post u := by
  obtain ⟨n, k, τ, ℓ, hJ⟩ := hJ
  have hP := hJ.2.2.2.2
  have k12 := lz_TQ_k hP.1 hP.2.1
  obtain ⟨q, hq, hq2, hLq⟩ := hL
  refine lz_v_learn (lz_hl (ℓ := ℓ) (fun b _ hb => ?_) (fun top hmax hex => ?_))
  · have := lz_C_lv hJ hC b hb
    exact ⟨this.2.1, by omega⟩
  have hlv : ∀ b, lz_bt (lz_cy u ||| lz_cn u) b = true → ℓ b ≤ top := fun b hb => hmax b (lz_T_12 hP.1 (lz_C_lv hJ hC b hb).1) hb
  have htk : top ≤ k := by
    rcases hex with e | ⟨b, _, hb, e⟩
    · omega
    · have := lz_C_lv hJ hC b hb
      omega
  refine pk_eq top 0 (fun z => hp0 (fun m hm => ?_)) (fun z => pk_eq q 128 (fun z2 => ?_) (fun z2 => ?_) hq)
  · refine lz_clash0 hP hC (fun b hb => ?_) (S := lz_at m) ⟨m, hm, rfl⟩
    have := hlv b (by
      rw [lz_or, Bool.or_eq_true]
      exact hb)
    omega
  · refine lz_turnLast hJ hC (by omega) htk hlv (fun s f1 f2 f3 f4 f5 f6 => ⟨lz_nb1, hp1 s f1 f5 ⟨q, by rw [f2, hq], hq2, fun k hk m hm => ?_⟩ ?_⟩)
    · rw [f3, f4]
      exact hLq k hk m (lz_sol_fs f1.symm hm)
    · unfold lz_mu
      have e128 : nI 128 = 128 := rfl
      rw [f2, hq, z2, if_pos e128, if_pos e128]
      exact f6
  · refine lz_resolve hJ hC (by omega) (fun cy cn hC' => ?_)
    have hℓ : ∀ b, b < 12 → lz_bt (cy ||| cn) b = true → lz_A10 u b = nI (ℓ b) ∧ ℓ b ≤ 12 := fun b _ hb => by
      have := lz_C_lv hJ hC' b hb
      exact ⟨this.2.1, by omega⟩
    refine lz_below (u := lz_scc u cy cn) (ℓ := ℓ) (by omega) hℓ (fun r hr => lz_hl (u := lz_scc u cy cn) (ℓ := ℓ) (fun b h1 h2 => hℓ b h1 (hr b h2)) (fun tg _ hex2 => ?_))
    have htg : tg ≤ k := by
      rcases hex2 with e | ⟨b, _, hb, e⟩
      · omega
      · have := lz_C_lv hJ hC' b (hr b hb)
        omega
    have hin : vp_in (lz_ln u) 128 := by
      rw [hq]
      exact vp_in_nI (by omega) (by omega)
    refine ⟨hin, nm_e ⟨hin, nm_e (nm_e ?_)⟩⟩
    have hJ2 : lz_JB (lz_lrn u cy cn) 4 n k τ ℓ := hJ
    refine lz_backTo (u := lz_lrn u cy cn) hJ2 htg (fun y no d c hJ3 _ => ?_)
    have eln : lz_ln (lz_bk (lz_lrn u cy cn) y no (nI c) (nI tg) d) = nI (q + 1) := by
      show lz_ln u + 1 = nI (q + 1)
      rw [hq, nI_1]
    have hLr := lz_lrn_LC hq (by omega) hLq hC'
    have hLC : lz_LC (lz_bk (lz_lrn u cy cn) y no (nI c) (nI tg) d) := ⟨q + 1, eln, by omega, fun k' hk' m hm => hLr k' hk' m hm⟩
    have hfs : lz_fs (lz_bk (lz_lrn u cy cn) y no (nI c) (nI tg) d) = lz_fs u := rfl
    refine hp1 (lz_bk (lz_lrn u cy cn) y no (nI c) (nI tg) d) hfs ⟨_, _, _, _, hJ3⟩ hLC ?_
    · have e1 : lz_mu u = 8191 + (128 - q) * 13 + (12 - k) := by
        unfold lz_mu
        have n128 : ¬ nI q = 128 := fun e => z2 ((nI_eq (b := 128) (by omega) (by omega)).mp e)
        rw [hq, hJ.2.1, if_neg n128, nI_clamp (by omega), nI_clamp (by omega)]
      rw [e1]
      show (if lz_ln u + 1 = 128 then lz_rm (lz_bk (lz_lrn u cy cn) y no (nI c) (nI tg) d) else 8191 + (128 - (lz_ln u + 1).toNatClampNeg) * 13 + (12 - (nI tg).toNatClampNeg)) < _
      rw [hq, nI_1, nI_clamp (show q + 1 < 2 ^ 31 by omega), nI_clamp (show tg < 2 ^ 31 by omega)]
      split
      · have := lz_rm_le (lz_bk (lz_lrn u cy cn) y no (nI c) (nI tg) d)
        omega
      · omega
end
section
/-! begin -/
/-- the bounds asked for are small numbers -/
def lz_bd (u : St1) (lo hi : Nat → Nat) : Prop := ∀ i, i < 4 → lz_A13 u i = nI (lo i) ∧ lo i ≤ 4 ∧ lz_A14 u i = nI (hi i) ∧ hi i ≤ 3
def lz_bg (u : St1) : St1 :=
  (lz_made u, lz_inf u, 0, 0, 0, 0, 0, lz_cnt u, 0, lz_cl u, lz_cy u, lz_cn u, lz_mv u, lz_A1 u, lz_A2 u, lz_A3 u, lz_A4 u, lz_A5 u, lz_A6 u, lz_A7 u, lz_A8 u, lz_A9 u, lz_A10 u, lz_A11 u, lz_A12 u, lz_A13 u, lz_A14 u, lz_A15 u, lz_A16 u)
theorem lz_JB_up {s : St1} {j n : Nat} {τ ℓ : Nat → Nat} (h : lz_JB s j n 0 τ ℓ) (hy : ∀ b, b / 3 = j → lz_A13 s j = nI (b % 3 + 1) → lz_bt (lz_yes s) b = true) (hn : ∀ b, b / 3 = j → lz_A14 s j = nI (b % 3) → lz_bt (lz_no s) b = true) : lz_JB s (j + 1) n 0 τ ℓ := by
  obtain ⟨h1, h2, h3, h4, hT, hQ, hR, hU⟩ := h
  refine ⟨h1, h2, h3, h4, hT, hQ, hR, fun b hb => ?_, fun b hb => ?_⟩
  · obtain ⟨b1, b2⟩ := hb
    by_cases e : b / 3 = j
    · rw [e] at b2
      have y := hy b e b2
      exact ⟨y, by have := lz_T_lv hT (Or.inl y); omega⟩
    · exact hU.1 b ⟨by omega, b2⟩
  · obtain ⟨b1, b2⟩ := hb
    by_cases e : b / 3 = j
    · rw [e] at b2
      have y := hn b e b2
      exact ⟨y, by have := lz_T_lv hT (Or.inr y); omega⟩
    · exact hU.2 b ⟨by omega, b2⟩
/-- the trail at the head of variable j; 'e': an atom of j that may stand there already -/
def lz_BI (u s : St1) (j : Nat) (E : Nat → Prop) : Prop := lz_fs s = lz_fs u ∧ lz_ln s = 0 ∧ (∀ b, lz_as (lz_bt (lz_yes s)) (lz_bt (lz_no s)) b → b / 3 < j ∨ E b) ∧ ∃ n τ ℓ, lz_JB s j n 0 τ ℓ
theorem lz_begin_82w {post : Int32 → St1 → Prop} {J32 : Int32 → St1 → Prop} {u s : St1} {lo hi : Nat → Nat} (hb : lz_bd u lo hi) {i : Nat} (hi4 : i < 4) (hlh : lo i ≤ hi i)
    (hI : lz_BI u s i (fun b => 1 ≤ lo i ∧ b = i * 3 + lo i - 1)) (hy : 1 ≤ lo i → lz_bt (lz_yes s) (i * 3 + lo i - 1) = true)
    (hk : ∀ t, lz_BI u t (i + 1) (fun _ => False) → J32 (nI (i + 1)) t) : lz_begin_82 post J32 (nI i) s := by
  obtain ⟨fs, hln, has, n, τ, ℓ, hJ⟩ := hI
  obtain ⟨e13, l4, e14, h3⟩ := hb i hi4
  have in4 : vp_in (nI i) 4 := vp_in_nI hi4 (by omega)
  have upY : ∀ t : St1, lz_fs t = lz_fs u → (1 ≤ lo i → lz_bt (lz_yes t) (i * 3 + lo i - 1) = true) → ∀ b, b / 3 = i → lz_A13 t i = nI (b % 3 + 1) → lz_bt (lz_yes t) b = true := by
    intro t ft ht b hb1 hb2
    rw [lz_fs_13 ft, e13, nI_eq (by omega) (by omega)] at hb2
    have := ht (by omega)
    rw [show i * 3 + lo i - 1 = b by omega] at this
    exact this
  apply lz_v_begin_82
  rw [nI_clamp (show i < 2 ^ 31 by omega)]
  refine ⟨in4, pk_le 3 (hi i) (fun z => nm_r (nI_1 i) (hk s ⟨fs, hln, fun b hb => ?_, n, τ, ℓ, lz_JB_up hJ (upY s fs hy) (fun b hb1 hb2 => ?_)⟩)) (fun z => ⟨in4, ?_⟩) rfl (by rw [lz_fs_14 fs, e14])⟩
  · rcases has b hb with q | q
    · exact Or.inl (by omega)
    · exact Or.inl (by omega)
  · rw [lz_fs_14 fs, e14, nI_eq (by omega) (by omega)] at hb2
    omega
  · rw [lz_fs_14 fs, e14, lz_at0]
    have hna : ¬ lz_as (lz_bt (lz_yes s)) (lz_bt (lz_no s)) (i * 3 + hi i) := by
      intro q
      rcases has _ q with q | q
      · omega
      · omega
    have hin : vp_in (lz_tl s) 12 := by
      rw [hJ.1]
      exact vp_in_nI (lz_T_n' hJ.2.2.2.2.1 (by omega) hna) (by omega)
    have hJ2 := lz_JB_asg (RY := 0) (RN := 0) (a := i * 3 + hi i) hJ (by omega) hna false (fun b hb => lz_e0 b _ hb) (fun b hb => lz_e0 b _ hb) (fun m hm _ _ => by
      have := ((lz_sol_iff u m).mp (lz_sol_fs fs.symm hm)).2.1 i hi4
      rw [e14, lz_nT (by omega)] at this
      exact (lz_atf (m := m) (j := i) (v := hi i + 1) (by omega) (by omega)).mpr (by omega))
    refine lz_assign false hin (vp_in_nI (by omega) (by omega)) rfl (nm_r (nI_1 i) (hk _ ⟨fs, hln, fun b hb => ?_, _, _, _, lz_JB_up hJ2 (upY _ fs (fun q => ?_)) (fun b hb1 hb2 => ?_)⟩))
    · by_cases e : b = i * 3 + hi i
      · exact Or.inl (by omega)
      · have hb' : lz_as (lz_bt (lz_yes s)) (lz_bt (lz_no s)) b := by
          rcases hb with hb | hb
          · rw [lz_asg_y _ (by omega), decide_eq_false e, Bool.and_false, Bool.or_false] at hb
            exact Or.inl hb
          · rw [lz_asg_n _ (by omega), decide_eq_false e, Bool.and_false, Bool.or_false] at hb
            exact Or.inr hb
        rcases has b hb' with q | q
        · exact Or.inl (by omega)
        · exact Or.inl (by omega)
    · rw [lz_asg_y _ (by omega), hy q, Bool.true_or]
    · have hb3 : lz_A14 s i = nI (b % 3) := hb2
      rw [lz_fs_14 fs, e14, nI_eq (by omega) (by omega)] at hb3
      rw [lz_asg_n _ (by omega), decide_eq_true (show b = i * 3 + hi i by omega)]
      simp
theorem lz_begin {post : Int32 → St1 → Prop} {u : St1} {lo hi : Nat → Nat} (hb : lz_bd u lo hi) (hp0 : (∀ m, ¬ lz_sol u m) → ∀ s, lz_fs s = lz_fs u → post 0 s)
    (hp1 : ∀ s, lz_fs s = lz_fs u → lz_ln s = 0 → lz_J s → lz_lv s = 0 → (∀ i, i < 4 → lo i ≤ hi i) → post 1 s) : wpX_begin post u := by
  apply lz_v_begin
  refine pk_loop (fun f i s => lz_begin_32 post f (nI i) s) (fun i s => lz_BI u s i (fun _ => False) ∧ ∀ j, j < i → lo j ≤ hi j) 4 0 (lz_bg u) (by omega) ?_ ?_ ?_
  · refine ⟨⟨rfl, rfl, fun b hb => ?_, 0, fun _ => 0, fun _ => 0, rfl, rfl, fun t ht => absurd ht (by omega), fun b hb => ?_, ?_⟩, fun j hj => absurd hj (by omega)⟩
    · rcases hb with hb | hb
      · exact lz_e0 b _ hb
      · exact lz_e0 b _ hb
    · rcases hb with hb | hb
      · exact lz_e0 b _ hb
      · exact lz_e0 b _ hb
    · have n0 : ∀ b, ¬ lz_bt 0 b = true := fun b hb => lz_e0 b _ hb
      refine ⟨⟨fun b q => absurd q (n0 b), fun t ht => absurd ht (by omega), fun b q => ?_, fun s t _ ht => absurd ht (by omega), fun s t _ ht => absurd ht (by omega), fun t ht => absurd ht (by omega)⟩, ⟨fun d q => absurd q (n0 d), fun s t _ ht => absurd ht (by omega), fun l h1 h2 => absurd h2 (by omega)⟩, fun t ht => absurd ht (by omega), fun b q => absurd q.1 (by omega), fun b q => absurd q.1 (by omega)⟩
      rcases q with q | q
      · exact absurd q (n0 b)
      · exact absurd q (n0 b)
  · intro f s hI
    obtain ⟨⟨i1, i2, i3, n, τ, ℓ, hJ⟩, i5⟩ := hI
    exact lz_v_begin_32 (pk_le 4 4 (fun _ => hp1 s i1 i2 ⟨n, 0, τ, ℓ, hJ⟩ hJ.2.1 i5) (fun z => absurd z (by omega)))
  · intro f i s hi4 hI hk
    obtain ⟨⟨i1, i2, i3, n, τ, ℓ, hJ⟩, i5⟩ := hI
    obtain ⟨e13, l4, e14, h3⟩ := hb i hi4
    have in4 : vp_in (nI i) 4 := vp_in_nI hi4 (by omega)
    refine lz_v_begin_32 (pk_le 4 i (fun z => absurd z (by omega)) (fun _ => ⟨in4, in4, ?_⟩))
    rw [nI_clamp (show i < 2 ^ 31 by omega), lz_fs_13 i1, lz_fs_14 i1, e13, e14]
    refine pk_le (lo i) (hi i) (fun z => ⟨in4, ?_⟩) (fun z => hp0 (fun m hm => ?_) s i1)
    · have hk' : ∀ t, lz_BI u t (i + 1) (fun _ => False) → lz_begin_32 post f (nI (i + 1)) t := fun t ht => hk t ⟨ht, fun j hj => by
        by_cases e : j = i
        · rw [e]; exact z
        · exact i5 j (by omega)⟩
      refine pk_le (lo i) 0 (fun z0 => ?_) (fun z0 => ⟨in4, ?_⟩)
      · exact lz_begin_82w hb hi4 z ⟨i1, i2, fun b hb => Or.inl (by rcases i3 b hb with q | q; exact q; exact q.elim), n, τ, ℓ, hJ⟩ (fun q => absurd q (by omega)) hk'
      · rw [lz_at1 i (lo i) (by omega)]
        have hna : ¬ lz_as (lz_bt (lz_yes s)) (lz_bt (lz_no s)) (i * 3 + lo i - 1) := by
          intro q
          rcases i3 _ q with q | q
          · omega
          · exact q
        have hin : vp_in (lz_tl s) 12 := by
          rw [hJ.1]
          exact vp_in_nI (lz_T_n' hJ.2.2.2.2.1 (by omega) hna) (by omega)
        have hJ2 := lz_JB_asg (RY := 0) (RN := 0) (a := i * 3 + lo i - 1) hJ (by omega) hna true (fun b hb => lz_e0 b _ hb) (fun b hb => lz_e0 b _ hb) (fun m hm _ _ => by
          have := ((lz_sol_iff u m).mp (lz_sol_fs i1.symm hm)).2.1 i hi4
          rw [e13, lz_nT (by omega)] at this
          exact (lz_atv (m := m) (j := i) (v := lo i) (by omega) (by omega)).mpr (by omega))
        refine lz_assign true hin (vp_in_nI (by omega) (by omega)) rfl (lz_begin_82w hb hi4 z ⟨i1, i2, fun b hb => ?_, _, _, _, hJ2⟩ (fun _ => ?_) hk')
        · by_cases e : b = i * 3 + lo i - 1
          · exact Or.inr ⟨by omega, e⟩
          · have hb' : lz_as (lz_bt (lz_yes s)) (lz_bt (lz_no s)) b := by
              rcases hb with hb | hb
              · rw [lz_asg_y _ (by omega), decide_eq_false e, Bool.and_false, Bool.or_false] at hb
                exact Or.inl hb
              · rw [lz_asg_n _ (by omega), decide_eq_false e, Bool.and_false, Bool.or_false] at hb
                exact Or.inr hb
            rcases i3 b hb' with q | q
            · exact Or.inl q
            · exact q.elim
        · rw [lz_asg_y _ (by omega), decide_eq_true rfl, Bool.and_true, Bool.or_true]
    · have := ((lz_sol_iff u m).mp hm).2.1 i hi4
      rw [e13, e14, lz_nT (by omega), lz_nT (by omega)] at this
      omega
/-! a whole assignment that has passed every check is a solution -/
theorem lz_ct_one {P : Nat → Bool} {i : Nat} (h : P i = true) : ∀ n, i < n → 1 ≤ lz_ct P n := by
  intro n
  induction n with
  | zero => intro z; omega
  | succ n ih =>
    intro z
    rw [lz_ct_s]
    by_cases e : i = n
    · rw [← e, if_pos h]
      omega
    · have := ih (by omega)
      omega
theorem lz_ct_two {P : Nat → Bool} {i j : Nat} (h : P i = true) (h' : P j = true) (hij : i < j) : ∀ n, j < n → 2 ≤ lz_ct P n := by
  intro n
  induction n with
  | zero => intro z; omega
  | succ n ih =>
    intro z
    rw [lz_ct_s]
    by_cases e : j = n
    · have := lz_ct_one h n (by omega)
      rw [← e, if_pos h', e]
      omega
    · have := ih (by omega)
      omega
theorem lz_lohi {Y N : Nat → Bool} (hc : lz_ch Y N) (hd : ∀ a, Y a = true → N a = true → False) (ha : ∀ a, a < 12 → lz_as Y N a) {i : Nat} (hi : i < 4) : lz_hi N i = lz_lo Y i := by
  have t : ∀ a, a < 12 → N a = !Y a := by
    intro a h
    cases y : Y a with
    | true =>
      cases n : N a with
      | false => rfl
      | true => exact (hd a y n).elim
    | false =>
      rcases ha a h with q | q
      · rw [y] at q; exact absurd q (by decide)
      · rw [q]; rfl
  obtain ⟨c1, c2, _, _⟩ := hc i hi
  unfold lz_hi lz_lo
  rw [t (i * 3) (by omega), t (i * 3 + 1) (by omega), t (i * 3 + 2) (by omega)]
  cases y2 : Y (i * 3 + 2) with
  | true =>
    have y1 := c1 y2
    have y0 := c2 y1
    rw [y1, y0]
    rfl
  | false =>
    cases y1 : Y (i * 3 + 1) with
    | true =>
      have y0 := c2 y1
      rw [y0]
      rfl
    | false =>
      cases y0 : Y (i * 3) with
      | true => rfl
      | false => rfl
theorem lz_full {u : St1} {n k : Nat} {τ ℓ lo hi : Nat → Nat} (hJ : lz_JB u 4 n k τ ℓ) (hw : lz_wf u) (hb : lz_bd u lo hi) (hlh : ∀ i, i < 4 → lo i ≤ hi i) (hk : lz_Chk u) (ha : ∀ a, a < 12 → lz_as (lz_bt (lz_yes u)) (lz_bt (lz_no u)) a) :
    lz_sol u (lz_cd (lz_bt (lz_yes u))) ∧ ∀ m, lz_sol u m → lz_cd (lz_bt (lz_yes u)) ≤ m := by
  have hP := hJ.2.2.2.2
  have at_ : ∀ a, a < 12 → lz_at (lz_cd (lz_bt (lz_yes u))) a = lz_bt (lz_yes u) a := fun a h => lz_cd_at hk.1 h
  have dg_ : ∀ i, i < 4 → lz_dg (lz_cd (lz_bt (lz_yes u))) i = lz_lo (lz_bt (lz_yes u)) i := fun i h => lz_cd_dg _ h
  have lh_ : ∀ i, i < 4 → lz_hi (lz_bt (lz_no u)) i = lz_lo (lz_bt (lz_yes u)) i := fun i h => lz_lohi hk.1 hP.1.1 ha h
  refine ⟨(lz_sol_iff u _).mpr ⟨lz_cd_lt _, fun i hi4 => ?_, fun c hc hcnt => ?_⟩, fun m hm => lz_min hP ha (lz_cd_lt _) ((lz_sol_iff u m).mp hm).1 at_ ⟨m, hm, rfl⟩⟩
  · obtain ⟨e13, l4, e14, h3⟩ := hb i hi4
    have l := hlh i hi4
    rw [e13, e14, lz_nT (by omega), lz_nT (by omega)]
    constructor
    · rcases Nat.eq_zero_or_pos (lo i) with z | z
      · omega
      · have y := (hP.2.2.2.1 (i * 3 + lo i - 1) ⟨by omega, by rw [show (i * 3 + lo i - 1) / 3 = i by omega, show (i * 3 + lo i - 1) % 3 + 1 = lo i by omega]; exact e13⟩).1
        rw [← at_ _ (by omega)] at y
        have := (lz_atv (v := lo i) (by omega) (by omega)).mp y
        omega
    · rcases Nat.lt_or_ge (hi i) 3 with z | z
      · have y := (hP.2.2.2.2 (i * 3 + hi i) ⟨by omega, by rw [show (i * 3 + hi i) / 3 = i by omega, show (i * 3 + hi i) % 3 = hi i by omega]; exact e14⟩).1
        have y2 := lz_T_no hP.1 y
        rw [← at_ _ (by omega)] at y2
        have := (lz_atf (j := i) (v := hi i + 1) (by omega) (by omega)).mp y2
        omega
      · have := lz_dg_le (lz_cd (lz_bt (lz_yes u))) i
        omega
  · obtain ⟨k1, k2, k3⟩ := hk.2 c hc hcnt
    obtain ⟨wc, wb, w6, w7⟩ := (lz_wf_iff u).mp hw c hc
    refine ⟨fun q => ?_, fun q q1 i j hij hj mi mj e => ?_, fun q q1 qa => ?_⟩
    · have s := k1 q
      unfold lz_kl at s
      have t : ∀ i, i < 4 → lz_tm (lz_A3 u) (lz_bt (lz_yes u)) (lz_bt (lz_no u)) c i = (lz_A3 u (c * 4 + i)).toInt * (lz_dg (lz_cd (lz_bt (lz_yes u))) i : Int) := by
        intro i hi4
        unfold lz_tm
        rw [lh_ i hi4, dg_ i hi4]
        split <;> rfl
      have t0 := t 0 (by omega)
      have t1 := t 1 (by omega)
      have t2 := t 2 (by omega)
      have t3 := t 3 (by omega)
      simp only [lz_sm] at s
      unfold lz_lin
      omega
    · have s := k2 q q1 (lz_dg (lz_cd (lz_bt (lz_yes u))) i) (lz_dg (lz_cd (lz_bt (lz_yes u))) i) (Nat.le_refl _) (by have := lz_dg_le (lz_cd (lz_bt (lz_yes u))) i; omega)
      unfold lz_kh at s
      have inn : ∀ x, x < 4 → lz_bt (lz_A5 u c) x = true → lz_dg (lz_cd (lz_bt (lz_yes u))) x = lz_dg (lz_cd (lz_bt (lz_yes u))) i → lz_in u c (lz_dg (lz_cd (lz_bt (lz_yes u))) i) (lz_dg (lz_cd (lz_bt (lz_yes u))) i) x = true := by
        intro x hx mx ex
        unfold lz_in
        rw [mx, lh_ x hx, ← dg_ x hx, ex, decide_eq_true (Nat.le_refl _)]
        rfl
      have := lz_ct_two (inn i (by omega) mi rfl) (inn j hj mj e.symm) hij 4 hj
      omega
    · have s := k3 q q1 qa
      apply Classical.byContradiction
      intro hno
      refine s ⟨fun b hb => ?_, fun b hb => ?_⟩
      · have b12 := w6 b hb
        rcases ha b b12 with z | z
        · rw [← at_ b b12] at z
          exact absurd (Or.inl ⟨b, hb, z⟩) hno
        · exact z
      · have b12 := w7 b hb
        rcases ha b b12 with z | z
        · exact z
        · have z2 := lz_T_no hP.1 z
          rw [← at_ b b12] at z2
          exact absurd (Or.inr ⟨b, hb, z2⟩) hno
/-! search -/
theorem lz_mu_Rn {u s : St1} (h : lz_Rn u s) : lz_mu s ≤ lz_mu u := by
  unfold lz_mu
  rw [lz_fr_ln h.1, lz_fr_lv h.1]
  split
  · unfold lz_rm
    exact lz_rem_mono h.2.2.1 h.2.2.2 (fun a y n => lz_J_dis h.2.1 y n) 12
  · exact Nat.le_refl _
theorem lz_mu_dec {u : St1} (hJ : lz_J u) (hL : lz_LC u) {a : Nat} (ha : a < 12) (hna : ¬ lz_as (lz_bt (lz_yes u)) (lz_bt (lz_no u)) a) (hf : ∀ b, b < a → lz_as (lz_bt (lz_yes u)) (lz_bt (lz_no u)) b) :
    lz_J (lz_asg (lz_dcd u (nI a)) (nI a) false 0 0) ∧ lz_mu (lz_asg (lz_dcd u (nI a)) (nI a) false 0 0) < lz_mu u := by
  obtain ⟨n, k, τ, ℓ, hJ⟩ := hJ
  have hJ2 := lz_JB_dec hJ ha hna hf
  have hP2 := hJ2.2.2.2.2
  have k12 := lz_TQ_k hP2.1 hP2.2.1
  obtain ⟨q, hq, hq2, _⟩ := hL
  refine ⟨⟨_, _, _, _, hJ2⟩, ?_⟩
  show (if lz_ln u = 128 then lz_rm (lz_asg (lz_dcd u (nI a)) (nI a) false 0 0) else 8191 + (128 - (lz_ln u).toNatClampNeg) * 13 + (12 - (lz_lv u + 1).toNatClampNeg)) < (if lz_ln u = 128 then lz_rm u else 8191 + (128 - (lz_ln u).toNatClampNeg) * 13 + (12 - (lz_lv u).toNatClampNeg))
  split
  · unfold lz_rm
    refine lz_rem_dec (fun b hb => ?_) (fun b hb => ?_) hP2.1.1 (lz_nf (fun z => hna (Or.inl z))) (lz_nf (fun z => hna (Or.inr z))) ?_ hf ha 12 (by omega) (by omega)
    · rw [lz_asg_y _ (by omega)]
      show (lz_bt (lz_yes u) b || _) = true
      rw [hb, Bool.true_or]
    · rw [lz_asg_n _ (by omega)]
      show (lz_bt (lz_no u) b || _) = true
      rw [hb, Bool.true_or]
    · rw [lz_asg_n _ (by omega), decide_eq_true rfl]
      simp
  · rw [hJ.2.1, nI_1, nI_clamp (show k + 1 < 2 ^ 31 by omega), nI_clamp (show k < 2 ^ 31 by omega)]
    omega
theorem lz_open {u : St1} (h : ¬ (4095 &&& ((lz_yes u ||| lz_no u) ^^^ (-1))) = 0) : ∃ a, a < 12 ∧ lz_bt (4095 &&& ((lz_yes u ||| lz_no u) ^^^ (-1))) a = true ∧ ∀ b, b < a → lz_bt (4095 &&& ((lz_yes u ||| lz_no u) ^^^ (-1))) b = false := by
  obtain ⟨a, ha, hm⟩ := pk_least _ (lz_nz h)
  have h' := ha
  rw [lz_nt, lz_4095, Bool.and_eq_true, decide_eq_true_iff] at h'
  exact ⟨a, h'.1, ha, fun b hb => lz_nf (hm b hb)⟩
theorem lz_open_as (u : St1) {b : Nat} (hb : b < 12) : lz_bt (4095 &&& ((lz_yes u ||| lz_no u) ^^^ (-1))) b = false ↔ lz_as (lz_bt (lz_yes u)) (lz_bt (lz_no u)) b := by
  rw [lz_nt, lz_4095, decide_eq_true hb, Bool.true_and, Bool.not_eq_false', lz_or, Bool.or_eq_true]
  exact Iff.rfl
def lz_SI (u : St1) (lo hi : Nat → Nat) (p : Int32 × Nat × St1) : Prop :=
  p.2.1 ≤ 20000 ∧ lz_fs p.2.2 = lz_fs u ∧ ((p.1 = 0 ∧ ∀ m, ¬ lz_sol u m) ∨ (p.1 = 1 ∧ lz_J p.2.2 ∧ lz_LC p.2.2 ∧ p.2.1 + lz_mu p.2.2 < 20000 ∧ ∀ i, i < 4 → lo i ≤ hi i))
theorem lz_bd_fs {u v : St1} {lo hi : Nat → Nat} (h : lz_fs u = lz_fs v) (w : lz_bd v lo hi) : lz_bd u lo hi := by
  intro i hi4
  rw [lz_fs_13 h, lz_fs_14 h]
  exact w i hi4
theorem lz_search {post : Int32 → St1 → Prop} {u : St1} {lo hi : Nat → Nat} (hw : lz_wf u) (hb : lz_bd u lo hi) (hp0 : (∀ m, ¬ lz_sol u m) → ∀ s, lz_fs s = lz_fs u → post 0 s)
    (hp1 : ∀ s m, lz_fs s = lz_fs u → lz_sol u m → (∀ m', lz_sol u m' → m ≤ m') → m = lz_cd (lz_bt (lz_yes s)) → post 1 s) : wpX_search post u := by
  have loop : ∀ p, lz_SI u lo hi p → ∃ f, lz_search_7 post f p.1 (nI p.2.1) p.2.2 := by
    refine loop_m (fun f (p : Int32 × Nat × St1) => lz_search_7 post f p.1 (nI p.2.1) p.2.2) (lz_SI u lo hi) (fun p => 20001 - p.2.1) ?_
    intro f p hI hk
    obtain ⟨x1, r, s⟩ := p
    obtain ⟨i1, i2, i3⟩ := hI
    have i1' : r ≤ 20000 := i1
    have i2' : lz_fs s = lz_fs u := i2
    rcases i3 with ⟨e, hno⟩ | ⟨e, hJ, hL, hmu, hlh⟩
    · have e' : x1 = 0 := e
      exact lz_v_search_7 (br_c (fun _ => hp0 hno s i2') (fun _ => br_t e' (hp0 hno s i2')))
    · have e' : x1 = 1 := e
      have hJ' : lz_J s := hJ
      have hL' : lz_LC s := hL
      have hmu' : r + lz_mu s < 20000 := hmu
      have x1n : ¬ x1 = 0 := by rw [e']; decide
      refine lz_v_search_7 (pk_le 20000 r (fun z => absurd z (by omega)) (fun _ => br_f x1n ?_))
      have next : ∀ y t, lz_fs t = lz_fs u → ((y = 0 ∧ ∀ m, ¬ lz_sol u m) ∨ (y = 1 ∧ lz_J t ∧ lz_LC t ∧ r + 1 + lz_mu t < 20000 ∧ ∀ i, i < 4 → lo i ≤ hi i)) → lz_search_7 post f y (nI (r + 1)) t := by
        intro y t f1 f2
        refine hk (y, r + 1, t) ⟨by show r + 1 ≤ 20000; omega, f1, f2⟩ ?_
        show 20001 - (r + 1) < 20001 - r
        omega
      refine lz_propagate hJ' (lz_wf_fs i2' hw) hL' (fun t hR hcl => ?_)
      have ft : lz_fs t = lz_fs u := by rw [lz_fs_fr hR.1, i2']
      have mt : lz_mu t ≤ lz_mu s := lz_mu_Rn hR
      have hLt := lz_LC_fr hR.1 hL'
      rcases hcl with ⟨c1, c2⟩ | ⟨c1, c2⟩
      · refine br_f (by rw [c1]; decide) (lz_learn hR.2.1 hLt c2 (fun hno => nm_r (nI_1 r) (next 0 t ft (Or.inl ⟨rfl, fun m hm => hno m (lz_sol_fs ft hm)⟩))) (fun t' f1 f2 f3 f4 => nm_r (nI_1 r) (next 1 t' (by rw [f1, ft]) (Or.inr ⟨rfl, f2, f3, by omega, hlh⟩))))
      · refine br_t c1 (nm_e (br_c (fun z => ?_) (fun z => ?_)))
        · obtain ⟨n, k, τ, ℓ, hJt⟩ := hR.2.1
          obtain ⟨s1, s2⟩ := lz_full hJt (lz_wf_fs ft hw) (lz_bd_fs ft hb) hlh c2 (fun a ha => (lz_open_as t ha).mp (lz_zero.mp z a))
          exact hp1 t _ ft (lz_sol_fs ft.symm s1) (fun m' hm' => s2 m' (lz_sol_fs ft hm')) rfl
        · obtain ⟨a, a1, a2, a3⟩ := lz_open z
          have hna : ¬ lz_as (lz_bt (lz_yes t)) (lz_bt (lz_no t)) a := fun q => by
            rw [(lz_open_as t a1).mpr q] at a2
            exact absurd a2 (by decide)
          have hf : ∀ b, b < a → lz_as (lz_bt (lz_yes t)) (lz_bt (lz_no t)) b := fun b hb2 => (lz_open_as t (by omega)).mp (a3 b hb2)
          obtain ⟨q1, q2⟩ := lz_mu_dec hR.2.1 hLt a1 hna hf
          refine lz_decide a1 a2 a3 (lz_J_in hR.2.1 a1 hna) (nm_r (nI_1 r) (next x1 _ ft (Or.inr ⟨e', q1, ?_, by omega, hlh⟩)))
          exact hLt
  refine lz_v_search (lz_begin hb (fun hno s fs => loop (0, 0, s) ⟨by show 0 ≤ 20000; omega, fs, Or.inl ⟨rfl, hno⟩⟩) (fun s fs hln hJ hlv hlh => loop (1, 0, s) ⟨by show 0 ≤ 20000; omega, fs, Or.inr ⟨rfl, hJ, ⟨0, hln, by omega, fun k hk => absurd hk (by omega)⟩, ?_, hlh⟩⟩))
  show 0 + lz_mu s < 20000
  unfold lz_mu
  rw [hln, hlv]
  have : ¬ (0 : Int32) = 128 := by decide
  rw [if_neg this, show (0 : Int32).toNatClampNeg = 0 from rfl]
  omega
end
section
/-! what a question leaves as it is -/
abbrev lz_OB : Type := Int32 × Int32 × (Nat → Int32) × (Nat → Int32) × (Nat → Int32) × (Nat → Int32) × (Nat → Int32) × (Nat → Int32) × (Nat → Int32) × (Nat → Int32)
def lz_ob (u : St1) : lz_OB := (lz_made u, lz_inf u, lz_A1 u, lz_A2 u, lz_A3 u, lz_A4 u, lz_A5 u, lz_A6 u, lz_A7 u, lz_A8 u)
theorem lz_ob_fs {u v : St1} (h : lz_fs u = lz_fs v) : lz_ob u = lz_ob v :=
  congrArg (fun f : lz_FS => ((f.1, f.2.1, f.2.2.2.1, f.2.2.2.2.1, f.2.2.2.2.2.1, f.2.2.2.2.2.2.1, f.2.2.2.2.2.2.2.1, f.2.2.2.2.2.2.2.2.1, f.2.2.2.2.2.2.2.2.2.1, f.2.2.2.2.2.2.2.2.2.2.1) : lz_OB)) h
theorem lz_ob_made {u v : St1} (h : lz_ob u = lz_ob v) : lz_made u = lz_made v := congrArg (fun z => z.1) h
theorem lz_ob_inf {u v : St1} (h : lz_ob u = lz_ob v) : lz_inf u = lz_inf v := congrArg (fun z => z.2.1) h
theorem lz_ob_3 {u v : St1} (h : lz_ob u = lz_ob v) : lz_A3 u = lz_A3 v := congrArg (fun z => z.2.2.2.2.1) h
theorem lz_ob_4 {u v : St1} (h : lz_ob u = lz_ob v) : lz_A4 u = lz_A4 v := congrArg (fun z => z.2.2.2.2.2.1) h
theorem lz_ob_6 {u v : St1} (h : lz_ob u = lz_ob v) : lz_A6 u = lz_A6 v := congrArg (fun z => z.2.2.2.2.2.2.2.1) h
theorem lz_ob_7 {u v : St1} (h : lz_ob u = lz_ob v) : lz_A7 u = lz_A7 v := congrArg (fun z => z.2.2.2.2.2.2.2.2.1) h
theorem lz_wf_ob {u v : St1} (h : lz_ob u = lz_ob v) (w : lz_wf v) : lz_wf u := by
  refine (lz_wf_iff u).mpr ?_
  rw [lz_ob_3 h, lz_ob_4 h, lz_ob_6 h, lz_ob_7 h]
  exact (lz_wf_iff v).mp w
def lz_csf (f : lz_OB) (c : Int32) (m : Nat) : Prop := m < 256 ∧ ∀ k, k < 11 → lz_bt c k = true → lz_con f.2.2.2.1 f.2.2.2.2.1 f.2.2.2.2.2.1 f.2.2.2.2.2.2.1 f.2.2.2.2.2.2.2.1 f.2.2.2.2.2.2.2.2.1 f.2.2.2.2.2.2.2.2.2 k m
/-- the code m keeps the constraints of the set c -/
def lz_cs (u : St1) (c : Int32) (m : Nat) : Prop := lz_csf (lz_ob u) c m
theorem lz_cs_iff (u : St1) (c : Int32) (m : Nat) : lz_cs u c m ↔ (m < 256 ∧ ∀ k, k < 11 → lz_bt c k = true → lz_con (lz_A2 u) (lz_A3 u) (lz_A4 u) (lz_A5 u) (lz_A6 u) (lz_A7 u) (lz_A8 u) k m) := Iff.rfl
theorem lz_cs_ob {u v : St1} (h : lz_ob u = lz_ob v) (c : Int32) (m : Nat) : lz_cs u c m ↔ lz_cs v c m := by
  unfold lz_cs
  rw [h]
/-! ask, answer, and a search behind them -/
def lz_qs (u : St1) (c : Int32) (a13 a14 : Nat → Int32) : St1 :=
  (lz_made u, lz_inf u, lz_yes u, lz_no u, lz_tl u, lz_lv u, lz_dec u, c, lz_ln u, lz_cl u, lz_cy u, lz_cn u, lz_mv u, lz_A1 u, lz_A2 u, lz_A3 u, lz_A4 u, lz_A5 u, lz_A6 u, lz_A7 u, lz_A8 u, lz_A9 u, lz_A10 u, lz_A11 u, lz_A12 u, a13, a14, lz_A15 u, lz_A16 u)
theorem lz_upd_all {a : Nat → Int32} {i : Nat} {x : Int32} (h : ∀ j, j < i → a j = x) : ∀ j, j < i + 1 → upd a i x j = x := by
  intro j hj
  by_cases e : j = i
  · rw [e, pk_us]
  · rw [pk_un e]
    exact h j (by omega)
theorem lz_ask {post : St1 → Prop} {u : St1} {c : Int32} (hp : ∀ a13 a14, (∀ i, i < 4 → a13 i = 0) → (∀ i, i < 4 → a14 i = 3) → post (lz_qs u c a13 a14)) : wpX_ask post u c := by
  apply lz_v_ask
  refine pk_loop (fun n i (p : (Nat → Int32) × (Nat → Int32)) => lz_ask_7 post n (nI i) (lz_qs u c p.1 p.2)) (fun i p => (∀ j, j < i → p.1 j = 0) ∧ (∀ j, j < i → p.2 j = 3)) 4 0 (lz_A13 u, lz_A14 u) (by omega) ⟨fun j hj => absurd hj (by omega), fun j hj => absurd hj (by omega)⟩ ?_ ?_
  · intro n p hI
    obtain ⟨a13, a14⟩ := p
    exact lz_v_ask_7 (pk_le 4 4 (fun _ => hp a13 a14 hI.1 hI.2) (fun z => absurd z (by omega)))
  · intro n i p hi hI hk
    obtain ⟨a13, a14⟩ := p
    have in4 : vp_in (nI i) 4 := vp_in_nI hi (by omega)
    refine lz_v_ask_7 (pk_le 4 i (fun z => absurd z (by omega)) (fun _ => ⟨in4, ?_⟩))
    rw [nI_clamp (show i < 2 ^ 31 by omega)]
    exact nm_e ⟨in4, nm_e (nm_r (nI_1 i) (hk (upd a13 i 0, upd a14 i 3) ⟨lz_upd_all hI.1, lz_upd_all hI.2⟩))⟩
def lz_cdp (Y : Nat → Bool) : Nat → Nat
  | 0 => 0
  | i + 1 => lz_cdp Y i * 4 + lz_lo Y i
theorem lz_cdp4 (Y : Nat → Bool) : lz_cdp Y 4 = lz_cd Y := by
  simp only [lz_cdp, lz_cd]
  omega
theorem lz_answer {post : Int32 → Prop} {u : St1} (hp : post (nI (lz_cd (lz_bt (lz_yes u))))) : wpX_answer post u := by
  apply lz_v_answer
  refine pk_loop (fun n i (x : Int32) => lz_answer_4 post n x (nI i) u) (fun i x => x = nI (lz_cdp (lz_bt (lz_yes u)) i)) 4 0 0 (by omega) rfl ?_ ?_
  · intro n x hI
    refine lz_v_answer_4 (pk_le 4 4 (fun _ => ?_) (fun z => absurd z (by omega)))
    rw [hI, lz_cdp4]
    exact hp
  · intro n i x hi hI hk
    refine lz_v_answer_4 (pk_le 4 i (fun z => absurd z (by omega)) (fun _ => lz_low hi (nm_e (nm_r (nI_1 i) (hk _ ?_)))))
    rw [hI, lz_c4]
    rfl
def lz_wi (lo hi : Nat → Nat) (m : Nat) : Prop := ∀ i, i < 4 → lo i ≤ lz_dg m i ∧ lz_dg m i ≤ hi i
theorem lz_sol_qs {u : St1} {c : Int32} {a13 a14 : Nat → Int32} {lo hi : Nat → Nat} (h13 : ∀ i, i < 4 → a13 i = nI (lo i) ∧ lo i ≤ 4) (h14 : ∀ i, i < 4 → a14 i = nI (hi i) ∧ hi i ≤ 3) (m : Nat) : lz_sol (lz_qs u c a13 a14) m ↔ (lz_cs u c m ∧ lz_wi lo hi m) := by
  rw [lz_sol_iff, lz_cs_iff]
  constructor
  · intro h
    refine ⟨⟨h.1, h.2.2⟩, fun i hi4 => ?_⟩
    have q : (a13 i).toInt ≤ (lz_dg m i : Int) ∧ (lz_dg m i : Int) ≤ (a14 i).toInt := h.2.1 i hi4
    obtain ⟨e1, e2⟩ := h13 i hi4
    obtain ⟨e3, e4⟩ := h14 i hi4
    rw [e1, e3, lz_nT (by omega), lz_nT (by omega)] at q
    omega
  · intro h
    refine ⟨h.1.1, fun i hi4 => ?_, h.1.2⟩
    have q := h.2 i hi4
    obtain ⟨e1, e2⟩ := h13 i hi4
    obtain ⟨e3, e4⟩ := h14 i hi4
    show (a13 i).toInt ≤ (lz_dg m i : Int) ∧ (lz_dg m i : Int) ≤ (a14 i).toInt
    rw [e1, e3, lz_nT (by omega), lz_nT (by omega)]
    omega
theorem lz_find {post : Int32 → St1 → Prop} {u : St1} {c : Int32} {a13 a14 : Nat → Int32} {lo hi : Nat → Nat} (hw : lz_wf u) (h13 : ∀ i, i < 4 → a13 i = nI (lo i) ∧ lo i ≤ 4) (h14 : ∀ i, i < 4 → a14 i = nI (hi i) ∧ hi i ≤ 3)
    (hp0 : (∀ m, lz_cs u c m → ¬ lz_wi lo hi m) → ∀ s, lz_ob s = lz_ob u → post 0 s)
    (hp1 : ∀ s m, lz_ob s = lz_ob u → lz_cs u c m → lz_wi lo hi m → (∀ m', lz_cs u c m' → lz_wi lo hi m' → m ≤ m') → m = lz_cd (lz_bt (lz_yes s)) → post 1 s) : wpX_search post (lz_qs u c a13 a14) := by
  have hob : lz_ob (lz_qs u c a13 a14) = lz_ob u := rfl
  refine lz_search (lo := lo) (hi := hi) (lz_wf_ob hob hw) (fun i hi4 => ⟨(h13 i hi4).1, (h13 i hi4).2, (h14 i hi4).1, (h14 i hi4).2⟩) (fun hno s fs => hp0 (fun m h1 h2 => hno m ((lz_sol_qs h13 h14 m).mpr ⟨h1, h2⟩)) s ?_) (fun s m fs h1 h2 h3 => ?_)
  · rw [lz_ob_fs fs, hob]
  · obtain ⟨q1, q2⟩ := (lz_sol_qs h13 h14 m).mp h1
    exact hp1 s m (by rw [lz_ob_fs fs, hob]) q1 q2 (fun m' g1 g2 => h2 m' ((lz_sol_qs h13 h14 m').mpr ⟨g1, g2⟩)) h3
/-- the question without bounds -/
theorem lz_askAll {post : Int32 → St1 → Prop} {u : St1} {c : Int32} (hw : lz_wf u) (hp0 : (∀ m, ¬ lz_cs u c m) → ∀ s, lz_ob s = lz_ob u → post 0 s)
    (hp1 : ∀ s m, lz_ob s = lz_ob u → lz_cs u c m → (∀ m', lz_cs u c m' → m ≤ m') → m = lz_cd (lz_bt (lz_yes s)) → post 1 s) : wpX_ask (fun u1 => wpX_search post u1) u c := by
  have al : ∀ m, lz_wi (fun _ => 0) (fun _ => 3) m := fun m i _ => ⟨Nat.zero_le _, lz_dg_le m i⟩
  refine lz_ask (fun a13 a14 h13 h14 => lz_find (lo := fun _ => 0) (hi := fun _ => 3) hw (fun i hi => ⟨h13 i hi, by omega⟩) (fun i hi => ⟨h14 i hi, by omega⟩) (fun h s hs => hp0 (fun m hm => h m hm (al m)) s hs) (fun s m h1 h2 h3 h4 h5 => hp1 s m h1 h2 (fun m' g => h4 m' g (al m')) h5))
theorem lz_solvable {post : Int32 → St1 → Prop} {u : St1} (hw : lz_wf u) (hp : ∀ s r, lz_ob s = lz_ob u → ((r = 0 ∧ ∀ m, ¬ lz_cs u (lz_inf u) m) ∨ (r = 1 ∧ ∃ m, lz_cs u (lz_inf u) m)) → post r s) : wpX_solvable post u := by
  apply lz_v_solvable
  exact lz_askAll hw (fun h s hs => ⟨lz_nb0, hp s 0 hs (Or.inl ⟨rfl, h⟩)⟩) (fun s m h1 h2 _ _ => ⟨lz_nb1, hp s 1 h1 (Or.inr ⟨rfl, m, h2⟩)⟩)
/-! firstWith, values -/
theorem lz_firstWith {post : Int32 → St1 → Prop} {u : St1} (hw : lz_wf u) {i x : Nat} (hi : i < 4) (hx : x < 4) (hp : ∀ s r, lz_ob s = lz_ob u → ((r = -4 ∧ ∀ m, lz_cs u (lz_inf u) m → lz_dg m i ≠ x) ∨ (∃ m, m < 256 ∧ r = nI m ∧ lz_cs u (lz_inf u) m ∧ lz_dg m i = x)) → post r s) :
    wpX_firstWith post u (nI i) (nI x) := by
  have in4 : vp_in (nI i) 4 := vp_in_nI hi (by omega)
  refine lz_v_firstWith (br_f (nI_pos (by omega)) (pk_lt 3 i (fun z => absurd z (by omega)) (fun _ => br_f (nI_pos (by omega)) (pk_le x 3 (fun _ => ?_) (fun z => absurd z (by omega))))))
  refine lz_ask (fun a13 a14 h13 h14 => ⟨in4, ?_⟩)
  rw [nI_clamp (show i < 2 ^ 31 by omega)]
  refine nm_e ⟨in4, nm_e ?_⟩
  have iff1 : ∀ m, lz_wi (fun j => if j = i then x else 0) (fun j => if j = i then x else 3) m ↔ lz_dg m i = x := by
    intro m
    constructor
    · intro h
      have q : (if i = i then x else 0) ≤ lz_dg m i ∧ lz_dg m i ≤ (if i = i then x else 3) := h i hi
      rw [if_pos rfl, if_pos rfl] at q
      omega
    · intro h j hj
      show (if j = i then x else 0) ≤ lz_dg m j ∧ lz_dg m j ≤ (if j = i then x else 3)
      by_cases e : j = i
      · rw [if_pos e, if_pos e, e]
        omega
      · rw [if_neg e, if_neg e]
        exact ⟨Nat.zero_le _, lz_dg_le m j⟩
  refine lz_find (u := u) (c := lz_inf u) (a13 := upd a13 i (nI x)) (a14 := upd a14 i (nI x)) (lo := fun j => if j = i then x else 0) (hi := fun j => if j = i then x else 3) hw (fun j hj => ?_) (fun j hj => ?_)
    (fun h s hs => br_t rfl (hp s (-4) hs (Or.inl ⟨rfl, fun m hm e => h m hm ((iff1 m).mpr e)⟩)))
    (fun s m h1 h2 h3 h4 h5 => br_f (by decide) (lz_answer (hp s _ h1 (Or.inr ⟨m, h2.1, by rw [h5], h2, (iff1 m).mp h3⟩))))
  · show upd a13 i (nI x) j = nI (if j = i then x else 0) ∧ (if j = i then x else 0) ≤ 4
    by_cases e : j = i
    · rw [e, pk_us, if_pos rfl]
      exact ⟨rfl, by omega⟩
    · rw [pk_un e, if_neg e, h13 j hj]
      exact ⟨rfl, by omega⟩
  · show upd a14 i (nI x) j = nI (if j = i then x else 3) ∧ (if j = i then x else 3) ≤ 3
    by_cases e : j = i
    · rw [e, pk_us, if_pos rfl]
      exact ⟨rfl, by omega⟩
    · rw [pk_un e, if_neg e, h14 j hj]
      exact ⟨rfl, by omega⟩
theorem lz_values {post : Int32 → St1 → Prop} {u : St1} (hw : lz_wf u) {i : Nat} (hi : i < 4) (hp : ∀ s r, lz_ob s = lz_ob u → (∀ b, lz_bt r b = true ↔ (b < 4 ∧ ∃ m, lz_cs u (lz_inf u) m ∧ lz_dg m i = b)) → post r s) : wpX_values post u (nI i) := by
  refine lz_v_values (br_f (nI_pos (by omega)) (pk_le i 3 (fun _ => ?_) (fun z => absurd z (by omega))))
  refine pk_loop (fun n x (p : Int32 × St1) => lz_values_15 post (nI i) n p.1 (nI x) p.2) (fun x p => lz_ob p.2 = lz_ob u ∧ ∀ b, lz_bt p.1 b = true ↔ (b < x ∧ ∃ m, lz_cs u (lz_inf u) m ∧ lz_dg m i = b)) 4 0 (0, u) (by omega) ⟨rfl, fun b => ⟨fun z => lz_e0 b _ z, fun z => absurd z.1 (by omega)⟩⟩ ?_ ?_
  · intro n p hI
    obtain ⟨x2, s⟩ := p
    exact lz_v_values_15 (pk_le 4 4 (fun _ => hp s x2 hI.1 hI.2) (fun z => absurd z (by omega)))
  · intro n x p hx hI hk
    obtain ⟨x2, s⟩ := p
    obtain ⟨i1, i2⟩ := hI
    have i1' : lz_ob s = lz_ob u := i1
    have i2' : ∀ b, lz_bt x2 b = true ↔ (b < x ∧ ∃ m, lz_cs u (lz_inf u) m ∧ lz_dg m i = b) := i2
    refine lz_v_values_15 (pk_le 4 x (fun z => absurd z (by omega)) (fun _ => lz_firstWith (lz_wf_ob i1' hw) hi hx (fun t r ht hr => ?_)))
    rw [lz_ob_inf i1'] at hr
    have ht' : lz_ob t = lz_ob u := by rw [ht, i1']
    rcases hr with ⟨e, hno⟩ | ⟨m, hm, e, hc, hd⟩
    · refine br_t (by rw [e]; decide) (nm_r (nI_1 x) (hk (x2, t) ⟨ht', fun b => ?_⟩))
      show lz_bt x2 b = true ↔ _
      rw [i2' b]
      constructor
      · exact fun q => ⟨by omega, q.2⟩
      · intro q
        refine ⟨?_, q.2⟩
        have : b ≠ x := fun eb => by
          obtain ⟨_, m, g1, g2⟩ := q
          exact hno m ((lz_cs_ob i1' _ _).mpr g1) (by rw [g2, eb])
        omega
    · refine br_f (by rw [e]; exact nI_pos (by omega)) (nm_e (nm_r (nI_1 x) (hk (x2 ||| ((1 : Int32) <<< (nI x &&& 31)), t) ⟨ht', fun b => ?_⟩)))
      show lz_bt (x2 ||| ((1 : Int32) <<< (nI x &&& 31))) b = true ↔ _
      rw [lz_or, lz_b1 (by omega), Bool.or_eq_true, decide_eq_true_iff, i2' b]
      constructor
      · intro q
        rcases q with q | q
        · exact ⟨by omega, q.2⟩
        · rw [q]
          exact ⟨by omega, m, (lz_cs_ob i1' _ _).mp hc, hd⟩
      · intro q
        by_cases eb : b = x
        · exact Or.inr eb
        · exact Or.inl ⟨by omega, q.2⟩
/-! blame -/
theorem lz_cs_0 (u : St1) : lz_cs u 0 0 := ⟨by omega, fun k _ hb => lz_e0 k _ hb⟩
theorem lz_blame {post : Int32 → St1 → Prop} {u : St1} (hw : lz_wf u) {q : Nat} (hq : lz_made u = nI q) (hq2 : q ≤ 10) (hp : ∀ s r, lz_ob s = lz_ob u → ((r = 0 ∧ ∃ m, lz_cs u (lz_inf u) m) ∨ (¬ r = 0 ∧ ∀ m, ¬ lz_cs u (lz_inf u) m)) → post r s) : wpX_blame post u := by
  apply lz_v_blame
  refine lz_askAll hw (fun hno s hs => br_t rfl ?_) (fun s m h1 h2 _ _ => br_f (by decide) (hp s 0 h1 (Or.inl ⟨rfl, m, h2⟩)))
  rw [lz_ob_inf hs]
  refine pk_loop (fun n c (p : Int32 × St1) => lz_blame_24 post n p.1 (nI c) p.2) (fun _ p => lz_ob p.2 = lz_ob u ∧ ∀ m, ¬ lz_cs u p.1 m) q 0 (lz_inf u, s) (by omega) ⟨hs, hno⟩ ?_ ?_
  · intro n p hI
    obtain ⟨x1, t⟩ := p
    obtain ⟨i1, i2⟩ := hI
    have i1' : lz_ob t = lz_ob u := i1
    have i2' : ∀ m, ¬ lz_cs u x1 m := i2
    refine lz_v_blame_24 (pk_le q q (fun _ => hp t x1 i1' (Or.inr ⟨fun z => ?_, hno⟩)) (fun z => absurd z (by omega)) (by rw [lz_ob_made i1', hq]))
    rw [z] at i2'
    exact i2' 0 (lz_cs_0 u)
  · intro n c p hc hI hk
    obtain ⟨x1, t⟩ := p
    obtain ⟨i1, i2⟩ := hI
    have i1' : lz_ob t = lz_ob u := i1
    have i2' : ∀ m, ¬ lz_cs u x1 m := i2
    refine lz_v_blame_24 (pk_le q c (fun z => absurd z (by omega)) (fun _ => br_c (fun _ => ?_) (fun _ => nm_r (nI_1 c) (hk (x1, t) ⟨i1', i2'⟩))) (by rw [lz_ob_made i1', hq]))
    refine lz_askAll (lz_wf_ob i1' hw) (fun hno2 s2 hs2 => br_t rfl (nm_e (nm_r (nI_1 c) (hk (_, s2) ⟨by rw [← i1']; exact hs2, fun m hm => hno2 m ((lz_cs_ob i1' _ _).mpr hm)⟩)))) (fun s2 m h1 _ _ _ => br_f (by decide) (nm_r (nI_1 c) (hk (x1, s2) ⟨by rw [← i1']; exact h1, i2'⟩)))
end
section
/-! after -/
theorem lz_dig {f j : Nat} (hf : f < 256) (hj : j < 4) : (nI f >>> ((2 * (3 - nI j)) &&& 31)) &&& 3 = nI (lz_dg f j) := by
  have e1 : 2 * (3 - nI j) = nI (2 * (3 - j)) := by
    show nI 2 * (nI 3 - nI j) = _
    rw [pk_sub (by omega), pk_mul]
  rw [e1, pk_shrN (show f < 2 ^ 31 by omega) (nI (2 * (3 - j)) &&& 31) (2 * (3 - j)) (lz_sl (2 * (3 - j)) (by omega)), pk_andN (m := 3) (Nat.lt_of_le_of_lt (Nat.div_le_self _ _) (by omega)) 2 (by decide)]
  have c : j = 0 ∨ j = 1 ∨ j = 2 ∨ j = 3 := by omega
  rcases c with e | e | e | e <;> subst e <;> rfl
theorem lz_gt_dig {m f : Nat} (hm : m < 256) (hf : f < 256) (h : f < m) : ∃ i, i < 4 ∧ (∀ k, k < i → lz_dg m k = lz_dg f k) ∧ lz_dg f i < lz_dg m i := by
  apply Classical.byContradiction
  intro hn
  have key : ∀ i, i ≤ 4 → ∀ k, k < i → lz_dg m k = lz_dg f k := by
    intro i
    induction i with
    | zero => exact fun _ k hk => absurd hk (by omega)
    | succ i ih =>
      intro hi k hk
      have ih' := ih (by omega)
      by_cases e : k = i
      · rw [e]
        rcases Nat.lt_trichotomy (lz_dg m i) (lz_dg f i) with z | z | z
        · have := lz_dg_lt hm hf (show i < 4 by omega) ih' z
          omega
        · exact z
        · exact absurd ⟨i, by omega, ih', z⟩ hn
      · exact ih' k (by omega)
  have := lz_dg_inj hm hf (key 4 (by omega))
  omega
theorem lz_after_60w {post : Int32 → St1 → Prop} {J46 : Int32 → St1 → Prop} {s : St1} {c : Int32} {f i : Nat} (hf : f < 256) (hi : i < 4) (hw : lz_wf s) {a13 a14 : Nat → Int32} (h13 : ∀ k, k < 4 → a13 k = 0) (h14 : ∀ k, k < 4 → a14 k = 3)
    (hp0 : (∀ m, lz_cs s c m → (∀ k, k < i → lz_dg m k = lz_dg f k) → ¬ lz_dg f i < lz_dg m i) → ∀ t, lz_ob t = lz_ob s → J46 (nI i - 1) t)
    (hp1 : ∀ t m, lz_ob t = lz_ob s → lz_cs s c m → (∀ k, k < i → lz_dg m k = lz_dg f k) → lz_dg f i < lz_dg m i → (∀ m', lz_cs s c m' → (∀ k, k < i → lz_dg m' k = lz_dg f k) → lz_dg f i < lz_dg m' i → m ≤ m') → post (nI m) t) :
    ∃ fu, lz_after_60 post J46 (nI f) (nI i) fu 0 (lz_qs s c a13 a14) := by
  refine pk_loop (fun n j (p : (Nat → Int32) × (Nat → Int32)) => lz_after_60 post J46 (nI f) (nI i) n (nI j) (lz_qs s c p.1 p.2))
    (fun j p => (∀ k, k < j → p.1 k = nI (lz_dg f k) ∧ p.2 k = nI (lz_dg f k)) ∧ (∀ k, j ≤ k → k < 4 → p.1 k = 0 ∧ p.2 k = 3)) i 0 (a13, a14) (by omega) ⟨fun k hk => absurd hk (by omega), fun k _ hk => ⟨h13 k hk, h14 k hk⟩⟩ ?_ ?_
  · intro n p hI
    obtain ⟨x13, x14⟩ := p
    obtain ⟨i1, i2⟩ := hI
    have i1' : ∀ k, k < i → x13 k = nI (lz_dg f k) ∧ x14 k = nI (lz_dg f k) := i1
    have i2' : ∀ k, i ≤ k → k < 4 → x13 k = 0 ∧ x14 k = 3 := i2
    refine lz_v_after_60 (pk_le i i (fun _ => ⟨vp_in_nI hi (by omega), ?_⟩) (fun z => absurd z (by omega)))
    rw [lz_dig hf hi, nI_1, nI_clamp (show i < 2 ^ 31 by omega)]
    refine nm_e ?_
    have dl := lz_dg_le f i
    have iff1 : ∀ m, lz_wi (fun k => if k < i then lz_dg f k else if k = i then lz_dg f i + 1 else 0) (fun k => if k < i then lz_dg f k else 3) m ↔ ((∀ k, k < i → lz_dg m k = lz_dg f k) ∧ lz_dg f i < lz_dg m i) := by
      intro m
      constructor
      · intro h
        refine ⟨fun k hk => ?_, ?_⟩
        · have q : (if k < i then lz_dg f k else if k = i then lz_dg f i + 1 else 0) ≤ lz_dg m k ∧ lz_dg m k ≤ (if k < i then lz_dg f k else 3) := h k (by omega)
          rw [if_pos hk, if_pos hk] at q
          omega
        · have q : (if i < i then lz_dg f i else if i = i then lz_dg f i + 1 else 0) ≤ lz_dg m i ∧ lz_dg m i ≤ (if i < i then lz_dg f i else 3) := h i hi
          rw [if_neg (by omega), if_pos rfl] at q
          omega
      · intro h k hk
        show (if k < i then lz_dg f k else if k = i then lz_dg f i + 1 else 0) ≤ lz_dg m k ∧ lz_dg m k ≤ (if k < i then lz_dg f k else 3)
        by_cases z : k < i
        · have := h.1 k z
          rw [if_pos z, if_pos z]
          omega
        · rw [if_neg z, if_neg z]
          by_cases e : k = i
          · rw [if_pos e, e]
            exact ⟨h.2, lz_dg_le m i⟩
          · rw [if_neg e]
            exact ⟨Nat.zero_le _, lz_dg_le m k⟩
    refine lz_find (u := s) (c := c) (a13 := upd x13 i (nI (lz_dg f i + 1))) (a14 := x14) (lo := fun k => if k < i then lz_dg f k else if k = i then lz_dg f i + 1 else 0) (hi := fun k => if k < i then lz_dg f k else 3) hw (fun k hk => ?_) (fun k hk => ?_)
      (fun h t ht => br_t rfl (nm_r (lz_dm1 i) (hp0 (fun m hm g1 g2 => h m hm ((iff1 m).mpr ⟨g1, g2⟩)) t ht)))
      (fun t m g1 g2 g3 g4 g5 => br_f (by decide) (lz_answer (by
        rw [← g5]
        exact hp1 t m g1 g2 ((iff1 m).mp g3).1 ((iff1 m).mp g3).2 (fun m' y1 y2 y3 => g4 m' y1 ((iff1 m').mpr ⟨y2, y3⟩)))))
    · show upd x13 i (nI (lz_dg f i + 1)) k = nI (if k < i then lz_dg f k else if k = i then lz_dg f i + 1 else 0) ∧ (if k < i then lz_dg f k else if k = i then lz_dg f i + 1 else 0) ≤ 4
      have dk := lz_dg_le f k
      by_cases z : k < i
      · rw [if_pos z, pk_un (by omega)]
        exact ⟨(i1' k z).1, by omega⟩
      · rw [if_neg z]
        by_cases e : k = i
        · rw [if_pos e, e, pk_us]
          exact ⟨rfl, by omega⟩
        · rw [if_neg e, pk_un e, (i2' k (by omega) hk).1]
          exact ⟨rfl, by omega⟩
    · show x14 k = nI (if k < i then lz_dg f k else 3) ∧ (if k < i then lz_dg f k else 3) ≤ 3
      have dk := lz_dg_le f k
      by_cases z : k < i
      · rw [if_pos z]
        exact ⟨(i1' k z).2, dk⟩
      · rw [if_neg z, (i2' k (by omega) hk).2]
        exact ⟨rfl, by omega⟩
  · intro n j p hj hI hk
    obtain ⟨x13, x14⟩ := p
    obtain ⟨i1, i2⟩ := hI
    have i1' : ∀ k, k < j → x13 k = nI (lz_dg f k) ∧ x14 k = nI (lz_dg f k) := i1
    have i2' : ∀ k, j ≤ k → k < 4 → x13 k = 0 ∧ x14 k = 3 := i2
    have in4 : vp_in (nI j) 4 := vp_in_nI (by omega) (by omega)
    refine lz_v_after_60 (pk_le i j (fun z => absurd z (by omega)) (fun _ => ?_))
    rw [lz_dig hf (show j < 4 by omega), nI_clamp (show j < 2 ^ 31 by omega)]
    refine nm_e ⟨in4, nm_e ⟨in4, nm_e (nm_r (nI_1 j) (hk (upd x13 j (nI (lz_dg f j)), upd x14 j (nI (lz_dg f j))) ⟨fun k hk2 => ?_, fun k h1 h2 => ?_⟩))⟩⟩
    · show upd x13 j (nI (lz_dg f j)) k = _ ∧ upd x14 j (nI (lz_dg f j)) k = _
      by_cases e : k = j
      · rw [e, pk_us, pk_us]
        exact ⟨rfl, rfl⟩
      · rw [pk_un e, pk_un e]
        exact i1' k (by omega)
    · show upd x13 j (nI (lz_dg f j)) k = _ ∧ upd x14 j (nI (lz_dg f j)) k = _
      rw [pk_un (by omega), pk_un (by omega)]
      exact i2' k (by omega) h2
theorem lz_m1t : (-1 : Int32).toInt = -1 := by decide
theorem lz_after {post : Int32 → St1 → Prop} {u : St1} (hw : lz_wf u) {f : Nat} (hf : f < 256)
    (hp : ∀ s r, lz_ob s = lz_ob u → ((r = -4 ∧ ∀ m, lz_cs u (lz_inf u) m → m ≤ f) ∨ (∃ m, r = nI m ∧ lz_cs u (lz_inf u) m ∧ f < m ∧ ∀ m', lz_cs u (lz_inf u) m' → f < m' → m ≤ m')) → post r s) : wpX_after post u (nI f) := by
  have n1 : ¬ nI f < -1 := by
    rw [Int32.lt_iff_toInt_lt, lz_nT (by omega), lz_m1t]
    omega
  have n2 : ¬ nI f = -1 := by
    intro e
    have := congrArg Int32.toInt e
    rw [lz_nT (by omega), lz_m1t] at this
    omega
  refine lz_v_after (br_f n1 (pk_le f 255 (fun _ => br_f n2 ⟨4 + 1, ?_⟩) (fun z => absurd z (by omega))))
  have main : lz_after_46 post (nI f) (4 + 1) (nI 4 - 1) u := by
    refine pk_loopD (fun n j s => lz_after_46 post (nI f) n (nI j - 1) s) (fun j s => j ≤ 4 ∧ lz_ob s = lz_ob u ∧ ∀ i, j ≤ i → i < 4 → ∀ m, lz_cs u (lz_inf u) m → (∀ k, k < i → lz_dg m k = lz_dg f k) → ¬ lz_dg f i < lz_dg m i) ?_ ?_ 4 u ⟨by omega, rfl, fun i h1 h2 => absurd h2 (by omega)⟩
    · intro n s hI
      obtain ⟨i1, i2, i3⟩ := hI
      refine lz_v_after_46 (br_t (by decide) (hp s (-4) i2 (Or.inl ⟨rfl, fun m hm => ?_⟩)))
      rcases Nat.lt_or_ge f m with z | z
      · obtain ⟨i, g1, g2, g3⟩ := lz_gt_dig hm.1 hf z
        exact absurd g3 (i3 i (by omega) g1 m hm g2)
      · exact z
    · intro n j s hI hk
      obtain ⟨i1, i2, i3⟩ := hI
      have ws := lz_wf_ob i2 hw
      show lz_after_46 post (nI f) (n + 1) (nI (j + 1) - 1) s
      rw [nI_pred]
      refine lz_v_after_46 (br_f (nI_pos (by omega)) (lz_ask (fun a13 a14 h13 h14 => lz_after_60w hf (by omega) ws h13 h14 (fun hno t ht => hk t ⟨by omega, by rw [ht, i2], fun i h1 h2 m hm g1 => ?_⟩) (fun t m ht hm g1 g2 g3 => hp t (nI m) (by rw [ht, i2]) (Or.inr ⟨m, rfl, ?_, ?_, fun m' hm' hlt => ?_⟩)))))
      · by_cases e : i = j
        · rw [e] at g1 ⊢
          exact hno m ((lz_cs_ob i2 _ _).mpr (by rw [lz_ob_inf i2]; exact hm)) g1
        · exact i3 i (by omega) h2 m hm g1
      · rw [lz_ob_inf i2] at hm
        exact (lz_cs_ob i2 _ _).mp hm
      · exact lz_dg_lt hf hm.1 (show j < 4 by omega) (fun k hk2 => (g1 k hk2).symm) g2
      · obtain ⟨i, y1, y2, y3⟩ := lz_gt_dig hm'.1 hf hlt
        have hij : i ≤ j := by
          rcases Nat.lt_or_ge j i with z | z
          · exact absurd y3 (i3 i (by omega) y1 m' hm' y2)
          · exact z
        rcases Nat.lt_or_ge i j with z | z
        · have : m < m' := lz_dg_lt hm.1 hm'.1 y1 (fun k hk2 => by rw [g1 k (by omega), y2 k hk2]) (by rw [g1 i z]; exact y3)
          omega
        · have e : i = j := by omega
          rw [e] at y2 y3
          exact g3 m' ((lz_cs_ob i2 _ _).mpr (by rw [lz_ob_inf i2]; exact hm')) y2 y3
  exact main
theorem lz_after0 {post : Int32 → St1 → Prop} {u : St1} (hw : lz_wf u)
    (hp : ∀ s r, lz_ob s = lz_ob u → ((r = -4 ∧ ∀ m, ¬ lz_cs u (lz_inf u) m) ∨ (∃ m, r = nI m ∧ lz_cs u (lz_inf u) m ∧ ∀ m', lz_cs u (lz_inf u) m' → m ≤ m')) → post r s) : wpX_after post u (-1) := by
  refine lz_v_after (br_f (by decide) (br_t (by decide) (br_t rfl ?_)))
  exact lz_askAll hw (fun h s hs => br_t rfl (hp s (-4) hs (Or.inl ⟨rfl, h⟩))) (fun s m h1 h2 h3 h4 => br_f (by decide) (lz_answer (by
    rw [← h4]
    exact hp s (nI m) h1 (Or.inr ⟨m, rfl, h2, h3⟩))))
end
section
/-! the methods that set constraints -/
def lz_Kf (made : Int32) (a1 a3 a4 a6 a7 : Nat → Int32) : Prop :=
  (∃ q, made = nI q ∧ q ≤ 10) ∧ (∀ i, i < 4 → -5 ≤ (a1 i).toInt ∧ (a1 i).toInt ≤ 5) ∧ (∀ k, k < 44 → -5 ≤ (a3 k).toInt ∧ (a3 k).toInt ≤ 5) ∧ (∀ c, c < 11 → -60 ≤ (a4 c).toInt ∧ (a4 c).toInt ≤ 60) ∧
  (∀ c, c < 11 → ∀ b, lz_bt (a6 c) b = true → b < 12) ∧ (∀ c, c < 11 → ∀ b, lz_bt (a7 c) b = true → b < 12)
def lz_K (u : St1) : Prop := lz_Kf (lz_made u) (lz_A1 u) (lz_A3 u) (lz_A4 u) (lz_A6 u) (lz_A7 u)
theorem lz_K_wf {u : St1} (h : lz_K u) : lz_wf u := by
  obtain ⟨_, _, h3, h4, h6, h7⟩ := h
  exact (lz_wf_iff u).mpr (fun c hc => ⟨fun i hi => h3 (c * 4 + i) (by omega), h4 c hc, h6 c hc, h7 c hc⟩)
theorem lz_of3 {x : Int32} (h0 : ¬ x < 0) (h3 : ¬ 3 < x) : ∃ j, j < 4 ∧ x = nI j := by
  obtain ⟨j, hj, e⟩ := nI_of2 (M := 3) (n := 3) (by decide) h0 (Int32.not_lt.mp h3)
  exact ⟨j, by omega, e⟩
theorem lz_of3' {x : Int32} (h0 : ¬ x < 0) (h3 : x ≤ 3) : ∃ j, j < 4 ∧ x = nI j := by
  obtain ⟨j, hj, e⟩ := nI_of2 (M := 3) (n := 3) (by decide) h0 h3
  exact ⟨j, by omega, e⟩
theorem lz_factor {post : Int32 → St1 → Prop} {u : St1} {p0 p1 : Int32} (hK : lz_K u) (hp : ∀ r s, lz_K s → post r s) : wpX_factor post u p0 p1 := by
  refine lz_v_factor (br_c (fun _ => hp _ _ hK) (fun a0 => br_c (fun _ => hp _ _ hK) (fun a3 => br_c (fun _ => hp _ _ hK) (fun b0 => br_c (fun b5 => ?_) (fun _ => hp _ _ hK)))))
  obtain ⟨j, hj, e⟩ := lz_of3 a0 a3
  subst e
  have in4 : vp_in (nI j) 4 := vp_in_nI hj (by omega)
  rw [Int32.lt_iff_toInt_lt, show (-5 : Int32).toInt = -5 by decide] at b0
  rw [Int32.le_iff_toInt_le, show (5 : Int32).toInt = 5 by decide] at b5
  obtain ⟨k1, k2, k3⟩ := hK
  refine ⟨in4, nm_e ⟨in4, nm_e (hp _ _ ⟨k1, fun i hi => ?_, k3⟩)⟩⟩
  show -5 ≤ (upd (lz_A1 u) (nI j).toNatClampNeg p1 i).toInt ∧ (upd (lz_A1 u) (nI j).toNatClampNeg p1 i).toInt ≤ 5
  rw [nI_clamp (by omega)]
  by_cases z : i = j
  · rw [z, pk_us]
    omega
  · rw [pk_un z]
    exact k2 i hi
theorem lz_force {post : Int32 → St1 → Prop} {u : St1} {p0 p1 : Int32} (hK : lz_K u) (hp : ∀ r s, lz_K s → post r s) : wpX_force post u p0 p1 :=
  lz_v_force (br_c (fun _ => hp _ _ hK) (fun _ => br_c (fun _ => nm_e (nm_e (br_c (fun _ => hp _ _ hK) (fun _ => nm_e (hp _ _ hK))))) (fun _ => hp _ _ hK)))
theorem lz_clear {post : St1 → Prop} {u : St1} (hK : lz_K u) (hp : ∀ s, lz_K s → post s) : wpX_clear post u :=
  lz_v_clear (hp _ ⟨⟨0, rfl, by omega⟩, hK.2⟩)
theorem lz_accept {post : Int32 → St1 → Prop} {u : St1} {q : Nat} (hq : lz_made u = nI q) (hq2 : q < 10) (hK : lz_K u) (hp : ∀ r s, lz_K s → post r s) : wpX_accept post u :=
  lz_v_accept (nm_e (nm_e (hp _ _ ⟨⟨q + 1, by show lz_made u + 1 = nI (q + 1); rw [hq, nI_1], by omega⟩, hK.2⟩)))
theorem lz_differ {post : Int32 → St1 → Prop} {u : St1} {p0 : Int32} (hK : lz_K u) (hp : ∀ r s, lz_K s → post r s) : wpX_differ post u p0 := by
  obtain ⟨q, hq, hq2⟩ := hK.1
  have in11 : vp_in (lz_made u) 11 := by
    rw [hq]
    exact vp_in_nI (by omega) (by omega)
  refine lz_v_differ (br_c (fun _ => hp _ _ hK) (fun _ => br_c (fun _ => pk_eq q 10 (fun _ => hp _ _ hK) (fun z => ⟨in11, nm_e ⟨in11, nm_e ?_⟩⟩) hq) (fun _ => hp _ _ hK)))
  exact lz_accept (q := q) hq (by omega) hK hp
def lz_sl3 (u : St1) (a2 a3 a4 : Nat → Int32) : St1 :=
  (lz_made u, lz_inf u, lz_yes u, lz_no u, lz_tl u, lz_lv u, lz_dec u, lz_cnt u, lz_ln u, lz_cl u, lz_cy u, lz_cn u, lz_mv u, lz_A1 u, a2, a3, a4, lz_A5 u, lz_A6 u, lz_A7 u, lz_A8 u, lz_A9 u, lz_A10 u, lz_A11 u, lz_A12 u, lz_A13 u, lz_A14 u, lz_A15 u, lz_A16 u)
theorem lz_setLinear {post : St1 → Prop} {u : St1} {q : Nat} {b : Int32} (hq : lz_made u = nI q) (hq2 : q < 10) (hK : lz_K u) (h1 : -60 ≤ b.toInt) (h2 : b.toInt ≤ 60) (hp : ∀ s, lz_made s = nI q → lz_K s → post s) : wpX_setLinear post u (nI q) 1 b := by
  obtain ⟨k1, k2, k3, k4, k6, k7⟩ := hK
  have in11 : vp_in (nI q) 11 := vp_in_nI (by omega) (by omega)
  refine lz_v_setLinear ⟨in11, nm_e ⟨in11, nm_e ?_⟩⟩
  rw [nI_clamp (show q < 2 ^ 31 by omega)]
  refine pk_loop (fun n i (a3 : Nat → Int32) => lz_setLinear_17 post (nI q) 1 n (nI i) (lz_sl3 u (upd (lz_A2 u) q 0) a3 (upd (lz_A4 u) q b))) (fun _ a3 => ∀ k, k < 44 → -5 ≤ (a3 k).toInt ∧ (a3 k).toInt ≤ 5) 4 0 (lz_A3 u) (by omega) k3 ?_ ?_
  · intro n a3 h3
    refine lz_v_setLinear_17 (pk_le 4 4 (fun _ => hp _ hq ⟨k1, k2, h3, fun c hc => ?_, k6, k7⟩) (fun z => absurd z (by omega)))
    show -60 ≤ (upd (lz_A4 u) q b c).toInt ∧ (upd (lz_A4 u) q b c).toInt ≤ 60
    by_cases e : c = q
    · rw [e, pk_us]
      exact ⟨h1, h2⟩
    · rw [pk_un e]
      exact k4 c hc
  · intro n i a3 hi h3 hk
    refine lz_v_setLinear_17 (pk_le 4 i (fun z => absurd z (by omega)) (fun _ => ⟨vp_in_nI hi (by omega), ?_⟩))
    rw [lz_c4, nI_clamp (show q * 4 + i < 2 ^ 31 by omega), nI_clamp (show i < 2 ^ 31 by omega)]
    refine ⟨vp_in_nI (by omega) (by omega), nm_e (nm_r (nI_1 i) (hk (upd a3 (q * 4 + i) (1 * lz_A1 u i)) (fun k hk2 => ?_)))⟩
    by_cases e : k = q * 4 + i
    · rw [e, pk_us, Int32.one_mul]
      exact k2 i hi
    · rw [pk_un e]
      exact h3 k hk2
theorem lz_linear {post : Int32 → St1 → Prop} {u : St1} {p0 : Int32} (hK : lz_K u) (hp : ∀ r s, lz_K s → post r s) : wpX_linear post u p0 := by
  obtain ⟨q, hq, hq2⟩ := hK.1
  refine lz_v_linear (br_c (fun _ => hp _ _ hK) (fun b0 => br_c (fun b6 => pk_eq q 10 (fun _ => hp _ _ hK) (fun z => ?_) hq) (fun _ => hp _ _ hK)))
  rw [Int32.lt_iff_toInt_lt, show (-60 : Int32).toInt = -60 by decide] at b0
  rw [Int32.le_iff_toInt_le, show (60 : Int32).toInt = 60 by decide] at b6
  rw [hq]
  exact lz_setLinear hq (by omega) hK (by omega) b6 (fun s hs hKs => lz_accept hs (by omega) hKs hp)
theorem lz_either_87w {post : Int32 → St1 → Prop} {s : St1} {q i m j n : Nat} {z0 : Int32} (hq : lz_made s = nI q) (hq2 : q < 10) (hK : lz_K s) (hi : i < 4) (hm : m < 4) (hj : j < 4) (hn : n < 4) (hz : (z0 = 1) ∨ (z0 = 0 ∧ 1 ≤ m ∧ n ≤ 2)) (hp : ∀ r t, lz_K t → post r t) :
    lz_either_87 post (nI i) (nI m) (nI j) (nI n) z0 (nI q) s := by
  obtain ⟨k1, k2, k3, k4, k6, k7⟩ := hK
  have in11 : vp_in (nI q) 11 := vp_in_nI (by omega) (by omega)
  have in11' : vp_in (lz_made s) 11 := by
    rw [hq]
    exact in11
  refine lz_v_either_87 ⟨in11, nm_e ⟨in11', ?_⟩⟩
  rw [hq, nI_clamp (show q < 2 ^ 31 by omega), pk_us]
  rw [hq] at in11'
  rcases hz with e | ⟨e, h1, h2⟩
  · rw [e]
    refine br_f (by decide) (lz_v_either_135 (lz_accept (q := q) ?_ hq2 ?_ hp))
    · exact rfl
    · exact ⟨⟨q, rfl, by omega⟩, k2, k3, k4, k6, k7⟩
  · rw [e]
    refine br_t (by decide) ⟨in11', nm_e ⟨in11', nm_e (lz_v_either_135 (lz_accept (q := q) ?_ hq2 ?_ hp))⟩⟩
    · exact rfl
    · refine ⟨⟨q, rfl, by omega⟩, k2, k3, k4, fun c hc b hb => ?_, fun c hc b hb => ?_⟩
      · have hb' : lz_bt (upd (lz_A6 s) q ((1 : Int32) <<< ((nI i * 3 + nI m - 1) &&& 31)) c) b = true := hb
        by_cases ec : c = q
        · rw [ec, pk_us, lz_at1 i m h1] at hb'
          rw [lz_b1e (by omega) hb']
          omega
        · rw [pk_un ec] at hb'
          exact k6 c hc b hb'
      · have hb' : lz_bt (upd (lz_A7 s) q ((1 : Int32) <<< ((nI j * 3 + nI n) &&& 31)) c) b = true := hb
        by_cases ec : c = q
        · rw [ec, pk_us, lz_at0 j n] at hb'
          rw [lz_b1e (by omega) hb']
          omega
        · rw [pk_un ec] at hb'
          exact k7 c hc b hb'
theorem lz_either {post : Int32 → St1 → Prop} {u : St1} {p0 p1 p2 p3 : Int32} (hK : lz_K u) (hp : ∀ r s, lz_K s → post r s) : wpX_either post u p0 p1 p2 p3 := by
  obtain ⟨q, hq, hq2⟩ := hK.1
  have in11 : vp_in (lz_made u) 11 := by
    rw [hq]
    exact vp_in_nI (by omega) (by omega)
  refine lz_v_either (br_c (fun _ => hp _ _ hK) (fun a0 => br_c (fun _ => hp _ _ hK) (fun a3 => br_c (fun _ => hp _ _ hK) (fun c0 => br_c (fun c3 => br_c (fun _ => hp _ _ hK) (fun b0 => br_c (fun _ => hp _ _ hK) (fun b3 => br_c (fun _ => hp _ _ hK) (fun d0 => br_c (fun d3 => ?_) (fun _ => hp _ _ hK))))) (fun _ => hp _ _ hK)))))
  obtain ⟨i, hi, e0⟩ := lz_of3 a0 a3
  obtain ⟨m, hm, e1⟩ := lz_of3 b0 b3
  obtain ⟨j, hj, e2⟩ := lz_of3' c0 c3
  obtain ⟨n, hn, e3⟩ := lz_of3' d0 d3
  subst e0 e1 e2 e3
  refine pk_eq q 10 (fun _ => hp _ _ hK) (fun z => ⟨in11, nm_e ?_⟩) hq
  rw [hq]
  have hq3 : q < 10 := by omega
  refine pk_eq m 0 (fun _ => lz_v_either_82 (lz_either_87w (q := q) rfl hq3 ?_ hi hm hj hn (Or.inl rfl) hp)) (fun zm => pk_eq n 3 (fun _ => lz_v_either_82 (lz_either_87w (q := q) rfl hq3 ?_ hi hm hj hn (Or.inl rfl) hp)) (fun zn => lz_either_87w (q := q) rfl hq3 ?_ hi hm hj hn (Or.inr ⟨rfl, by omega, by omega⟩) hp))
  all_goals exact ⟨⟨q, rfl, by omega⟩, hK.2⟩
theorem lz_turn {post : St1 → Prop} {u : St1} {p1 p2 : Int32} (hK : lz_K u) (hp : ∀ s, lz_K s → post s) : wpL_turn post u p1 p2 := by
  refine lz_v_turn (nm_e (br_c (fun _ => br_c (fun _ => br_c (fun _ => ?_) (fun _ => br_c (fun _ => br_c (fun _ => br_c (fun _ => ?_) (fun _ => ?_)) (fun _ => ?_)) (fun _ => ?_))) (fun _ => ?_)) (fun _ => ?_)))
  · exact lz_differ hK (fun _ s hs => hp s hs)
  · exact lz_clear hK hp
  · exact lz_force hK (fun _ s hs => hp s hs)
  · exact lz_force hK (fun _ s hs => hp s hs)
  · exact lz_either hK (fun _ s hs => hp s hs)
  · exact lz_linear hK (fun _ s hs => hp s hs)
  · exact lz_factor hK (fun _ s hs => hp s hs)
end
section
/-! the law -/
def lz_mk (u : St1) (v : Int32) (j e : Nat) : Prop := ∀ b, lz_bt v b = true ↔ ∃ m, lz_cs u (lz_inf u) m ∧ m < e ∧ lz_dg m j = b
theorem lz_dgk {m : Nat} (hm : m < 256) (k : Nat) (hk : k < 8) : (nI m >>> (nI k &&& 31)) &&& 3 = nI (m / 2 ^ k % 4) := by
  rw [pk_shrN (show m < 2 ^ 31 by omega) (nI k &&& 31) k (lz_sl k (by omega)), pk_andN (m := 3) (Nat.lt_of_le_of_lt (Nat.div_le_self _ _) (by omega)) 2 (by decide)]
theorem lz_mk_s {u : St1} {v : Int32} {j e m : Nat} (h : lz_mk u v j e) (hm : lz_cs u (lz_inf u) m) (he : e ≤ m) (hl : ∀ m', lz_cs u (lz_inf u) m' → e ≤ m' → m ≤ m') {x : Int32} (hx : x = nI (lz_dg m j)) : lz_mk u (v ||| ((1 : Int32) <<< (x &&& 31))) j (m + 1) := by
  have d := lz_dg_le m j
  subst hx
  intro b
  rw [lz_or, lz_b1 (by omega), Bool.or_eq_true, decide_eq_true_iff, h b]
  constructor
  · intro q
    rcases q with ⟨m', q1, q2, q3⟩ | q
    · exact ⟨m', q1, by omega, q3⟩
    · exact ⟨m, hm, by omega, q.symm⟩
  · intro q
    obtain ⟨m', q1, q2, q3⟩ := q
    rcases Nat.lt_or_ge m' e with z | z
    · exact Or.inl ⟨m', q1, z, q3⟩
    · have := hl m' q1 z
      have e2 : m' = m := by omega
      rw [e2] at q3
      exact Or.inr q3.symm
theorem lz_mk_v {u : St1} {v r : Int32} {j e : Nat} (h : lz_mk u v j e) (hall : ∀ m, lz_cs u (lz_inf u) m → m < e) (hr : ∀ b, lz_bt r b = true ↔ (b < 4 ∧ ∃ m, lz_cs u (lz_inf u) m ∧ lz_dg m j = b)) : r = v := by
  refine lz_ext (fun b _ => lz_iffB ?_)
  rw [hr b, h b]
  constructor
  · intro q
    obtain ⟨_, m, q1, q2⟩ := q
    exact ⟨m, q1, hall m q1, q2⟩
  · intro q
    obtain ⟨m, q1, _, q2⟩ := q
    have := lz_dg_le m j
    exact ⟨by omega, m, q1, q2⟩
theorem lz_law_190w {L : Nat} {xs : Nat → Int32} {kc ks : Nat} {u s : St1} (hw : lz_wf u) (hs : lz_ob s = lz_ob u) {x4 x5 x6 x7 : Int32} {e : Nat} (h4 : lz_mk u x4 0 e) (h5 : lz_mk u x5 1 e) (h6 : lz_mk u x6 2 e) (h7 : lz_mk u x7 3 e)
    (hall : ∀ m, lz_cs u (lz_inf u) m → m < e) : lz_law_190 (fun r => r = 1) L xs (-4) x4 x5 x6 x7 kc ks s := by
  have tr : ∀ {t : St1} {r : Int32} {j : Nat}, lz_ob t = lz_ob u → (∀ b, lz_bt r b = true ↔ (b < 4 ∧ ∃ m, lz_cs t (lz_inf t) m ∧ lz_dg m j = b)) → ∀ b, lz_bt r b = true ↔ (b < 4 ∧ ∃ m, lz_cs u (lz_inf u) m ∧ lz_dg m j = b) := by
    intro t r j ht hr b
    rw [hr b, lz_ob_inf ht]
    constructor
    · intro q
      obtain ⟨q0, m, q1, q2⟩ := q
      exact ⟨q0, m, (lz_cs_ob ht _ _).mp q1, q2⟩
    · intro q
      obtain ⟨q0, m, q1, q2⟩ := q
      exact ⟨q0, m, (lz_cs_ob ht _ _).mpr q1, q2⟩
  refine lz_v_law_190 (br_t rfl (lz_values (i := 0) (lz_wf_ob hs hw) (by omega) (fun t0 r0 o0 v0 => ?_)))
  have p0 : lz_ob t0 = lz_ob u := by rw [o0, hs]
  refine br_t (lz_mk_v h4 hall (tr hs v0)) (lz_values (i := 1) (lz_wf_ob p0 hw) (by omega) (fun t1 r1 o1 v1 => ?_))
  have p1 : lz_ob t1 = lz_ob u := by rw [o1, p0]
  refine br_t (lz_mk_v h5 hall (tr p0 v1)) (lz_values (i := 2) (lz_wf_ob p1 hw) (by omega) (fun t2 r2 o2 v2 => ?_))
  have p2 : lz_ob t2 = lz_ob u := by rw [o2, p1]
  exact br_t (lz_mk_v h6 hall (tr p1 v2)) (lz_values (i := 3) (lz_wf_ob p2 hw) (by omega) (fun t3 r3 o3 v3 => br_t (lz_mk_v h7 hall (tr p2 v3)) rfl))
def lz_AT (u : St1) (x : Int32) (e : Nat) : Prop := (x = -4 ∧ ∀ m, lz_cs u (lz_inf u) m → m < e) ∨ (∃ m, x = nI m ∧ lz_cs u (lz_inf u) m ∧ e ≤ m ∧ ∀ m', lz_cs u (lz_inf u) m' → e ≤ m' → m ≤ m')
theorem lz_n4 {m : Nat} (h : m < 256) : ¬ nI m = -4 := by
  intro e
  have := congrArg Int32.toInt e
  rw [lz_nT (by omega), show (-4 : Int32).toInt = -4 by decide] at this
  omega
def lz_LI (u : St1) (p : (Int32 × Int32 × Int32 × Int32 × Int32) × (Nat × Nat) × St1) : Prop :=
  lz_ob p.2.2 = lz_ob u ∧ p.2.1.2 ≤ p.2.1.1 ∧ p.2.1.1 ≤ 256 ∧ lz_mk u p.1.2.1 0 p.2.1.1 ∧ lz_mk u p.1.2.2.1 1 p.2.1.1 ∧ lz_mk u p.1.2.2.2.1 2 p.2.1.1 ∧ lz_mk u p.1.2.2.2.2 3 p.2.1.1 ∧ lz_AT u p.1.1 p.2.1.1
theorem lz_law_98w {L : Nat} {xs : Nat → Int32} {kc ks : Nat} {u s : St1} (hw : lz_wf u) (hs : lz_ob s = lz_ob u) {x : Int32} (hx : lz_AT u x 0) : ∃ fu, lz_law_98 (fun r => r = 1) L xs kc ks fu x 0 0 0 0 (-1) 0 s := by
  have mk0 : ∀ j, lz_mk u 0 j 0 := fun j b => ⟨fun z => lz_e0 b _ z, fun z => by
    obtain ⟨m, _, q, _⟩ := z
    omega⟩
  have loop := loop_m (fun n (p : (Int32 × Int32 × Int32 × Int32 × Int32) × (Nat × Nat) × St1) => lz_law_98 (fun r => r = 1) L xs kc ks n p.1.1 p.1.2.1 p.1.2.2.1 p.1.2.2.2.1 p.1.2.2.2.2 (nI p.2.1.1 - 1) (nI p.2.1.2) p.2.2) (lz_LI u) (fun p => 300 - p.2.1.1) ?_ ((x, 0, 0, 0, 0), (0, 0), s) ⟨hs, Nat.le_refl _, by show 0 ≤ 256; omega, mk0 0, mk0 1, mk0 2, mk0 3, hx⟩
  · exact loop
  · intro n p hI hk
    obtain ⟨⟨x, v0, v1, v2, v3⟩, ⟨e, i⟩, s⟩ := p
    obtain ⟨i1, i2, i3, i4, i5, i6, i7, i8⟩ := hI
    have i1' : lz_ob s = lz_ob u := i1
    have i2' : i ≤ e := i2
    have i3' : e ≤ 256 := i3
    have i4' : lz_mk u v0 0 e := i4
    have i5' : lz_mk u v1 1 e := i5
    have i6' : lz_mk u v2 2 e := i6
    have i7' : lz_mk u v3 3 e := i7
    have i8' : lz_AT u x e := i8
    show lz_law_98 (fun r => r = 1) L xs kc ks (n + 1) x v0 v1 v2 v3 (nI e - 1) (nI i) s
    rcases i8' with ⟨ex, hall⟩ | ⟨m, ex, hm, hem, hl⟩
    · subst ex
      have fin := lz_law_190w (L := L) (xs := xs) (kc := kc) (ks := ks) hw i1' i4' i5' i6' i7' hall
      exact lz_v_law_98 (br_c (fun _ => fin) (fun _ => br_t rfl fin))
    · subst ex
      have m256 := hm.1
      have nle : ¬ nI m ≤ nI e - 1 := by
        rw [Int32.le_iff_toInt_le, lz_nT (by omega), lz_isub (lz_nT (show e < 1000000 by omega)) (show (1 : Int32).toInt = 1 by decide) (by omega) (by omega)]
        omega
      refine lz_v_law_98 (pk_le 256 i (fun z => absurd z (by omega)) (fun _ => br_f (lz_n4 m256) (br_f nle (pk_le m 255 (fun _ => nm_e (nm_e (nm_e (nm_e ?_)))) (fun z => absurd z (by omega))))))
      have g0 := lz_mk_s i4' hm hem hl (x := (nI m >>> ((6 : Int32) &&& 31)) &&& 3) (lz_dgk m256 6 (by omega))
      have g1 := lz_mk_s i5' hm hem hl (x := (nI m >>> ((4 : Int32) &&& 31)) &&& 3) (lz_dgk m256 4 (by omega))
      have g2 := lz_mk_s i6' hm hem hl (x := (nI m >>> ((2 : Int32) &&& 31)) &&& 3) (lz_dgk m256 2 (by omega))
      have g3 := lz_mk_s i7' hm hem hl (x := nI m &&& 3) (by
        rw [pk_andN (m := 3) (show m < 2 ^ 32 by omega) 2 (by decide), lz_dg3, Nat.div_one])
      refine lz_after (lz_wf_ob i1' hw) m256 (fun t r ht hr => nm_r (nI_1 i) ?_)
      have e1 : nI m = nI (m + 1) - 1 := (nI_pred m).symm
      have ht' : lz_ob t = lz_ob u := by rw [ht, i1']
      have step := hk ((r, _, _, _, _), (m + 1, i + 1), t) ⟨ht', by show i + 1 ≤ m + 1; omega, by show m + 1 ≤ 256; omega, g0, g1, g2, g3, ?_⟩ (by show 300 - (m + 1) < 300 - e; omega)
      · have step' : lz_law_98 (fun r => r = 1) L xs kc ks n r _ _ _ _ (nI (m + 1) - 1) (nI (i + 1)) t := step
        rw [← e1] at step'
        exact step'
      · show lz_AT u r (m + 1)
        rw [lz_ob_inf i1'] at hr
        rcases hr with ⟨q1, q2⟩ | ⟨m', q1, q2, q3, q4⟩
        · exact Or.inl ⟨q1, fun m' hm' => by
            have := q2 m' ((lz_cs_ob i1' _ _).mpr hm')
            omega⟩
        · exact Or.inr ⟨m', q1, (lz_cs_ob i1' _ _).mp q2, q3, fun m2 hm2 hl2 => q4 m2 ((lz_cs_ob i1' _ _).mpr hm2) hl2⟩
theorem lz_law_end {L : Nat} {xs : Nat → Int32} {kc ks : Nat} {u : St1} (hK : lz_K u) : wpX_after (fun r_69 u1 => (wpX_solvable (fun r_131 u2 => ((r_69 = (-4) → (lz_law_59 (fun r => r = 1) L xs r_69 r_131 0 r_131 kc ks u2)) ∧ (¬ r_69 = (-4) → (lz_law_59 (fun r => r = 1) L xs r_69 r_131 1 r_131 kc ks u2)))) u1)) u (-1) := by
  have hw := lz_K_wf hK
  obtain ⟨q, hq, hq2⟩ := hK.1
  refine lz_after0 hw (fun t r ht hr => lz_solvable (lz_wf_ob ht hw) (fun t2 r2 ht2 hr2 => ?_))
  have p2 : lz_ob t2 = lz_ob u := by rw [ht2, ht]
  have w2 := lz_wf_ob p2 hw
  rw [lz_ob_inf ht] at hr2
  rcases hr with ⟨e, hno⟩ | ⟨m, e, hm, hl⟩
  · have e2 : r2 = 0 := by
      rcases hr2 with z | ⟨_, m, hm⟩
      · exact z.1
      · exact absurd ((lz_cs_ob ht _ _).mp hm) (hno m)
    subst e e2
    refine br_t rfl (lz_v_law_59 (br_t rfl (lz_blame w2 (q := q) (by rw [lz_ob_made p2, hq]) hq2 (fun t3 r3 ht3 hr3 => ?_))))
    have p3 : lz_ob t3 = lz_ob u := by rw [ht3, p2]
    rw [lz_ob_inf p2] at hr3
    have n3 : ¬ r3 = 0 := by
      rcases hr3 with ⟨_, m, hm⟩ | z
      · exact absurd ((lz_cs_ob p2 _ _).mp hm) (hno m)
      · exact z.1
    exact br_f n3 (lz_v_law_75 (br_t rfl (lz_law_98w hw p3 (Or.inl ⟨rfl, fun m hm => absurd hm (hno m)⟩))))
  · have e2 : r2 = 1 := by
      rcases hr2 with z | z
      · exact absurd ((lz_cs_ob ht _ _).mpr hm) (z.2 m)
      · exact z.1
    subst e e2
    refine br_f (lz_n4 hm.1) (lz_v_law_59 (br_t rfl (lz_blame w2 (q := q) (by rw [lz_ob_made p2, hq]) hq2 (fun t3 r3 ht3 hr3 => ?_))))
    have p3 : lz_ob t3 = lz_ob u := by rw [ht3, p2]
    rw [lz_ob_inf p2] at hr3
    have n3 : r3 = 0 := by
      rcases hr3 with z | z
      · exact z.1
      · exact absurd ((lz_cs_ob p2 _ _).mpr hm) (z.2 m)
    exact br_t n3 (lz_v_law_75 (br_t rfl (lz_law_98w hw p3 (Or.inr ⟨m, rfl, hm, Nat.zero_le _, fun m' hm' _ => hl m' hm'⟩))))
theorem lz_law_10w {L : Nat} (hL : L ≤ 260) {xs : Nat → Int32} {kc ks : Nat} {u : St1} (hK : lz_K u) : ∃ fu, lz_law_10 (fun r => r = 1) L xs kc ks fu 0 u := by
  refine loop_m (fun n (p : Nat × St1) => lz_law_10 (fun r => r = 1) L xs kc ks n (nI p.1) p.2) (fun p => p.1 ≤ 260 ∧ lz_K p.2) (fun p => 300 - p.1) ?_ (0, u) ⟨by show 0 ≤ 260; omega, hK⟩
  intro n p hI hk
  obtain ⟨k, s⟩ := p
  have i1 : k ≤ 260 := hI.1
  have i2 : lz_K s := hI.2
  show lz_law_10 (fun r => r = 1) L xs kc ks (n + 1) (nI k) s
  refine lz_v_law_10 (pk_le L (k + 1) (fun _ => lz_law_end i2) (fun z => ⟨vp_in_nI (by omega) (by omega), ?_, ?_⟩) rfl (nI_1 k))
  · rw [nI_1]
    exact vp_in_nI (by omega) (by omega)
  · refine lz_turn i2 (fun t ht => nm_r (nI_add k 2) (hk (k + 2, t) ⟨by show k + 2 ≤ 260; omega, ht⟩ ?_))
    show 300 - (k + 2) < 300 - k
    omega
theorem lz_K0 : lz_Kf 0 (fun _ => 0) (fun _ => 0) (fun _ => 0) (fun _ => 0) (fun _ => 0) := by
  have z := lz_z32
  refine ⟨⟨0, rfl, by omega⟩, fun _ _ => ?_, fun _ _ => ?_, fun _ _ => ?_, fun _ _ b hb => lz_e0 b _ hb, fun _ _ b hb => lz_e0 b _ hb⟩
  · show -5 ≤ (0 : Int32).toInt ∧ (0 : Int32).toInt ≤ 5
    rw [z]
    omega
  · show -5 ≤ (0 : Int32).toInt ∧ (0 : Int32).toInt ≤ 5
    rw [z]
    omega
  · show -60 ≤ (0 : Int32).toInt ∧ (0 : Int32).toInt ≤ 60
    rw [z]
    omega
theorem lz_init (L : Nat) (hL : L ≤ 260) (xs : Nat → Int32) : ∃ fu, lz_law_10 (fun r => r = 1) L xs (1 + 16) (29 + 426) fu 0 (0, 0, 0, 0, 0, 0, 0, 0, 0, 0, 0, 0, 0, (fun _ => 0), (fun _ => 0), (fun _ => 0), (fun _ => 0), (fun _ => 0), (fun _ => 0), (fun _ => 0), (fun _ => 0), (fun _ => 0), (fun _ => 0), (fun _ => 0), (fun _ => 0), (fun _ => 0), (fun _ => 0), (fun _ => 0), (fun _ => 0)) :=
  lz_law_10w hL lz_K0
end
section
theorem i_vc (xs : Nat → Int32) (L : Nat) (hL : L ≤ 260) : wpL_law (fun r => r = 1) L xs := by
  refine ⟨16, 426, by omega, by omega, ?_⟩
  show 1 ≤ 16 ∧ _
  repeat' (first | exact lz_init L hL xs | refine ⟨by omega, ?_⟩)
end
