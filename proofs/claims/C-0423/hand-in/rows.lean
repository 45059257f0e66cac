section
/-! rows of the kit's rows to paste -/
theorem pk_us {f : Nat → Int32} {k : Nat} {x : Int32} : upd f k x k = x := if_pos rfl
theorem pk_un {f : Nat → Int32} {k j : Nat} {x : Int32} (h : j ≠ k) : upd f k x j = f j := if_neg h
theorem pk_sub {a b : Nat} (h : b ≤ a) : nI a - nI b = nI (a - b) := by
  obtain ⟨c, rfl⟩ : ∃ c, a = c + b := ⟨a - b, by omega⟩
  rw [← nI_add, Int32.add_sub_cancel, Nat.add_sub_cancel]
theorem pk_m1 (n : Nat) : nI (n + 1) + (-1) = nI n := by
  rw [← nI_1, Int32.add_assoc, show (1 : Int32) + (-1) = 0 from rfl, Int32.add_zero]
theorem pk_mul (a b : Nat) : nI a * nI b = nI (a * b) := (Int32.ofNat_mul a b).symm
theorem pk_ix (x : Int32) {n : Nat} (hn : n < 2 ^ 31) : x < 0 ∨ nI n ≤ x ∨ ∃ j : Nat, j < n ∧ x = nI j := by
  by_cases h : x < 0
  · exact Or.inl h
  · obtain ⟨j, hj, rfl⟩ := nI_of h
    by_cases h2 : j < n
    · exact Or.inr (Or.inr ⟨j, h2, rfl⟩)
    · exact Or.inr (Or.inl (nI_le (by omega) hj))
theorem pk_le {x y : Int32} {A B : Prop} (a b : Nat) (f : a ≤ b → A) (g : b < a → B) (hx : x = nI a := by rfl) (hy : y = nI b := by rfl) (ha : a < 2 ^ 31 := by omega) (hb : b < 2 ^ 31 := by omega) : (x ≤ y → A) ∧ (¬ x ≤ y → B) := by
  subst hx hy
  rw [nI_leI ha hb]
  exact ⟨f, fun z => g (by omega)⟩
theorem pk_lt {x y : Int32} {A B : Prop} (a b : Nat) (f : a < b → A) (g : b ≤ a → B) (hx : x = nI a := by rfl) (hy : y = nI b := by rfl) (ha : a < 2 ^ 31 := by omega) (hb : b < 2 ^ 31 := by omega) : (x < y → A) ∧ (¬ x < y → B) := by
  subst hx hy
  rw [nI_ltI ha hb]
  exact ⟨f, fun z => g (by omega)⟩
theorem pk_eq {x y : Int32} {A B : Prop} (a b : Nat) (f : a = b → A) (g : a ≠ b → B) (hx : x = nI a := by rfl) (hy : y = nI b := by rfl) (ha : a < 2 ^ 31 := by omega) (hb : b < 2 ^ 31 := by omega) : (x = y → A) ∧ (¬ x = y → B) := by
  subst hx hy
  rw [nI_eq ha hb]
  exact ⟨f, g⟩
theorem pk_in {x : Int32} (n N : Nat) (h : n < N) (hx : x = nI n := by rfl) (hN : N < 2 ^ 31 := by omega) : vp_in x N := by
  subst hx
  exact vp_in_nI h hN
theorem pk_cl {x : Int32} (n : Nat) (hx : x = nI n := by rfl) (h : n < 2 ^ 31 := by omega) : x.toNatClampNeg = n := by
  subst hx
  exact nI_clamp h
theorem pk_least (P : Nat → Prop) (h : ∃ k, P k) : ∃ k, P k ∧ ∀ j, j < k → ¬ P j := by
  obtain ⟨k, hk⟩ := h
  induction k using Nat.strongRecOn with
  | ind k ih =>
    by_cases e : ∃ j, j < k ∧ P j
    · obtain ⟨j, hj, pj⟩ := e
      exact ih j hj pj
    · exact ⟨k, hk, fun j hj pj => e ⟨j, hj, pj⟩⟩
def bt (x : Int32) (i : Nat) : Bool := x.toBitVec.getLsbD i
theorem b_ext {x y : Int32} (h : ∀ i, i < 32 → bt x i = bt y i) : x = y := Int32.toBitVec_inj.mp (BitVec.eq_of_getLsbD_eq (fun i hi => h i hi))
theorem b_or (x y : Int32) (i : Nat) : bt (x ||| y) i = (bt x i || bt y i) := by unfold bt; rw [Int32.toBitVec_or, BitVec.getLsbD_or]
theorem b_and (x y : Int32) (i : Nat) : bt (x &&& y) i = (bt x i && bt y i) := by unfold bt; rw [Int32.toBitVec_and, BitVec.getLsbD_and]
theorem b_xor (x y : Int32) (i : Nat) : bt (x ^^^ y) i = (bt x i ^^ bt y i) := by unfold bt; rw [Int32.toBitVec_xor, BitVec.getLsbD_xor]
theorem b_big {x : Int32} {i : Nat} (h : 32 ≤ i) : bt x i = false := BitVec.getLsbD_of_ge _ _ h
theorem b_65535 (i : Nat) : bt 65535 i = decide (i < 16) := by
  rcases Nat.lt_or_ge i 32 with h | h
  · exact (by decide +kernel : ∀ i, i < 32 → bt 65535 i = decide (i < 16)) i h
  · rw [b_big h, decide_eq_false (by omega)]
theorem b_m1 : ∀ i, i < 32 → bt (-1) i = true := by decide +kernel
theorem b_0 (i : Nat) : bt 0 i = false := BitVec.getLsbD_zero
theorem s_l : ∀ n, n < 32 → ((nI n &&& 31).toBitVec.smod 32).toNat = n := by decide +kernel
theorem b_shl (n : Nat) (hn : n < 32) (x : Int32) {i : Nat} (hi : i < 32) : bt (x <<< (nI n &&& 31)) i = (decide (n ≤ i) && bt x (i - n)) := by
  unfold bt
  rw [Int32.toBitVec_shiftLeft]
  show (x.toBitVec <<< ((nI n &&& 31).toBitVec.smod 32).toNat).getLsbD i = _
  rw [s_l n hn, BitVec.getLsbD_shiftLeft]
  rcases Nat.lt_or_ge i n with h | h
  · simp [h, Nat.not_le.mpr h]
  · simp [hi, h, Nat.not_lt.mpr h]
theorem b_sshr (n : Nat) (hn : n < 32) (x : Int32) {i : Nat} (hi : i < 32) : bt (x >>> (nI n &&& 31)) i = if n + i < 32 then bt x (n + i) else bt x 31 := by
  unfold bt
  rw [Int32.toBitVec_shiftRight]
  show (x.toBitVec.sshiftRight ((nI n &&& 31).toBitVec.smod 32).toNat).getLsbD i = _
  rw [s_l n hn, BitVec.getLsbD_sshiftRight, BitVec.msb_eq_getLsbD_last]
  simp [hi]
end
section
/-! counting below n -/
def wi_cn (p : Nat → Bool) : Nat → Nat
  | 0 => 0
  | n + 1 => wi_cn p n + (if p n = true then 1 else 0)
theorem wi_cn_ext {p q : Nat → Bool} : ∀ n, (∀ i, i < n → p i = q i) → wi_cn p n = wi_cn q n := by
  intro n
  induction n with
  | zero => intro _; rfl
  | succ n ih =>
    intro h
    show wi_cn p n + _ = wi_cn q n + _
    rw [ih (fun i hi => h i (by omega)), h n (by omega)]
theorem wi_cn_le (p : Nat → Bool) : ∀ n, wi_cn p n ≤ n := by
  intro n
  induction n with
  | zero => exact Nat.le_refl _
  | succ n ih =>
    show wi_cn p n + (if p n = true then 1 else 0) ≤ n + 1
    split <;> omega
theorem wi_cn_lt {p : Nat → Bool} : ∀ n, wi_cn p n < n → ∃ i, i < n ∧ p i = false := by
  intro n
  induction n with
  | zero => intro h; exact absurd h (Nat.not_lt_zero _)
  | succ n ih =>
    intro h
    cases e : p n with
    | false => exact ⟨n, by omega, e⟩
    | true =>
      have h2 : wi_cn p n + (if p n = true then 1 else 0) < n + 1 := h
      rw [e, if_pos rfl] at h2
      obtain ⟨i, hi, pi⟩ := ih (by omega)
      exact ⟨i, by omega, pi⟩
theorem wi_cn_all {p : Nat → Bool} : ∀ n, wi_cn p n = n → ∀ i, i < n → p i = true := by
  intro n
  induction n with
  | zero => intro _ i hi; exact absurd hi (Nat.not_lt_zero _)
  | succ n ih =>
    intro h i hi
    have h2 : wi_cn p n + (if p n = true then 1 else 0) = n + 1 := h
    have h3 := wi_cn_le p n
    cases e : p n with
    | false => rw [e, if_neg (by decide)] at h2; omega
    | true =>
      rw [e, if_pos rfl] at h2
      rcases Nat.lt_or_ge i n with z | z
      · exact ih (by omega) i z
      · have : i = n := by omega
        rw [this]; exact e
theorem wi_cn_add {p q : Nat → Bool} {c : Nat} (hpc : p c = false) (hqc : q c = true) : ∀ n, (∀ i, i < n → i ≠ c → p i = q i) → wi_cn q n = wi_cn p n + (if c < n then 1 else 0) := by
  intro n
  induction n with
  | zero => intro _; rw [if_neg (by omega)]; rfl
  | succ n ih =>
    intro h
    show wi_cn q n + (if q n = true then 1 else 0) = wi_cn p n + (if p n = true then 1 else 0) + _
    rw [ih (fun i hi => h i (by omega))]
    by_cases e : n = c
    · subst e
      rw [hpc, hqc, if_neg (Nat.lt_irrefl n), if_pos rfl, if_neg (by decide), if_pos (by omega)]
    · rw [h n (by omega) e]
      by_cases z : c < n
      · rw [if_pos z, if_pos (show c < n + 1 by omega)]; omega
      · rw [if_neg z, if_neg (show ¬ c < n + 1 by omega)]; omega
theorem wi_cn_0 : ∀ n, wi_cn (fun _ => false) n = 0 := by
  intro n
  induction n with
  | zero => rfl
  | succ n ih =>
    show wi_cn (fun _ => false) n + (if false = true then 1 else 0) = 0
    rw [ih, if_neg (by decide)]
theorem wi_cn_s (p : Nat → Bool) (n : Nat) : wi_cn p (n + 1) = wi_cn p n + (if p n = true then 1 else 0) := rfl
/-! bits -/
theorem wi_one {c i : Nat} (hc : c < 16) : bt ((1 : Int32) <<< (nI c &&& 31)) i = decide (i = c) := by
  rcases Nat.lt_or_ge i 32 with h | h
  · exact (by decide +kernel : ∀ c, c < 16 → ∀ i, i < 32 → bt ((1 : Int32) <<< (nI c &&& 31)) i = decide (i = c)) c hc i h
  · rw [b_big h, decide_eq_false (by omega)]
theorem wi_oneT {c i : Nat} (hc : c < 16) : bt ((1 : Int32) <<< (nI c &&& 31)) i = true ↔ i = c := by
  rw [wi_one hc, decide_eq_true_iff]
theorem wi_b1 : ∀ i, i < 32 → bt 1 i = decide (i = 0) := by decide +kernel
theorem wi_shr (x : Int32) {c : Nat} (hc : c < 16) : (x >>> (nI c &&& 31)) &&& 1 = if bt x c = true then 1 else 0 := by
  apply b_ext
  intro i hi
  rw [b_and, b_sshr c (by omega) x hi, wi_b1 i hi]
  by_cases h0 : i = 0
  · subst h0
    rw [if_pos (by omega), Nat.add_zero, decide_eq_true rfl, Bool.and_true]
    cases hb : bt x c
    · rw [if_neg (by decide)]; exact (b_0 0).symm
    · rw [if_pos rfl]; exact ((wi_b1 0 (by omega)).trans (decide_eq_true rfl)).symm
  · rw [decide_eq_false h0, Bool.and_false]
    cases hb : bt x c
    · rw [if_neg (by decide)]; exact (b_0 i).symm
    · rw [if_pos rfl]; exact ((wi_b1 i hi).trans (decide_eq_false h0)).symm
theorem wi_t1 (x : Int32) {c : Nat} (hc : c < 16) : ((x >>> (nI c &&& 31)) &&& 1) = 1 ↔ bt x c = true := by
  rw [wi_shr x hc]
  cases hb : bt x c
  · rw [if_neg (by decide)]; exact ⟨fun z => absurd z (by decide), fun z => absurd z (by decide)⟩
  · rw [if_pos rfl]; exact ⟨fun _ => rfl, fun _ => rfl⟩
theorem wi_t0 (x : Int32) {c : Nat} (hc : c < 16) : ((x >>> (nI c &&& 31)) &&& 1) = 0 ↔ bt x c = false := by
  rw [wi_shr x hc]
  cases hb : bt x c
  · rw [if_neg (by decide)]; exact ⟨fun _ => rfl, fun _ => rfl⟩
  · rw [if_pos rfl]; exact ⟨fun z => absurd z (by decide), fun z => absurd z (by decide)⟩
theorem wi_and0 (x y : Int32) : (x &&& y) = 0 ↔ ∀ i, bt x i = true → bt y i = true → False := by
  constructor
  · intro h i hx hy
    have e : bt (x &&& y) i = false := by rw [h]; exact b_0 i
    rw [b_and, hx, hy] at e
    exact absurd e (by decide)
  · intro h
    apply b_ext
    intro i _
    rw [b_and, b_0]
    cases hx : bt x i with
    | false => rfl
    | true =>
      cases hy : bt y i with
      | false => rfl
      | true => exact (h i hx hy).elim
theorem wi_nand0 {x y : Int32} (h : ¬ (x &&& y) = 0) : ∃ i, bt x i = true ∧ bt y i = true := by
  apply Classical.byContradiction
  intro hn
  exact h ((wi_and0 x y).mpr (fun i hx hy => hn ⟨i, hx, hy⟩))
theorem wi_not (x : Int32) {i : Nat} (h : i < 32) : bt (x ^^^ (-1)) i = !bt x i := by
  rw [b_xor, b_m1 i h]
  cases bt x i <;> rfl
theorem wi_orT (x y : Int32) (i : Nat) : bt (x ||| y) i = true ↔ bt x i = true ∨ bt y i = true := by
  rw [b_or]
  cases bt x i <;> cases bt y i <;> decide
theorem wi_andT (x y : Int32) (i : Nat) : bt (x &&& y) i = true ↔ bt x i = true ∧ bt y i = true := by
  rw [b_and]
  cases bt x i <;> cases bt y i <;> decide
theorem wi_nf {b : Bool} (h : ¬ b = true) : b = false := by
  cases b
  · rfl
  · exact absurd rfl h
/-! the stack machine that both sides run: kinds K, arguments A, values V, first stack s0 -/
def wi_pop (k : Int32) : Nat := if k < 2 then 0 else if k < 7 then 2 else 3
def wi_ht (K : Nat → Int32) : Nat → Nat
  | 0 => 0
  | i + 1 => wi_ht K i - wi_pop (K i) + 1
def wi_val (k a : Int32) (V s : Nat → Int32) (h : Nat) : Int32 :=
  if k = 1 then V a.toNatClampNeg
  else if k = 2 then s (h - 2) + s (h - 1)
  else if k = 3 then s (h - 2) - s (h - 1)
  else if k = 4 then s (h - 2) * s (h - 1)
  else if k = 5 then (if s (h - 1) ≤ s (h - 2) then s (h - 1) else s (h - 2))
  else if k = 6 then (if s (h - 2) ≤ s (h - 1) then s (h - 1) else s (h - 2))
  else if k = 7 then (if s (h - 3) ≤ 0 then s (h - 1) else s (h - 2))
  else a
def wi_stk (K A V s0 : Nat → Int32) : Nat → Nat → Int32
  | 0 => s0
  | i + 1 => upd (wi_stk K A V s0 i) (wi_ht K i - wi_pop (K i)) (wi_val (K i) (A i) V (wi_stk K A V s0 i) (wi_ht K i))
def wi_snd (K : Nat → Int32) (n : Nat) : Prop := (∀ i, i < n → wi_pop (K i) ≤ wi_ht K i) ∧ wi_ht K n = 1
def wi_ok (k a : Int32) : Prop := ∃ j, j ≤ 7 ∧ k = nI j ∧ (k = 1 → ∃ c, c < 16 ∧ a = nI c)
def wi_nm (K A : Nat → Int32) (n d : Nat) : Prop := ∃ i, i < n ∧ K i = 1 ∧ (A i).toNatClampNeg = d
theorem wi_ht_s (K : Nat → Int32) (i : Nat) : wi_ht K (i + 1) = wi_ht K i - wi_pop (K i) + 1 := rfl
theorem wi_ht_le (K : Nat → Int32) : ∀ i, wi_ht K i ≤ i := by
  intro i
  induction i with
  | zero => exact Nat.le_refl _
  | succ i ih => rw [wi_ht_s]; omega
theorem wi_k8 {P : Int32 → Prop} (h0 : P 0) (h1 : P 1) (h2 : P 2) (h3 : P 3) (h4 : P 4) (h5 : P 5) (h6 : P 6) (h7 : P 7) {k : Int32} (hk : ∃ j, j ≤ 7 ∧ k = nI j) : P k := by
  obtain ⟨j, hj, rfl⟩ := hk
  match j, hj with
  | 0, _ => exact h0
  | 1, _ => exact h1
  | 2, _ => exact h2
  | 3, _ => exact h3
  | 4, _ => exact h4
  | 5, _ => exact h5
  | 6, _ => exact h6
  | 7, _ => exact h7
  | j + 8, hj => omega
theorem wi_pop_0 : wi_pop 0 = 0 := by decide
theorem wi_pop_1 : wi_pop 1 = 0 := by decide
theorem wi_pop_2 : wi_pop 2 = 2 := by decide
theorem wi_pop_3 : wi_pop 3 = 2 := by decide
theorem wi_pop_4 : wi_pop 4 = 2 := by decide
theorem wi_pop_5 : wi_pop 5 = 2 := by decide
theorem wi_pop_6 : wi_pop 6 = 2 := by decide
theorem wi_pop_7 : wi_pop 7 = 3 := by decide
theorem wi_val_0 (a : Int32) (V s : Nat → Int32) (h : Nat) : wi_val 0 a V s h = a := by
  unfold wi_val
  rw [if_neg (by decide), if_neg (by decide), if_neg (by decide), if_neg (by decide), if_neg (by decide), if_neg (by decide), if_neg (by decide)]
theorem wi_val_1 (a : Int32) (V s : Nat → Int32) (h : Nat) : wi_val 1 a V s h = V a.toNatClampNeg := by
  unfold wi_val
  rw [if_pos rfl]
theorem wi_val_2 (a : Int32) (V s : Nat → Int32) (h : Nat) : wi_val 2 a V s h = s (h - 2) + s (h - 1) := by
  unfold wi_val
  rw [if_neg (by decide), if_pos rfl]
theorem wi_val_3 (a : Int32) (V s : Nat → Int32) (h : Nat) : wi_val 3 a V s h = s (h - 2) - s (h - 1) := by
  unfold wi_val
  rw [if_neg (by decide), if_neg (by decide), if_pos rfl]
theorem wi_val_4 (a : Int32) (V s : Nat → Int32) (h : Nat) : wi_val 4 a V s h = s (h - 2) * s (h - 1) := by
  unfold wi_val
  rw [if_neg (by decide), if_neg (by decide), if_neg (by decide), if_pos rfl]
theorem wi_val_5 (a : Int32) (V s : Nat → Int32) (h : Nat) : wi_val 5 a V s h = if s (h - 1) ≤ s (h - 2) then s (h - 1) else s (h - 2) := by
  unfold wi_val
  rw [if_neg (by decide), if_neg (by decide), if_neg (by decide), if_neg (by decide), if_pos rfl]
theorem wi_val_6 (a : Int32) (V s : Nat → Int32) (h : Nat) : wi_val 6 a V s h = if s (h - 2) ≤ s (h - 1) then s (h - 1) else s (h - 2) := by
  unfold wi_val
  rw [if_neg (by decide), if_neg (by decide), if_neg (by decide), if_neg (by decide), if_neg (by decide), if_pos rfl]
theorem wi_val_7 (a : Int32) (V s : Nat → Int32) (h : Nat) : wi_val 7 a V s h = if s (h - 3) ≤ 0 then s (h - 1) else s (h - 2) := by
  unfold wi_val
  rw [if_neg (by decide), if_neg (by decide), if_neg (by decide), if_neg (by decide), if_neg (by decide), if_neg (by decide), if_pos rfl]
theorem wi_val_eq {k a : Int32} {V V' s s' : Nat → Int32} {h : Nat} (hk : ∃ j, j ≤ 7 ∧ k = nI j) (hV : k = 1 → V' a.toNatClampNeg = V a.toNatClampNeg) (hp : wi_pop k ≤ h) (hs : ∀ j, j < h → s' j = s j) : wi_val k a V' s' h = wi_val k a V s h := by
  revert hV hp
  refine wi_k8 (P := fun k => (k = 1 → V' a.toNatClampNeg = V a.toNatClampNeg) → wi_pop k ≤ h → wi_val k a V' s' h = wi_val k a V s h) ?_ ?_ ?_ ?_ ?_ ?_ ?_ ?_ hk
  · intro _ _; rw [wi_val_0, wi_val_0]
  · intro hV _; rw [wi_val_1, wi_val_1]; exact hV rfl
  · intro _ hp; rw [wi_pop_2] at hp; rw [wi_val_2, wi_val_2, hs (h - 2) (by omega), hs (h - 1) (by omega)]
  · intro _ hp; rw [wi_pop_3] at hp; rw [wi_val_3, wi_val_3, hs (h - 2) (by omega), hs (h - 1) (by omega)]
  · intro _ hp; rw [wi_pop_4] at hp; rw [wi_val_4, wi_val_4, hs (h - 2) (by omega), hs (h - 1) (by omega)]
  · intro _ hp; rw [wi_pop_5] at hp; rw [wi_val_5, wi_val_5, hs (h - 2) (by omega), hs (h - 1) (by omega)]
  · intro _ hp; rw [wi_pop_6] at hp; rw [wi_val_6, wi_val_6, hs (h - 2) (by omega), hs (h - 1) (by omega)]
  · intro _ hp; rw [wi_pop_7] at hp; rw [wi_val_7, wi_val_7, hs (h - 3) (by omega), hs (h - 2) (by omega), hs (h - 1) (by omega)]
theorem wi_ht_eq {K K' : Nat → Int32} : ∀ n, (∀ i, i < n → K' i = K i) → wi_ht K' n = wi_ht K n := by
  intro n
  induction n with
  | zero => intro _; rfl
  | succ n ih =>
    intro h
    rw [wi_ht_s, wi_ht_s, ih (fun i hi => h i (by omega)), h n (by omega)]
theorem wi_stk_eq {K A V s0 K' A' V' s0' : Nat → Int32} : ∀ n, (∀ i, i < n → wi_pop (K i) ≤ wi_ht K i) → (∀ i, i < n → wi_ok (K i) (A i) ∧ K' i = K i ∧ A' i = A i) → (∀ i, i < n → K i = 1 → V' (A i).toNatClampNeg = V (A i).toNatClampNeg) → ∀ j, j < wi_ht K n → wi_stk K' A' V' s0' n j = wi_stk K A V s0 n j := by
  intro n
  induction n with
  | zero => intro _ _ _ j hj; exact absurd hj (Nat.not_lt_zero _)
  | succ n ih =>
    intro hp hk hV j hj
    have ih' := ih (fun i hi => hp i (by omega)) (fun i hi => hk i (by omega)) (fun i hi => hV i (by omega))
    have hh : wi_ht K' n = wi_ht K n := wi_ht_eq n (fun i hi => (hk i (by omega)).2.1)
    obtain ⟨⟨q, hq, eq, _⟩, e1, e2⟩ := hk n (by omega)
    have hpn := hp n (by omega)
    rw [wi_ht_s] at hj
    show upd (wi_stk K' A' V' s0' n) (wi_ht K' n - wi_pop (K' n)) (wi_val (K' n) (A' n) V' (wi_stk K' A' V' s0' n) (wi_ht K' n)) j = upd (wi_stk K A V s0 n) (wi_ht K n - wi_pop (K n)) (wi_val (K n) (A n) V (wi_stk K A V s0 n) (wi_ht K n)) j
    rw [hh, e1, e2, wi_val_eq ⟨q, hq, eq⟩ (hV n (by omega)) hpn ih']
    by_cases e : j = wi_ht K n - wi_pop (K n)
    · rw [e, pk_us, pk_us]
    · rw [pk_un e, pk_un e]
      exact ih' j (by omega)
theorem wi_snd_eq {K K' : Nat → Int32} {n : Nat} (h : ∀ i, i < n → K' i = K i) : wi_snd K' n ↔ wi_snd K n := by
  have e : ∀ i, i ≤ n → wi_ht K' i = wi_ht K i := fun i hi => wi_ht_eq i (fun j hj => h j (by omega))
  unfold wi_snd
  rw [e n (Nat.le_refl n)]
  constructor
  · intro ⟨h1, h2⟩
    refine ⟨fun i hi => ?_, h2⟩
    have := h1 i hi
    rw [e i (by omega), h i hi] at this
    exact this
  · intro ⟨h1, h2⟩
    refine ⟨fun i hi => ?_, h2⟩
    rw [e i (by omega), h i hi]
    exact h1 i hi
end
section
/-! the sheet: lengths len, kinds kk, arguments aa (eight a cell); who names whom; the value of a cell's formula over values V -/
def wi_row (f : Nat → Int32) (c : Nat) : Nat → Int32 := fun i => f (c * 8 + i)
def wi_L (len : Nat → Int32) (c : Nat) : Nat := (len c).toNatClampNeg
def wi_N (len kk aa : Nat → Int32) (c d : Nat) : Prop := wi_nm (wi_row kk c) (wi_row aa c) (wi_L len c) d
def wi_F (len kk aa : Nat → Int32) (c : Nat) (V : Nat → Int32) : Int32 := wi_stk (wi_row kk c) (wi_row aa c) V (fun _ => 0) (wi_L len c) 0
def wi_sh (len kk aa : Nat → Int32) : Prop := ∀ c, c < 16 → ∃ l, l ≤ 8 ∧ len c = nI l ∧ (∀ i, i < l → wi_ok (kk (c * 8 + i)) (aa (c * 8 + i))) ∧ (0 < l → wi_snd (wi_row kk c) l)
def wi_nms (N : Nat → Nat → Prop) (names : Nat → Int32) : Prop := ∀ c, c < 16 → ∀ d, bt (names c) d = true ↔ N c d
def wi_top (N : Nat → Nat → Prop) (ord : Nat → Int32) : Prop := ∃ o : Nat → Nat, (∀ i, i < 16 → o i < 16 ∧ ord i = nI (o i)) ∧ (∀ i j, i < 16 → j < 16 → o i = o j → i = j) ∧ (∀ c, c < 16 → ∃ i, i < 16 ∧ o i = c) ∧ (∀ i, i < 16 → ∀ d, N (o i) d → ∃ j, j < i ∧ o j = d)
def wi_vals (len kk aa num now : Nat → Int32) : Prop := ∀ c, c < 16 → now c = if wi_L len c = 0 then num c else wi_F len kk aa c now
/-- W meets the equations of the sheet on B, cells r and q (as ints) holding x and y -/
def wi_sol (B : Nat → Prop) (len kk aa num : Nat → Int32) (r x q y : Int32) (W : Nat → Int32) : Prop := ∀ c, c < 16 → B c → W c = if nI c = r then x else if nI c = q then y else if wi_L len c = 0 then num c else wi_F len kk aa c W
theorem wi_sh_e {len kk aa : Nat → Int32} (h : wi_sh len kk aa) {c : Nat} (hc : c < 16) : wi_L len c ≤ 8 ∧ len c = nI (wi_L len c) ∧ (∀ i, i < wi_L len c → wi_ok (kk (c * 8 + i)) (aa (c * 8 + i))) ∧ (0 < wi_L len c → wi_snd (wi_row kk c) (wi_L len c)) := by
  obtain ⟨l, h1, h2, h3, h4⟩ := h c hc
  have e : wi_L len c = l := by unfold wi_L; rw [h2]; exact nI_clamp (by omega)
  rw [e]
  exact ⟨h1, h2, h3, h4⟩
theorem wi_N_lt {len kk aa : Nat → Int32} (h : wi_sh len kk aa) {c d : Nat} (hc : c < 16) (hN : wi_N len kk aa c d) : d < 16 := by
  obtain ⟨_, _, h3, _⟩ := wi_sh_e h hc
  obtain ⟨i, hi, e1, e2⟩ := hN
  obtain ⟨_, _, _, h4⟩ := h3 i hi
  obtain ⟨b, hb, e3⟩ := h4 e1
  have e4 : (aa (c * 8 + i)).toNatClampNeg = d := e2
  rw [e3, nI_clamp (by omega)] at e4
  omega
theorem wi_F_gen {len kk aa kk' aa' V V' s0 : Nat → Int32} (h : wi_sh len kk aa) {c : Nat} (hc : c < 16) (hl : 0 < wi_L len c) (ht : ∀ i, i < wi_L len c → kk' (c * 8 + i) = kk (c * 8 + i) ∧ aa' (c * 8 + i) = aa (c * 8 + i)) (hV : ∀ d, d < 16 → wi_N len kk aa c d → V' d = V d) : wi_stk (wi_row kk' c) (wi_row aa' c) V' s0 (wi_L len c) 0 = wi_F len kk aa c V := by
  obtain ⟨_, _, h3, h4⟩ := wi_sh_e h hc
  obtain ⟨h5, h6⟩ := h4 hl
  refine wi_stk_eq (wi_L len c) h5 (fun i hi => ⟨h3 i hi, ht i hi⟩) (fun i hi e => ?_) 0 (by omega)
  have hn : wi_N len kk aa c (wi_row aa c i).toNatClampNeg := ⟨i, hi, e, rfl⟩
  exact hV _ (wi_N_lt h hc hn) hn
theorem wi_F_loc {len kk aa V V' : Nat → Int32} (h : wi_sh len kk aa) {c : Nat} (hc : c < 16) (hl : 0 < wi_L len c) (hV : ∀ d, d < 16 → wi_N len kk aa c d → V' d = V d) : wi_F len kk aa c V' = wi_F len kk aa c V := wi_F_gen h hc hl (fun _ _ => ⟨rfl, rfl⟩) hV
def wi_same (len kk aa kk' aa' : Nat → Int32) : Prop := ∀ c, c < 16 → ∀ i, i < wi_L len c → kk' (c * 8 + i) = kk (c * 8 + i) ∧ aa' (c * 8 + i) = aa (c * 8 + i)
theorem wi_sh_tok {len kk aa kk' aa' : Nat → Int32} (h : wi_sh len kk aa) (ht : wi_same len kk aa kk' aa') : wi_sh len kk' aa' := by
  intro c hc
  obtain ⟨h1, h2, h3, h4⟩ := wi_sh_e h hc
  refine ⟨wi_L len c, h1, h2, fun i hi => ?_, fun hl => ?_⟩
  · rw [(ht c hc i hi).1, (ht c hc i hi).2]; exact h3 i hi
  · exact (wi_snd_eq (fun i hi => (ht c hc i hi).1)).mpr (h4 hl)
theorem wi_N_tok {len kk aa kk' aa' : Nat → Int32} (ht : wi_same len kk aa kk' aa') {c : Nat} (hc : c < 16) (d : Nat) : wi_N len kk' aa' c d ↔ wi_N len kk aa c d := by
  constructor
  · intro ⟨i, hi, e1, e2⟩
    exact ⟨i, hi, (ht c hc i hi).1.symm.trans e1, by
      have e : wi_row aa c i = wi_row aa' c i := (ht c hc i hi).2.symm
      rw [e]; exact e2⟩
  · intro ⟨i, hi, e1, e2⟩
    exact ⟨i, hi, (ht c hc i hi).1.trans e1, by
      have e : wi_row aa' c i = wi_row aa c i := (ht c hc i hi).2
      rw [e]; exact e2⟩
theorem wi_F_tok {len kk aa kk' aa' V : Nat → Int32} (h : wi_sh len kk aa) (ht : wi_same len kk aa kk' aa') {c : Nat} (hc : c < 16) (hl : 0 < wi_L len c) : wi_F len kk' aa' c V = wi_F len kk aa c V := wi_F_gen h hc hl (ht c hc) (fun _ _ _ => rfl)
theorem wi_nm_s (K A : Nat → Int32) (i d : Nat) : wi_nm K A (i + 1) d ↔ wi_nm K A i d ∨ (K i = 1 ∧ (A i).toNatClampNeg = d) := by
  constructor
  · intro ⟨j, hj, e1, e2⟩
    rcases Nat.lt_or_ge j i with z | z
    · exact Or.inl ⟨j, z, e1, e2⟩
    · have : j = i := by omega
      subst this
      exact Or.inr ⟨e1, e2⟩
  · intro h
    rcases h with ⟨j, hj, e1, e2⟩ | ⟨e1, e2⟩
    · exact ⟨j, by omega, e1, e2⟩
    · exact ⟨i, by omega, e1, e2⟩
theorem wi_top_mono {N N' : Nat → Nat → Prop} {ord : Nat → Int32} (h : wi_top N ord) (hN : ∀ c, c < 16 → ∀ d, N' c d → N c d) : wi_top N' ord := by
  obtain ⟨o, h1, h2, h3, h4⟩ := h
  exact ⟨o, h1, h2, h3, fun i hi d hd => h4 i hi d (hN (o i) (h1 i hi).1 d hd)⟩
theorem wi_top_rank {N : Nat → Nat → Prop} {ord : Nat → Int32} (h : wi_top N ord) : ∃ rk : Nat → Nat, (∀ c, c < 16 → rk c < 16) ∧ ∀ c d, c < 16 → N c d → rk d < rk c := by
  obtain ⟨o, h1, h2, h3, h4⟩ := h
  have h5 : ∀ c : Nat, ∃ i : Nat, c < 16 → i < 16 ∧ o i = c := by
    intro c
    rcases Nat.lt_or_ge c 16 with z | z
    · obtain ⟨i, hi, e⟩ := h3 c z
      exact ⟨i, fun _ => ⟨hi, e⟩⟩
    · exact ⟨0, fun z2 => absurd z2 (by omega)⟩
  obtain ⟨rk, hr⟩ := Classical.skolem.mp h5
  refine ⟨rk, fun c hc => (hr c hc).1, fun c d hc hN => ?_⟩
  obtain ⟨hi, e⟩ := hr c hc
  rw [← e] at hN
  obtain ⟨j, hj, ej⟩ := h4 (rk c) hi d hN
  have hd : d < 16 := by rw [← ej]; exact (h1 j (by omega)).1
  obtain ⟨hi2, e2⟩ := hr d hd
  have : rk d = j := h2 (rk d) j hi2 (by omega) (e2.trans ej.symm)
  omega
end
section
theorem wi_in16 {p : Int32} (h0 : ¬ p < 0) (h16 : p < 16) : vp_in p 16 := by
  obtain ⟨j, hj, rfl⟩ := nI_of h0
  have h : nI j < nI 16 := h16
  rw [nI_ltI hj (by omega)] at h
  exact vp_in_nI h (by omega)
theorem wi_in15 {p : Int32} (h0 : ¬ p < 0) (h16 : p ≤ 15) : vp_in p 16 := by
  obtain ⟨j, hj, rfl⟩ := nI_of h0
  have h : nI j ≤ nI 15 := h16
  rw [nI_leI hj (by omega)] at h
  exact vp_in_nI (by omega) (by omega)
theorem wi_xoff_in {post : Int32 → Prop} {c : Nat} (hc : c < 16) (h : post 0) : wpX_off post (nI c) := br_f (nI_pos (by omega)) (pk_lt c 16 (fun _ => h) (fun z => absurd hc (Nat.not_lt.mpr z)))
theorem wi_xoff_out {post : Int32 → Prop} {p : Int32} (hp : ¬ vp_in p 16) (h : post 1) : wpX_off post p := br_c (fun _ => h) (fun h0 => br_c (fun h16 => absurd (wi_in16 h0 h16) hp) (fun _ => h))
theorem wi_pop_le (k : Int32) : wi_pop k ≤ 3 := by
  unfold wi_pop
  split
  · omega
  · split <;> omega
theorem wi_xpops {post : Int32 → Prop} {k a : Int32} (hk : wi_ok k a) (h : post (nI (wi_pop k))) : wpX_pops post k := by
  obtain ⟨j, hj, e, _⟩ := hk
  revert h
  refine wi_k8 (P := fun k => post (nI (wi_pop k)) → wpX_pops post k) ?_ ?_ ?_ ?_ ?_ ?_ ?_ ?_ ⟨j, hj, e⟩
  · intro h; rw [wi_pop_0] at h; exact br_f (by decide) h
  · intro h; rw [wi_pop_1] at h; exact br_f (by decide) h
  · intro h; rw [wi_pop_2] at h; exact br_t (by decide) (br_f (by decide) h)
  · intro h; rw [wi_pop_3] at h; exact br_t (by decide) (br_f (by decide) h)
  · intro h; rw [wi_pop_4] at h; exact br_t (by decide) (br_f (by decide) h)
  · intro h; rw [wi_pop_5] at h; exact br_t (by decide) (br_f (by decide) h)
  · intro h; rw [wi_pop_6] at h; exact br_t (by decide) (br_f (by decide) h)
  · intro h; rw [wi_pop_7] at h; exact br_t (by decide) (br_t rfl h)
section
variable {f_typed f_rows f_columns : Int32} {a_length a_kindOf a_argOf a_names a_now a_order a_typedKind a_typedArg a_inputs a_inputCount a_entries a_aside a_stack : Nat → Int32}
theorem wi_xs4 {post : Int32 → Prop} {t : Nat} (ht : t ≤ 8) (hk : ∀ i, i < t → wi_ok (a_typedKind i) (a_typedArg i)) (h1 : wi_snd a_typedKind t → post 1) (h0 : ¬ wi_snd a_typedKind t → post 0) : ∀ n i, i ≤ t → t < n + i → (∀ j, j < i → wi_pop (a_typedKind j) ≤ wi_ht a_typedKind j) → wX_sound_4 post (nI t) f_rows f_columns a_length a_kindOf a_argOf a_names a_now a_order a_typedKind a_typedArg a_inputs a_inputCount a_entries a_aside a_stack n (nI (wi_ht a_typedKind i)) (nI i) := by
  intro n
  induction n with
  | zero => intro i hi hn; omega
  | succ n ih =>
    intro i hi hn hp
    have hh := wi_ht_le a_typedKind i
    have ec : (nI i).toNatClampNeg = i := nI_clamp (by omega)
    refine pk_le t i (fun hx => ?_) (fun hx => ?_)
    · have hit : i = t := by omega
      subst hit
      refine pk_eq (wi_ht a_typedKind i) 1 (fun e => ?_) (fun e => ?_)
      · exact h1 ⟨hp, e⟩
      · exact h0 (fun z => e z.2)
    · refine ⟨vp_in_nI (by omega) (by omega), ?_⟩
      rw [ec]
      have hp3 := wi_pop_le (a_typedKind i)
      refine wi_xpops (hk i hx) ?_
      refine pk_le (wi_pop (a_typedKind i)) (wi_ht a_typedKind i) (fun hle => ?_) (fun hlt => ?_)
      · refine nm_r (e' := nI (wi_ht a_typedKind (i + 1))) (by rw [pk_sub hle, nI_1]; rfl) ?_
        refine nm_r (e' := nI (i + 1)) (nI_1 i) ?_
        exact ih (i + 1) (by omega) (by omega) (lt_s (p := fun j => wi_pop (a_typedKind j) ≤ wi_ht a_typedKind j) hp hle)
      · exact h0 (fun z => absurd (z.1 i hx) (by omega))
theorem wi_xsound {post : Int32 → Prop} {t : Nat} (ht : t ≤ 8) (hk : ∀ i, i < t → wi_ok (a_typedKind i) (a_typedArg i)) (h1 : wi_snd a_typedKind t → post 1) (h0 : ¬ wi_snd a_typedKind t → post 0) : wpX_sound post (nI t, f_rows, f_columns, a_length, a_kindOf, a_argOf, a_names, a_now, a_order, a_typedKind, a_typedArg, a_inputs, a_inputCount, a_entries, a_aside, a_stack) := ⟨t + 1, wi_xs4 ht hk h1 h0 (t + 1) 0 (by omega) (by omega) (fun j hj => absurd hj (Nat.not_lt_zero _))⟩
theorem wi_xt4 {post : Int32 → Prop} {t : Nat} (ht : t ≤ 8) (hk : ∀ i, i < t → wi_ok (a_typedKind i) (a_typedArg i)) (h : ∀ S, (∀ d, bt S d = true ↔ wi_nm a_typedKind a_typedArg t d) → post S) : ∀ n i S, i ≤ t → t < n + i → (∀ d, bt S d = true ↔ wi_nm a_typedKind a_typedArg i d) → wX_typedNames_4 post (nI t) f_rows f_columns a_length a_kindOf a_argOf a_names a_now a_order a_typedKind a_typedArg a_inputs a_inputCount a_entries a_aside a_stack n S (nI i) := by
  intro n
  induction n with
  | zero => intro i S hi hn; omega
  | succ n ih =>
    intro i S hi hn hS
    have ec : (nI i).toNatClampNeg = i := nI_clamp (by omega)
    refine pk_le t i (fun hx => ?_) (fun hx => ?_)
    · have hit : i = t := by omega
      subst hit
      exact h S hS
    · refine ⟨vp_in_nI (by omega) (by omega), ?_⟩
      rw [ec]
      refine br_c (fun e1 => ?_) (fun e1 => ?_)
      · obtain ⟨_, _, _, hc⟩ := hk i hx
        obtain ⟨c, hc, ea⟩ := hc e1
        refine ⟨vp_in_nI (by omega) (by omega), ?_⟩
        refine nm_r (e' := S ||| ((1 : Int32) <<< (nI c &&& 31))) (by rw [ea]) ?_
        refine nm_r (e' := nI (i + 1)) (nI_1 i) ?_
        refine ih (i + 1) _ (by omega) (by omega) (fun d => ?_)
        rw [wi_orT, hS d, wi_oneT hc, wi_nm_s, ea, nI_clamp (by omega)]
        exact ⟨fun z => z.elim Or.inl (fun e => Or.inr ⟨e1, e.symm⟩), fun z => z.elim Or.inl (fun e => Or.inr e.2.symm)⟩
      · refine nm_r (e' := nI (i + 1)) (nI_1 i) ?_
        refine ih (i + 1) S (by omega) (by omega) (fun d => ?_)
        rw [hS d, wi_nm_s]
        exact ⟨Or.inl, fun z => z.elim id (fun e => absurd e.1 e1)⟩
theorem wi_xnames {post : Int32 → Prop} {t : Nat} (ht : t ≤ 8) (hk : ∀ i, i < t → wi_ok (a_typedKind i) (a_typedArg i)) (h : ∀ S, (∀ d, bt S d = true ↔ wi_nm a_typedKind a_typedArg t d) → post S) : wpX_typedNames post (nI t, f_rows, f_columns, a_length, a_kindOf, a_argOf, a_names, a_now, a_order, a_typedKind, a_typedArg, a_inputs, a_inputCount, a_entries, a_aside, a_stack) := ⟨t + 1, wi_xt4 ht hk h (t + 1) 0 0 (by omega) (by omega) (fun d => ⟨fun z => absurd z (by rw [b_0]; decide), fun ⟨_, hj, _⟩ => absurd hj (Nat.not_lt_zero _)⟩)⟩
end
/-! above, below -/
def wi_least (N : Nat → Nat → Prop) (S0 S : Int32) : Prop := ∀ P : Nat → Prop, (∀ c, bt S0 c = true → P c) → (∀ c d, c < 16 → N c d → P d → P c) → ∀ c, bt S c = true → P c
def wi_up (N : Nat → Nat → Prop) (S0 S : Int32) : Prop := (∀ c, bt S0 c = true → bt S c = true) ∧ (∀ c d, c < 16 → N c d → bt S d = true → bt S c = true) ∧ wi_least N S0 S
section
variable {f_typed f_rows f_columns : Int32} {a_length a_kindOf a_argOf a_names a_now a_order a_typedKind a_typedArg a_inputs a_inputCount a_entries a_aside a_stack : Nat → Int32}
theorem wi_xa4 {post : Int32 → Prop} {N : Nat → Nat → Prop} {o : Nat → Nat} (ho : ∀ i, i < 16 → o i < 16 ∧ a_order i = nI (o i)) (hinj : ∀ i j, i < 16 → j < 16 → o i = o j → i = j) (hsur : ∀ c, c < 16 → ∃ i, i < 16 ∧ o i = c) (hdep : ∀ i, i < 16 → ∀ d, N (o i) d → ∃ j, j < i ∧ o j = d) (hnm : wi_nms N a_names) {S0 : Int32} (h : ∀ S, wi_up N S0 S → post S) : ∀ n i S, i ≤ 16 → 16 < n + i → (∀ c, bt S0 c = true → bt S c = true) → wi_least N S0 S → (∀ j, j < i → ∀ d, N (o j) d → bt S d = true → bt S (o j) = true) → wX_above_4 post f_typed f_rows f_columns a_length a_kindOf a_argOf a_names a_now a_order a_typedKind a_typedArg a_inputs a_inputCount a_entries a_aside a_stack n S (nI i) := by
  intro n
  induction n with
  | zero => intro i S hi hn; omega
  | succ n ih =>
    intro i S hi hn hsup hlst hcl
    have ec : (nI i).toNatClampNeg = i := nI_clamp (by omega)
    refine pk_le 16 i (fun hx => ?_) (fun hx => ?_)
    · refine h S ⟨hsup, fun c d hc hN hd => ?_, hlst⟩
      obtain ⟨j, hj, e⟩ := hsur c hc
      rw [← e] at hN ⊢
      exact hcl j (by omega) d hN hd
    · have hoi := (ho i hx).1
      refine ⟨vp_in_nI hx (by omega), ?_⟩
      rw [ec]
      refine nm_r (ho i hx).2 ?_
      refine ⟨vp_in_nI hoi (by omega), ?_⟩
      rw [nI_clamp (show o i < 2 ^ 31 by omega)]
      refine br_c (fun e0 => ?_) (fun e1 => ?_)
      · refine nm_r (e' := nI (i + 1)) (nI_1 i) ?_
        refine ih (i + 1) S (by omega) (by omega) hsup hlst (lt_s (p := fun j => ∀ d, N (o j) d → bt S d = true → bt S (o j) = true) hcl ?_)
        intro d hN hd
        exact ((wi_and0 _ _).mp e0 d ((hnm (o i) hoi d).mpr hN) hd).elim
      · obtain ⟨d, hd1, hd2⟩ := wi_nand0 e1
        have hNd := (hnm (o i) hoi d).mp hd1
        refine nm_e ?_
        refine nm_r (e' := nI (i + 1)) (nI_1 i) ?_
        refine ih (i + 1) _ (by omega) (by omega) (fun c hc => (wi_orT _ _ _).mpr (Or.inl (hsup c hc))) ?_ ?_
        · intro P hP0 hPc c hc
          rcases (wi_orT _ _ _).mp hc with z | z
          · exact hlst P hP0 hPc c z
          · have e := (wi_oneT hoi).mp z
            rw [e]
            exact hPc (o i) d hoi hNd (hlst P hP0 hPc d hd2)
        · intro j hj d' hN' hd'
          rcases Nat.lt_or_ge j i with z | z
          · rcases (wi_orT _ _ _).mp hd' with y | y
            · exact (wi_orT _ _ _).mpr (Or.inl (hcl j z d' hN' y))
            · have e := (wi_oneT hoi).mp y
              obtain ⟨j', hj', e'⟩ := hdep j (by omega) d' hN'
              have := hinj j' i (by omega) hx (e'.trans e)
              omega
          · have : j = i := by omega
            subst this
            exact (wi_orT _ _ _).mpr (Or.inr ((wi_oneT hoi).mpr rfl))
theorem wi_xabove {post : Int32 → Prop} {N : Nat → Nat → Prop} (htop : wi_top N a_order) (hnm : wi_nms N a_names) {S0 : Int32} (h : ∀ S, wi_up N S0 S → post S) : wpX_above post (f_typed, f_rows, f_columns, a_length, a_kindOf, a_argOf, a_names, a_now, a_order, a_typedKind, a_typedArg, a_inputs, a_inputCount, a_entries, a_aside, a_stack) S0 := by
  obtain ⟨o, h1, h2, h3, h4⟩ := htop
  exact ⟨17, wi_xa4 h1 h2 h3 h4 hnm h 17 0 S0 (by omega) (by omega) (fun c hc => hc) (fun P h0 _ c hc => h0 c hc) (fun j hj => absurd hj (Nat.not_lt_zero _))⟩
theorem wi_xb7 {post : Int32 → Prop} {N : Nat → Nat → Prop} {o : Nat → Nat} {c0 : Nat} (ho : ∀ i, i < 16 → o i < 16 ∧ a_order i = nI (o i)) (hinj : ∀ i j, i < 16 → j < 16 → o i = o j → i = j) (hsur : ∀ c, c < 16 → ∃ i, i < 16 ∧ o i = c) (hdep : ∀ i, i < 16 → ∀ d, N (o i) d → ∃ j, j < i ∧ o j = d) (hnm : wi_nms N a_names) (h : ∀ S, bt S c0 = true → (∀ c d, c < 16 → N c d → bt S c = true → bt S d = true) → post S) : ∀ n i S, i ≤ 16 → i < n → bt S c0 = true → (∀ j, i ≤ j → j < 16 → bt S (o j) = true → ∀ d, N (o j) d → bt S d = true) → wX_below_7 post f_typed f_rows f_columns a_length a_kindOf a_argOf a_names a_now a_order a_typedKind a_typedArg a_inputs a_inputCount a_entries a_aside a_stack n S (nI i + (-1)) := by
  intro n
  induction n with
  | zero => intro i S hi hn; omega
  | succ n ih =>
    intro i S hi hn h0 hcl
    match i, hi, hn, hcl with
    | 0, hi, hn, hcl =>
      rw [show nI 0 + (-1) = -1 from by decide]
      refine br_t (by decide) (h S h0 (fun c d hc hN hb => ?_))
      obtain ⟨j, hj, e⟩ := hsur c hc
      rw [← e] at hN hb
      exact hcl j (by omega) hj hb d hN
    | k + 1, hi, hn, hcl =>
      rw [pk_m1]
      have ec : (nI k).toNatClampNeg = k := nI_clamp (by omega)
      have hk : k < 16 := by omega
      have hok := (ho k hk).1
      refine br_f (nI_pos (by omega)) ⟨vp_in_nI hk (by omega), ?_⟩
      rw [ec]
      refine nm_r (ho k hk).2 ?_
      refine br_c (fun e1 => ?_) (fun e1 => ?_)
      · rw [wi_t1 S hok] at e1
        refine ⟨vp_in_nI hok (by omega), ?_⟩
        rw [nI_clamp (show o k < 2 ^ 31 by omega)]
        refine nm_e ?_
        refine nm_e ?_
        refine ih k _ (by omega) (by omega) ((wi_orT _ _ _).mpr (Or.inl h0)) ?_
        intro j hj hj16 hb d hN
        rcases Nat.lt_or_ge k j with z | z
        · have hb' : bt S (o j) = true := by
            rcases (wi_orT _ _ _).mp hb with y | y
            · exact y
            · obtain ⟨j', hj', e'⟩ := hdep k hk (o j) ((hnm (o k) hok (o j)).mp y)
              have := hinj j' j (by omega) hj16 e'
              omega
          exact (wi_orT _ _ _).mpr (Or.inl (hcl j (by omega) hj16 hb' d hN))
        · have : j = k := by omega
          subst this
          exact (wi_orT _ _ _).mpr (Or.inr ((hnm (o j) hok d).mpr hN))
      · rw [wi_t1 S hok] at e1
        refine nm_e ?_
        refine ih k S (by omega) (by omega) h0 ?_
        intro j hj hj16 hb d hN
        rcases Nat.lt_or_ge k j with z | z
        · exact hcl j (by omega) hj16 hb d hN
        · have : j = k := by omega
          subst this
          exact absurd hb e1
theorem wi_xbelow {post : Int32 → Prop} {N : Nat → Nat → Prop} (htop : wi_top N a_order) (hnm : wi_nms N a_names) {c : Nat} (hc : c < 16) (h : ∀ S, bt S c = true → (∀ a d, a < 16 → N a d → bt S a = true → bt S d = true) → post S) : wpX_below post (f_typed, f_rows, f_columns, a_length, a_kindOf, a_argOf, a_names, a_now, a_order, a_typedKind, a_typedArg, a_inputs, a_inputCount, a_entries, a_aside, a_stack) (nI c) := by
  obtain ⟨o, h1, h2, h3, h4⟩ := htop
  refine nm_e ⟨17, ?_⟩
  exact wi_xb7 (c0 := c) h1 h2 h3 h4 hnm h 17 16 _ (by omega) (by omega) ((wi_oneT hc).mpr rfl) (fun j hj hj2 => absurd hj2 (by omega))
end
end
section
/-! sortCells -/
def wi_rdy (N : Nat → Nat → Prop) (p : Int32) (c : Nat) : Prop := bt p c = false ∧ ∀ d, N c d → bt p d = true
def wi_plc (N : Nat → Nat → Prop) (o : Nat → Nat) (ord : Nat → Int32) (p : Int32) (i : Nat) : Prop := (∀ j, j < i → o j < 16 ∧ ord j = nI (o j)) ∧ (∀ j k, j < i → k < i → o j = o k → j = k) ∧ (∀ j, j < i → ∀ d, N (o j) d → ∃ k, k < j ∧ o k = d) ∧ (∀ c, bt p c = true ↔ ∃ j, j < i ∧ o j = c) ∧ wi_cn (fun c => bt p c) 16 = i
theorem wi_b32 {x : Int32} {d : Nat} (h : bt x d = true) : d < 32 := by
  rcases Nat.lt_or_ge d 32 with z | z
  · exact z
  · rw [b_big z] at h
    exact absurd h (by decide)
theorem wi_plc_0 (N : Nat → Nat → Prop) (ord : Nat → Int32) : wi_plc N (fun _ => 0) ord 0 0 := by
  refine ⟨fun j hj => absurd hj (Nat.not_lt_zero _), fun j k hj => absurd hj (Nat.not_lt_zero _), fun j hj => absurd hj (Nat.not_lt_zero _), fun c => ⟨fun z => ?_, fun ⟨j, hj, _⟩ => absurd hj (Nat.not_lt_zero _)⟩, ?_⟩
  · rw [b_0] at z
    exact absurd z (by decide)
  · rw [wi_cn_ext (q := fun _ => false) 16 (fun i _ => b_0 i)]
    exact wi_cn_0 16
theorem wi_plc_s {N : Nat → Nat → Prop} {o : Nat → Nat} {ord : Nat → Int32} {p : Int32} {i : Nat} (h : wi_plc N o ord p i) {c : Nat} (hc : c < 16) (hr : wi_rdy N p c) : wi_plc N (fun j => if j = i then c else o j) (upd ord i (nI c)) (p ||| ((1 : Int32) <<< (nI c &&& 31))) (i + 1) := by
  obtain ⟨h1, h2, h3, h4, h5⟩ := h
  have ei : ∀ j, j < i → (if j = i then c else o j) = o j := fun j hj => if_neg (by omega)
  have en : (if i = i then c else o i) = c := if_pos rfl
  have hnew : ∀ j, j < i → o j ≠ c := by
    intro j hj e
    have := (h4 c).mpr ⟨j, hj, e⟩
    rw [hr.1] at this
    exact absurd this (by decide)
  refine ⟨?_, ?_, ?_, ?_, ?_⟩
  · intro j hj
    rcases Nat.lt_or_ge j i with z | z
    · dsimp only
      rw [ei j z, pk_un (by omega)]
      exact h1 j z
    · have : j = i := by omega
      subst this
      dsimp only
      rw [en, pk_us]
      exact ⟨hc, rfl⟩
  · intro j k hj hk e
    dsimp only at e
    rcases Nat.lt_or_ge j i with z | z
    · rcases Nat.lt_or_ge k i with y | y
      · rw [ei j z, ei k y] at e
        exact h2 j k z y e
      · have : k = i := by omega
        subst this
        rw [ei j z, en] at e
        exact absurd e (hnew j z)
    · have : j = i := by omega
      subst this
      rcases Nat.lt_or_ge k j with y | y
      · rw [ei k y, en] at e
        exact absurd e.symm (hnew k y)
      · omega
  · intro j hj d hN
    dsimp only at hN
    rcases Nat.lt_or_ge j i with z | z
    · rw [ei j z] at hN
      obtain ⟨k, hk, e⟩ := h3 j z d hN
      refine ⟨k, hk, ?_⟩
      dsimp only
      rw [ei k (by omega)]
      exact e
    · have : j = i := by omega
      subst this
      rw [en] at hN
      obtain ⟨k, hk, e⟩ := (h4 d).mp (hr.2 d hN)
      refine ⟨k, hk, ?_⟩
      dsimp only
      rw [ei k hk]
      exact e
  · intro d
    rw [wi_orT, h4 d, wi_oneT hc]
    constructor
    · intro z
      rcases z with ⟨j, hj, e⟩ | e
      · refine ⟨j, by omega, ?_⟩
        dsimp only
        rw [ei j hj]
        exact e
      · refine ⟨i, by omega, ?_⟩
        dsimp only
        rw [en]
        exact e.symm
    · intro ⟨j, hj, e⟩
      dsimp only at e
      rcases Nat.lt_or_ge j i with z | z
      · rw [ei j z] at e
        exact Or.inl ⟨j, z, e⟩
      · have : j = i := by omega
        subst this
        rw [en] at e
        exact Or.inr e.symm
  · rw [wi_cn_add (p := fun c => bt p c) (q := fun d => bt (p ||| ((1 : Int32) <<< (nI c &&& 31))) d) (c := c) hr.1 ((wi_orT _ _ _).mpr (Or.inr ((wi_oneT hc).mpr rfl))) 16 ?_, h5, if_pos hc]
    intro d hd hdc
    rw [b_or, wi_one hc, decide_eq_false hdc, Bool.or_false]
theorem wi_plc_e {N : Nat → Nat → Prop} {o : Nat → Nat} {ord : Nat → Int32} {p : Int32} (h : wi_plc N o ord p 16) : wi_top N ord := by
  obtain ⟨h1, h2, h3, h4, h5⟩ := h
  exact ⟨o, h1, h2, fun c hc => (h4 c).mp (wi_cn_all 16 h5 c hc), h3⟩
theorem wi_rdy_ex {N : Nat → Nat → Prop} {o : Nat → Nat} {ord : Nat → Int32} {p : Int32} {i : Nat} (h : wi_plc N o ord p i) (hi : i < 16) (hN : ∀ c d, c < 16 → N c d → d < 16) {rk : Nat → Nat} (hr : ∀ c d, c < 16 → N c d → rk d < rk c) : ∃ c, c < 16 ∧ wi_rdy N p c := by
  obtain ⟨_, _, _, _, h5⟩ := h
  obtain ⟨c0, hc0, hb0⟩ := wi_cn_lt (p := fun c => bt p c) 16 (by omega)
  obtain ⟨k, ⟨c, hc, hb, ek⟩, hmin⟩ := pk_least (fun k => ∃ c, c < 16 ∧ bt p c = false ∧ rk c = k) ⟨rk c0, c0, hc0, hb0, rfl⟩
  refine ⟨c, hc, hb, fun d hd => ?_⟩
  cases e : bt p d with
  | true => rfl
  | false => exact (hmin (rk d) (by rw [← ek]; exact hr c d hc hd) ⟨d, hN c d hc hd, e, rfl⟩).elim
section
variable {f_typed f_rows f_columns : Int32} {a_length a_kindOf a_argOf a_names a_now a_order a_typedKind a_typedArg a_inputs a_inputCount a_entries a_aside a_stack : Nat → Int32}
theorem wi_xready {post : Int32 → Prop} {N : Nat → Nat → Prop} (hnm : wi_nms N a_names) {c : Nat} (hc : c < 16) {p : Int32} (h1 : wi_rdy N p c → post 1) (h0 : ¬ wi_rdy N p c → post 0) : wpX_readyToPlace post (f_typed, f_rows, f_columns, a_length, a_kindOf, a_argOf, a_names, a_now, a_order, a_typedKind, a_typedArg, a_inputs, a_inputCount, a_entries, a_aside, a_stack) (nI c) p := by
  refine br_c (fun e => ?_) (fun e => ?_)
  · rw [wi_t0 p hc] at e
    refine ⟨vp_in_nI hc (by omega), ?_⟩
    rw [nI_clamp (show c < 2 ^ 31 by omega)]
    refine br_c (fun e2 => ?_) (fun e2 => ?_)
    · refine h1 ⟨e, fun d hd => ?_⟩
      have hb := (hnm c hc d).mpr hd
      cases hp : bt p d with
      | true => rfl
      | false => exact ((wi_and0 _ _).mp e2 d hb (by rw [wi_not p (wi_b32 hb), hp]; rfl)).elim
    · obtain ⟨d, hd1, hd2⟩ := wi_nand0 e2
      refine h0 (fun z => ?_)
      have := z.2 d ((hnm c hc d).mp hd1)
      rw [wi_not p (wi_b32 hd1), this] at hd2
      exact absurd hd2 (by decide)
  · rw [wi_t0 p hc] at e
    exact h0 (fun z => e z.1)
theorem wi_xs33 {post : SX → Prop} {J : Int32 → Int32 → (Nat → Int32) → (Nat → Int32) → (Nat → Int32) → (Nat → Int32) → (Nat → Int32) → (Nat → Int32) → (Nat → Int32) → (Nat → Int32) → (Nat → Int32) → (Nat → Int32) → (Nat → Int32) → (Nat → Int32) → (Nat → Int32) → Prop} {p : Int32} {i c : Nat} (hi : i < 16) (h : J (p ||| ((1 : Int32) <<< (nI c &&& 31))) (nI (i + 1)) a_length a_kindOf a_argOf a_names a_now (upd a_order i (nI c)) a_typedKind a_typedArg a_inputs a_inputCount a_entries a_aside a_stack) : wX_sortCells_33 post J p (nI i) (nI c) f_typed f_rows f_columns a_length a_kindOf a_argOf a_names a_now a_order a_typedKind a_typedArg a_inputs a_inputCount a_entries a_aside a_stack := by
  refine And.intro (vp_in_nI hi (by omega)) ?_
  rw [nI_clamp (show i < 2 ^ 31 by omega)]
  exact nm_e (nm_e (nm_r (nI_1 i) h))
theorem wi_xs12 {post : SX → Prop} {J : Int32 → Int32 → (Nat → Int32) → (Nat → Int32) → (Nat → Int32) → (Nat → Int32) → (Nat → Int32) → (Nat → Int32) → (Nat → Int32) → (Nat → Int32) → (Nat → Int32) → (Nat → Int32) → (Nat → Int32) → (Nat → Int32) → (Nat → Int32) → Prop} {N : Nat → Nat → Prop} (hnm : wi_nms N a_names) {p : Int32} {i : Nat} (hi : i < 16) (hex : ∃ c, c < 16 ∧ wi_rdy N p c) (h : ∀ c, c < 16 → wi_rdy N p c → J (p ||| ((1 : Int32) <<< (nI c &&& 31))) (nI (i + 1)) a_length a_kindOf a_argOf a_names a_now (upd a_order i (nI c)) a_typedKind a_typedArg a_inputs a_inputCount a_entries a_aside a_stack) : ∀ n c, c ≤ 15 → 15 < n + c → (∀ b, b < c → ¬ wi_rdy N p b) → wX_sortCells_12 post J p (nI i) f_typed f_rows f_columns a_length a_kindOf a_argOf a_names a_now a_order a_typedKind a_typedArg a_inputs a_inputCount a_entries a_aside a_stack n (nI c) := by
  intro n
  induction n with
  | zero => intro c hc hn; omega
  | succ n ih =>
    intro c hc hn hno
    refine pk_le 15 c (fun hx => ?_) (fun hx => ?_)
    · obtain ⟨b, hb, hrb⟩ := hex
      have hbc : b = c := by
        rcases Nat.lt_or_ge b c with z | z
        · exact absurd hrb (hno b z)
        · omega
      subst hbc
      exact wi_xs33 hi (h b hb hrb)
    · refine wi_xready hnm (show c < 16 by omega) (fun hr => ?_) (fun hr => ?_)
      · exact br_f (by decide) (wi_xs33 hi (h c (by omega) hr))
      · refine br_t rfl ?_
        refine nm_r (e' := nI (c + 1)) (nI_1 c) ?_
        exact ih (c + 1) (by omega) (by omega) (lt_s (p := fun b => ¬ wi_rdy N p b) hno hr)
theorem wi_xso4 {post : SX → Prop} {N : Nat → Nat → Prop} (hnm : wi_nms N a_names) (hN : ∀ c d, c < 16 → N c d → d < 16) {rk : Nat → Nat} (hr : ∀ c d, c < 16 → N c d → rk d < rk c) (h : ∀ ord, wi_top N ord → post (f_typed, f_rows, f_columns, a_length, a_kindOf, a_argOf, a_names, a_now, ord, a_typedKind, a_typedArg, a_inputs, a_inputCount, a_entries, a_aside, a_stack)) : ∀ n i p o ord, i ≤ 16 → 16 < n + i → wi_plc N o ord p i → wX_sortCells_4 post f_typed f_rows f_columns n p (nI i) a_length a_kindOf a_argOf a_names a_now ord a_typedKind a_typedArg a_inputs a_inputCount a_entries a_aside a_stack := by
  intro n
  induction n with
  | zero => intro i p o ord hi hn; omega
  | succ n ih =>
    intro i p o ord hi hn hp
    refine pk_le 16 i (fun hx => ?_) (fun hx => ?_)
    · have e : i = 16 := by omega
      subst e
      exact h ord (wi_plc_e hp)
    · refine ⟨16, ?_⟩
      refine wi_xs12 hnm hx (wi_rdy_ex hp hx hN hr) (fun c hc hrc => ?_) 16 0 (by omega) (by omega) (fun b hb => absurd hb (Nat.not_lt_zero _))
      exact ih (i + 1) _ _ _ (by omega) (by omega) (wi_plc_s hp hc hrc)
theorem wi_xsort {post : SX → Prop} {N : Nat → Nat → Prop} (hnm : wi_nms N a_names) (hN : ∀ c d, c < 16 → N c d → d < 16) {rk : Nat → Nat} (hr : ∀ c d, c < 16 → N c d → rk d < rk c) (h : ∀ ord, wi_top N ord → post (f_typed, f_rows, f_columns, a_length, a_kindOf, a_argOf, a_names, a_now, ord, a_typedKind, a_typedArg, a_inputs, a_inputCount, a_entries, a_aside, a_stack)) : wpX_sortCells post (f_typed, f_rows, f_columns, a_length, a_kindOf, a_argOf, a_names, a_now, a_order, a_typedKind, a_typedArg, a_inputs, a_inputCount, a_entries, a_aside, a_stack) := ⟨17, wi_xso4 hnm hN hr h 17 0 0 (fun _ => 0) a_order (by omega) (by omega) (wi_plc_0 N a_order)⟩
end
end
section
/-! apply, work -/
section
variable {f_typed f_rows f_columns : Int32} {a_length a_kindOf a_argOf a_names a_now a_order a_typedKind a_typedArg a_inputs a_inputCount a_entries a_aside a_stack : Nat → Int32}
theorem wi_xap2 {post : Int32 → SX → Prop} {h : Nat} (h2 : 2 ≤ h) (hh : h ≤ 8) (H : post (nI (h - 1)) (f_typed, f_rows, f_columns, a_length, a_kindOf, a_argOf, a_names, a_now, a_order, a_typedKind, a_typedArg, a_inputs, a_inputCount, a_entries, a_aside, upd a_stack (h - 2) (a_stack (h - 2) + a_stack (h - 1)))) : wpX_apply post (f_typed, f_rows, f_columns, a_length, a_kindOf, a_argOf, a_names, a_now, a_order, a_typedKind, a_typedArg, a_inputs, a_inputCount, a_entries, a_aside, a_stack) 2 (nI h) := by
  have e2 : nI h - 2 = nI (h - 2) := pk_sub (b := 2) h2
  have e1 : nI h - 1 = nI (h - 1) := pk_sub (b := 1) (by omega)
  have i2 : vp_in (nI (h - 2)) 9 := vp_in_nI (by omega) (by omega)
  have i1 : vp_in (nI (h - 1)) 9 := vp_in_nI (by omega) (by omega)
  have hle : (2 : Int32) ≤ nI h := nI_le (a := 2) h2 (by omega)
  unfold wpX_apply
  dsimp only
  rw [e2, e1, nI_clamp (show h - 2 < 2 ^ 31 by omega), nI_clamp (show h - 1 < 2 ^ 31 by omega)]
  exact br_f (by decide) (br_t hle ⟨i2, nm_e ⟨i1, nm_e (br_f (by decide) (br_f (by decide) (br_t rfl ⟨i2, nm_e H⟩)))⟩⟩)
theorem wi_xap3 {post : Int32 → SX → Prop} {h : Nat} (h2 : 2 ≤ h) (hh : h ≤ 8) (H : post (nI (h - 1)) (f_typed, f_rows, f_columns, a_length, a_kindOf, a_argOf, a_names, a_now, a_order, a_typedKind, a_typedArg, a_inputs, a_inputCount, a_entries, a_aside, upd a_stack (h - 2) (a_stack (h - 2) - a_stack (h - 1)))) : wpX_apply post (f_typed, f_rows, f_columns, a_length, a_kindOf, a_argOf, a_names, a_now, a_order, a_typedKind, a_typedArg, a_inputs, a_inputCount, a_entries, a_aside, a_stack) 3 (nI h) := by
  have e2 : nI h - 2 = nI (h - 2) := pk_sub (b := 2) h2
  have e1 : nI h - 1 = nI (h - 1) := pk_sub (b := 1) (by omega)
  have i2 : vp_in (nI (h - 2)) 9 := vp_in_nI (by omega) (by omega)
  have i1 : vp_in (nI (h - 1)) 9 := vp_in_nI (by omega) (by omega)
  have hle : (2 : Int32) ≤ nI h := nI_le (a := 2) h2 (by omega)
  unfold wpX_apply
  dsimp only
  rw [e2, e1, nI_clamp (show h - 2 < 2 ^ 31 by omega), nI_clamp (show h - 1 < 2 ^ 31 by omega)]
  exact br_f (by decide) (br_t hle ⟨i2, nm_e ⟨i1, nm_e (br_f (by decide) (br_f (by decide) (br_f (by decide) (br_t rfl ⟨i2, nm_e H⟩))))⟩⟩)
theorem wi_xap4 {post : Int32 → SX → Prop} {h : Nat} (h2 : 2 ≤ h) (hh : h ≤ 8) (H : post (nI (h - 1)) (f_typed, f_rows, f_columns, a_length, a_kindOf, a_argOf, a_names, a_now, a_order, a_typedKind, a_typedArg, a_inputs, a_inputCount, a_entries, a_aside, upd a_stack (h - 2) (a_stack (h - 2) * a_stack (h - 1)))) : wpX_apply post (f_typed, f_rows, f_columns, a_length, a_kindOf, a_argOf, a_names, a_now, a_order, a_typedKind, a_typedArg, a_inputs, a_inputCount, a_entries, a_aside, a_stack) 4 (nI h) := by
  have e2 : nI h - 2 = nI (h - 2) := pk_sub (b := 2) h2
  have e1 : nI h - 1 = nI (h - 1) := pk_sub (b := 1) (by omega)
  have i2 : vp_in (nI (h - 2)) 9 := vp_in_nI (by omega) (by omega)
  have i1 : vp_in (nI (h - 1)) 9 := vp_in_nI (by omega) (by omega)
  have hle : (2 : Int32) ≤ nI h := nI_le (a := 2) h2 (by omega)
  unfold wpX_apply
  dsimp only
  rw [e2, e1, nI_clamp (show h - 2 < 2 ^ 31 by omega), nI_clamp (show h - 1 < 2 ^ 31 by omega)]
  exact br_f (by decide) (br_t hle ⟨i2, nm_e ⟨i1, nm_e (br_f (by decide) (br_f (by decide) (br_f (by decide) (br_f (by decide) (br_t rfl ⟨i2, nm_e H⟩)))))⟩⟩)
theorem wi_xap5 {post : Int32 → SX → Prop} {h : Nat} (h2 : 2 ≤ h) (hh : h ≤ 8) (H : post (nI (h - 1)) (f_typed, f_rows, f_columns, a_length, a_kindOf, a_argOf, a_names, a_now, a_order, a_typedKind, a_typedArg, a_inputs, a_inputCount, a_entries, a_aside, upd a_stack (h - 2) (if a_stack (h - 1) ≤ a_stack (h - 2) then a_stack (h - 1) else a_stack (h - 2)))) : wpX_apply post (f_typed, f_rows, f_columns, a_length, a_kindOf, a_argOf, a_names, a_now, a_order, a_typedKind, a_typedArg, a_inputs, a_inputCount, a_entries, a_aside, a_stack) 5 (nI h) := by
  have e2 : nI h - 2 = nI (h - 2) := pk_sub (b := 2) h2
  have e1 : nI h - 1 = nI (h - 1) := pk_sub (b := 1) (by omega)
  have i2 : vp_in (nI (h - 2)) 9 := vp_in_nI (by omega) (by omega)
  have i1 : vp_in (nI (h - 1)) 9 := vp_in_nI (by omega) (by omega)
  have hle : (2 : Int32) ≤ nI h := nI_le (a := 2) h2 (by omega)
  unfold wpX_apply
  dsimp only
  rw [e2, e1, nI_clamp (show h - 2 < 2 ^ 31 by omega), nI_clamp (show h - 1 < 2 ^ 31 by omega)]
  refine br_f (by decide) (br_t hle ⟨i2, nm_e ⟨i1, nm_e (br_f (by decide) (br_f (by decide) (br_f (by decide) (br_f (by decide) (br_f (by decide) (br_t rfl (br_c (fun z => ⟨i2, nm_e ?_⟩) (fun z => ⟨i2, nm_e ?_⟩))))))))⟩⟩)
  · rw [if_pos z] at H; exact H
  · rw [if_neg z] at H; exact H
theorem wi_xap6 {post : Int32 → SX → Prop} {h : Nat} (h2 : 2 ≤ h) (hh : h ≤ 8) (H : post (nI (h - 1)) (f_typed, f_rows, f_columns, a_length, a_kindOf, a_argOf, a_names, a_now, a_order, a_typedKind, a_typedArg, a_inputs, a_inputCount, a_entries, a_aside, upd a_stack (h - 2) (if a_stack (h - 2) ≤ a_stack (h - 1) then a_stack (h - 1) else a_stack (h - 2)))) : wpX_apply post (f_typed, f_rows, f_columns, a_length, a_kindOf, a_argOf, a_names, a_now, a_order, a_typedKind, a_typedArg, a_inputs, a_inputCount, a_entries, a_aside, a_stack) 6 (nI h) := by
  have e2 : nI h - 2 = nI (h - 2) := pk_sub (b := 2) h2
  have e1 : nI h - 1 = nI (h - 1) := pk_sub (b := 1) (by omega)
  have i2 : vp_in (nI (h - 2)) 9 := vp_in_nI (by omega) (by omega)
  have i1 : vp_in (nI (h - 1)) 9 := vp_in_nI (by omega) (by omega)
  have hle : (2 : Int32) ≤ nI h := nI_le (a := 2) h2 (by omega)
  unfold wpX_apply
  dsimp only
  rw [e2, e1, nI_clamp (show h - 2 < 2 ^ 31 by omega), nI_clamp (show h - 1 < 2 ^ 31 by omega)]
  refine br_f (by decide) (br_t hle ⟨i2, nm_e ⟨i1, nm_e (br_f (by decide) (br_t (by decide) (br_c (fun z => ⟨i2, nm_e ?_⟩) (fun z => ⟨i2, nm_e ?_⟩))))⟩⟩)
  · rw [if_pos z] at H; exact H
  · rw [if_neg z] at H; exact H
theorem wi_xap7 {post : Int32 → SX → Prop} {h : Nat} (h3 : 3 ≤ h) (hh : h ≤ 8) (H : post (nI (h - 2)) (f_typed, f_rows, f_columns, a_length, a_kindOf, a_argOf, a_names, a_now, a_order, a_typedKind, a_typedArg, a_inputs, a_inputCount, a_entries, a_aside, upd a_stack (h - 3) (if a_stack (h - 3) ≤ 0 then a_stack (h - 1) else a_stack (h - 2)))) : wpX_apply post (f_typed, f_rows, f_columns, a_length, a_kindOf, a_argOf, a_names, a_now, a_order, a_typedKind, a_typedArg, a_inputs, a_inputCount, a_entries, a_aside, a_stack) 7 (nI h) := by
  have e3 : nI h - 3 = nI (h - 3) := pk_sub (b := 3) h3
  have e2 : nI h - 2 = nI (h - 2) := pk_sub (b := 2) (by omega)
  have e1 : nI h - 1 = nI (h - 1) := pk_sub (b := 1) (by omega)
  have i3 : vp_in (nI (h - 3)) 9 := vp_in_nI (by omega) (by omega)
  have i2 : vp_in (nI (h - 2)) 9 := vp_in_nI (by omega) (by omega)
  have i1 : vp_in (nI (h - 1)) 9 := vp_in_nI (by omega) (by omega)
  have hle : (3 : Int32) ≤ nI h := nI_le (a := 3) h3 (by omega)
  unfold wpX_apply
  dsimp only
  rw [e3, e2, e1, nI_clamp (show h - 3 < 2 ^ 31 by omega), nI_clamp (show h - 2 < 2 ^ 31 by omega), nI_clamp (show h - 1 < 2 ^ 31 by omega)]
  refine br_t rfl (br_t hle ⟨i3, br_c (fun z => ⟨i1, i3, nm_e ?_⟩) (fun z => ⟨i2, i3, nm_e ?_⟩)⟩)
  · rw [if_pos z] at H; exact H
  · rw [if_neg z] at H; exact H
theorem wi_xapply {post : Int32 → SX → Prop} {k a : Int32} {V : Nat → Int32} {h : Nat} (hk : ∃ j, j ≤ 7 ∧ k = nI j) (k0 : ¬ k = 0) (k1 : ¬ k = 1) (hp : wi_pop k ≤ h) (hh : h ≤ 8) (H : post (nI (h - wi_pop k + 1)) (f_typed, f_rows, f_columns, a_length, a_kindOf, a_argOf, a_names, a_now, a_order, a_typedKind, a_typedArg, a_inputs, a_inputCount, a_entries, a_aside, upd a_stack (h - wi_pop k) (wi_val k a V a_stack h))) : wpX_apply post (f_typed, f_rows, f_columns, a_length, a_kindOf, a_argOf, a_names, a_now, a_order, a_typedKind, a_typedArg, a_inputs, a_inputCount, a_entries, a_aside, a_stack) k (nI h) := by
  revert k0 k1 hp H
  refine wi_k8 (P := fun k => ¬ k = 0 → ¬ k = 1 → wi_pop k ≤ h → post (nI (h - wi_pop k + 1)) (f_typed, f_rows, f_columns, a_length, a_kindOf, a_argOf, a_names, a_now, a_order, a_typedKind, a_typedArg, a_inputs, a_inputCount, a_entries, a_aside, upd a_stack (h - wi_pop k) (wi_val k a V a_stack h)) → wpX_apply post (f_typed, f_rows, f_columns, a_length, a_kindOf, a_argOf, a_names, a_now, a_order, a_typedKind, a_typedArg, a_inputs, a_inputCount, a_entries, a_aside, a_stack) k (nI h)) ?_ ?_ ?_ ?_ ?_ ?_ ?_ ?_ hk
  · intro k0; exact absurd rfl k0
  · intro _ k1; exact absurd rfl k1
  · intro _ _ hp H
    rw [wi_pop_2] at hp H
    rw [wi_val_2, show h - 2 + 1 = h - 1 by omega] at H
    exact wi_xap2 hp hh H
  · intro _ _ hp H
    rw [wi_pop_3] at hp H
    rw [wi_val_3, show h - 2 + 1 = h - 1 by omega] at H
    exact wi_xap3 hp hh H
  · intro _ _ hp H
    rw [wi_pop_4] at hp H
    rw [wi_val_4, show h - 2 + 1 = h - 1 by omega] at H
    exact wi_xap4 hp hh H
  · intro _ _ hp H
    rw [wi_pop_5] at hp H
    rw [wi_val_5, show h - 2 + 1 = h - 1 by omega] at H
    exact wi_xap5 hp hh H
  · intro _ _ hp H
    rw [wi_pop_6] at hp H
    rw [wi_val_6, show h - 2 + 1 = h - 1 by omega] at H
    exact wi_xap6 hp hh H
  · intro _ _ hp H
    rw [wi_pop_7] at hp H
    rw [wi_val_7, show h - 3 + 1 = h - 2 by omega] at H
    exact wi_xap7 hp hh H
end
theorem wi_stk_0 {K A V s0 : Nat → Int32} {i : Nat} (e : K i = 0) : wi_stk K A V s0 (i + 1) = upd (wi_stk K A V s0 i) (wi_ht K i) (A i) := by
  show upd (wi_stk K A V s0 i) (wi_ht K i - wi_pop (K i)) (wi_val (K i) (A i) V (wi_stk K A V s0 i) (wi_ht K i)) = _
  rw [e, wi_pop_0, wi_val_0, Nat.sub_zero]
theorem wi_stk_1 {K A V s0 : Nat → Int32} {i : Nat} (e : K i = 1) : wi_stk K A V s0 (i + 1) = upd (wi_stk K A V s0 i) (wi_ht K i) (V (A i).toNatClampNeg) := by
  show upd (wi_stk K A V s0 i) (wi_ht K i - wi_pop (K i)) (wi_val (K i) (A i) V (wi_stk K A V s0 i) (wi_ht K i)) = _
  rw [e, wi_pop_1, wi_val_1, Nat.sub_zero]
theorem wi_ht_0 {K : Nat → Int32} {i : Nat} (e : K i = 0) : wi_ht K (i + 1) = wi_ht K i + 1 := by
  rw [wi_ht_s, e, wi_pop_0, Nat.sub_zero]
theorem wi_ht_1 {K : Nat → Int32} {i : Nat} (e : K i = 1) : wi_ht K (i + 1) = wi_ht K i + 1 := by
  rw [wi_ht_s, e, wi_pop_1, Nat.sub_zero]
theorem wi_ix8 (c i : Nat) : nI c * 8 + nI i = nI (c * 8 + i) := by
  rw [show (8 : Int32) = nI 8 from rfl, pk_mul, nI_add]
section
variable {f_typed f_rows f_columns : Int32} {a_length a_kindOf a_argOf a_names a_now a_order a_typedKind a_typedArg a_inputs a_inputCount a_entries a_aside a_stack : Nat → Int32}
theorem wi_xw4 {post : Int32 → SX → Prop} {c : Nat} (hc : c < 16) (hsh : wi_sh a_length a_kindOf a_argOf) (hpos : 0 < wi_L a_length c) (h : ∀ st, post (wi_F a_length a_kindOf a_argOf c a_now) (f_typed, f_rows, f_columns, a_length, a_kindOf, a_argOf, a_names, a_now, a_order, a_typedKind, a_typedArg, a_inputs, a_inputCount, a_entries, a_aside, st)) {s0 : Nat → Int32} : ∀ n i, i ≤ wi_L a_length c → wi_L a_length c < n + i → wX_work_4 post (nI c) n (nI (wi_ht (wi_row a_kindOf c) i)) (nI i) f_typed f_rows f_columns a_length a_kindOf a_argOf a_names a_now a_order a_typedKind a_typedArg a_inputs a_inputCount a_entries a_aside (wi_stk (wi_row a_kindOf c) (wi_row a_argOf c) a_now s0 i) := by
  obtain ⟨hL, eL, hok, hsn⟩ := wi_sh_e hsh hc
  intro n
  induction n with
  | zero => intro i hi hn; omega
  | succ n ih =>
    intro i hi hn
    have hh := wi_ht_le (wi_row a_kindOf c) i
    refine And.intro (vp_in_nI hc (by omega)) ?_
    rw [nI_clamp (show c < 2 ^ 31 by omega)]
    refine pk_le (wi_L a_length c) i (fun hx => ?_) (fun hx => ?_) eL
    · have e : i = wi_L a_length c := by omega
      subst e
      have e : wi_stk (wi_row a_kindOf c) (wi_row a_argOf c) a_now s0 (wi_L a_length c) 0 = wi_F a_length a_kindOf a_argOf c a_now := wi_F_gen hsh hc hpos (fun _ _ => ⟨rfl, rfl⟩) (fun _ _ _ => rfl)
      rw [e]
      exact h _
    · rw [wi_ix8]
      have hin : vp_in (nI (c * 8 + i)) 128 := vp_in_nI (by omega) (by omega)
      rw [nI_clamp (show c * 8 + i < 2 ^ 31 by omega)]
      have hpop : wi_pop (wi_row a_kindOf c i) ≤ wi_ht (wi_row a_kindOf c) i := (hsn hpos).1 i hx
      obtain ⟨j, hj, ej, hcell⟩ := hok i hx
      refine ⟨hin, nm_e ⟨hin, nm_e ?_⟩⟩
      by_cases k0 : a_kindOf (c * 8 + i) = 0
      · refine br_t k0 ⟨vp_in_nI (by omega) (by omega), ?_⟩
        rw [nI_clamp (show wi_ht (wi_row a_kindOf c) i < 2 ^ 31 by omega)]
        refine nm_r (wi_stk_0 (K := wi_row a_kindOf c) (A := wi_row a_argOf c) (V := a_now) (s0 := s0) k0).symm ?_
        refine nm_r (e' := nI (wi_ht (wi_row a_kindOf c) (i + 1))) (by rw [nI_1, wi_ht_0 (K := wi_row a_kindOf c) k0]) ?_
        exact nm_r (nI_1 i) (ih (i + 1) (by omega) (by omega))
      · by_cases k1 : a_kindOf (c * 8 + i) = 1
        · obtain ⟨d, hd, ed⟩ := hcell k1
          refine br_f k0 (br_t k1 ⟨by rw [ed]; exact vp_in_nI hd (by omega), vp_in_nI (by omega) (by omega), ?_⟩)
          rw [nI_clamp (show wi_ht (wi_row a_kindOf c) i < 2 ^ 31 by omega)]
          refine nm_r (wi_stk_1 (K := wi_row a_kindOf c) (A := wi_row a_argOf c) (V := a_now) (s0 := s0) k1).symm ?_
          refine nm_r (e' := nI (wi_ht (wi_row a_kindOf c) (i + 1))) (by rw [nI_1, wi_ht_1 (K := wi_row a_kindOf c) k1]) ?_
          exact nm_r (nI_1 i) (ih (i + 1) (by omega) (by omega))
        · refine br_f k0 (br_f k1 ?_)
          refine wi_xapply (a := a_argOf (c * 8 + i)) (V := a_now) ⟨j, hj, ej⟩ k0 k1 hpop (by omega) ?_
          exact nm_r (nI_1 i) (ih (i + 1) (by omega) (by omega))
theorem wi_xwork {post : Int32 → SX → Prop} {c : Nat} (hc : c < 16) (hsh : wi_sh a_length a_kindOf a_argOf) (hpos : 0 < wi_L a_length c) (h : ∀ st, post (wi_F a_length a_kindOf a_argOf c a_now) (f_typed, f_rows, f_columns, a_length, a_kindOf, a_argOf, a_names, a_now, a_order, a_typedKind, a_typedArg, a_inputs, a_inputCount, a_entries, a_aside, st)) : wpX_work post (f_typed, f_rows, f_columns, a_length, a_kindOf, a_argOf, a_names, a_now, a_order, a_typedKind, a_typedArg, a_inputs, a_inputCount, a_entries, a_aside, a_stack) (nI c) := ⟨wi_L a_length c + 1, wi_xw4 hc hsh hpos h (s0 := a_stack) (wi_L a_length c + 1) 0 (by omega) (by omega)⟩
end
end
section
/-! spread -/
def wi_df (f g : Nat → Int32) : Nat → Bool := fun c => decide (f c ≠ g c)
theorem wi_df_same (f : Nat → Int32) : wi_cn (wi_df f f) 16 = 0 := by
  rw [wi_cn_ext (p := wi_df f f) (q := fun _ => false) 16 (fun i _ => decide_eq_false (fun z => z rfl))]
  exact wi_cn_0 16
/-- what spread brings about: within wn every formula holds, elsewhere nothing has changed -/
def wi_spr (len kk aa : Nat → Int32) (wn : Int32) (now0 now : Nat → Int32) : Prop := (∀ c, c < 16 → bt wn c = true → 0 < wi_L len c → now c = wi_F len kk aa c now) ∧ (∀ c, (bt wn c = false ∨ wi_L len c = 0) → now c = now0 c)
section
variable {f_typed f_rows f_columns : Int32} {a_length a_kindOf a_argOf a_names a_now a_order a_typedKind a_typedArg a_inputs a_inputCount a_entries a_aside a_stack : Nat → Int32}
theorem wi_xsp8 {post : Int32 → SX → Prop} {o : Nat → Nat} (ho : ∀ i, i < 16 → o i < 16 ∧ a_order i = nI (o i)) (hinj : ∀ i j, i < 16 → j < 16 → o i = o j → i = j) (hsur : ∀ c, c < 16 → ∃ i, i < 16 ∧ o i = c) (hdep : ∀ i, i < 16 → ∀ d, wi_N a_length a_kindOf a_argOf (o i) d → ∃ j, j < i ∧ o j = d) (hsh : wi_sh a_length a_kindOf a_argOf) (hnm : wi_nms (wi_N a_length a_kindOf a_argOf) a_names) {S0 wn : Int32} {now0 : Nat → Int32} (hpre : ∀ c, c < 16 → bt wn c = true → 0 < wi_L a_length c → (∀ d, wi_N a_length a_kindOf a_argOf c d → bt S0 d = true → False) → now0 c = wi_F a_length a_kindOf a_argOf c now0) (h : ∀ now st, wi_spr a_length a_kindOf a_argOf wn now0 now → post (nI (wi_cn (wi_df now now0) 16)) (f_typed, f_rows, f_columns, a_length, a_kindOf, a_argOf, a_names, now, a_order, a_typedKind, a_typedArg, a_inputs, a_inputCount, a_entries, a_aside, st)) : ∀ n i S now st, i ≤ 16 → 16 < n + i → (∀ c, bt S0 c = true → bt S c = true) → (∀ c, c < 16 → now c ≠ now0 c → bt S c = true) → (∀ j, j < i → bt wn (o j) = true → 0 < wi_L a_length (o j) → now (o j) = wi_F a_length a_kindOf a_argOf (o j) now) → (∀ j, i ≤ j → j < 16 → now (o j) = now0 (o j)) → (∀ c, (bt wn c = false ∨ wi_L a_length c = 0) → now c = now0 c) → wX_spread_8 post wn n S (nI (wi_cn (wi_df now now0) 16)) (nI i) f_typed f_rows f_columns a_length a_kindOf a_argOf a_names now a_order a_typedKind a_typedArg a_inputs a_inputCount a_entries a_aside st := by
  intro n
  induction n with
  | zero => intro i S now st hi hn; omega
  | succ n ih =>
    intro i S now st hi hn hS hch hb hc hd
    have ec : (nI i).toNatClampNeg = i := nI_clamp (by omega)
    refine pk_le 16 i (fun hx => ?_) (fun hx => ?_)
    · refine h now st ⟨fun c hc16 hw hl => ?_, hd⟩
      obtain ⟨j, hj, e⟩ := hsur c hc16
      rw [← e] at hw hl ⊢
      exact hb j (by omega) hw hl
    · have hoi := (ho i hx).1
      have eo : (nI (o i)).toNatClampNeg = o i := nI_clamp (by omega)
      obtain ⟨_, eL, _, _⟩ := wi_sh_e hsh hoi
      have hnx : ∀ j, i + 1 ≤ j → j < 16 → now (o j) = now0 (o j) := fun j h1 h2 => hc j (by omega) h2
      have hin : vp_in (nI (o i)) 16 := vp_in_nI hoi (by omega)
      refine ⟨vp_in_nI hx (by omega), ?_⟩
      rw [ec]
      refine nm_r (ho i hx).2 ?_
      refine br_c (fun e1 => ?_) (fun e1 => ?_)
      · rw [wi_t1 wn hoi] at e1
        refine ⟨hin, ?_⟩
        rw [eo]
        refine br_c (fun e0 => ?_) (fun e0 => ?_)
        · refine nm_r (e' := nI (i + 1)) (nI_1 i) ?_
          refine ih (i + 1) S now st (by omega) (by omega) hS hch (lt_s (p := fun j => bt wn (o j) = true → 0 < wi_L a_length (o j) → now (o j) = wi_F a_length a_kindOf a_argOf (o j) now) hb ?_) hnx hd
          intro hw hl
          have hno : ∀ d, wi_N a_length a_kindOf a_argOf (o i) d → bt S d = true → False := fun d hN hd2 => (wi_and0 _ _).mp e0 d ((hnm (o i) hoi d).mpr hN) hd2
          rw [hc i (Nat.le_refl i) hx, hpre (o i) hoi hw hl (fun d hN hd2 => hno d hN (hS d hd2))]
          refine wi_F_loc hsh hoi hl (fun d hd16 hN => ?_)
          exact Classical.byContradiction (fun z => hno d hN (hch d hd16 (fun y => z y.symm)))
        · refine ⟨hin, ?_⟩
          refine pk_le (wi_L a_length (o i)) 0 (fun hl => ?_) (fun hl => ?_) eL
          · refine nm_r (e' := nI (i + 1)) (nI_1 i) ?_
            exact ih (i + 1) S now st (by omega) (by omega) hS hch (lt_s (p := fun j => bt wn (o j) = true → 0 < wi_L a_length (o j) → now (o j) = wi_F a_length a_kindOf a_argOf (o j) now) hb (fun _ hl2 => absurd hl2 (by omega))) hnx hd
          · refine wi_xwork hoi hsh hl (fun st' => ?_)
            refine And.intro hin ?_
            refine br_c (fun ev => ?_) (fun ev => ?_)
            · refine nm_r (e' := nI (i + 1)) (nI_1 i) ?_
              exact ih (i + 1) S now st' (by omega) (by omega) hS hch (lt_s (p := fun j => bt wn (o j) = true → 0 < wi_L a_length (o j) → now (o j) = wi_F a_length a_kindOf a_argOf (o j) now) hb (fun _ _ => ev.symm)) hnx hd
            · have eN : ∀ j, j ≤ i → 0 < wi_L a_length (o j) → ∀ v, wi_F a_length a_kindOf a_argOf (o j) (upd now (o i) v) = wi_F a_length a_kindOf a_argOf (o j) now := by
                intro j hj hl2 v
                refine wi_F_loc hsh (ho j (by omega)).1 hl2 (fun d _ hN => ?_)
                obtain ⟨j', hj', e'⟩ := hdep j (by omega) d hN
                refine pk_un (fun z => ?_)
                have := hinj j' i (by omega) hx (e'.trans z)
                omega
              have ecn : nI (wi_cn (wi_df now now0) 16) + 1 = nI (wi_cn (wi_df (upd now (o i) (wi_F a_length a_kindOf a_argOf (o i) now)) now0) 16) := by
                rw [nI_1]
                refine congrArg nI ?_
                rw [wi_cn_add (p := wi_df now now0) (q := wi_df (upd now (o i) (wi_F a_length a_kindOf a_argOf (o i) now)) now0) (c := o i) ?_ ?_ 16 ?_, if_pos hoi]
                · exact decide_eq_false (fun z => z (hc i (Nat.le_refl i) hx))
                · refine decide_eq_true ?_
                  rw [pk_us, ← hc i (Nat.le_refl i) hx]
                  exact ev
                · intro d _ hdo
                  show decide (now d ≠ now0 d) = decide (upd now (o i) _ d ≠ now0 d)
                  rw [pk_un hdo]
              refine ⟨hin, nm_e (nm_e (nm_r ecn (nm_r (e' := nI (i + 1)) (nI_1 i) ?_)))⟩
              refine ih (i + 1) _ _ st' (by omega) (by omega) (fun c hc2 => (wi_orT _ _ _).mpr (Or.inl (hS c hc2))) ?_ ?_ ?_ ?_
              · intro c hc16 hne
                by_cases z : c = o i
                · exact (wi_orT _ _ _).mpr (Or.inr ((wi_oneT hoi).mpr z))
                · rw [pk_un z] at hne
                  exact (wi_orT _ _ _).mpr (Or.inl (hch c hc16 hne))
              · intro j hj hw hl2
                rw [eN j (by omega) hl2]
                rcases Nat.lt_or_ge j i with z | z
                · rw [pk_un (fun y => by have := hinj j i (by omega) hx y; omega)]
                  exact hb j z hw hl2
                · have : j = i := by omega
                  subst this
                  exact pk_us
              · intro j hj hj16
                rw [pk_un (fun y => by have := hinj j i hj16 hx y; omega)]
                exact hc j (by omega) hj16
              · intro c hc2
                have z : c ≠ o i := by
                  intro y
                  subst y
                  rcases hc2 with y | y
                  · rw [e1] at y; exact absurd y (by decide)
                  · omega
                rw [pk_un z]
                exact hd c hc2
      · rw [wi_t1 wn hoi] at e1
        refine nm_r (e' := nI (i + 1)) (nI_1 i) ?_
        exact ih (i + 1) S now st (by omega) (by omega) hS hch (lt_s (p := fun j => bt wn (o j) = true → 0 < wi_L a_length (o j) → now (o j) = wi_F a_length a_kindOf a_argOf (o j) now) hb (fun hw _ => absurd hw e1)) hnx hd
theorem wi_xspread {post : Int32 → SX → Prop} (htop : wi_top (wi_N a_length a_kindOf a_argOf) a_order) (hsh : wi_sh a_length a_kindOf a_argOf) (hnm : wi_nms (wi_N a_length a_kindOf a_argOf) a_names) {S0 wn : Int32} (hpre : ∀ c, c < 16 → bt wn c = true → 0 < wi_L a_length c → (∀ d, wi_N a_length a_kindOf a_argOf c d → bt S0 d = true → False) → a_now c = wi_F a_length a_kindOf a_argOf c a_now) (h : ∀ now st, wi_spr a_length a_kindOf a_argOf wn a_now now → post (nI (wi_cn (wi_df now a_now) 16)) (f_typed, f_rows, f_columns, a_length, a_kindOf, a_argOf, a_names, now, a_order, a_typedKind, a_typedArg, a_inputs, a_inputCount, a_entries, a_aside, st)) : wpX_spread post (f_typed, f_rows, f_columns, a_length, a_kindOf, a_argOf, a_names, a_now, a_order, a_typedKind, a_typedArg, a_inputs, a_inputCount, a_entries, a_aside, a_stack) S0 wn := by
  obtain ⟨o, h1, h2, h3, h4⟩ := htop
  refine ⟨17, ?_⟩
  have := wi_xsp8 (post := post) h1 h2 h3 h4 hsh hnm hpre h 17 0 S0 a_now a_stack (by omega) (by omega) (fun c hc => hc) (fun c _ hne => absurd rfl hne) (fun j hj => absurd hj (Nat.not_lt_zero _)) (fun _ _ _ => rfl) (fun _ _ => rfl)
  rw [wi_df_same] at this
  exact this
end
end
section
/-! the reference: bad, pops, sound, exchange -/
section
variable {g_count g_rows g_columns g_tableRows g_tableColumns : Int32} {b_kinds b_args b_sizes b_numbers b_typed b_typedArgs b_inputs b_entries b_values b_before b_stack b_depends : Nat → Int32}
theorem wi_ybad_in {post : Int32 → Prop} {c : Nat} (hc : c < 16) (h : post 0) : wpY_bad post (g_count, g_rows, g_columns, g_tableRows, g_tableColumns, b_kinds, b_args, b_sizes, b_numbers, b_typed, b_typedArgs, b_inputs, b_entries, b_values, b_before, b_stack, b_depends) (nI c) := br_f (nI_pos (by omega)) (pk_le c 15 (fun _ => h) (fun z => absurd hc (by omega)))
theorem wi_ybad_out {post : Int32 → Prop} {p : Int32} (hp : ¬ vp_in p 16) (h : post 1) : wpY_bad post (g_count, g_rows, g_columns, g_tableRows, g_tableColumns, b_kinds, b_args, b_sizes, b_numbers, b_typed, b_typedArgs, b_inputs, b_entries, b_values, b_before, b_stack, b_depends) p := br_c (fun _ => h) (fun h0 => br_c (fun h15 => absurd (wi_in15 h0 h15) hp) (fun _ => h))
theorem wi_ypops {post : Int32 → Prop} {k a : Int32} (hk : wi_ok k a) (h : post (nI (wi_pop k))) : wpY_pops post (g_count, g_rows, g_columns, g_tableRows, g_tableColumns, b_kinds, b_args, b_sizes, b_numbers, b_typed, b_typedArgs, b_inputs, b_entries, b_values, b_before, b_stack, b_depends) k := by
  obtain ⟨j, hj, e, _⟩ := hk
  revert h
  refine wi_k8 (P := fun k => post (nI (wi_pop k)) → wpY_pops post (g_count, g_rows, g_columns, g_tableRows, g_tableColumns, b_kinds, b_args, b_sizes, b_numbers, b_typed, b_typedArgs, b_inputs, b_entries, b_values, b_before, b_stack, b_depends) k) ?_ ?_ ?_ ?_ ?_ ?_ ?_ ?_ ⟨j, hj, e⟩
  · intro h; rw [wi_pop_0] at h; exact br_f (by decide) h
  · intro h; rw [wi_pop_1] at h; exact br_f (by decide) h
  · intro h; rw [wi_pop_2] at h; exact br_t (by decide) (br_f (by decide) h)
  · intro h; rw [wi_pop_3] at h; exact br_t (by decide) (br_f (by decide) h)
  · intro h; rw [wi_pop_4] at h; exact br_t (by decide) (br_f (by decide) h)
  · intro h; rw [wi_pop_5] at h; exact br_t (by decide) (br_f (by decide) h)
  · intro h; rw [wi_pop_6] at h; exact br_t (by decide) (br_f (by decide) h)
  · intro h; rw [wi_pop_7] at h; exact br_t (by decide) (br_t (by decide) h)
theorem wi_ys4 {post : Int32 → Prop} {t : Nat} (ht : t ≤ 8) (hk : ∀ i, i < t → wi_ok (b_typed i) (b_typedArgs i)) (h1 : wi_snd b_typed t → post 1) (h0 : ¬ wi_snd b_typed t → post 0) : ∀ n i, i ≤ t → t < n + i → (∀ j, j < i → wi_pop (b_typed j) ≤ wi_ht b_typed j) → wY_sound_4 post (nI t) g_rows g_columns g_tableRows g_tableColumns b_kinds b_args b_sizes b_numbers b_typed b_typedArgs b_inputs b_entries b_values b_before b_stack b_depends n (nI (wi_ht b_typed i)) (nI i) := by
  intro n
  induction n with
  | zero => intro i hi hn; omega
  | succ n ih =>
    intro i hi hn hp
    have hh := wi_ht_le b_typed i
    have ec : (nI i).toNatClampNeg = i := nI_clamp (by omega)
    refine pk_le t i (fun hx => ?_) (fun hx => ?_)
    · have hit : i = t := by omega
      subst hit
      refine pk_eq (wi_ht b_typed i) 1 (fun e => ?_) (fun e => ?_)
      · exact h1 ⟨hp, e⟩
      · exact h0 (fun z => e z.2)
    · refine ⟨vp_in_nI (by omega) (by omega), ?_⟩
      rw [ec]
      have hp3 := wi_pop_le (b_typed i)
      refine wi_ypops (hk i hx) ?_
      refine pk_le (wi_pop (b_typed i)) (wi_ht b_typed i) (fun hle => ?_) (fun hlt => ?_)
      · refine nm_r (e' := nI (wi_ht b_typed (i + 1))) (by rw [pk_sub hle, nI_1]; rfl) ?_
        refine nm_r (e' := nI (i + 1)) (nI_1 i) ?_
        exact ih (i + 1) (by omega) (by omega) (lt_s (p := fun j => wi_pop (b_typed j) ≤ wi_ht b_typed j) hp hle)
      · exact h0 (fun z => absurd (z.1 i hx) (by omega))
theorem wi_ysound {post : Int32 → Prop} {t : Nat} (ht : t ≤ 8) (hk : ∀ i, i < t → wi_ok (b_typed i) (b_typedArgs i)) (h1 : wi_snd b_typed t → post 1) (h0 : ¬ wi_snd b_typed t → post 0) : wpY_sound post (nI t, g_rows, g_columns, g_tableRows, g_tableColumns, b_kinds, b_args, b_sizes, b_numbers, b_typed, b_typedArgs, b_inputs, b_entries, b_values, b_before, b_stack, b_depends) := ⟨t + 1, wi_ys4 ht hk h1 h0 (t + 1) 0 (by omega) (by omega) (fun j hj => absurd hj (Nat.not_lt_zero _))⟩
end
/-! exchange: the first i tokens of cell c and the typed ones have changed places -/
def wi_xch (c i : Nat) (K A T U K' A' T' U' : Nat → Int32) : Prop := (∀ j, j < i → (K' (c * 8 + j) = T j ∧ A' (c * 8 + j) = U j) ∧ T' j = K (c * 8 + j) ∧ U' j = A (c * 8 + j)) ∧ (∀ p, p < c * 8 ∨ c * 8 + i ≤ p → K' p = K p ∧ A' p = A p) ∧ (∀ j, i ≤ j → T' j = T j ∧ U' j = U j)
theorem wi_xch_s {c i : Nat} {K A T U K' A' T' U' : Nat → Int32} (h : wi_xch c i K A T U K' A' T' U') : wi_xch c (i + 1) K A T U (upd K' (c * 8 + i) (T' i)) (upd A' (c * 8 + i) (U' i)) (upd T' i (K' (c * 8 + i))) (upd U' i (A' (c * 8 + i))) := by
  obtain ⟨h1, h2, h3⟩ := h
  refine ⟨fun j hj => ?_, fun p hp => ?_, fun j hj => ?_⟩
  · rcases Nat.lt_or_ge j i with z | z
    · rw [pk_un (by omega), pk_un (by omega), pk_un (by omega), pk_un (by omega)]
      exact h1 j z
    · have : j = i := by omega
      subst this
      rw [pk_us, pk_us, pk_us, pk_us]
      exact ⟨h3 j (Nat.le_refl j), h2 (c * 8 + j) (by omega)⟩
  · rw [pk_un (by omega), pk_un (by omega)]
    exact h2 p (by omega)
  · rw [pk_un (by omega), pk_un (by omega)]
    exact h3 j (by omega)
theorem wi_xch_xch {c : Nat} {K A T U K1 A1 T1 U1 K2 A2 T2 U2 : Nat → Int32} (h : wi_xch c 8 K A T U K1 A1 T1 U1) (g : wi_xch c 8 K1 A1 T1 U1 K2 A2 T2 U2) : K2 = K ∧ A2 = A := by
  obtain ⟨h1, h2, _⟩ := h
  obtain ⟨g1, g2, _⟩ := g
  have key : ∀ p, K2 p = K p ∧ A2 p = A p := by
    intro p
    by_cases z : p < c * 8 ∨ c * 8 + 8 ≤ p
    · exact ⟨(g2 p z).1.trans (h2 p z).1, (g2 p z).2.trans (h2 p z).2⟩
    · obtain ⟨j, rfl⟩ : ∃ j, p = c * 8 + j := ⟨p - c * 8, by omega⟩
      have hj : j < 8 := by omega
      exact ⟨(g1 j hj).1.1.trans (h1 j hj).2.1, (g1 j hj).1.2.trans (h1 j hj).2.2⟩
  exact ⟨funext (fun p => (key p).1), funext (fun p => (key p).2)⟩
section
variable {g_count g_rows g_columns g_tableRows g_tableColumns : Int32} {b_kinds b_args b_sizes b_numbers b_typed b_typedArgs b_inputs b_entries b_values b_before b_stack b_depends : Nat → Int32}
theorem wi_ye2 {post : SY → Prop} {c : Nat} (hc : c < 16) (h : ∀ K' A' T' U', wi_xch c 8 b_kinds b_args b_typed b_typedArgs K' A' T' U' → post (b_sizes c, g_rows, g_columns, g_tableRows, g_tableColumns, K', A', upd b_sizes c g_count, b_numbers, T', U', b_inputs, b_entries, b_values, b_before, b_stack, b_depends)) : ∀ n i K' A' T' U', i ≤ 8 → 8 < n + i → wi_xch c i b_kinds b_args b_typed b_typedArgs K' A' T' U' → wY_exchange_2 post (nI c) g_count g_rows g_columns g_tableRows g_tableColumns n (nI i) K' A' b_sizes b_numbers T' U' b_inputs b_entries b_values b_before b_stack b_depends := by
  have e1 : (nI c).toNatClampNeg = c := nI_clamp (by omega)
  have hin : vp_in (nI c) 16 := vp_in_nI hc (by omega)
  intro n
  induction n with
  | zero => intro i K' A' T' U' hi hn; omega
  | succ n ih =>
    intro i K' A' T' U' hi hn hx
    refine pk_le 8 i (fun h8 => ?_) (fun h8 => ?_)
    · have e : i = 8 := by omega
      subst e
      rw [e1]
      exact ⟨hin, nm_e ⟨hin, nm_e (h K' A' T' U' hx)⟩⟩
    · have hi8 : vp_in (nI i) 8 := vp_in_nI h8 (by omega)
      have hin2 : vp_in (nI (c * 8 + i)) 128 := vp_in_nI (by omega) (by omega)
      rw [wi_ix8, nI_clamp (show c * 8 + i < 2 ^ 31 by omega), nI_clamp (show i < 2 ^ 31 by omega)]
      refine ⟨hin2, nm_e ⟨hin2, nm_e ⟨hi8, hin2, nm_e ⟨hi8, hin2, nm_e ⟨hi8, nm_e ⟨hi8, nm_e (nm_r (e' := nI (i + 1)) (nI_1 i) ?_)⟩⟩⟩⟩⟩⟩
      exact ih (i + 1) _ _ _ _ (by omega) (by omega) (wi_xch_s hx)
theorem wi_yexch {post : SY → Prop} {c : Nat} (hc : c < 16) (h : ∀ K' A' T' U', wi_xch c 8 b_kinds b_args b_typed b_typedArgs K' A' T' U' → post (b_sizes c, g_rows, g_columns, g_tableRows, g_tableColumns, K', A', upd b_sizes c g_count, b_numbers, T', U', b_inputs, b_entries, b_values, b_before, b_stack, b_depends)) : wpY_exchange post (g_count, g_rows, g_columns, g_tableRows, g_tableColumns, b_kinds, b_args, b_sizes, b_numbers, b_typed, b_typedArgs, b_inputs, b_entries, b_values, b_before, b_stack, b_depends) (nI c) := ⟨9, wi_ye2 hc h 9 0 b_kinds b_args b_typed b_typedArgs (by omega) (by omega) ⟨fun j hj => absurd hj (Nat.not_lt_zero _), fun _ _ => ⟨rfl, rfl⟩, fun _ _ => ⟨rfl, rfl⟩⟩⟩
end
end
section
/-! who depends on whom -/
def wi_D (dep : Nat → Int32) (a b : Nat) : Prop := ¬ dep (a * 16 + b) = 0
theorem wi_ix16 (a b : Nat) : nI a * 16 + nI b = nI (a * 16 + b) := by
  rw [show (16 : Int32) = nI 16 from rfl, pk_mul, nI_add]
theorem wi_nar0 : vp_nar .boolean 0 = 0 := rfl
theorem wi_nar1 : vp_nar .boolean 1 = 1 := rfl
theorem wi_D_upd {dep : Nat → Int32} {a b x y : Nat} (hb : b < 16) (hy : y < 16) : wi_D (upd dep (a * 16 + b) 1) x y ↔ wi_D dep x y ∨ (x = a ∧ y = b) := by
  unfold wi_D
  by_cases e : x * 16 + y = a * 16 + b
  · rw [e, pk_us]
    have h1 : x = a := by omega
    have h2 : y = b := by omega
    exact ⟨fun _ => Or.inr ⟨h1, h2⟩, fun _ => by decide⟩
  · rw [pk_un e]
    refine ⟨Or.inl, fun z => z.elim id (fun w => ?_)⟩
    exact absurd (by rw [w.1, w.2]) e
/-- over k, at row a, column b -/
def wi_st (k a b : Nat) (dep0 dep : Nat → Int32) : Prop := ∀ x y, x < 16 → y < 16 → (wi_D dep x y ↔ wi_D dep0 x y ∨ ((x < a ∨ (x = a ∧ y < b)) ∧ wi_D dep0 x k ∧ wi_D dep0 k y))
theorem wi_st_c {k a b : Nat} {dep0 dep : Nat → Int32} (h : wi_st k a b dep0 dep) (hk : k < 16) {x : Nat} (hx : x < 16) : wi_D dep x k ↔ wi_D dep0 x k := by
  rw [h x k hx hk]
  exact ⟨fun z => z.elim id (fun w => w.2.1), Or.inl⟩
theorem wi_st_r {k a b : Nat} {dep0 dep : Nat → Int32} (h : wi_st k a b dep0 dep) (hk : k < 16) {y : Nat} (hy : y < 16) : wi_D dep k y ↔ wi_D dep0 k y := by
  rw [h k y hk hy]
  exact ⟨fun z => z.elim id (fun w => w.2.2), Or.inl⟩
theorem wi_st_skip {k a b : Nat} {dep0 dep : Nat → Int32} (h : wi_st k a b dep0 dep) (hno : ¬ (wi_D dep0 a k ∧ wi_D dep0 k b)) : wi_st k a (b + 1) dep0 dep := by
  intro x y hx hy
  rw [h x y hx hy]
  constructor
  · intro z
    rcases z with z | ⟨z1, z2⟩
    · exact Or.inl z
    · exact Or.inr ⟨by omega, z2⟩
  · intro z
    rcases z with z | ⟨z1, z2⟩
    · exact Or.inl z
    · by_cases e : x = a ∧ y = b
      · rw [e.1, e.2] at z2
        exact absurd z2 hno
      · exact Or.inr ⟨by omega, z2⟩
theorem wi_st_set {k a b : Nat} {dep0 dep : Nat → Int32} (h : wi_st k a b dep0 dep) (hb : b < 16) (hyes : wi_D dep0 a k ∧ wi_D dep0 k b) : wi_st k a (b + 1) dep0 (upd dep (a * 16 + b) 1) := by
  intro x y hx hy
  rw [wi_D_upd hb hy, h x y hx hy]
  constructor
  · intro z
    rcases z with (z | ⟨z1, z2⟩) | ⟨z1, z2⟩
    · exact Or.inl z
    · exact Or.inr ⟨by omega, z2⟩
    · rw [z1, z2]
      exact Or.inr ⟨by omega, hyes⟩
  · intro z
    rcases z with z | ⟨z1, z2⟩
    · exact Or.inl (Or.inl z)
    · by_cases e : x = a ∧ y = b
      · exact Or.inr e
      · exact Or.inl (Or.inr ⟨by omega, z2⟩)
theorem wi_st_row {k a : Nat} {dep0 dep : Nat → Int32} (h : wi_st k a 16 dep0 dep) : wi_st k (a + 1) 0 dep0 dep := by
  intro x y hx hy
  rw [h x y hx hy]
  constructor
  · intro z
    rcases z with z | ⟨z1, z2⟩
    · exact Or.inl z
    · exact Or.inr ⟨by omega, z2⟩
  · intro z
    rcases z with z | ⟨z1, z2⟩
    · exact Or.inl z
    · exact Or.inr ⟨by omega, z2⟩
/-- depends after the rounds below k: holds the names, within every transitive relation that holds them, closed through cells below k -/
def wi_tr (T : Nat → Nat → Prop) : Prop := ∀ a m b, a < 16 → m < 16 → b < 16 → T a m → T m b → T a b
def wi_tcs (N : Nat → Nat → Prop) (k : Nat) (dep : Nat → Int32) : Prop := (∀ a b, a < 16 → b < 16 → N a b → wi_D dep a b) ∧ (∀ a m b, a < 16 → m < k → b < 16 → wi_D dep a m → wi_D dep m b → wi_D dep a b) ∧ (∀ T : Nat → Nat → Prop, wi_tr T → (∀ a b, a < 16 → b < 16 → N a b → T a b) → ∀ a b, a < 16 → b < 16 → wi_D dep a b → T a b)
theorem wi_tcs_s {N : Nat → Nat → Prop} {k : Nat} (hk : k < 16) {dep0 dep : Nat → Int32} (h : wi_tcs N k dep0) (hs : wi_st k 16 0 dep0 dep) : wi_tcs N (k + 1) dep := by
  obtain ⟨h1, h2, h3⟩ := h
  have hs' : ∀ x y, x < 16 → y < 16 → (wi_D dep x y ↔ wi_D dep0 x y ∨ (wi_D dep0 x k ∧ wi_D dep0 k y)) := by
    intro x y hx hy
    rw [hs x y hx hy]
    exact ⟨fun z => z.elim Or.inl (fun w => Or.inr w.2), fun z => z.elim Or.inl (fun w => Or.inr ⟨Or.inl hx, w⟩)⟩
  refine ⟨fun a b ha hb hN => (hs' a b ha hb).mpr (Or.inl (h1 a b ha hb hN)), ?_, ?_⟩
  · intro a m b ha hm hb d1 d2
    have hm16 : m < 16 := by omega
    rw [hs' a b ha hb]
    rw [hs' a m ha hm16] at d1
    rw [hs' m b hm16 hb] at d2
    rcases Nat.lt_or_ge m k with z | z
    · rcases d1 with d1 | ⟨d1, d1'⟩
      · rcases d2 with d2 | ⟨d2, d2'⟩
        · exact Or.inl (h2 a m b ha z hb d1 d2)
        · exact Or.inr ⟨h2 a m k ha z hk d1 d2, d2'⟩
      · rcases d2 with d2 | ⟨d2, d2'⟩
        · exact Or.inr ⟨d1, h2 k m b hk z hb d1' d2⟩
        · exact Or.inr ⟨d1, d2'⟩
    · have e : m = k := by omega
      rw [e] at d1 d2
      have e1 : wi_D dep0 a k := d1.elim id (fun w => w.1)
      have e2 : wi_D dep0 k b := d2.elim id (fun w => w.2)
      exact Or.inr ⟨e1, e2⟩
  · intro T hT hN a b ha hb d
    rcases (hs' a b ha hb).mp d with d | ⟨d1, d2⟩
    · exact h3 T hT hN a b ha hb d
    · exact hT a k b ha hk hb (h3 T hT hN a k ha hk d1) (h3 T hT hN k b hk hb d2)
section
variable {g_count g_rows g_columns g_tableRows g_tableColumns : Int32} {b_kinds b_args b_sizes b_numbers b_typed b_typedArgs b_inputs b_entries b_values b_before b_stack b_depends : Nat → Int32}
theorem wi_yo10 {post : SY → Prop} {J : Int32 → (Nat → Int32) → (Nat → Int32) → (Nat → Int32) → (Nat → Int32) → (Nat → Int32) → (Nat → Int32) → (Nat → Int32) → (Nat → Int32) → (Nat → Int32) → (Nat → Int32) → (Nat → Int32) → (Nat → Int32) → Prop} {k a : Nat} (hk : k < 16) (ha : a < 16) {dep0 : Nat → Int32} (h : ∀ dep, wi_st k (a + 1) 0 dep0 dep → J (nI (a + 1)) b_kinds b_args b_sizes b_numbers b_typed b_typedArgs b_inputs b_entries b_values b_before b_stack dep) : ∀ n b dep, b ≤ 16 → 16 < n + b → wi_st k a b dep0 dep → wY_over_10 post J (nI k) (nI a) g_count g_rows g_columns g_tableRows g_tableColumns n (nI b) b_kinds b_args b_sizes b_numbers b_typed b_typedArgs b_inputs b_entries b_values b_before b_stack dep := by
  intro n
  induction n with
  | zero => intro b dep hb hn; omega
  | succ n ih =>
    intro b dep hb hn hs
    refine pk_le 16 b (fun h16 => ?_) (fun h16 => ?_)
    · have e : b = 16 := by omega
      subst e
      exact nm_r (nI_1 a) (h dep (wi_st_row hs))
    · rw [wi_ix16, wi_ix16, wi_ix16, nI_clamp (show a * 16 + k < 2 ^ 31 by omega), nI_clamp (show k * 16 + b < 2 ^ 31 by omega), nI_clamp (show a * 16 + b < 2 ^ 31 by omega)]
      have i1 : vp_in (nI (a * 16 + k)) 256 := vp_in_nI (by omega) (by omega)
      have i2 : vp_in (nI (k * 16 + b)) 256 := vp_in_nI (by omega) (by omega)
      have i3 : vp_in (nI (a * 16 + b)) 256 := vp_in_nI (by omega) (by omega)
      refine ⟨i1, br_c (fun z => ?_) (fun z => ⟨i2, br_c (fun y => ?_) (fun y => ⟨i3, nm_e ?_⟩)⟩)⟩
      · refine nm_r (e' := nI (b + 1)) (nI_1 b) (ih (b + 1) dep (by omega) (by omega) (wi_st_skip hs (fun w => ?_)))
        exact (wi_st_c hs hk ha).mpr w.1 z
      · refine nm_r (e' := nI (b + 1)) (nI_1 b) (ih (b + 1) dep (by omega) (by omega) (wi_st_skip hs (fun w => ?_)))
        exact (wi_st_r hs hk h16).mpr w.2 y
      · refine nm_r (e' := nI (b + 1)) (nI_1 b) (ih (b + 1) _ (by omega) (by omega) ?_)
        rw [wi_nar1]
        exact wi_st_set hs h16 ⟨(wi_st_c hs hk ha).mp z, (wi_st_r hs hk h16).mp y⟩
theorem wi_yo2 {post : SY → Prop} {k : Nat} (hk : k < 16) {dep0 : Nat → Int32} (h : ∀ dep, wi_st k 16 0 dep0 dep → post (g_count, g_rows, g_columns, g_tableRows, g_tableColumns, b_kinds, b_args, b_sizes, b_numbers, b_typed, b_typedArgs, b_inputs, b_entries, b_values, b_before, b_stack, dep)) : ∀ n a dep, a ≤ 16 → 16 < n + a → wi_st k a 0 dep0 dep → wY_over_2 post (nI k) g_count g_rows g_columns g_tableRows g_tableColumns n (nI a) b_kinds b_args b_sizes b_numbers b_typed b_typedArgs b_inputs b_entries b_values b_before b_stack dep := by
  intro n
  induction n with
  | zero => intro a dep ha hn; omega
  | succ n ih =>
    intro a dep ha hn hs
    refine pk_le 16 a (fun h16 => ?_) (fun h16 => ?_)
    · have e : a = 16 := by omega
      subst e
      exact h dep hs
    · exact ⟨17, wi_yo10 hk h16 (fun dep' hs' => ih (a + 1) dep' (by omega) (by omega) hs') 17 0 dep (by omega) (by omega) hs⟩
theorem wi_yover {post : SY → Prop} {k : Nat} (hk : k < 16) (h : ∀ dep, wi_st k 16 0 b_depends dep → post (g_count, g_rows, g_columns, g_tableRows, g_tableColumns, b_kinds, b_args, b_sizes, b_numbers, b_typed, b_typedArgs, b_inputs, b_entries, b_values, b_before, b_stack, dep)) : wpY_over post (g_count, g_rows, g_columns, g_tableRows, g_tableColumns, b_kinds, b_args, b_sizes, b_numbers, b_typed, b_typedArgs, b_inputs, b_entries, b_values, b_before, b_stack, b_depends) (nI k) := ⟨17, wi_yo2 hk h 17 0 b_depends (by omega) (by omega) (fun x y _ _ => ⟨Or.inl, fun z => z.elim id (fun w => by omega)⟩)⟩
theorem wi_yc112 {post : Int32 → SY → Prop} (h0 : (∀ c, c < 16 → ¬ wi_D b_depends c c) → post 0 (g_count, g_rows, g_columns, g_tableRows, g_tableColumns, b_kinds, b_args, b_sizes, b_numbers, b_typed, b_typedArgs, b_inputs, b_entries, b_values, b_before, b_stack, b_depends)) (h1 : (∃ c, c < 16 ∧ wi_D b_depends c c) → post 1 (g_count, g_rows, g_columns, g_tableRows, g_tableColumns, b_kinds, b_args, b_sizes, b_numbers, b_typed, b_typedArgs, b_inputs, b_entries, b_values, b_before, b_stack, b_depends)) : ∀ n c, c ≤ 16 → 16 < n + c → (∀ d, d < c → ¬ wi_D b_depends d d) → wY_circle_112 post g_count g_rows g_columns g_tableRows g_tableColumns b_kinds b_args b_sizes b_numbers b_typed b_typedArgs b_inputs b_entries b_values b_before b_stack b_depends n (nI c) := by
  intro n
  induction n with
  | zero => intro c hc hn; omega
  | succ n ih =>
    intro c hc hn hno
    have e17 : nI c * 17 = nI (c * 16 + c) := by
      rw [show (17 : Int32) = nI 17 from rfl, pk_mul]
      exact congrArg nI (by omega)
    refine pk_le 16 c (fun h16 => ?_) (fun h16 => ?_)
    · exact h0 (fun d hd => hno d (by omega))
    · rw [e17, nI_clamp (show c * 16 + c < 2 ^ 31 by omega)]
      refine ⟨vp_in_nI (by omega) (by omega), br_c (fun z => ?_) (fun z => ?_)⟩
      · exact nm_r (nI_1 c) (ih (c + 1) (by omega) (by omega) (lt_s (p := fun d => ¬ wi_D b_depends d d) hno (fun w => w z)))
      · exact h1 ⟨c, h16, z⟩
theorem wi_yc93 {post : Int32 → SY → Prop} {N : Nat → Nat → Prop} (h : ∀ dep, wi_tcs N 16 dep → ((∀ c, c < 16 → ¬ wi_D dep c c) → post 0 (g_count, g_rows, g_columns, g_tableRows, g_tableColumns, b_kinds, b_args, b_sizes, b_numbers, b_typed, b_typedArgs, b_inputs, b_entries, b_values, b_before, b_stack, dep)) ∧ ((∃ c, c < 16 ∧ wi_D dep c c) → post 1 (g_count, g_rows, g_columns, g_tableRows, g_tableColumns, b_kinds, b_args, b_sizes, b_numbers, b_typed, b_typedArgs, b_inputs, b_entries, b_values, b_before, b_stack, dep))) : ∀ n k dep, k ≤ 16 → 16 < n + k → wi_tcs N k dep → wY_circle_93 post n (nI k) g_count g_rows g_columns g_tableRows g_tableColumns b_kinds b_args b_sizes b_numbers b_typed b_typedArgs b_inputs b_entries b_values b_before b_stack dep := by
  intro n
  induction n with
  | zero => intro k dep hk hn; omega
  | succ n ih =>
    intro k dep hk hn ht
    refine pk_le 16 k (fun h16 => ?_) (fun h16 => ?_)
    · have e : k = 16 := by omega
      subst e
      exact ⟨17, wi_yc112 (h dep ht).1 (h dep ht).2 17 0 (by omega) (by omega) (fun d hd => absurd hd (Nat.not_lt_zero _))⟩
    · refine wi_yover h16 (fun dep' hs => ?_)
      exact nm_r (nI_1 k) (ih (k + 1) dep' (by omega) (by omega) (wi_tcs_s h16 ht hs))
theorem wi_yc32 {post : Int32 → SY → Prop} {J : Int32 → (Nat → Int32) → (Nat → Int32) → (Nat → Int32) → (Nat → Int32) → (Nat → Int32) → (Nat → Int32) → (Nat → Int32) → (Nat → Int32) → (Nat → Int32) → (Nat → Int32) → (Nat → Int32) → (Nat → Int32) → Prop} {c : Nat} (hc : c < 16) (hsh : wi_sh b_sizes b_kinds b_args) (h : ∀ dep, (∀ a b, a < 16 → b < 16 → (wi_D dep a b ↔ a < c + 1 ∧ wi_N b_sizes b_kinds b_args a b)) → J (nI (c + 1)) b_kinds b_args b_sizes b_numbers b_typed b_typedArgs b_inputs b_entries b_values b_before b_stack dep) : ∀ n i dep, i ≤ wi_L b_sizes c → wi_L b_sizes c < n + i → (∀ a b, a < 16 → b < 16 → (wi_D dep a b ↔ (a < c ∧ wi_N b_sizes b_kinds b_args a b) ∨ (a = c ∧ wi_nm (wi_row b_kinds c) (wi_row b_args c) i b))) → wY_circle_32 post J (nI c) g_count g_rows g_columns g_tableRows g_tableColumns n (nI i) b_kinds b_args b_sizes b_numbers b_typed b_typedArgs b_inputs b_entries b_values b_before b_stack dep := by
  obtain ⟨hL, eL, hok, _⟩ := wi_sh_e hsh hc
  have e1 : (nI c).toNatClampNeg = c := nI_clamp (by omega)
  intro n
  induction n with
  | zero => intro i dep hi hn; omega
  | succ n ih =>
    intro i dep hi hn hd
    refine And.intro (vp_in_nI hc (by omega)) ?_
    rw [e1]
    refine pk_le (wi_L b_sizes c) i (fun hx => ?_) (fun hx => ?_) eL
    · have e : i = wi_L b_sizes c := by omega
      subst e
      refine nm_r (nI_1 c) (h dep (fun a b ha hb => ?_))
      rw [hd a b ha hb]
      constructor
      · intro z
        rcases z with ⟨z1, z2⟩ | ⟨z1, z2⟩
        · exact ⟨by omega, z2⟩
        · subst z1
          exact ⟨by omega, z2⟩
      · intro ⟨z1, z2⟩
        rcases Nat.lt_or_ge a c with y | y
        · exact Or.inl ⟨y, z2⟩
        · have e : a = c := by omega
          subst e
          exact Or.inr ⟨rfl, z2⟩
    · rw [wi_ix8, nI_clamp (show c * 8 + i < 2 ^ 31 by omega)]
      have hin : vp_in (nI (c * 8 + i)) 128 := vp_in_nI (by omega) (by omega)
      obtain ⟨j, hj, ej, hcell⟩ := hok i hx
      refine ⟨hin, br_c (fun k1 => ⟨hin, ?_⟩) (fun k1 => ?_)⟩
      · obtain ⟨d, hd16, ed⟩ := hcell k1
        rw [ed, wi_ix16, nI_clamp (show c * 16 + d < 2 ^ 31 by omega), wi_nar1]
        refine ⟨vp_in_nI (by omega) (by omega), nm_e (nm_r (e' := nI (i + 1)) (nI_1 i) ?_)⟩
        refine ih (i + 1) _ (by omega) (by omega) (fun a b ha hb => ?_)
        rw [wi_D_upd hd16 hb, hd a b ha hb, wi_nm_s]
        have ed2 : (wi_row b_args c i).toNatClampNeg = d := by
          show (b_args (c * 8 + i)).toNatClampNeg = d
          rw [ed]
          exact nI_clamp (by omega)
        rw [ed2]
        constructor
        · intro z
          rcases z with (z | ⟨z1, z2⟩) | ⟨z1, z2⟩
          · exact Or.inl z
          · exact Or.inr ⟨z1, Or.inl z2⟩
          · exact Or.inr ⟨z1, Or.inr ⟨k1, z2.symm⟩⟩
        · intro z
          rcases z with z | ⟨z1, z2 | z2⟩
          · exact Or.inl (Or.inl z)
          · exact Or.inl (Or.inr ⟨z1, z2⟩)
          · exact Or.inr ⟨z1, z2.2.symm⟩
      · refine nm_r (e' := nI (i + 1)) (nI_1 i) ?_
        refine ih (i + 1) dep (by omega) (by omega) (fun a b ha hb => ?_)
        rw [hd a b ha hb, wi_nm_s]
        constructor
        · intro z
          rcases z with z | ⟨z1, z2⟩
          · exact Or.inl z
          · exact Or.inr ⟨z1, Or.inl z2⟩
        · intro z
          rcases z with z | ⟨z1, z2 | z2⟩
          · exact Or.inl z
          · exact Or.inr ⟨z1, z2⟩
          · exact absurd z2.1 k1
theorem wi_yc24 {post : Int32 → SY → Prop} (hsh : wi_sh b_sizes b_kinds b_args) (h : ∀ dep, wi_tcs (wi_N b_sizes b_kinds b_args) 16 dep → ((∀ c, c < 16 → ¬ wi_D dep c c) → post 0 (g_count, g_rows, g_columns, g_tableRows, g_tableColumns, b_kinds, b_args, b_sizes, b_numbers, b_typed, b_typedArgs, b_inputs, b_entries, b_values, b_before, b_stack, dep)) ∧ ((∃ c, c < 16 ∧ wi_D dep c c) → post 1 (g_count, g_rows, g_columns, g_tableRows, g_tableColumns, b_kinds, b_args, b_sizes, b_numbers, b_typed, b_typedArgs, b_inputs, b_entries, b_values, b_before, b_stack, dep))) : ∀ n c dep, c ≤ 16 → 16 < n + c → (∀ a b, a < 16 → b < 16 → (wi_D dep a b ↔ a < c ∧ wi_N b_sizes b_kinds b_args a b)) → wY_circle_24 post g_count g_rows g_columns g_tableRows g_tableColumns n (nI c) b_kinds b_args b_sizes b_numbers b_typed b_typedArgs b_inputs b_entries b_values b_before b_stack dep := by
  intro n
  induction n with
  | zero => intro c dep hc hn; omega
  | succ n ih =>
    intro c dep hc hn hd
    refine pk_le 16 c (fun h16 => ?_) (fun h16 => ?_)
    · refine ⟨17, wi_yc93 h 17 0 dep (by omega) (by omega) ⟨fun a b ha hb hN => (hd a b ha hb).mpr ⟨by omega, hN⟩, fun a m b _ hm => absurd hm (Nat.not_lt_zero _), fun T _ hT a b ha hb hab => hT a b ha hb ((hd a b ha hb).mp hab).2⟩⟩
    · refine ⟨wi_L b_sizes c + 1, wi_yc32 h16 hsh (fun dep' hd' => ih (c + 1) dep' (by omega) (by omega) hd') _ 0 dep (by omega) (by omega) (fun a b ha hb => ?_)⟩
      rw [hd a b ha hb]
      exact ⟨Or.inl, fun z => z.elim id (fun w => absurd w.2.choose_spec.1 (Nat.not_lt_zero _))⟩
theorem wi_yc2 {post : Int32 → SY → Prop} (hsh : wi_sh b_sizes b_kinds b_args) (h : ∀ dep, wi_tcs (wi_N b_sizes b_kinds b_args) 16 dep → ((∀ c, c < 16 → ¬ wi_D dep c c) → post 0 (g_count, g_rows, g_columns, g_tableRows, g_tableColumns, b_kinds, b_args, b_sizes, b_numbers, b_typed, b_typedArgs, b_inputs, b_entries, b_values, b_before, b_stack, dep)) ∧ ((∃ c, c < 16 ∧ wi_D dep c c) → post 1 (g_count, g_rows, g_columns, g_tableRows, g_tableColumns, b_kinds, b_args, b_sizes, b_numbers, b_typed, b_typedArgs, b_inputs, b_entries, b_values, b_before, b_stack, dep))) : ∀ n i dep, i ≤ 256 → 256 < n + i → (∀ j, j < i → dep j = 0) → wY_circle_2 post g_count g_rows g_columns g_tableRows g_tableColumns n (nI i) b_kinds b_args b_sizes b_numbers b_typed b_typedArgs b_inputs b_entries b_values b_before b_stack dep := by
  intro n
  induction n with
  | zero => intro i dep hi hn; omega
  | succ n ih =>
    intro i dep hi hn hz
    refine pk_le 256 i (fun hx => ?_) (fun hx => ?_)
    · refine ⟨17, wi_yc24 hsh h 17 0 dep (by omega) (by omega) (fun a b ha hb => ⟨fun z => absurd (hz (a * 16 + b) (by omega)) z, fun z => absurd z.1 (Nat.not_lt_zero _)⟩)⟩
    · rw [nI_clamp (show i < 2 ^ 31 by omega), wi_nar0]
      refine ⟨vp_in_nI hx (by omega), nm_e (nm_r (e' := nI (i + 1)) (nI_1 i) ?_)⟩
      refine ih (i + 1) _ (by omega) (by omega) (fun j hj => ?_)
      by_cases e : j = i
      · rw [e, pk_us]
      · rw [pk_un e]
        exact hz j (by omega)
theorem wi_ycircle {post : Int32 → SY → Prop} (hsh : wi_sh b_sizes b_kinds b_args) (h : ∀ dep, wi_tcs (wi_N b_sizes b_kinds b_args) 16 dep → ((∀ c, c < 16 → ¬ wi_D dep c c) → post 0 (g_count, g_rows, g_columns, g_tableRows, g_tableColumns, b_kinds, b_args, b_sizes, b_numbers, b_typed, b_typedArgs, b_inputs, b_entries, b_values, b_before, b_stack, dep)) ∧ ((∃ c, c < 16 ∧ wi_D dep c c) → post 1 (g_count, g_rows, g_columns, g_tableRows, g_tableColumns, b_kinds, b_args, b_sizes, b_numbers, b_typed, b_typedArgs, b_inputs, b_entries, b_values, b_before, b_stack, dep))) : wpY_circle post (g_count, g_rows, g_columns, g_tableRows, g_tableColumns, b_kinds, b_args, b_sizes, b_numbers, b_typed, b_typedArgs, b_inputs, b_entries, b_values, b_before, b_stack, b_depends) := ⟨257, wi_yc2 hsh h 257 0 b_depends (by omega) (by omega) (fun j hj => absurd hj (Nat.not_lt_zero _))⟩
end
end
section
/-! worked, work -/
section
variable {g_count g_rows g_columns g_tableRows g_tableColumns : Int32} {b_kinds b_args b_sizes b_numbers b_typed b_typedArgs b_inputs b_entries b_values b_before b_stack b_depends : Nat → Int32}
theorem wi_yk246 {post : Int32 → SY → Prop} {J : Int32 → Int32 → (Nat → Int32) → (Nat → Int32) → (Nat → Int32) → (Nat → Int32) → (Nat → Int32) → (Nat → Int32) → (Nat → Int32) → (Nat → Int32) → (Nat → Int32) → (Nat → Int32) → (Nat → Int32) → (Nat → Int32) → Prop} {x1 v : Int32} {h p i : Nat} (hp : p ≤ h) (hh : h < 8) (H : J (nI (h - p + 1)) (nI (i + 1)) b_kinds b_args b_sizes b_numbers b_typed b_typedArgs b_inputs b_entries b_values b_before (upd b_stack (h - p) v) b_depends) : wY_worked_246 post J x1 (nI h) (nI i) (nI p) v g_count g_rows g_columns g_tableRows g_tableColumns b_kinds b_args b_sizes b_numbers b_typed b_typedArgs b_inputs b_entries b_values b_before b_stack b_depends := by
  refine nm_r (e' := nI (h - p + 1)) (by rw [pk_sub hp, nI_1]) ?_
  rw [nI_pred]
  refine ⟨vp_in_nI (by omega) (by omega), ?_⟩
  rw [nI_clamp (show h - p < 2 ^ 31 by omega)]
  exact nm_e (nm_r (nI_1 i) H)
theorem wi_yk102 {post : Int32 → SY → Prop} {J : Int32 → Int32 → (Nat → Int32) → (Nat → Int32) → (Nat → Int32) → (Nat → Int32) → (Nat → Int32) → (Nat → Int32) → (Nat → Int32) → (Nat → Int32) → (Nat → Int32) → (Nat → Int32) → (Nat → Int32) → (Nat → Int32) → Prop} {x1 k a x7 x8 z0 : Int32} {h i : Nat} (hk : wi_ok k a) (h1 : 1 ≤ h → x7 = b_stack (h - 1)) (h2 : 2 ≤ h → x8 = b_stack (h - 2)) (h3 : 3 ≤ h → z0 = b_stack (h - 3)) (hp : wi_pop k ≤ h) (hh : h < 8) (H : J (nI (h - wi_pop k + 1)) (nI (i + 1)) b_kinds b_args b_sizes b_numbers b_typed b_typedArgs b_inputs b_entries b_values b_before (upd b_stack (h - wi_pop k) (wi_val k a b_values b_stack h)) b_depends) : wY_worked_102 post J x1 (nI h) (nI i) k a (nI (wi_pop k)) x7 x8 z0 g_count g_rows g_columns g_tableRows g_tableColumns b_kinds b_args b_sizes b_numbers b_typed b_typedArgs b_inputs b_entries b_values b_before b_stack b_depends := by
  obtain ⟨j, hj, e, hc⟩ := hk
  refine wi_k8 (P := fun k => (k = 1 → ∃ c, c < 16 ∧ a = nI c) → wi_pop k ≤ h → J (nI (h - wi_pop k + 1)) (nI (i + 1)) b_kinds b_args b_sizes b_numbers b_typed b_typedArgs b_inputs b_entries b_values b_before (upd b_stack (h - wi_pop k) (wi_val k a b_values b_stack h)) b_depends → wY_worked_102 post J x1 (nI h) (nI i) k a (nI (wi_pop k)) x7 x8 z0 g_count g_rows g_columns g_tableRows g_tableColumns b_kinds b_args b_sizes b_numbers b_typed b_typedArgs b_inputs b_entries b_values b_before b_stack b_depends) ?_ ?_ ?_ ?_ ?_ ?_ ?_ ?_ ⟨j, hj, e⟩ hc hp H
  · intro _ hp H
    rw [wi_val_0] at H
    exact br_f (by decide) (br_f (by decide) (br_f (by decide) (br_f (by decide) (br_f (by decide) (br_f (by decide) (br_f (by decide) (wi_yk246 hp hh H)))))))
  · intro hc hp H
    rw [wi_val_1] at H
    obtain ⟨c, hc, ec⟩ := hc rfl
    exact br_t rfl ⟨by rw [ec]; exact vp_in_nI hc (by omega), nm_e (wi_yk246 hp hh H)⟩
  · intro _ hp H
    have h2' : 2 ≤ h := by rw [wi_pop_2] at hp; exact hp
    rw [wi_val_2, ← h1 (by omega), ← h2 h2'] at H
    exact br_f (by decide) (br_t rfl (nm_e (wi_yk246 hp hh H)))
  · intro _ hp H
    have h2' : 2 ≤ h := by rw [wi_pop_3] at hp; exact hp
    rw [wi_val_3, ← h1 (by omega), ← h2 h2'] at H
    exact br_f (by decide) (br_f (by decide) (br_t rfl (nm_e (wi_yk246 hp hh H))))
  · intro _ hp H
    have h2' : 2 ≤ h := by rw [wi_pop_4] at hp; exact hp
    rw [wi_val_4, ← h1 (by omega), ← h2 h2'] at H
    exact br_f (by decide) (br_f (by decide) (br_f (by decide) (br_t rfl (nm_e (wi_yk246 hp hh H)))))
  · intro _ hp H
    have h2' : 2 ≤ h := by rw [wi_pop_5] at hp; exact hp
    rw [wi_val_5, ← h1 (by omega), ← h2 h2'] at H
    refine br_f (by decide) (br_f (by decide) (br_f (by decide) (br_f (by decide) (br_t rfl (br_c (fun z => ?_) (fun z => ?_))))))
    · rw [if_pos z] at H; exact wi_yk246 hp hh H
    · rw [if_neg z] at H; exact wi_yk246 hp hh H
  · intro _ hp H
    have h2' : 2 ≤ h := by rw [wi_pop_6] at hp; exact hp
    rw [wi_val_6, ← h1 (by omega), ← h2 h2'] at H
    refine br_f (by decide) (br_f (by decide) (br_f (by decide) (br_f (by decide) (br_f (by decide) (br_t rfl (br_c (fun z => ?_) (fun z => ?_)))))))
    · rw [if_pos z] at H; exact wi_yk246 hp hh H
    · rw [if_neg z] at H; exact wi_yk246 hp hh H
  · intro _ hp H
    have h3' : 3 ≤ h := by rw [wi_pop_7] at hp; exact hp
    rw [wi_val_7, ← h1 (by omega), ← h2 (by omega), ← h3 h3'] at H
    refine br_f (by decide) (br_f (by decide) (br_f (by decide) (br_f (by decide) (br_f (by decide) (br_f (by decide) (br_t rfl (br_c (fun z => ?_) (fun z => ?_))))))))
    · rw [if_pos z] at H; exact wi_yk246 hp hh H
    · rw [if_neg z] at H; exact wi_yk246 hp hh H
theorem wi_yk64 {post : Int32 → SY → Prop} {J : Int32 → Int32 → (Nat → Int32) → (Nat → Int32) → (Nat → Int32) → (Nat → Int32) → (Nat → Int32) → (Nat → Int32) → (Nat → Int32) → (Nat → Int32) → (Nat → Int32) → (Nat → Int32) → (Nat → Int32) → (Nat → Int32) → Prop} {x1 k a x7 : Int32} {h i : Nat} (hk : wi_ok k a) (h1 : 1 ≤ h → x7 = b_stack (h - 1)) (hp : wi_pop k ≤ h) (hh : h < 8) (H : J (nI (h - wi_pop k + 1)) (nI (i + 1)) b_kinds b_args b_sizes b_numbers b_typed b_typedArgs b_inputs b_entries b_values b_before (upd b_stack (h - wi_pop k) (wi_val k a b_values b_stack h)) b_depends) : wY_worked_64 post J x1 (nI h) (nI i) k a (nI (wi_pop k)) x7 g_count g_rows g_columns g_tableRows g_tableColumns b_kinds b_args b_sizes b_numbers b_typed b_typedArgs b_inputs b_entries b_values b_before b_stack b_depends := by
  refine pk_le h 1 (fun z => ?_) (fun z => ?_)
  · exact pk_le h 2 (fun _ => wi_yk102 hk h1 (fun w => absurd w (by omega)) (fun w => absurd w (by omega)) hp hh H) (fun w => absurd w (by omega))
  · rw [show nI h - 2 = nI (h - 2) from pk_sub (b := 2) (by omega), nI_clamp (show h - 2 < 2 ^ 31 by omega)]
    refine ⟨vp_in_nI (by omega) (by omega), ?_⟩
    refine pk_le h 2 (fun y => ?_) (fun y => ?_)
    · exact wi_yk102 hk h1 (fun _ => rfl) (fun w => absurd w (by omega)) hp hh H
    · rw [show nI h - 3 = nI (h - 3) from pk_sub (b := 3) (by omega), nI_clamp (show h - 3 < 2 ^ 31 by omega)]
      refine ⟨vp_in_nI (by omega) (by omega), ?_⟩
      exact wi_yk102 hk h1 (fun _ => rfl) (fun _ => rfl) hp hh H
theorem wi_ywk4 {post : Int32 → SY → Prop} {c : Nat} (hc : c < 16) (hsh : wi_sh b_sizes b_kinds b_args) (hpos : 0 < wi_L b_sizes c) (h : ∀ st, post (wi_F b_sizes b_kinds b_args c b_values) (g_count, g_rows, g_columns, g_tableRows, g_tableColumns, b_kinds, b_args, b_sizes, b_numbers, b_typed, b_typedArgs, b_inputs, b_entries, b_values, b_before, st, b_depends)) {s0 : Nat → Int32} : ∀ n i, i ≤ wi_L b_sizes c → wi_L b_sizes c < n + i → wY_worked_4 post (nI c) g_count g_rows g_columns g_tableRows g_tableColumns n (nI (wi_ht (wi_row b_kinds c) i)) (nI i) b_kinds b_args b_sizes b_numbers b_typed b_typedArgs b_inputs b_entries b_values b_before (wi_stk (wi_row b_kinds c) (wi_row b_args c) b_values s0 i) b_depends := by
  obtain ⟨hL, eL, hok, hsn⟩ := wi_sh_e hsh hc
  intro n
  induction n with
  | zero => intro i hi hn; omega
  | succ n ih =>
    intro i hi hn
    have hh := wi_ht_le (wi_row b_kinds c) i
    refine And.intro (vp_in_nI hc (by omega)) ?_
    rw [nI_clamp (show c < 2 ^ 31 by omega)]
    refine pk_le (wi_L b_sizes c) i (fun hx => ?_) (fun hx => ?_) eL
    · have e : i = wi_L b_sizes c := by omega
      subst e
      have e : wi_stk (wi_row b_kinds c) (wi_row b_args c) b_values s0 (wi_L b_sizes c) 0 = wi_F b_sizes b_kinds b_args c b_values := wi_F_gen hsh hc hpos (fun _ _ => ⟨rfl, rfl⟩) (fun _ _ _ => rfl)
      rw [e]
      exact h _
    · rw [wi_ix8]
      have hin : vp_in (nI (c * 8 + i)) 128 := vp_in_nI (by omega) (by omega)
      rw [nI_clamp (show c * 8 + i < 2 ^ 31 by omega)]
      have hpop : wi_pop (wi_row b_kinds c i) ≤ wi_ht (wi_row b_kinds c) i := (hsn hpos).1 i hx
      refine ⟨hin, nm_e ⟨hin, nm_e ?_⟩⟩
      refine wi_ypops (hok i hx) ?_
      have K := ih (i + 1) (by omega) (by omega)
      refine pk_le (wi_ht (wi_row b_kinds c) i) 0 (fun z => ?_) (fun z => ?_)
      · exact wi_yk64 (hok i hx) (fun w => absurd w (by omega)) hpop (by omega) K
      · rw [show nI (wi_ht (wi_row b_kinds c) i) - 1 = nI (wi_ht (wi_row b_kinds c) i - 1) from pk_sub (b := 1) (by omega), nI_clamp (show wi_ht (wi_row b_kinds c) i - 1 < 2 ^ 31 by omega)]
        refine ⟨vp_in_nI (by omega) (by omega), ?_⟩
        exact wi_yk64 (hok i hx) (fun _ => rfl) hpop (by omega) K
theorem wi_yworked {post : Int32 → SY → Prop} {c : Nat} (hc : c < 16) (hsh : wi_sh b_sizes b_kinds b_args) (hpos : 0 < wi_L b_sizes c) (h : ∀ st, post (wi_F b_sizes b_kinds b_args c b_values) (g_count, g_rows, g_columns, g_tableRows, g_tableColumns, b_kinds, b_args, b_sizes, b_numbers, b_typed, b_typedArgs, b_inputs, b_entries, b_values, b_before, st, b_depends)) : wpY_worked post (g_count, g_rows, g_columns, g_tableRows, g_tableColumns, b_kinds, b_args, b_sizes, b_numbers, b_typed, b_typedArgs, b_inputs, b_entries, b_values, b_before, b_stack, b_depends) (nI c) := ⟨wi_L b_sizes c + 1, wi_ywk4 hc hsh hpos h (s0 := b_stack) (wi_L b_sizes c + 1) 0 (by omega) (by omega)⟩
theorem wi_yw13 {post : SY → Prop} {J : Int32 → Int32 → Int32 → Int32 → Int32 → Int32 → (Nat → Int32) → (Nat → Int32) → (Nat → Int32) → (Nat → Int32) → (Nat → Int32) → (Nat → Int32) → (Nat → Int32) → (Nat → Int32) → (Nat → Int32) → (Nat → Int32) → (Nat → Int32) → (Nat → Int32) → Prop} (hsh : wi_sh b_sizes b_kinds b_args) {B : Nat → Prop} (hB : ∀ c d, c < 16 → B c → wi_N b_sizes b_kinds b_args c d → B d) {rk : Nat → Nat} (hrk : ∀ c d, c < 16 → wi_N b_sizes b_kinds b_args c d → rk d < rk c) {r x q y : Int32} {W : Nat → Int32} (hW : wi_sol B b_sizes b_kinds b_args b_numbers r x q y W) {t : Nat} (h : ∀ vals st, (∀ c, c < 16 → B c → rk c < t + 1 → vals c = W c) → J (nI (t + 1)) g_count g_rows g_columns g_tableRows g_tableColumns b_kinds b_args b_sizes b_numbers b_typed b_typedArgs b_inputs b_entries vals b_before st b_depends) : ∀ n c vals st, c ≤ 16 → 16 < n + c → (∀ e, e < 16 → B e → (rk e < t ∨ (rk e = t ∧ e < c)) → vals e = W e) → wY_work_13 post J r x q y (nI t) n (nI c) g_count g_rows g_columns g_tableRows g_tableColumns b_kinds b_args b_sizes b_numbers b_typed b_typedArgs b_inputs b_entries vals b_before st b_depends := by
  intro n
  induction n with
  | zero => intro c vals st hc hn; omega
  | succ n ih =>
    intro c vals st hc hn hv
    refine pk_le 16 c (fun hx => ?_) (fun hx => ?_)
    · exact nm_r (nI_1 t) (h vals st (fun e he hBe hr => hv e he hBe (by omega)))
    · have hin : vp_in (nI c) 16 := vp_in_nI hx (by omega)
      have key : ∀ v st', (B c → rk c ≤ t → v = W c) → wY_work_13 post J r x q y (nI t) n (nI (c + 1)) g_count g_rows g_columns g_tableRows g_tableColumns b_kinds b_args b_sizes b_numbers b_typed b_typedArgs b_inputs b_entries (upd vals c v) b_before st' b_depends := by
        intro v st' hvc
        refine ih (c + 1) _ st' (by omega) (by omega) (fun e he hBe hr => ?_)
        by_cases z : e = c
        · subst z
          rw [pk_us]
          exact hvc hBe (by omega)
        · rw [pk_un z]
          exact hv e he hBe (by omega)
      obtain ⟨_, eL, _, _⟩ := wi_sh_e hsh hx
      rw [nI_clamp (show c < 2 ^ 31 by omega)]
      refine ⟨hin, nm_e (br_c (fun e1 => ?_) (fun e1 => br_c (fun e2 => ?_) (fun e2 => ⟨hin, ?_⟩)))⟩
      · refine ⟨hin, nm_e (nm_r (nI_1 c) (key x st (fun hBc _ => ?_)))⟩
        rw [hW c hx hBc, if_pos e1]
      · refine ⟨hin, nm_e (nm_r (nI_1 c) (key y st (fun hBc _ => ?_)))⟩
        rw [hW c hx hBc, if_neg e1, if_pos e2]
      · refine pk_le (wi_L b_sizes c) 0 (fun hl => ?_) (fun hl => ?_) eL
        · refine ⟨hin, nm_e (nm_r (nI_1 c) (key _ st (fun hBc _ => ?_)))⟩
          rw [hW c hx hBc, if_neg e1, if_neg e2, if_pos (show wi_L b_sizes c = 0 by omega)]
        · refine wi_yworked hx hsh hl (fun st' => ?_)
          refine And.intro hin ?_
          refine nm_e (nm_r (nI_1 c) (key _ st' (fun hBc hr => ?_)))
          rw [hW c hx hBc, if_neg e1, if_neg e2, if_neg (show ¬ wi_L b_sizes c = 0 by omega)]
          exact wi_F_loc hsh hx hl (fun d hd hN => hv d hd (hB c d hx hBc hN) (Or.inl (Nat.lt_of_lt_of_le (hrk c d hx hN) hr)))
theorem wi_yw3 {post : SY → Prop} (hsh : wi_sh b_sizes b_kinds b_args) {B : Nat → Prop} (hB : ∀ c d, c < 16 → B c → wi_N b_sizes b_kinds b_args c d → B d) {rk : Nat → Nat} (hrk : ∀ c d, c < 16 → wi_N b_sizes b_kinds b_args c d → rk d < rk c) (hr16 : ∀ c, c < 16 → rk c < 16) {r x q y : Int32} {W : Nat → Int32} (hW : wi_sol B b_sizes b_kinds b_args b_numbers r x q y W) (h : ∀ vals st, (∀ c, c < 16 → B c → vals c = W c) → post (g_count, g_rows, g_columns, g_tableRows, g_tableColumns, b_kinds, b_args, b_sizes, b_numbers, b_typed, b_typedArgs, b_inputs, b_entries, vals, b_before, st, b_depends)) : ∀ n t vals st, t ≤ 16 → 16 < n + t → (∀ e, e < 16 → B e → rk e < t → vals e = W e) → wY_work_3 post r x q y n (nI t) g_count g_rows g_columns g_tableRows g_tableColumns b_kinds b_args b_sizes b_numbers b_typed b_typedArgs b_inputs b_entries vals b_before st b_depends := by
  intro n
  induction n with
  | zero => intro t vals st ht hn; omega
  | succ n ih =>
    intro t vals st ht hn hv
    refine pk_le 16 t (fun hx => ?_) (fun hx => ?_)
    · have e : t = 16 := by omega
      subst e
      exact h vals st (fun c hc hBc => hv c hc hBc (hr16 c hc))
    · refine ⟨17, wi_yw13 hsh hB hrk hW (fun vals' st' hv' => ih (t + 1) vals' st' (by omega) (by omega) hv') 17 0 vals st (by omega) (by omega) (fun e he hBe hr => hv e he hBe (by omega))⟩
theorem wi_ywork {post : SY → Prop} (hsh : wi_sh b_sizes b_kinds b_args) {B : Nat → Prop} (hB : ∀ c d, c < 16 → B c → wi_N b_sizes b_kinds b_args c d → B d) {rk : Nat → Nat} (hrk : ∀ c d, c < 16 → wi_N b_sizes b_kinds b_args c d → rk d < rk c) (hr16 : ∀ c, c < 16 → rk c < 16) {r x q y : Int32} {W : Nat → Int32} (hW : wi_sol B b_sizes b_kinds b_args b_numbers r x q y W) (h : ∀ vals st, (∀ c, c < 16 → B c → vals c = W c) → post (g_count, g_rows, g_columns, g_tableRows, g_tableColumns, b_kinds, b_args, b_sizes, b_numbers, b_typed, b_typedArgs, b_inputs, b_entries, vals, b_before, st, b_depends)) : wpY_work post (g_count, g_rows, g_columns, g_tableRows, g_tableColumns, b_kinds, b_args, b_sizes, b_numbers, b_typed, b_typedArgs, b_inputs, b_entries, b_values, b_before, b_stack, b_depends) r x q y := ⟨17, wi_yw3 hsh hB hrk hr16 hW h 17 0 b_values b_stack (by omega) (by omega) (fun e _ _ hr => absurd hr (Nat.not_lt_zero _))⟩
end
end
section
/-! the relation -/
def wi_tok (ft : Int32) (tk ta : Nat → Int32) (gc : Int32) (bT bU : Nat → Int32) : Prop := ∃ t, t ≤ 8 ∧ ft = nI t ∧ gc = nI t ∧ ∀ i, i < t → wi_ok (tk i) (ta i) ∧ bT i = tk i ∧ bU i = ta i
def wi_inp (inp ic : Nat → Int32) (gr gc : Int32) (binp : Nat → Int32) : Prop := binp = inp ∧ ∃ r c, r ≤ 4 ∧ c ≤ 4 ∧ ic 0 = nI r ∧ ic 1 = nI c ∧ gr = nI r ∧ gc = nI c
def wi_tab (fr fc : Int32) (en : Nat → Int32) (gr gc : Int32) (ben : Nat → Int32) : Prop := ben = en ∧ gr = fr ∧ gc = fc ∧ ∃ r c, r ≤ 4 ∧ c ≤ 4 ∧ fr = nI r ∧ fc = nI c
def wi_cel (len kk aa nms now ord bk ba bs num : Nat → Int32) : Prop := bs = len ∧ wi_sh len kk aa ∧ wi_same len kk aa bk ba ∧ wi_nms (wi_N len kk aa) nms ∧ wi_top (wi_N len kk aa) ord ∧ wi_vals len kk aa num now
/-- the relation at the head of a turn -/
def i_Rel (k : Nat) (u : SX) (v : SY) : Prop := match u, v with
  | (f_typed, f_rows, f_columns, a_length, a_kindOf, a_argOf, a_names, a_now, a_order, a_typedKind, a_typedArg, a_inputs, a_inputCount, a_entries, a_aside, a_stack), (g_count, g_rows, g_columns, g_tableRows, g_tableColumns, b_kinds, b_args, b_sizes, b_numbers, b_typed, b_typedArgs, b_inputs, b_entries, b_values, b_before, b_stack, b_depends) => wi_tok f_typed a_typedKind a_typedArg g_count b_typed b_typedArgs ∧ wi_inp a_inputs a_inputCount g_rows g_columns b_inputs ∧ wi_tab f_rows f_columns a_entries g_tableRows g_tableColumns b_entries ∧ wi_cel a_length a_kindOf a_argOf a_names a_now a_order b_kinds b_args b_sizes b_numbers
theorem i_up {k : Nat} {u : SX} {v : SY} (h : i_Rel k u v) : i_Rel (k + 4) u v := h
section
variable {f_typed f_rows f_columns : Int32} {a_length a_kindOf a_argOf a_names a_now a_order a_typedKind a_typedArg a_inputs a_inputCount a_entries a_aside a_stack : Nat → Int32}
variable {g_count g_rows g_columns g_tableRows g_tableColumns : Int32} {b_kinds b_args b_sizes b_numbers b_typed b_typedArgs b_inputs b_entries b_values b_before b_stack b_depends : Nat → Int32}
theorem wi_mk {k : Nat} (h1 : wi_tok f_typed a_typedKind a_typedArg g_count b_typed b_typedArgs) (h2 : wi_inp a_inputs a_inputCount g_rows g_columns b_inputs) (h3 : wi_tab f_rows f_columns a_entries g_tableRows g_tableColumns b_entries) (h4 : wi_cel a_length a_kindOf a_argOf a_names a_now a_order b_kinds b_args b_sizes b_numbers) : i_Rel k (f_typed, f_rows, f_columns, a_length, a_kindOf, a_argOf, a_names, a_now, a_order, a_typedKind, a_typedArg, a_inputs, a_inputCount, a_entries, a_aside, a_stack) (g_count, g_rows, g_columns, g_tableRows, g_tableColumns, b_kinds, b_args, b_sizes, b_numbers, b_typed, b_typedArgs, b_inputs, b_entries, b_values, b_before, b_stack, b_depends) := And.intro h1 (And.intro h2 (And.intro h3 h4))
end
theorem wi_el {P : SX → SY → Prop} {k : Nat} {u : SX} {v : SY} (I : i_Rel k u v) (h : ∀ f_typed f_rows f_columns a_length a_kindOf a_argOf a_names a_now a_order a_typedKind a_typedArg a_inputs a_inputCount a_entries a_aside a_stack g_count g_rows g_columns g_tableRows g_tableColumns b_kinds b_args b_sizes b_numbers b_typed b_typedArgs b_inputs b_entries b_values b_before b_stack b_depends, wi_tok f_typed a_typedKind a_typedArg g_count b_typed b_typedArgs → wi_inp a_inputs a_inputCount g_rows g_columns b_inputs → wi_tab f_rows f_columns a_entries g_tableRows g_tableColumns b_entries → wi_cel a_length a_kindOf a_argOf a_names a_now a_order b_kinds b_args b_sizes b_numbers → P (f_typed, f_rows, f_columns, a_length, a_kindOf, a_argOf, a_names, a_now, a_order, a_typedKind, a_typedArg, a_inputs, a_inputCount, a_entries, a_aside, a_stack) (g_count, g_rows, g_columns, g_tableRows, g_tableColumns, b_kinds, b_args, b_sizes, b_numbers, b_typed, b_typedArgs, b_inputs, b_entries, b_values, b_before, b_stack, b_depends)) : P u v := by
  obtain ⟨f_typed, f_rows, f_columns, a_length, a_kindOf, a_argOf, a_names, a_now, a_order, a_typedKind, a_typedArg, a_inputs, a_inputCount, a_entries, a_aside, a_stack⟩ := u
  obtain ⟨g_count, g_rows, g_columns, g_tableRows, g_tableColumns, b_kinds, b_args, b_sizes, b_numbers, b_typed, b_typedArgs, b_inputs, b_entries, b_values, b_before, b_stack, b_depends⟩ := v
  exact h f_typed f_rows f_columns a_length a_kindOf a_argOf a_names a_now a_order a_typedKind a_typedArg a_inputs a_inputCount a_entries a_aside a_stack g_count g_rows g_columns g_tableRows g_tableColumns b_kinds b_args b_sizes b_numbers b_typed b_typedArgs b_inputs b_entries b_values b_before b_stack b_depends I.1 I.2.1 I.2.2.1 I.2.2.2
/-! facts of the cells' part -/
theorem wi_m1 {c : Nat} (hc : c < 16) : ¬ nI c = -1 := (by decide +kernel : ∀ c, c < 16 → ¬ nI c = -1) c hc
section
variable {len kk aa nms now ord bk ba bs num : Nat → Int32}
theorem wi_cel_sh (h : wi_cel len kk aa nms now ord bk ba bs num) : wi_sh bs bk ba := by
  obtain ⟨rfl, h1, h2, _⟩ := h
  exact wi_sh_tok h1 h2
theorem wi_cel_N (h : wi_cel len kk aa nms now ord bk ba bs num) {c : Nat} (hc : c < 16) (d : Nat) : wi_N bs bk ba c d ↔ wi_N len kk aa c d := by
  obtain ⟨rfl, h1, h2, _⟩ := h
  exact wi_N_tok h2 hc d
theorem wi_cel_rk (h : wi_cel len kk aa nms now ord bk ba bs num) : ∃ rk : Nat → Nat, (∀ c, c < 16 → rk c < 16) ∧ ∀ c d, c < 16 → wi_N bs bk ba c d → rk d < rk c := by
  have h' := h
  obtain ⟨_, _, _, _, ht, _⟩ := h'
  obtain ⟨rk, h1, h2⟩ := wi_top_rank ht
  exact ⟨rk, h1, fun c d hc hN => h2 c d hc ((wi_cel_N h hc d).mp hN)⟩
theorem wi_cel_sol (h : wi_cel len kk aa nms now ord bk ba bs num) : wi_sol (fun _ => True) bs bk ba num (-1) 0 (-1) 0 now := by
  obtain ⟨rfl, h1, h2, _, _, hv⟩ := h
  intro c hc _
  rw [if_neg (wi_m1 hc), if_neg (wi_m1 hc)]
  by_cases z : wi_L bs c = 0
  · rw [if_pos z, hv c hc, if_pos z]
  · rw [if_neg z, wi_F_tok h1 h2 hc (by omega)]
    have := hv c hc
    rw [if_neg z] at this
    exact this
end
section
variable {g_count g_rows g_columns g_tableRows g_tableColumns : Int32} {b_kinds b_args b_sizes b_numbers b_typed b_typedArgs b_inputs b_entries b_values b_before b_stack b_depends : Nat → Int32}
theorem wi_ywork0 {len kk aa nms now ord : Nat → Int32} {post : SY → Prop} (hC : wi_cel len kk aa nms now ord b_kinds b_args b_sizes b_numbers) (h : ∀ vals st, (∀ c, c < 16 → vals c = now c) → post (g_count, g_rows, g_columns, g_tableRows, g_tableColumns, b_kinds, b_args, b_sizes, b_numbers, b_typed, b_typedArgs, b_inputs, b_entries, vals, b_before, st, b_depends)) : wpY_work post (g_count, g_rows, g_columns, g_tableRows, g_tableColumns, b_kinds, b_args, b_sizes, b_numbers, b_typed, b_typedArgs, b_inputs, b_entries, b_values, b_before, b_stack, b_depends) (-1) 0 (-1) 0 := by
  obtain ⟨rk, h1, h2⟩ := wi_cel_rk hC
  exact wi_ywork (wi_cel_sh hC) (B := fun _ => True) (fun _ _ _ _ _ => trivial) h2 h1 (wi_cel_sol hC) (fun vals st hv => h vals st (fun c hc => hv c hc trivial))
end
end
section
section
variable {f_typed f_rows f_columns : Int32} {a_length a_kindOf a_argOf a_names a_now a_order a_typedKind a_typedArg a_inputs a_inputCount a_entries a_aside a_stack : Nat → Int32}
theorem wi_xi {post : SX → Prop} (h : ∀ ord, (∀ i, i < 16 → ord i = nI i) → post (f_typed, f_rows, f_columns, a_length, a_kindOf, a_argOf, a_names, a_now, ord, a_typedKind, a_typedArg, a_inputs, a_inputCount, a_entries, a_aside, a_stack)) : ∀ n i ord, i ≤ 16 → 16 < n + i → (∀ j, j < i → ord j = nI j) → wX_init_111 post f_typed f_rows f_columns n (nI i) a_length a_kindOf a_argOf a_names a_now ord a_typedKind a_typedArg a_inputs a_inputCount a_entries a_aside a_stack := by
  intro n
  induction n with
  | zero => intro i ord hi hn; omega
  | succ n ih =>
    intro i ord hi hn ho
    refine pk_le 16 i (fun hx => ?_) (fun hx => ?_)
    · exact h ord (fun j hj => ho j (by omega))
    · rw [nI_clamp (show i < 2 ^ 31 by omega)]
      refine ⟨vp_in_nI hx (by omega), nm_e (nm_r (e' := nI (i + 1)) (nI_1 i) ?_)⟩
      refine ih (i + 1) _ (by omega) (by omega) (fun j hj => ?_)
      by_cases z : j = i
      · rw [z, pk_us]
      · rw [pk_un z]
        exact ho j (by omega)
end
theorem wi_L0 (c : Nat) : wi_L (fun _ => 0) c = 0 := by
  show (0 : Int32).toNatClampNeg = 0
  decide
theorem wi_N0 {kk aa : Nat → Int32} {c d : Nat} (h : wi_N (fun _ => 0) kk aa c d) : False := by
  obtain ⟨i, hi, _⟩ := h
  rw [wi_L0] at hi
  exact absurd hi (Nat.not_lt_zero _)
theorem i_vc0 : wpX_init (fun u => wpY_init (fun v => i_Rel 0 u v)) := by
  refine ⟨17, wi_xi (fun ord ho => ?_) 17 0 (fun _ => 0) (by omega) (by omega) (fun j hj => absurd hj (Nat.not_lt_zero _))⟩
  show i_Rel 0 (0, 0, 0, (fun _ => 0), (fun _ => 0), (fun _ => 0), (fun _ => 0), (fun _ => 0), ord, (fun _ => 0), (fun _ => 0), (fun _ => 0), (fun _ => 0), (fun _ => 0), (fun _ => 0), (fun _ => 0)) (0, 0, 0, 0, 0, (fun _ => 0), (fun _ => 0), (fun _ => 0), (fun _ => 0), (fun _ => 0), (fun _ => 0), (fun _ => 0), (fun _ => 0), (fun _ => 0), (fun _ => 0), (fun _ => 0), (fun _ => 0))
  refine wi_mk ⟨0, by omega, rfl, rfl, fun i hi => absurd hi (Nat.not_lt_zero _)⟩ ⟨rfl, 0, 0, by omega, by omega, rfl, rfl, rfl, rfl⟩ ⟨rfl, rfl, rfl, 0, 0, by omega, by omega, rfl, rfl⟩ ⟨rfl, ?_, ?_, ?_, ?_, ?_⟩
  · intro c hc
    exact ⟨0, by omega, rfl, fun i hi => absurd hi (Nat.not_lt_zero _), fun z => absurd z (Nat.lt_irrefl 0)⟩
  · intro c hc i hi
    rw [wi_L0] at hi
    exact absurd hi (Nat.not_lt_zero _)
  · intro c hc d
    refine ⟨fun z => ?_, fun z => (wi_N0 z).elim⟩
    have e : bt 0 d = true := z
    rw [b_0] at e
    exact absurd e (by decide)
  · exact ⟨fun i => i, fun i hi => ⟨hi, ho i hi⟩, fun i j _ _ e => e, fun c hc => ⟨c, hc, rfl⟩, fun i _ d hd => (wi_N0 hd).elim⟩
  · intro c hc
    rw [if_pos (wi_L0 c)]
/-! token -/
theorem wi_b8 {v1 : Int32} (h0 : ¬ v1 < 0) (h7 : ¬ 7 < v1) : ∃ j, j ≤ 7 ∧ v1 = nI j := by
  obtain ⟨j, hj, rfl⟩ := nI_of h0
  have h : ¬ nI 7 < nI j := h7
  rw [nI_ltI (by omega) hj] at h
  exact ⟨j, by omega, rfl⟩
section
variable {f_typed f_rows f_columns : Int32} {a_length a_kindOf a_argOf a_names a_now a_order a_typedKind a_typedArg a_inputs a_inputCount a_entries a_aside a_stack : Nat → Int32}
variable {g_count g_rows g_columns g_tableRows g_tableColumns : Int32} {b_kinds b_args b_sizes b_numbers b_typed b_typedArgs b_inputs b_entries b_values b_before b_stack b_depends : Nat → Int32}
theorem wi_tk {k : Nat} {v1 v2 : Int32} (hok : wi_ok v1 v2) (hT : wi_tok f_typed a_typedKind a_typedArg g_count b_typed b_typedArgs) (hI : wi_inp a_inputs a_inputCount g_rows g_columns b_inputs) (hB : wi_tab f_rows f_columns a_entries g_tableRows g_tableColumns b_entries) (hC : wi_cel a_length a_kindOf a_argOf a_names a_now a_order b_kinds b_args b_sizes b_numbers) : ∃ r u' v', i_Rel k u' v' ∧ (∀ post : Int32 → SX → Prop, post r u' → wX_token_25 post v1 v2 f_typed f_rows f_columns a_length a_kindOf a_argOf a_names a_now a_order a_typedKind a_typedArg a_inputs a_inputCount a_entries a_aside a_stack) ∧ (∀ post : Int32 → SY → Prop, post r v' → wY_token_26 post v1 v2 g_count g_rows g_columns g_tableRows g_tableColumns b_kinds b_args b_sizes b_numbers b_typed b_typedArgs b_inputs b_entries b_values b_before b_stack b_depends) := by
  have hT' := hT
  obtain ⟨t, ht, rfl, rfl, hk⟩ := hT
  rcases Nat.lt_or_ge t 8 with z | z
  · refine ⟨nI (t + 1), (nI (t + 1), f_rows, f_columns, a_length, a_kindOf, a_argOf, a_names, a_now, a_order, upd a_typedKind t v1, upd a_typedArg t v2, a_inputs, a_inputCount, a_entries, a_aside, a_stack), (nI (t + 1), g_rows, g_columns, g_tableRows, g_tableColumns, b_kinds, b_args, b_sizes, b_numbers, upd b_typed t v1, upd b_typedArgs t v2, b_inputs, b_entries, b_values, b_before, b_stack, b_depends), wi_mk ⟨t + 1, by omega, rfl, rfl, fun i hi => ?_⟩ hI hB hC, fun post hp => ?_, fun post hp => ?_⟩
    · by_cases e : i = t
      · subst e
        rw [pk_us, pk_us, pk_us, pk_us]
        exact ⟨hok, rfl, rfl⟩
      · rw [pk_un e, pk_un e, pk_un e, pk_un e]
        exact hk i (by omega)
    · refine pk_lt t 8 (fun _ => ?_) (fun w => absurd w (by omega))
      rw [nI_clamp (show t < 2 ^ 31 by omega)]
      exact ⟨vp_in_nI z (by omega), nm_e ⟨vp_in_nI z (by omega), nm_e (nm_r (nI_1 t) hp)⟩⟩
    · refine pk_eq t 8 (fun w => absurd w (by omega)) (fun _ => ?_)
      rw [nI_clamp (show t < 2 ^ 31 by omega)]
      exact ⟨vp_in_nI z (by omega), nm_e ⟨vp_in_nI z (by omega), nm_e (nm_r (nI_1 t) hp)⟩⟩
  · refine ⟨-3, (nI t, f_rows, f_columns, a_length, a_kindOf, a_argOf, a_names, a_now, a_order, a_typedKind, a_typedArg, a_inputs, a_inputCount, a_entries, a_aside, a_stack), (nI t, g_rows, g_columns, g_tableRows, g_tableColumns, b_kinds, b_args, b_sizes, b_numbers, b_typed, b_typedArgs, b_inputs, b_entries, b_values, b_before, b_stack, b_depends), wi_mk hT' hI hB hC, fun post hp => ?_, fun post hp => ?_⟩
    · exact pk_lt t 8 (fun w => absurd w (by omega)) (fun _ => hp)
    · exact pk_eq t 8 (fun _ => hp) (fun w => absurd w (by omega))
end
theorem i_vc_token {k : Nat} {u : SX} {v : SY} (I : i_Rel k u v) (hk : k + 4 ≤ 2048) (v1 : Int32) (v2 : Int32) : wpX_token (fun r u' => wpY_token (fun r' v' => r' = r ∧ i_Rel (k + 4) u' v') v v1 v2) u v1 v2 := by
  refine wi_el (P := fun u v => wpX_token (fun r u' => wpY_token (fun r' v' => r' = r ∧ i_Rel (k + 4) u' v') v v1 v2) u v1 v2) I ?_
  intro f_typed f_rows f_columns a_length a_kindOf a_argOf a_names a_now a_order a_typedKind a_typedArg a_inputs a_inputCount a_entries a_aside a_stack g_count g_rows g_columns g_tableRows g_tableColumns b_kinds b_args b_sizes b_numbers b_typed b_typedArgs b_inputs b_entries b_values b_before b_stack b_depends hT hI hB hC
  have I' : i_Rel (k + 4) (f_typed, f_rows, f_columns, a_length, a_kindOf, a_argOf, a_names, a_now, a_order, a_typedKind, a_typedArg, a_inputs, a_inputCount, a_entries, a_aside, a_stack) (g_count, g_rows, g_columns, g_tableRows, g_tableColumns, b_kinds, b_args, b_sizes, b_numbers, b_typed, b_typedArgs, b_inputs, b_entries, b_values, b_before, b_stack, b_depends) := wi_mk hT hI hB hC
  by_cases h0 : v1 < 0
  · exact br_t h0 (br_t h0 ⟨rfl, I'⟩)
  · by_cases h7 : 7 < v1
    · exact br_f h0 (br_t h7 (br_f h0 (br_t h7 ⟨rfl, I'⟩)))
    · obtain ⟨j, hj, ej⟩ := wi_b8 h0 h7
      by_cases h1 : v1 = 1
      · by_cases hv : vp_in v2 16
        · obtain ⟨c, hc, rfl⟩ := vp_in_of hv (by omega)
          obtain ⟨r, u', v', hR, hX, hY⟩ := wi_tk (k := k + 4) (v1 := v1) (v2 := nI c) ⟨j, hj, ej, fun _ => ⟨c, hc, rfl⟩⟩ hT hI hB hC
          refine br_f h0 (br_f h7 (br_t h1 (wi_xoff_in hc (br_t rfl (hX _ ?_)))))
          exact br_f h0 (br_f h7 (br_t h1 (wi_ybad_in hc (br_t rfl (hY _ ⟨rfl, hR⟩)))))
        · refine br_f h0 (br_f h7 (br_t h1 (wi_xoff_out hv (br_f (by decide) ?_))))
          exact br_f h0 (br_f h7 (br_t h1 (wi_ybad_out hv (br_f (by decide) ⟨rfl, I'⟩))))
      · obtain ⟨r, u', v', hR, hX, hY⟩ := wi_tk (k := k + 4) (v1 := v1) (v2 := v2) ⟨j, hj, ej, fun z => absurd z h1⟩ hT hI hB hC
        refine br_f h0 (br_f h7 (br_f h1 (hX _ ?_)))
        exact br_f h0 (br_f h7 (br_f h1 (hY _ ⟨rfl, hR⟩)))
theorem i_vc_clearTokens {k : Nat} {u : SX} {v : SY} (I : i_Rel k u v) (hk : k + 4 ≤ 2048) : wpX_clearTokens (fun u' => wpY_clearTokens (fun v' => i_Rel (k + 4) u' v') v) u := by
  refine wi_el (P := fun u v => wpX_clearTokens (fun u' => wpY_clearTokens (fun v' => i_Rel (k + 4) u' v') v) u) I ?_
  intro f_typed f_rows f_columns a_length a_kindOf a_argOf a_names a_now a_order a_typedKind a_typedArg a_inputs a_inputCount a_entries a_aside a_stack g_count g_rows g_columns g_tableRows g_tableColumns b_kinds b_args b_sizes b_numbers b_typed b_typedArgs b_inputs b_entries b_values b_before b_stack b_depends hT hI hB hC
  show i_Rel (k + 4) (0, f_rows, f_columns, a_length, a_kindOf, a_argOf, a_names, a_now, a_order, a_typedKind, a_typedArg, a_inputs, a_inputCount, a_entries, a_aside, a_stack) (0, g_rows, g_columns, g_tableRows, g_tableColumns, b_kinds, b_args, b_sizes, b_numbers, b_typed, b_typedArgs, b_inputs, b_entries, b_values, b_before, b_stack, b_depends)
  exact wi_mk ⟨0, by omega, rfl, rfl, fun i hi => absurd hi (Nat.not_lt_zero _)⟩ hI hB hC
/-! input -/
section
variable {f_typed f_rows f_columns : Int32} {a_length a_kindOf a_argOf a_names a_now a_order a_typedKind a_typedArg a_inputs a_inputCount a_entries a_aside a_stack : Nat → Int32}
variable {g_count g_rows g_columns g_tableRows g_tableColumns : Int32} {b_kinds b_args b_sizes b_numbers b_typed b_typedArgs b_inputs b_entries b_values b_before b_stack b_depends : Nat → Int32}
theorem wi_in_c {k : Nat} {v2 : Int32} (hT : wi_tok f_typed a_typedKind a_typedArg g_count b_typed b_typedArgs) (hI : wi_inp a_inputs a_inputCount g_rows g_columns b_inputs) (hB : wi_tab f_rows f_columns a_entries g_tableRows g_tableColumns b_entries) (hC : wi_cel a_length a_kindOf a_argOf a_names a_now a_order b_kinds b_args b_sizes b_numbers) : ∃ r u' v', i_Rel k u' v' ∧ (∀ post : Int32 → SX → Prop, post r u' → wX_input_9 post v2 1 f_typed f_rows f_columns a_length a_kindOf a_argOf a_names a_now a_order a_typedKind a_typedArg a_inputs a_inputCount a_entries a_aside a_stack) ∧ (∀ post : Int32 → SY → Prop, post r v' → wY_input_15 post 0 v2 g_columns g_count g_rows g_columns g_tableRows g_tableColumns b_kinds b_args b_sizes b_numbers b_typed b_typedArgs b_inputs b_entries b_values b_before b_stack b_depends) := by
  have hI' := hI
  obtain ⟨rfl, r, c, hr, hc, e1, e2, rfl, rfl⟩ := hI
  have i1 : vp_in (1 : Int32) 2 := vp_in_nI (n := 1) (by omega) (by omega)
  have c1 : (1 : Int32).toNatClampNeg = 1 := by decide
  have eX : (1 : Int32) * 4 + nI c = nI (4 + c) := by
    show nI 1 * nI 4 + nI c = _
    rw [pk_mul, nI_add]
  have eY : (4 : Int32) + nI c = nI (4 + c) := by
    show nI 4 + nI c = _
    rw [nI_add]
  rcases Nat.lt_or_ge c 4 with z | z
  · refine ⟨nI (c + 1), (f_typed, f_rows, f_columns, a_length, a_kindOf, a_argOf, a_names, a_now, a_order, a_typedKind, a_typedArg, upd b_inputs (4 + c) v2, upd a_inputCount 1 (nI (c + 1)), a_entries, a_aside, a_stack), (g_count, nI r, nI (c + 1), g_tableRows, g_tableColumns, b_kinds, b_args, b_sizes, b_numbers, b_typed, b_typedArgs, upd b_inputs (4 + c) v2, b_entries, b_values, b_before, b_stack, b_depends), wi_mk hT ⟨rfl, r, c + 1, hr, by omega, ?_, pk_us, rfl, rfl⟩ hB hC, fun post hp => ?_, fun post hp => ?_⟩
    · rw [pk_un (by omega)]; exact e1
    · refine And.intro i1 ?_
      rw [c1]
      refine nm_r e2 (pk_lt c 4 (fun _ => ?_) (fun w => absurd w (by omega)))
      rw [eX, nI_clamp (show 4 + c < 2 ^ 31 by omega), nI_1]
      exact ⟨vp_in_nI (by omega) (by omega), nm_e ⟨i1, nm_e hp⟩⟩
    · refine pk_eq c 4 (fun w => absurd w (by omega)) (fun _ => br_t rfl (And.intro (by rw [eY]; exact vp_in_nI (by omega) (by omega)) ?_))
      rw [eY, nI_clamp (show 4 + c < 2 ^ 31 by omega), nI_1]
      exact nm_e (br_t rfl (nm_e hp))
  · refine ⟨-3, (f_typed, f_rows, f_columns, a_length, a_kindOf, a_argOf, a_names, a_now, a_order, a_typedKind, a_typedArg, b_inputs, a_inputCount, a_entries, a_aside, a_stack), (g_count, nI r, nI c, g_tableRows, g_tableColumns, b_kinds, b_args, b_sizes, b_numbers, b_typed, b_typedArgs, b_inputs, b_entries, b_values, b_before, b_stack, b_depends), wi_mk hT hI' hB hC, fun post hp => ?_, fun post hp => ?_⟩
    · refine And.intro i1 ?_
      rw [c1]
      exact nm_r e2 (pk_lt c 4 (fun w => absurd w (by omega)) (fun _ => hp))
    · exact pk_eq c 4 (fun _ => hp) (fun w => absurd w (by omega))
theorem wi_in_r {k : Nat} {v2 : Int32} (hT : wi_tok f_typed a_typedKind a_typedArg g_count b_typed b_typedArgs) (hI : wi_inp a_inputs a_inputCount g_rows g_columns b_inputs) (hB : wi_tab f_rows f_columns a_entries g_tableRows g_tableColumns b_entries) (hC : wi_cel a_length a_kindOf a_argOf a_names a_now a_order b_kinds b_args b_sizes b_numbers) : ∃ r u' v', i_Rel k u' v' ∧ (∀ post : Int32 → SX → Prop, post r u' → wX_input_9 post v2 0 f_typed f_rows f_columns a_length a_kindOf a_argOf a_names a_now a_order a_typedKind a_typedArg a_inputs a_inputCount a_entries a_aside a_stack) ∧ (∀ post : Int32 → SY → Prop, post r v' → wY_input_15 post 1 v2 g_rows g_count g_rows g_columns g_tableRows g_tableColumns b_kinds b_args b_sizes b_numbers b_typed b_typedArgs b_inputs b_entries b_values b_before b_stack b_depends) := by
  have hI' := hI
  obtain ⟨rfl, r, c, hr, hc, e1, e2, rfl, rfl⟩ := hI
  have i1 : vp_in (0 : Int32) 2 := vp_in_nI (n := 0) (by omega) (by omega)
  have c1 : (0 : Int32).toNatClampNeg = 0 := by decide
  have eX : (0 : Int32) * 4 + nI r = nI r := by
    show nI 0 * nI 4 + nI r = _
    rw [pk_mul, nI_add]
    exact congrArg nI (by omega)
  have eY : (0 : Int32) + nI r = nI r := by
    show nI 0 + nI r = _
    rw [nI_add]
    exact congrArg nI (by omega)
  rcases Nat.lt_or_ge r 4 with z | z
  · refine ⟨nI (r + 1), (f_typed, f_rows, f_columns, a_length, a_kindOf, a_argOf, a_names, a_now, a_order, a_typedKind, a_typedArg, upd b_inputs r v2, upd a_inputCount 0 (nI (r + 1)), a_entries, a_aside, a_stack), (g_count, nI (r + 1), nI c, g_tableRows, g_tableColumns, b_kinds, b_args, b_sizes, b_numbers, b_typed, b_typedArgs, upd b_inputs r v2, b_entries, b_values, b_before, b_stack, b_depends), wi_mk hT ⟨rfl, r + 1, c, by omega, hc, pk_us, ?_, rfl, rfl⟩ hB hC, fun post hp => ?_, fun post hp => ?_⟩
    · rw [pk_un (by omega)]; exact e2
    · refine And.intro i1 ?_
      rw [c1]
      refine nm_r e1 (pk_lt r 4 (fun _ => ?_) (fun w => absurd w (by omega)))
      rw [eX, nI_clamp (show r < 2 ^ 31 by omega), nI_1]
      exact ⟨vp_in_nI (by omega) (by omega), nm_e ⟨i1, nm_e hp⟩⟩
    · refine pk_eq r 4 (fun w => absurd w (by omega)) (fun _ => br_f (by decide) (And.intro (by rw [eY]; exact vp_in_nI (by omega) (by omega)) ?_))
      rw [eY, nI_clamp (show r < 2 ^ 31 by omega), nI_1]
      exact nm_e (br_f (by decide) (nm_e hp))
  · refine ⟨-3, (f_typed, f_rows, f_columns, a_length, a_kindOf, a_argOf, a_names, a_now, a_order, a_typedKind, a_typedArg, b_inputs, a_inputCount, a_entries, a_aside, a_stack), (g_count, nI r, nI c, g_tableRows, g_tableColumns, b_kinds, b_args, b_sizes, b_numbers, b_typed, b_typedArgs, b_inputs, b_entries, b_values, b_before, b_stack, b_depends), wi_mk hT hI' hB hC, fun post hp => ?_, fun post hp => ?_⟩
    · refine And.intro i1 ?_
      rw [c1]
      exact nm_r e1 (pk_lt r 4 (fun w => absurd w (by omega)) (fun _ => hp))
    · exact pk_eq r 4 (fun _ => hp) (fun w => absurd w (by omega))
end
theorem i_vc_input {k : Nat} {u : SX} {v : SY} (I : i_Rel k u v) (hk : k + 4 ≤ 2048) (v1 : Int32) (v2 : Int32) : wpX_input (fun r u' => wpY_input (fun r' v' => r' = r ∧ i_Rel (k + 4) u' v') v (lw_bz v1) v2) u (lw_bz v1) v2 := by
  refine wi_el (P := fun u v => wpX_input (fun r u' => wpY_input (fun r' v' => r' = r ∧ i_Rel (k + 4) u' v') v (lw_bz v1) v2) u (lw_bz v1) v2) I ?_
  intro f_typed f_rows f_columns a_length a_kindOf a_argOf a_names a_now a_order a_typedKind a_typedArg a_inputs a_inputCount a_entries a_aside a_stack g_count g_rows g_columns g_tableRows g_tableColumns b_kinds b_args b_sizes b_numbers b_typed b_typedArgs b_inputs b_entries b_values b_before b_stack b_depends hT hI hB hC
  rcases lw_bz_01 v1 with e | e
  · rw [e]
    obtain ⟨r, u', v', hR, hX, hY⟩ := wi_in_c (k := k + 4) (v2 := v2) hT hI hB hC
    exact br_t rfl (hX _ (br_t rfl (hY _ ⟨rfl, hR⟩)))
  · rw [e]
    obtain ⟨r, u', v', hR, hX, hY⟩ := wi_in_r (k := k + 4) (v2 := v2) hT hI hB hC
    exact br_f (by decide) (hX _ (br_f (by decide) (hY _ ⟨rfl, hR⟩)))
/-! entry -/
theorem i_vc_entry {k : Nat} {u : SX} {v : SY} (I : i_Rel k u v) (hk : k + 4 ≤ 2048) (v1 : Int32) (v2 : Int32) : wpX_entry (fun r => wpY_entry (fun r' => r' = r ∧ i_Rel (k + 4) u v) v v1 v2) u v1 v2 := by
  refine wi_el (P := fun u v => wpX_entry (fun r => wpY_entry (fun r' => r' = r ∧ i_Rel (k + 4) u v) v v1 v2) u v1 v2) I ?_
  intro f_typed f_rows f_columns a_length a_kindOf a_argOf a_names a_now a_order a_typedKind a_typedArg a_inputs a_inputCount a_entries a_aside a_stack g_count g_rows g_columns g_tableRows g_tableColumns b_kinds b_args b_sizes b_numbers b_typed b_typedArgs b_inputs b_entries b_values b_before b_stack b_depends hT hI hB hC
  have I' : i_Rel (k + 4) (f_typed, f_rows, f_columns, a_length, a_kindOf, a_argOf, a_names, a_now, a_order, a_typedKind, a_typedArg, a_inputs, a_inputCount, a_entries, a_aside, a_stack) (g_count, g_rows, g_columns, g_tableRows, g_tableColumns, b_kinds, b_args, b_sizes, b_numbers, b_typed, b_typedArgs, b_inputs, b_entries, b_values, b_before, b_stack, b_depends) := wi_mk hT hI hB hC
  obtain ⟨rfl, rfl, rfl, r, c, hr, hc, er, ec⟩ := hB
  by_cases h0 : v1 < 0
  · exact br_t h0 (br_t h0 ⟨rfl, I'⟩)
  · by_cases h1 : g_tableRows ≤ v1
    · exact br_f h0 (br_t h1 (br_f h0 (br_t h1 ⟨rfl, I'⟩)))
    · by_cases h2 : v2 < 0
      · exact br_f h0 (br_f h1 (br_t h2 (br_f h0 (br_f h1 (br_t h2 ⟨rfl, I'⟩)))))
      · by_cases h3 : v2 < g_tableColumns
        · have hin : vp_in (v1 * 4 + v2) 16 := by
            obtain ⟨i, hi, rfl⟩ := nI_of h0
            obtain ⟨j, hj, rfl⟩ := nI_of h2
            rw [er, nI_leI (by omega) hi] at h1
            rw [ec, nI_ltI hj (by omega)] at h3
            rw [show (4 : Int32) = nI 4 from rfl, pk_mul, nI_add]
            exact vp_in_nI (by omega) (by omega)
          exact br_f h0 (br_f h1 (br_f h2 (br_t h3 ⟨hin, br_f h0 (br_f h1 (br_f h2 (br_t h3 ⟨hin, rfl, I'⟩)))⟩)))
        · exact br_f h0 (br_f h1 (br_f h2 (br_f h3 (br_f h0 (br_f h1 (br_f h2 (br_f h3 ⟨rfl, I'⟩)))))))
/-! isFormula, value -/
theorem i_vc_isFormula {k : Nat} {u : SX} {v : SY} (I : i_Rel k u v) (hk : k + 4 ≤ 2048) (v1 : Int32) : wpX_isFormula (fun r => wpY_isFormula (fun r' => r' = r ∧ i_Rel (k + 4) u v) v v1) u v1 := by
  refine wi_el (P := fun u v => wpX_isFormula (fun r => wpY_isFormula (fun r' => r' = r ∧ i_Rel (k + 4) u v) v v1) u v1) I ?_
  intro f_typed f_rows f_columns a_length a_kindOf a_argOf a_names a_now a_order a_typedKind a_typedArg a_inputs a_inputCount a_entries a_aside a_stack g_count g_rows g_columns g_tableRows g_tableColumns b_kinds b_args b_sizes b_numbers b_typed b_typedArgs b_inputs b_entries b_values b_before b_stack b_depends hT hI hB hC
  have I' : i_Rel (k + 4) (f_typed, f_rows, f_columns, a_length, a_kindOf, a_argOf, a_names, a_now, a_order, a_typedKind, a_typedArg, a_inputs, a_inputCount, a_entries, a_aside, a_stack) (g_count, g_rows, g_columns, g_tableRows, g_tableColumns, b_kinds, b_args, b_sizes, b_numbers, b_typed, b_typedArgs, b_inputs, b_entries, b_values, b_before, b_stack, b_depends) := wi_mk hT hI hB hC
  obtain ⟨rfl, _⟩ := hC
  unfold wpX_isFormula wpY_isFormula
  dsimp only
  by_cases hv : vp_in v1 16
  · obtain ⟨c, hc, rfl⟩ := vp_in_of hv (by omega)
    refine wi_xoff_in hc ?_
    refine br_t rfl ⟨hv, ?_⟩
    by_cases z : b_sizes (nI c).toNatClampNeg ≤ 0
    · refine br_t z ?_
      refine wi_ybad_in hc ?_
      exact br_t rfl ⟨hv, br_t z ⟨rfl, I'⟩⟩
    · refine br_f z ?_
      refine wi_ybad_in hc ?_
      exact br_t rfl ⟨hv, br_f z ⟨rfl, I'⟩⟩
  · refine wi_xoff_out hv ?_
    refine br_f (by decide) ?_
    refine wi_ybad_out hv ?_
    exact br_f (by decide) ⟨rfl, I'⟩
theorem i_vc_value {k : Nat} {u : SX} {v : SY} (I : i_Rel k u v) (hk : k + 4 ≤ 2048) (v1 : Int32) : wpX_value (fun r => wpY_value (fun r' v' => r' = r ∧ i_Rel (k + 4) u v') v v1) u v1 := by
  refine wi_el (P := fun u v => wpX_value (fun r => wpY_value (fun r' v' => r' = r ∧ i_Rel (k + 4) u v') v v1) u v1) I ?_
  intro f_typed f_rows f_columns a_length a_kindOf a_argOf a_names a_now a_order a_typedKind a_typedArg a_inputs a_inputCount a_entries a_aside a_stack g_count g_rows g_columns g_tableRows g_tableColumns b_kinds b_args b_sizes b_numbers b_typed b_typedArgs b_inputs b_entries b_values b_before b_stack b_depends hT hI hB hC
  unfold wpX_value wpY_value
  dsimp only
  by_cases hv : vp_in v1 16
  · obtain ⟨c, hc, rfl⟩ := vp_in_of hv (by omega)
    refine wi_xoff_in hc ?_
    refine br_t rfl ⟨hv, ?_⟩
    refine wi_ybad_in hc ?_
    refine br_t rfl ?_
    refine wi_ywork0 hC (fun vals st hvals => ?_)
    refine And.intro hv (And.intro ?_ (wi_mk hT hI hB hC))
    rw [nI_clamp (show c < 2 ^ 31 by omega)]
    exact hvals c hc
  · refine wi_xoff_out hv ?_
    refine br_f (by decide) ?_
    refine wi_ybad_out hv ?_
    exact br_f (by decide) ⟨rfl, wi_mk hT hI hB hC⟩
end
section
/-! dependents -/
section
variable {f_typed f_rows f_columns : Int32} {a_length a_kindOf a_argOf a_names a_now a_order a_typedKind a_typedArg a_inputs a_inputCount a_entries a_aside a_stack : Nat → Int32}
theorem wi_xd22 {post : Int32 → Prop} {S : Int32} (h : post (-1 + nI (wi_cn (fun c => bt S c) 16))) : ∀ n i, i ≤ 16 → 16 < n + i → wX_dependents_22 post S f_typed f_rows f_columns a_length a_kindOf a_argOf a_names a_now a_order a_typedKind a_typedArg a_inputs a_inputCount a_entries a_aside a_stack n (-1 + nI (wi_cn (fun c => bt S c) i)) (nI i) := by
  intro n
  induction n with
  | zero => intro i hi hn; omega
  | succ n ih =>
    intro i hi hn
    refine pk_le 16 i (fun hx => ?_) (fun hx => ?_)
    · have e : i = 16 := by omega
      subst e
      exact h
    · refine nm_r (e' := -1 + nI (wi_cn (fun c => bt S c) (i + 1))) ?_ (nm_r (nI_1 i) (ih (i + 1) (by omega) (by omega)))
      rw [wi_shr S hx, wi_cn_s]
      cases bt S i
      · rw [if_neg (by decide), if_neg (by decide), Int32.add_zero, Nat.add_zero]
      · rw [if_pos rfl, if_pos rfl, Int32.add_assoc, nI_1]
end
section
variable {g_count g_rows g_columns g_tableRows g_tableColumns : Int32} {b_kinds b_args b_sizes b_numbers b_typed b_typedArgs b_inputs b_entries b_values b_before b_stack b_depends : Nat → Int32}
theorem wi_yd20 {post : Int32 → SY → Prop} {c : Nat} (hc : c < 16) (h : post (nI (wi_cn (fun a => decide (¬ b_depends (a * 16 + c) = 0)) 16)) (g_count, g_rows, g_columns, g_tableRows, g_tableColumns, b_kinds, b_args, b_sizes, b_numbers, b_typed, b_typedArgs, b_inputs, b_entries, b_values, b_before, b_stack, b_depends)) : ∀ n i, i ≤ 16 → 16 < n + i → wY_dependents_20 post (nI c) 0 g_count g_rows g_columns g_tableRows g_tableColumns b_kinds b_args b_sizes b_numbers b_typed b_typedArgs b_inputs b_entries b_values b_before b_stack b_depends n (nI (wi_cn (fun a => decide (¬ b_depends (a * 16 + c) = 0)) i)) (nI i) := by
  intro n
  induction n with
  | zero => intro i hi hn; omega
  | succ n ih =>
    intro i hi hn
    refine pk_le 16 i (fun hx => ?_) (fun hx => ?_)
    · have e : i = 16 := by omega
      subst e
      exact h
    · have K := ih (i + 1) (by omega) (by omega)
      rw [wi_cn_s] at K
      rw [wi_ix16, nI_clamp (show i * 16 + c < 2 ^ 31 by omega)]
      refine br_t rfl ⟨vp_in_nI (by omega) (by omega), br_c (fun z => ?_) (fun z => ?_)⟩
      · rw [if_neg (by rw [decide_eq_true_iff]; exact fun w => w z), Nat.add_zero] at K
        exact nm_r (nI_1 i) K
      · rw [if_pos (decide_eq_true z)] at K
        exact nm_r (nI_1 _) (nm_r (nI_1 i) K)
end
theorem wi_dep_cn {N : Nat → Nat → Prop} {dep : Nat → Int32} {S : Int32} {c : Nat} (hc : c < 16) (hN : ∀ a d, a < 16 → N a d → d < 16) (ht : wi_tcs N 16 dep) (hS : wi_up N ((1 : Int32) <<< (nI c &&& 31)) S) (hno : ¬ wi_D dep c c) : -1 + nI (wi_cn (fun a => bt S a) 16) = nI (wi_cn (fun a => decide (¬ dep (a * 16 + c) = 0)) 16) := by
  obtain ⟨h1, h2, h3⟩ := ht
  obtain ⟨g1, g2, g3⟩ := hS
  have hSc : bt S c = true := g1 c ((wi_oneT hc).mpr rfl)
  have e : wi_cn (fun a => bt S a) 16 = wi_cn (fun a => decide (¬ dep (a * 16 + c) = 0)) 16 + (if c < 16 then 1 else 0) := by
    refine wi_cn_add (p := fun a => decide (¬ dep (a * 16 + c) = 0)) (q := fun a => bt S a) (c := c) (decide_eq_false hno) hSc 16 (fun a ha hac => ?_)
    have hiff : wi_D dep a c ↔ bt S a = true := by
      constructor
      · intro d
        exact h3 (fun a b => bt S b = true → bt S a = true) (fun a m b _ _ _ x y z => x (y z)) (fun a b ha hb hN2 => g2 a b ha hN2) a c ha hc d hSc
      · intro b
        have := g3 (fun a => a < 16 ∧ (a = c ∨ wi_D dep a c)) (fun a ha2 => by
          have e := (wi_oneT hc).mp ha2
          exact ⟨by omega, Or.inl e⟩) (fun a d ha2 hN2 hP => by
          have hd := hN a d ha2 hN2
          refine ⟨ha2, Or.inr ?_⟩
          rcases hP.2 with z | z
          · rw [← z]; exact h1 a d ha2 hd hN2
          · exact h2 a d c ha2 hd hc (h1 a d ha2 hd hN2) z) a b
        exact this.2.elim (fun z => absurd z hac) id
    show decide (¬ dep (a * 16 + c) = 0) = bt S a
    cases hb : bt S a with
    | true => exact decide_eq_true (hiff.mpr hb)
    | false => exact decide_eq_false (fun z => by have := hiff.mp z; rw [hb] at this; exact absurd this (by decide))
  rw [e, if_pos hc, Int32.add_comm, pk_m1]
theorem i_vc_dependents {k : Nat} {u : SX} {v : SY} (I : i_Rel k u v) (hk : k + 4 ≤ 2048) (v1 : Int32) : wpX_dependents (fun r => wpY_dependents (fun r' v' => r' = r ∧ i_Rel (k + 4) u v') v v1) u v1 := by
  refine wi_el (P := fun u v => wpX_dependents (fun r => wpY_dependents (fun r' v' => r' = r ∧ i_Rel (k + 4) u v') v v1) u v1) I ?_
  intro f_typed f_rows f_columns a_length a_kindOf a_argOf a_names a_now a_order a_typedKind a_typedArg a_inputs a_inputCount a_entries a_aside a_stack g_count g_rows g_columns g_tableRows g_tableColumns b_kinds b_args b_sizes b_numbers b_typed b_typedArgs b_inputs b_entries b_values b_before b_stack b_depends hT hI hB hC
  unfold wpX_dependents wpY_dependents
  dsimp only
  by_cases hv : vp_in v1 16
  · obtain ⟨c, hc, rfl⟩ := vp_in_of hv (by omega)
    have hC' := hC
    obtain ⟨_, hsh, _, hnm, htop, _⟩ := hC'
    obtain ⟨rk, hr16, hrk⟩ := wi_cel_rk hC
    refine wi_xoff_in hc ?_
    refine br_t rfl ?_
    refine wi_xabove htop hnm (fun S hS => ?_)
    refine ⟨17, ?_⟩
    refine wi_xd22 ?_ 17 0 (by omega) (by omega)
    refine wi_ybad_in hc ?_
    refine br_t rfl ?_
    refine wi_ycircle (wi_cel_sh hC) (fun dep ht => ?_)
    have hac : ∀ a, a < 16 → ¬ wi_D dep a a := by
      intro a ha hd
      have := ht.2.2 (fun a b => rk b < rk a) (fun a m b _ _ _ x y => Nat.lt_trans y x) (fun a b ha _ hN => hrk a b ha hN) a a ha ha hd
      exact absurd this (Nat.lt_irrefl _)
    refine ⟨fun _ => ?_, fun ⟨a, ha, hd⟩ => absurd hd (hac a ha)⟩
    refine ⟨17, ?_⟩
    refine wi_yd20 hc ?_ 17 0 (by omega) (by omega)
    have hS' : wi_up (wi_N b_sizes b_kinds b_args) ((1 : Int32) <<< (nI c &&& 31)) S := by
      obtain ⟨g1, g2, g3⟩ := hS
      exact ⟨g1, fun a d ha hN => g2 a d ha ((wi_cel_N hC ha d).mp hN), fun P p0 pc => g3 P p0 (fun a d ha hN => pc a d ha ((wi_cel_N hC ha d).mpr hN))⟩
    exact ⟨(wi_dep_cn hc (fun a d ha hN => wi_N_lt (wi_cel_sh hC) ha hN) ht hS' (hac c hc)).symm, wi_mk hT hI hB hC⟩
  · refine wi_xoff_out hv ?_
    refine br_f (by decide) ?_
    refine wi_ybad_out hv ?_
    exact br_f (by decide) ⟨rfl, wi_mk hT hI hB hC⟩
/-! number -/
theorem wi_L_un {len : Nat → Int32} {c a : Nat} {x : Int32} (h : a ≠ c) : wi_L (upd len c x) a = wi_L len a := by
  unfold wi_L
  rw [pk_un h]
theorem wi_L_us {len : Nat → Int32} {c t : Nat} (ht : t ≤ 8) : wi_L (upd len c (nI t)) c = t := by
  unfold wi_L
  rw [pk_us]
  exact nI_clamp (by omega)
theorem wi_L_u0 {len : Nat → Int32} {c : Nat} : wi_L (upd len c 0) c = 0 := wi_L_us (t := 0) (by omega)
theorem wi_F_un {len kk aa V : Nat → Int32} {c a : Nat} {x : Int32} (h : a ≠ c) : wi_F (upd len c x) kk aa a V = wi_F len kk aa a V := by
  unfold wi_F
  rw [wi_L_un h]
theorem wi_N_un {len kk aa : Nat → Int32} {c a d : Nat} {x : Int32} (h : a ≠ c) : wi_N (upd len c x) kk aa a d ↔ wi_N len kk aa a d := by
  unfold wi_N
  rw [wi_L_un h]
theorem wi_N_us {len kk aa : Nat → Int32} {c d : Nat} (h : wi_N (upd len c 0) kk aa c d) : False := by
  obtain ⟨i, hi, _⟩ := h
  rw [wi_L_u0] at hi
  exact absurd hi (Nat.not_lt_zero _)
section
variable {len kk aa nms now ord bk ba bs num : Nat → Int32}
theorem wi_num_sh (h : wi_sh len kk aa) {c : Nat} : wi_sh (upd len c 0) kk aa := by
  intro a ha
  by_cases z : a = c
  · exact ⟨0, by omega, by rw [z, pk_us]; rfl, fun i hi => absurd hi (Nat.not_lt_zero _), fun w => absurd w (Nat.lt_irrefl 0)⟩
  · rw [pk_un z]
    exact h a ha
theorem wi_num_nms (h : wi_nms (wi_N len kk aa) nms) {c : Nat} : wi_nms (wi_N (upd len c 0) kk aa) (upd nms c 0) := by
  intro a ha d
  by_cases z : a = c
  · rw [z, pk_us, b_0]
    exact ⟨fun w => absurd w (by decide), fun w => (wi_N_us w).elim⟩
  · rw [pk_un z, wi_N_un z]
    exact h a ha d
theorem wi_num_top (h : wi_top (wi_N len kk aa) ord) {c : Nat} : wi_top (wi_N (upd len c 0) kk aa) ord := by
  refine wi_top_mono h (fun a _ d hN => ?_)
  by_cases z : a = c
  · rw [z] at hN
    exact (wi_N_us hN).elim
  · exact (wi_N_un z).mp hN
theorem wi_num_cel (h : wi_cel len kk aa nms now ord bk ba bs num) {c : Nat} {v : Int32} {now2 : Nat → Int32} (hv : wi_vals (upd len c 0) kk aa (upd num c v) now2) : wi_cel (upd len c 0) kk aa (upd nms c 0) now2 ord bk ba (upd bs c 0) (upd num c v) := by
  obtain ⟨rfl, h1, h2, h3, h4, h5⟩ := h
  refine ⟨rfl, wi_num_sh h1, fun a ha i hi => ?_, wi_num_nms h3, wi_num_top h4, hv⟩
  by_cases z : a = c
  · rw [z, wi_L_u0] at hi
    exact absurd hi (Nat.not_lt_zero _)
  · rw [wi_L_un z] at hi
    exact h2 a ha i hi
theorem wi_num_same (h : wi_vals len kk aa num now) {c : Nat} {v : Int32} (e : now c = v) : wi_vals (upd len c 0) kk aa (upd num c v) now := by
  intro a ha
  by_cases z : a = c
  · rw [z, if_pos (wi_L_u0), pk_us]
    exact e
  · rw [wi_L_un z, pk_un z, wi_F_un z]
    exact h a ha
theorem wi_num_pre (hs : wi_sh len kk aa) (h : wi_vals len kk aa num now) {c : Nat} {v : Int32} : ∀ a, a < 16 → bt 65535 a = true → 0 < wi_L (upd len c 0) a → (∀ d, wi_N (upd len c 0) kk aa a d → bt ((1 : Int32) <<< (nI c &&& 31)) d = true → False) → c < 16 → upd now c v a = wi_F (upd len c 0) kk aa a (upd now c v) := by
  intro a ha _ hl hno hc
  by_cases z : a = c
  · rw [z, wi_L_u0] at hl
    omega
  · rw [wi_L_un z] at hl
    rw [pk_un z, wi_F_un z, h a ha, if_neg (by omega)]
    refine (wi_F_loc hs ha hl (fun d _ hN => pk_un (fun y => ?_))).symm
    exact hno d ((wi_N_un z).mpr hN) ((wi_oneT hc).mpr y)
theorem wi_num_vals (h : wi_vals len kk aa num now) {c : Nat} {v : Int32} {now2 : Nat → Int32} (hs : wi_spr (upd len c 0) kk aa 65535 (upd now c v) now2) : wi_vals (upd len c 0) kk aa (upd num c v) now2 := by
  intro a ha
  by_cases l : wi_L (upd len c 0) a = 0
  · rw [if_pos l, hs.2 a (Or.inr l)]
    by_cases z : a = c
    · rw [z, pk_us, pk_us]
    · rw [wi_L_un z] at l
      rw [pk_un z, pk_un z, h a ha, if_pos l]
  · rw [if_neg l]
    exact hs.1 a ha (by rw [b_65535]; exact decide_eq_true ha) (by omega)
theorem wi_num_cn {c : Nat} (hc : c < 16) {v : Int32} (hv : ¬ now c = v) {now2 bef vals : Nat → Int32} (hs : wi_spr (upd len c 0) kk aa 65535 (upd now c v) now2) (hb : ∀ i, i < 16 → bef i = now i) (hw : ∀ i, i < 16 → vals i = now2 i) : nI (wi_cn (wi_df bef vals) 16) = 1 + nI (wi_cn (wi_df now2 (upd now c v)) 16) := by
  have e2 : now2 c = v := by rw [hs.2 c (Or.inr (wi_L_u0)), pk_us]
  have e : wi_cn (wi_df bef vals) 16 = wi_cn (wi_df now2 (upd now c v)) 16 + (if c < 16 then 1 else 0) := by
    refine wi_cn_add (p := wi_df now2 (upd now c v)) (q := wi_df bef vals) (c := c) ?_ ?_ 16 (fun a ha hac => ?_)
    · exact decide_eq_false (fun z => z (by rw [e2, pk_us]))
    · refine decide_eq_true ?_
      rw [hb c hc, hw c hc, e2]
      exact hv
    · show decide (now2 a ≠ upd now c v a) = decide (bef a ≠ vals a)
      rw [pk_un hac, hb a ha, hw a ha]
      exact decide_eq_decide.mpr ⟨fun z y => z y.symm, fun z y => z y.symm⟩
  rw [e, if_pos hc, Int32.add_comm, nI_1]
end
section
variable {g_count g_rows g_columns g_tableRows g_tableColumns : Int32} {b_kinds b_args b_sizes b_numbers b_typed b_typedArgs b_inputs b_entries b_values b_before b_stack b_depends : Nat → Int32}
theorem wi_yn71 {post : Int32 → SY → Prop} (h : post (nI (wi_cn (wi_df b_before b_values) 16)) (g_count, g_rows, g_columns, g_tableRows, g_tableColumns, b_kinds, b_args, b_sizes, b_numbers, b_typed, b_typedArgs, b_inputs, b_entries, b_values, b_before, b_stack, b_depends)) : ∀ n i, i ≤ 16 → 16 < n + i → wY_number_71 post g_count g_rows g_columns g_tableRows g_tableColumns b_kinds b_args b_sizes b_numbers b_typed b_typedArgs b_inputs b_entries b_values b_before b_stack b_depends n (nI (wi_cn (wi_df b_before b_values) i)) (nI i) := by
  intro n
  induction n with
  | zero => intro i hi hn; omega
  | succ n ih =>
    intro i hi hn
    refine pk_le 16 i (fun hx => ?_) (fun hx => ?_)
    · have e : i = 16 := by omega
      subst e
      exact h
    · have K := ih (i + 1) (by omega) (by omega)
      have hin : vp_in (nI i) 16 := vp_in_nI hx (by omega)
      rw [wi_cn_s] at K
      rw [nI_clamp (show i < 2 ^ 31 by omega)]
      refine ⟨hin, hin, br_c (fun z => ?_) (fun z => ?_)⟩
      · rw [if_neg (by unfold wi_df; rw [decide_eq_true_iff]; exact fun w => w z), Nat.add_zero] at K
        exact nm_r (nI_1 i) K
      · rw [if_pos (show wi_df b_before b_values i = true from decide_eq_true z)] at K
        exact nm_r (nI_1 _) (nm_r (nI_1 i) K)
theorem wi_yn20 {post : Int32 → SY → Prop} {c : Nat} {v : Int32} (hc : c < 16) {len kk aa nms now ord : Nat → Int32} (hC : wi_cel len kk aa nms now ord b_kinds b_args (upd b_sizes c 0) (upd b_numbers c v)) (h : ∀ bef vals st, (∀ i, i < 16 → bef i = b_values i) → (∀ i, i < 16 → vals i = now i) → post (nI (wi_cn (wi_df bef vals) 16)) (g_count, g_rows, g_columns, g_tableRows, g_tableColumns, b_kinds, b_args, upd b_sizes c 0, upd b_numbers c v, b_typed, b_typedArgs, b_inputs, b_entries, vals, bef, st, b_depends)) : ∀ n i bef, i ≤ 16 → 16 < n + i → (∀ j, j < i → bef j = b_values j) → wY_number_20 post (nI c) v g_count g_rows g_columns g_tableRows g_tableColumns n (nI i) b_kinds b_args b_sizes b_numbers b_typed b_typedArgs b_inputs b_entries b_values bef b_stack b_depends := by
  intro n
  induction n with
  | zero => intro i bef hi hn; omega
  | succ n ih =>
    intro i bef hi hn hb
    have hin : vp_in (nI c) 16 := vp_in_nI hc (by omega)
    refine pk_le 16 i (fun hx => ?_) (fun hx => ?_)
    · rw [nI_clamp (show c < 2 ^ 31 by omega)]
      refine ⟨hin, nm_e ⟨hin, nm_e ?_⟩⟩
      refine wi_ywork0 hC (fun vals st hvals => ?_)
      exact ⟨17, wi_yn71 (h bef vals st (fun j hj => hb j (by omega)) hvals) 17 0 (by omega) (by omega)⟩
    · have hi16 : vp_in (nI i) 16 := vp_in_nI hx (by omega)
      rw [nI_clamp (show i < 2 ^ 31 by omega)]
      refine ⟨hi16, hi16, nm_e (nm_r (e' := nI (i + 1)) (nI_1 i) ?_)⟩
      refine ih (i + 1) _ (by omega) (by omega) (fun j hj => ?_)
      by_cases z : j = i
      · rw [z, pk_us]
      · rw [pk_un z]
        exact hb j (by omega)
theorem wi_ynumber {post : Int32 → SY → Prop} {c : Nat} {v : Int32} (hc : c < 16) {len0 kk0 aa0 nms0 now0 ord0 len kk aa nms now ord : Nat → Int32} (hC0 : wi_cel len0 kk0 aa0 nms0 now0 ord0 b_kinds b_args b_sizes b_numbers) (hC : wi_cel len kk aa nms now ord b_kinds b_args (upd b_sizes c 0) (upd b_numbers c v)) (h : ∀ bef vals st, (∀ i, i < 16 → bef i = now0 i) → (∀ i, i < 16 → vals i = now i) → post (nI (wi_cn (wi_df bef vals) 16)) (g_count, g_rows, g_columns, g_tableRows, g_tableColumns, b_kinds, b_args, upd b_sizes c 0, upd b_numbers c v, b_typed, b_typedArgs, b_inputs, b_entries, vals, bef, st, b_depends)) : wpY_number post (g_count, g_rows, g_columns, g_tableRows, g_tableColumns, b_kinds, b_args, b_sizes, b_numbers, b_typed, b_typedArgs, b_inputs, b_entries, b_values, b_before, b_stack, b_depends) (nI c) v := by
  unfold wpY_number
  dsimp only
  refine wi_ybad_in hc ?_
  refine br_t rfl ?_
  refine wi_ywork0 hC0 (fun vals0 st0 hv0 => ?_)
  refine ⟨17, wi_yn20 hc hC (fun bef vals st hb hv => ?_) 17 0 b_before (by omega) (by omega) (fun j hj => absurd hj (Nat.not_lt_zero _))⟩
  exact h bef vals st (fun i hi => (hb i hi).trans (hv0 i hi)) hv
end
theorem i_vc_number {k : Nat} {u : SX} {v : SY} (I : i_Rel k u v) (hk : k + 4 ≤ 2048) (v1 : Int32) (v2 : Int32) : wpX_number (fun r u' => wpY_number (fun r' v' => r' = r ∧ i_Rel (k + 4) u' v') v v1 v2) u v1 v2 := by
  refine wi_el (P := fun u v => wpX_number (fun r u' => wpY_number (fun r' v' => r' = r ∧ i_Rel (k + 4) u' v') v v1 v2) u v1 v2) I ?_
  intro f_typed f_rows f_columns a_length a_kindOf a_argOf a_names a_now a_order a_typedKind a_typedArg a_inputs a_inputCount a_entries a_aside a_stack g_count g_rows g_columns g_tableRows g_tableColumns b_kinds b_args b_sizes b_numbers b_typed b_typedArgs b_inputs b_entries b_values b_before b_stack b_depends hT hI hB hC
  unfold wpX_number
  dsimp only
  by_cases hv : vp_in v1 16
  · obtain ⟨c, hc, rfl⟩ := vp_in_of hv (by omega)
    have hC' := hC
    obtain ⟨_, hsh, _, hnm, htop, hval⟩ := hC'
    refine wi_xoff_in hc ?_
    rw [nI_clamp (show c < 2 ^ 31 by omega)]
    refine br_t rfl ⟨hv, nm_e ⟨hv, nm_e ⟨hv, br_c (fun e => ?_) (fun e => ⟨hv, nm_e ?_⟩)⟩⟩⟩
    · have hC2 := wi_num_cel hC (v := v2) (wi_num_same hval e)
      refine wi_ynumber hc hC hC2 (fun bef vals st hb hw => ?_)
      refine ⟨?_, wi_mk hT hI hB hC2⟩
      rw [wi_cn_ext (p := wi_df bef vals) (q := fun _ => false) 16 (fun i hi => decide_eq_false (fun z => z (by rw [hb i hi, hw i hi]))), wi_cn_0]
      rfl
    · refine wi_xspread (wi_num_top htop) (wi_num_sh hsh) (wi_num_nms hnm) (fun a h1 h2 h3 h4 => wi_num_pre hsh hval a h1 h2 h3 h4 hc) (fun now2 st2 hs => ?_)
      have hC2 := wi_num_cel hC (v := v2) (wi_num_vals hval hs)
      refine wi_ynumber hc hC hC2 (fun bef vals st hb hw => ?_)
      exact ⟨wi_num_cn hc e hs hb hw, wi_mk hT hI hB hC2⟩
  · refine wi_xoff_out hv ?_
    refine br_f (by decide) ?_
    unfold wpY_number
    dsimp only
    refine wi_ybad_out hv ?_
    exact br_f (by decide) ⟨rfl, wi_mk hT hI hB hC⟩
end
section
/-! formula: the sheet with the typed tokens at cell c -/
def wi_cp (c i : Nat) (kk tk : Nat → Int32) : Nat → Int32 := fun p => if c * 8 ≤ p ∧ p < c * 8 + i then tk (p - c * 8) else kk p
theorem wi_cp_0 (c : Nat) (kk tk : Nat → Int32) : wi_cp c 0 kk tk = kk := by
  funext p
  unfold wi_cp
  rw [if_neg (by omega)]
theorem wi_cp_s (c i : Nat) (kk tk : Nat → Int32) : upd (wi_cp c i kk tk) (c * 8 + i) (tk i) = wi_cp c (i + 1) kk tk := by
  funext p
  by_cases z : p = c * 8 + i
  · rw [z, pk_us]
    unfold wi_cp
    rw [if_pos (by omega), Nat.add_sub_cancel_left]
  · rw [pk_un z]
    unfold wi_cp
    by_cases y : c * 8 ≤ p ∧ p < c * 8 + i
    · rw [if_pos y, if_pos (by omega)]
    · rw [if_neg y, if_neg (by omega)]
theorem wi_cp_in {c i j : Nat} {kk tk : Nat → Int32} (h : j < i) : wi_cp c i kk tk (c * 8 + j) = tk j := by
  unfold wi_cp
  rw [if_pos (by omega), Nat.add_sub_cancel_left]
theorem wi_cp_out {c i p : Nat} {kk tk : Nat → Int32} (h : p < c * 8 ∨ c * 8 + i ≤ p) : wi_cp c i kk tk p = kk p := by
  unfold wi_cp
  rw [if_neg (by omega)]
theorem wi_nm_eq {K A K' A' : Nat → Int32} {n : Nat} (h : ∀ i, i < n → K' i = K i ∧ A' i = A i) (d : Nat) : wi_nm K' A' n d ↔ wi_nm K A n d := by
  constructor
  · intro ⟨i, hi, e1, e2⟩
    rw [(h i hi).1] at e1
    rw [(h i hi).2] at e2
    exact ⟨i, hi, e1, e2⟩
  · intro ⟨i, hi, e1, e2⟩
    rw [← (h i hi).1] at e1
    rw [← (h i hi).2] at e2
    exact ⟨i, hi, e1, e2⟩
theorem wi_snd_pos {K : Nat → Int32} {t : Nat} (h : wi_snd K t) : 0 < t := by
  rcases Nat.eq_zero_or_pos t with z | z
  · subst z
    have : (0 : Nat) = 1 := h.2
    omega
  · exact z
section
variable {len kk aa tk ta : Nat → Int32} {c t : Nat}
theorem wi_new_row (ht : t ≤ 8) {a : Nat} (z : a ≠ c) {f g : Nat → Int32} {i : Nat} (hi : i < 8) : wi_cp c t f g (a * 8 + i) = f (a * 8 + i) := wi_cp_out (by omega)
theorem wi_new_N (hsh : wi_sh len kk aa) (ht : t ≤ 8) {a : Nat} (ha : a < 16) (z : a ≠ c) (d : Nat) : wi_N (upd len c (nI t)) (wi_cp c t kk tk) (wi_cp c t aa ta) a d ↔ wi_N len kk aa a d := by
  have hL := (wi_sh_e hsh ha).1
  unfold wi_N
  rw [wi_L_un z]
  exact wi_nm_eq (fun i hi => ⟨wi_new_row ht z (by omega), wi_new_row ht z (by omega)⟩) d
theorem wi_new_Nc (ht : t ≤ 8) (d : Nat) : wi_N (upd len c (nI t)) (wi_cp c t kk tk) (wi_cp c t aa ta) c d ↔ wi_nm tk ta t d := by
  unfold wi_N
  rw [wi_L_us ht]
  exact wi_nm_eq (fun i hi => ⟨wi_cp_in hi, wi_cp_in hi⟩) d
theorem wi_new_F (hsh : wi_sh len kk aa) (ht : t ≤ 8) {a : Nat} (ha : a < 16) (z : a ≠ c) (hl : 0 < wi_L len a) (V : Nat → Int32) : wi_F (upd len c (nI t)) (wi_cp c t kk tk) (wi_cp c t aa ta) a V = wi_F len kk aa a V := by
  have hL := (wi_sh_e hsh ha).1
  have e : wi_F (upd len c (nI t)) (wi_cp c t kk tk) (wi_cp c t aa ta) a V = wi_stk (wi_row (wi_cp c t kk tk) a) (wi_row (wi_cp c t aa ta) a) V (fun _ => 0) (wi_L len a) 0 := by
    unfold wi_F
    rw [wi_L_un z]
  rw [e]
  exact wi_F_gen hsh ha hl (fun i hi => ⟨wi_new_row ht z (by omega), wi_new_row ht z (by omega)⟩) (fun _ _ _ => rfl)
theorem wi_new_sh (hsh : wi_sh len kk aa) (ht : t ≤ 8) (hok : ∀ i, i < t → wi_ok (tk i) (ta i)) (hs : wi_snd tk t) : wi_sh (upd len c (nI t)) (wi_cp c t kk tk) (wi_cp c t aa ta) := by
  intro a ha
  by_cases z : a = c
  · subst z
    refine ⟨t, ht, pk_us, fun i hi => ?_, fun _ => ?_⟩
    · rw [wi_cp_in hi, wi_cp_in hi]
      exact hok i hi
    · exact (wi_snd_eq (fun i hi => wi_cp_in hi)).mpr hs
  · obtain ⟨h1, h2, h3, h4⟩ := wi_sh_e hsh ha
    refine ⟨wi_L len a, h1, by rw [pk_un z]; exact h2, fun i hi => ?_, fun hl => ?_⟩
    · rw [wi_new_row ht z (by omega), wi_new_row ht z (by omega)]
      exact h3 i hi
    · exact (wi_snd_eq (fun i hi => wi_new_row ht z (by omega))).mpr (h4 hl)
theorem wi_new_nms {nms : Nat → Int32} {S : Int32} (hsh : wi_sh len kk aa) (ht : t ≤ 8) (hn : wi_nms (wi_N len kk aa) nms) (hS : ∀ d, bt S d = true ↔ wi_nm tk ta t d) : wi_nms (wi_N (upd len c (nI t)) (wi_cp c t kk tk) (wi_cp c t aa ta)) (upd nms c S) := by
  intro a ha d
  by_cases z : a = c
  · subst z
    rw [pk_us, wi_new_Nc ht]
    exact hS d
  · rw [pk_un z, wi_new_N hsh ht ha z]
    exact hn a ha d
theorem wi_new_rk {S : Int32} {rk : Nat → Nat} (hsh : wi_sh len kk aa) (hc : c < 16) (ht : t ≤ 8) (hok : ∀ i, i < t → wi_ok (tk i) (ta i)) (hs : wi_snd tk t) (hr16 : ∀ a, a < 16 → rk a < 16) (hrk : ∀ a d, a < 16 → wi_N len kk aa a d → rk d < rk a) (hS : wi_up (wi_N len kk aa) ((1 : Int32) <<< (nI c &&& 31)) S) (hdis : ∀ d, wi_nm tk ta t d → bt S d = true → False) : ∀ a d, a < 16 → wi_N (upd len c (nI t)) (wi_cp c t kk tk) (wi_cp c t aa ta) a d → rk d + (if bt S d = true then 16 else 0) < rk a + (if bt S a = true then 16 else 0) := by
  intro a d ha hN
  have hd := wi_N_lt (wi_new_sh (c := c) hsh ht hok hs) ha hN
  by_cases z : a = c
  · subst z
    rw [wi_new_Nc ht] at hN
    rw [if_neg (hdis d hN), if_pos (hS.1 a ((wi_oneT hc).mpr rfl))]
    have := hr16 d hd
    omega
  · rw [wi_new_N hsh ht ha z] at hN
    have h1 := hrk a d ha hN
    by_cases y : bt S d = true
    · rw [if_pos y, if_pos (hS.2.1 a d ha hN y)]
      omega
    · rw [if_neg y]
      omega
theorem wi_new_circ {S : Int32} {N' : Nat → Nat → Prop} {dep : Nat → Int32} (hsh : wi_sh len kk aa) (hc : c < 16) (ht : t ≤ 8) (hN' : ∀ a d, a < 16 → wi_N (upd len c (nI t)) (wi_cp c t kk tk) (wi_cp c t aa ta) a d → N' a d) (hS : wi_up (wi_N len kk aa) ((1 : Int32) <<< (nI c &&& 31)) S) {d : Nat} (hd : wi_nm tk ta t d) (hdS : bt S d = true) (htc : wi_tcs N' 16 dep) : wi_D dep c c := by
  obtain ⟨h1, h2, _⟩ := htc
  have hP := hS.2.2 (fun a => a < 16 ∧ (a = c ∨ wi_D dep a c)) (fun a ha => by
    have e := (wi_oneT hc).mp ha
    exact ⟨by omega, Or.inl e⟩) (fun a b ha hN hb => by
    refine ⟨ha, ?_⟩
    by_cases z : a = c
    · exact Or.inl z
    · have hD := h1 a b ha hb.1 (hN' a b ha ((wi_new_N hsh ht ha z b).mpr hN))
      rcases hb.2 with y | y
      · rw [← y]; exact Or.inr hD
      · exact Or.inr (h2 a b c ha hb.1 hc hD y)) d hdS
  have hD : wi_D dep c d := h1 c d hc hP.1 (hN' c d hc ((wi_new_Nc ht d).mpr hd))
  rcases hP.2 with y | y
  · rw [y] at hD; exact hD
  · exact h2 c d c hc hP.1 hc hD y
theorem wi_new_same {bk ba bT bU bk' ba' T' U' : Nat → Int32} (hsh : wi_sh len kk aa) (hsm : wi_same len kk aa bk ba) (ht : t ≤ 8) (hT : ∀ i, i < t → bT i = tk i ∧ bU i = ta i) (hx : wi_xch c 8 bk ba bT bU bk' ba' T' U') : wi_same (upd len c (nI t)) (wi_cp c t kk tk) (wi_cp c t aa ta) bk' ba' := by
  obtain ⟨h1, h2, _⟩ := hx
  intro a ha i hi
  by_cases z : a = c
  · subst z
    rw [wi_L_us ht] at hi
    rw [wi_cp_in hi, wi_cp_in hi, (h1 i (by omega)).1.1, (h1 i (by omega)).1.2]
    exact hT i hi
  · rw [wi_L_un z] at hi
    have hL := (wi_sh_e hsh ha).1
    have ho : a * 8 + i < c * 8 ∨ c * 8 + 8 ≤ a * 8 + i := by omega
    rw [wi_new_row ht z (by omega), wi_new_row ht z (by omega), (h2 _ ho).1, (h2 _ ho).2]
    exact hsm a ha i hi
end
/-! values behind a change of cell c's formula, all in terms of the new sheet -/
def wi_but (c : Nat) (len kk aa num now : Nat → Int32) : Prop := ∀ a, a < 16 → a ≠ c → now a = if wi_L len a = 0 then num a else wi_F len kk aa a now
section
variable {len kk aa num now : Nat → Int32} {c : Nat}
theorem wi_fv_same (h : wi_but c len kk aa num now) (hl : 0 < wi_L len c) (e : wi_F len kk aa c now = now c) : wi_vals len kk aa num now := by
  intro a ha
  by_cases z : a = c
  · subst z
    rw [if_neg (by omega), e]
  · exact h a ha z
theorem wi_fv_pre (hsh : wi_sh len kk aa) (hc : c < 16) (h : wi_but c len kk aa num now) : ∀ a, a < 16 → bt 65535 a = true → 0 < wi_L len a → (∀ d, wi_N len kk aa a d → bt ((1 : Int32) <<< (nI c &&& 31)) d = true → False) → upd now c (wi_F len kk aa c now) a = wi_F len kk aa a (upd now c (wi_F len kk aa c now)) := by
  intro a ha _ hl hno
  have e : wi_F len kk aa a (upd now c (wi_F len kk aa c now)) = wi_F len kk aa a now := wi_F_loc hsh ha hl (fun d _ hN => pk_un (fun y => hno d hN ((wi_oneT hc).mpr y)))
  rw [e]
  by_cases z : a = c
  · rw [z, pk_us]
  · rw [pk_un z, h a ha z, if_neg (by omega)]
theorem wi_fv_vals (h : wi_but c len kk aa num now) (hl : 0 < wi_L len c) {v : Int32} {now2 : Nat → Int32} (hs : wi_spr len kk aa 65535 (upd now c v) now2) : wi_vals len kk aa num now2 := by
  intro a ha
  by_cases l : wi_L len a = 0
  · have z : a ≠ c := by
      intro y
      subst y
      omega
    rw [if_pos l, hs.2 a (Or.inr l), pk_un z, h a ha z, if_pos l]
  · rw [if_neg l]
    exact hs.1 a ha (by rw [b_65535]; exact decide_eq_true ha) (by omega)
end
section
variable {f_typed f_rows f_columns : Int32} {a_length a_kindOf a_argOf a_names a_now a_order a_typedKind a_typedArg a_inputs a_inputCount a_entries a_aside a_stack : Nat → Int32}
theorem wi_xf67 {post : Int32 → SX → Prop} {c t : Nat} {S : Int32} {num : Nat → Int32} (hc : c < 16) (ht : t ≤ 8) (hsh : wi_sh a_length (wi_cp c t a_kindOf a_typedKind) (wi_cp c t a_argOf a_typedArg)) (hpos : 0 < wi_L a_length c) (hnm : wi_nms (wi_N a_length (wi_cp c t a_kindOf a_typedKind) (wi_cp c t a_argOf a_typedArg)) (upd a_names c S)) {rk : Nat → Nat} (hrk : ∀ a d, a < 16 → wi_N a_length (wi_cp c t a_kindOf a_typedKind) (wi_cp c t a_argOf a_typedArg) a d → rk d < rk a) (hb : wi_but c a_length (wi_cp c t a_kindOf a_typedKind) (wi_cp c t a_argOf a_typedArg) num a_now) (h : ∀ ord now st, wi_top (wi_N a_length (wi_cp c t a_kindOf a_typedKind) (wi_cp c t a_argOf a_typedArg)) ord → wi_vals a_length (wi_cp c t a_kindOf a_typedKind) (wi_cp c t a_argOf a_typedArg) num now → post 0 (f_typed, f_rows, f_columns, a_length, wi_cp c t a_kindOf a_typedKind, wi_cp c t a_argOf a_typedArg, upd a_names c S, now, ord, a_typedKind, a_typedArg, a_inputs, a_inputCount, a_entries, a_aside, st)) : ∀ n i, i ≤ t → t < n + i → wX_formula_67 post (nI c) S (nI t) f_typed f_rows f_columns n (nI i) a_length (wi_cp c i a_kindOf a_typedKind) (wi_cp c i a_argOf a_typedArg) a_names a_now a_order a_typedKind a_typedArg a_inputs a_inputCount a_entries a_aside a_stack := by
  have hv : vp_in (nI c) 16 := vp_in_nI hc (by omega)
  intro n
  induction n with
  | zero => intro i hi hn; omega
  | succ n ih =>
    intro i hi hn
    refine pk_le t i (fun hx => ?_) (fun hx => ?_)
    · have e : i = t := by omega
      subst e
      rw [nI_clamp (show c < 2 ^ 31 by omega)]
      refine ⟨hv, nm_e ?_⟩
      refine wi_xsort hnm (fun a d ha hN => wi_N_lt hsh ha hN) hrk (fun ord htop => ?_)
      refine wi_xwork hc hsh hpos (fun st => ?_)
      refine And.intro hv (br_c (fun e => ?_) (fun e => ⟨hv, nm_e ?_⟩))
      · exact h ord a_now st htop (wi_fv_same hb hpos e)
      · refine wi_xspread htop hsh hnm (wi_fv_pre hsh hc hb) (fun now2 st2 hs => ?_)
        exact h ord now2 st2 htop (wi_fv_vals hb hpos hs)
    · have hi8 : vp_in (nI i) 8 := vp_in_nI (by omega) (by omega)
      have hin2 : vp_in (nI (c * 8 + i)) 128 := vp_in_nI (by omega) (by omega)
      rw [wi_ix8, nI_clamp (show c * 8 + i < 2 ^ 31 by omega), nI_clamp (show i < 2 ^ 31 by omega)]
      exact ⟨hi8, hin2, nm_r (wi_cp_s c i a_kindOf a_typedKind) ⟨hi8, hin2, nm_r (wi_cp_s c i a_argOf a_typedArg) (nm_r (nI_1 i) (ih (i + 1) (by omega) (by omega)))⟩⟩
end
end
section
section
variable {g_count g_rows g_columns g_tableRows g_tableColumns : Int32} {b_kinds b_args b_sizes b_numbers b_typed b_typedArgs b_inputs b_entries b_values b_before b_stack b_depends : Nat → Int32}
theorem wi_yf_uns {post : Int32 → SY → Prop} {c t : Nat} (hc : c < 16) (ht : t ≤ 8) (hk : ∀ i, i < t → wi_ok (b_typed i) (b_typedArgs i)) (hn : ¬ wi_snd b_typed t) (h : post (-4) (0, g_rows, g_columns, g_tableRows, g_tableColumns, b_kinds, b_args, b_sizes, b_numbers, b_typed, b_typedArgs, b_inputs, b_entries, b_values, b_before, b_stack, b_depends)) : wpY_formula post (nI t, g_rows, g_columns, g_tableRows, g_tableColumns, b_kinds, b_args, b_sizes, b_numbers, b_typed, b_typedArgs, b_inputs, b_entries, b_values, b_before, b_stack, b_depends) (nI c) := by
  unfold wpY_formula
  dsimp only
  refine wi_ybad_in hc ?_
  refine br_t rfl ?_
  refine wi_ysound ht hk (fun z => absurd z hn) (fun _ => ?_)
  exact br_t rfl h
theorem wi_yf_circ {post : Int32 → SY → Prop} {c t : Nat} (hc : c < 16) (ht : t ≤ 8) (hk : ∀ i, i < t → wi_ok (b_typed i) (b_typedArgs i)) (hs : wi_snd b_typed t) (H : ∀ K' A' T' U', wi_xch c 8 b_kinds b_args b_typed b_typedArgs K' A' T' U' → wi_sh (upd b_sizes c (nI t)) K' A' ∧ ∀ dep, wi_tcs (wi_N (upd b_sizes c (nI t)) K' A') 16 dep → ∃ a, a < 16 ∧ wi_D dep a a) (h : ∀ T' U' dep, post (-5) (0, g_rows, g_columns, g_tableRows, g_tableColumns, b_kinds, b_args, b_sizes, b_numbers, T', U', b_inputs, b_entries, b_values, b_before, b_stack, dep)) : wpY_formula post (nI t, g_rows, g_columns, g_tableRows, g_tableColumns, b_kinds, b_args, b_sizes, b_numbers, b_typed, b_typedArgs, b_inputs, b_entries, b_values, b_before, b_stack, b_depends) (nI c) := by
  unfold wpY_formula
  dsimp only
  refine wi_ybad_in hc ?_
  refine br_t rfl ?_
  refine wi_ysound ht hk (fun _ => ?_) (fun z => absurd hs z)
  refine br_f (by decide) ?_
  refine wi_yexch hc (fun K' A' T' U' hx => ?_)
  obtain ⟨h1, h2⟩ := H K' A' T' U' hx
  refine wi_ycircle h1 (fun dep htc => ?_)
  refine ⟨fun z => ?_, fun _ => ?_⟩
  · obtain ⟨a, ha, hD⟩ := h2 dep htc
    exact absurd hD (z a ha)
  · refine br_f (by decide) ?_
    refine wi_yexch hc (fun K2 A2 T2 U2 hx2 => ?_)
    obtain ⟨rfl, rfl⟩ := wi_xch_xch hx hx2
    have e : upd (upd b_sizes c (nI t)) c (b_sizes c) = b_sizes := by
      funext p
      by_cases z : p = c
      · rw [z, pk_us]
      · rw [pk_un z, pk_un z]
    have := h T2 U2 dep
    rw [← e] at this
    exact this
theorem wi_yf_ok {post : Int32 → SY → Prop} {c t : Nat} (hc : c < 16) (ht : t ≤ 8) (hk : ∀ i, i < t → wi_ok (b_typed i) (b_typedArgs i)) (hs : wi_snd b_typed t) (H : ∀ K' A' T' U', wi_xch c 8 b_kinds b_args b_typed b_typedArgs K' A' T' U' → wi_sh (upd b_sizes c (nI t)) K' A' ∧ ∀ dep, wi_tcs (wi_N (upd b_sizes c (nI t)) K' A') 16 dep → ∀ a, a < 16 → ¬ wi_D dep a a) (h : ∀ K' A' T' U' dep, wi_xch c 8 b_kinds b_args b_typed b_typedArgs K' A' T' U' → post 0 (0, g_rows, g_columns, g_tableRows, g_tableColumns, K', A', upd b_sizes c (nI t), b_numbers, T', U', b_inputs, b_entries, b_values, b_before, b_stack, dep)) : wpY_formula post (nI t, g_rows, g_columns, g_tableRows, g_tableColumns, b_kinds, b_args, b_sizes, b_numbers, b_typed, b_typedArgs, b_inputs, b_entries, b_values, b_before, b_stack, b_depends) (nI c) := by
  unfold wpY_formula
  dsimp only
  refine wi_ybad_in hc ?_
  refine br_t rfl ?_
  refine wi_ysound ht hk (fun _ => ?_) (fun z => absurd hs z)
  refine br_f (by decide) ?_
  refine wi_yexch hc (fun K' A' T' U' hx => ?_)
  obtain ⟨h1, h2⟩ := H K' A' T' U' hx
  refine wi_ycircle h1 (fun dep htc => ?_)
  refine ⟨fun _ => br_t rfl (h K' A' T' U' dep hx), fun z => ?_⟩
  obtain ⟨a, ha, hD⟩ := z
  exact absurd hD (h2 dep htc a ha)
end
theorem i_vc_formula {k : Nat} {u : SX} {v : SY} (I : i_Rel k u v) (hk : k + 4 ≤ 2048) (v1 : Int32) : wpX_formula (fun r u' => wpY_formula (fun r' v' => r' = r ∧ i_Rel (k + 4) u' v') v v1) u v1 := by
  refine wi_el (P := fun u v => wpX_formula (fun r u' => wpY_formula (fun r' v' => r' = r ∧ i_Rel (k + 4) u' v') v v1) u v1) I ?_
  intro f_typed f_rows f_columns a_length a_kindOf a_argOf a_names a_now a_order a_typedKind a_typedArg a_inputs a_inputCount a_entries a_aside a_stack g_count g_rows g_columns g_tableRows g_tableColumns b_kinds b_args b_sizes b_numbers b_typed b_typedArgs b_inputs b_entries b_values b_before b_stack b_depends hT hI hB hC
  unfold wpX_formula
  dsimp only
  by_cases hv : vp_in v1 16
  · obtain ⟨c, hc, rfl⟩ := vp_in_of hv (by omega)
    obtain ⟨t, ht, rfl, rfl, hTk⟩ := hT
    have hok : ∀ i, i < t → wi_ok (a_typedKind i) (a_typedArg i) := fun i hi => (hTk i hi).1
    have hoky : ∀ i, i < t → wi_ok (b_typed i) (b_typedArgs i) := fun i hi => by
      rw [(hTk i hi).2.1, (hTk i hi).2.2]
      exact hok i hi
    have hsy : wi_snd b_typed t ↔ wi_snd a_typedKind t := wi_snd_eq (fun i hi => (hTk i hi).2.1)
    have hT0 : wi_tok 0 a_typedKind a_typedArg 0 b_typed b_typedArgs := ⟨0, by omega, rfl, rfl, fun i hi => absurd hi (Nat.not_lt_zero _)⟩
    have hC' := hC
    obtain ⟨rfl, hsh, hsm, hnm, htop, hval⟩ := hC'
    obtain ⟨rk, hr16, hrk⟩ := wi_top_rank htop
    refine wi_xoff_in hc ?_
    refine br_t rfl ?_
    refine wi_xsound ht hok (fun hs => ?_) (fun hns => ?_)
    · refine wi_xnames ht hok (fun S1 hS1 => ?_)
      refine wi_xabove htop hnm (fun S hS => ?_)
      refine br_f (by decide) (br_c (fun e0 => ⟨hv, nm_e ?_⟩) (fun e1 => ?_))
      · rw [nI_clamp (show c < 2 ^ 31 by omega)]
        have hdis : ∀ d, wi_nm a_typedKind a_typedArg t d → bt S d = true → False := fun d hd hb => (wi_and0 _ _).mp e0 d ((hS1 d).mpr hd) hb
        have hsh' := wi_new_sh (c := c) hsh ht hok hs
        have hpos : 0 < wi_L (upd b_sizes c (nI t)) c := by rw [wi_L_us ht]; exact wi_snd_pos hs
        have hrk' := wi_new_rk hsh hc ht hok hs hr16 hrk hS hdis
        have hnm' := wi_new_nms (c := c) hsh ht hnm hS1
        have hb : wi_but c (upd b_sizes c (nI t)) (wi_cp c t a_kindOf a_typedKind) (wi_cp c t a_argOf a_typedArg) b_numbers a_now := by
          intro a ha z
          rw [wi_L_un z]
          have := hval a ha
          by_cases l : wi_L b_sizes a = 0
          · rw [if_pos l] at this ⊢
            exact this
          · rw [if_neg l] at this ⊢
            rw [wi_new_F hsh ht ha z (by omega)]
            exact this
        refine ⟨t + 1, ?_⟩
        have := wi_xf67 (post := fun r u' => wpY_formula (fun r' v' => r' = r ∧ i_Rel (k + 4) u' v') (nI t, g_rows, g_columns, g_tableRows, g_tableColumns, b_kinds, b_args, b_sizes, b_numbers, b_typed, b_typedArgs, b_inputs, b_entries, b_values, b_before, b_stack, b_depends) (nI c)) (f_typed := 0) (f_rows := f_rows) (f_columns := f_columns) (a_order := a_order) (a_inputs := a_inputs) (a_inputCount := a_inputCount) (a_entries := a_entries) (a_aside := a_aside) (a_stack := a_stack) hc ht hsh' hpos hnm' (rk := fun a => rk a + (if bt S a = true then 16 else 0)) hrk' hb ?_ (t + 1) 0 (by omega) (by omega)
        · rw [wi_cp_0, wi_cp_0] at this
          exact this
        · intro ord now st htop' hval'
          refine wi_yf_ok hc ht hoky (hsy.mpr hs) (fun K' A' T' U' hx => ?_) (fun K' A' T' U' dep hx => ?_)
          · have hsame := wi_new_same hsh hsm ht (fun i hi => (hTk i hi).2) hx
            refine ⟨wi_sh_tok hsh' hsame, fun dep htc a ha hD => ?_⟩
            have := htc.2.2 (fun a b => rk b + (if bt S b = true then 16 else 0) < rk a + (if bt S a = true then 16 else 0)) (fun a m b _ _ _ x y => Nat.lt_trans y x) (fun a b ha _ hN => hrk' a b ha ((wi_N_tok hsame ha b).mp hN)) a a ha ha hD
            exact absurd this (Nat.lt_irrefl _)
          · have hsame := wi_new_same hsh hsm ht (fun i hi => (hTk i hi).2) hx
            exact ⟨rfl, wi_mk ⟨0, by omega, rfl, rfl, fun i hi => absurd hi (Nat.not_lt_zero _)⟩ hI hB ⟨rfl, hsh', hsame, hnm', htop', hval'⟩⟩
      · obtain ⟨d, hd1, hd2⟩ := wi_nand0 e1
        refine wi_yf_circ hc ht hoky (hsy.mpr hs) (fun K' A' T' U' hx => ?_) (fun T' U' dep => ?_)
        · have hsame := wi_new_same hsh hsm ht (fun i hi => (hTk i hi).2) hx
          refine ⟨wi_sh_tok (wi_new_sh (c := c) hsh ht hok hs) hsame, fun dep htc => ⟨c, hc, ?_⟩⟩
          exact wi_new_circ hsh hc ht (fun a d ha hN => (wi_N_tok hsame ha d).mpr hN) hS ((hS1 d).mp hd1) hd2 htc
        · exact ⟨rfl, wi_mk ⟨0, by omega, rfl, rfl, fun i hi => absurd hi (Nat.not_lt_zero _)⟩ hI hB hC⟩
    · refine wi_xnames ht hok (fun S1 hS1 => ?_)
      refine wi_xabove htop hnm (fun S hS => ?_)
      refine br_t rfl ?_
      refine wi_yf_uns hc ht hoky (fun z => hns (hsy.mp z)) ?_
      exact ⟨rfl, wi_mk hT0 hI hB hC⟩
  · refine wi_xoff_out hv ?_
    refine br_f (by decide) ?_
    unfold wpY_formula
    dsimp only
    refine wi_ybad_out hv ?_
    exact br_f (by decide) ⟨rfl, wi_mk hT hI hB hC⟩
end
section
/-! table -/
theorem wi_ix4 (a b : Nat) : nI a * 4 + nI b = nI (a * 4 + b) := by
  rw [show (4 : Int32) = nI 4 from rfl, pk_mul, nI_add]
theorem wi_4p (b : Nat) : (4 : Int32) + nI b = nI (4 + b) := by
  rw [show (4 : Int32) = nI 4 from rfl, nI_add]
/-- entries done up to row i, column j -/
def wi_ei (Ans : Nat → Nat → Int32 → Prop) (cols i j : Nat) (en0 en : Nat → Int32) : Prop := ∀ x y, y < 4 → (((x < i ∧ y < cols) ∨ (x = i ∧ y < j)) → Ans x y (en (x * 4 + y))) ∧ (¬ ((x < i ∧ y < cols) ∨ (x = i ∧ y < j)) → en (x * 4 + y) = en0 (x * 4 + y))
theorem wi_ei_0 (Ans : Nat → Nat → Int32 → Prop) (cols : Nat) (en0 : Nat → Int32) : wi_ei Ans cols 0 0 en0 en0 := fun x y _ => ⟨fun z => absurd z (by omega), fun _ => rfl⟩
theorem wi_ei_s {Ans : Nat → Nat → Int32 → Prop} {cols i j : Nat} {en0 en : Nat → Int32} {v : Int32} (h : wi_ei Ans cols i j en0 en) (hj : j < 4) (hv : Ans i j v) : wi_ei Ans cols i (j + 1) en0 (upd en (i * 4 + j) v) := by
  intro x y hy
  by_cases z : x = i ∧ y = j
  · rw [z.1, z.2, pk_us]
    exact ⟨fun _ => hv, fun w => absurd w (by omega)⟩
  · rw [pk_un (by omega)]
    obtain ⟨h1, h2⟩ := h x y hy
    exact ⟨fun w => h1 (by omega), fun w => h2 (by omega)⟩
theorem wi_ei_row {Ans : Nat → Nat → Int32 → Prop} {cols i : Nat} {en0 en : Nat → Int32} (h : wi_ei Ans cols i cols en0 en) : wi_ei Ans cols (i + 1) 0 en0 en := by
  intro x y hy
  obtain ⟨h1, h2⟩ := h x y hy
  exact ⟨fun w => h1 (by omega), fun w => h2 (by omega)⟩
theorem wi_ei_eq {Ans : Nat → Nat → Int32 → Prop} {cols i : Nat} {en0 en en1 : Nat → Int32} (h1 : wi_ei Ans cols i 0 en0 en1) (h : wi_ei (fun x y v => v = en1 (x * 4 + y)) cols i 0 en0 en) : en = en1 := by
  funext p
  have e : p = p / 4 * 4 + p % 4 := by omega
  have hy : p % 4 < 4 := by omega
  obtain ⟨a1, a2⟩ := h (p / 4) (p % 4) hy
  obtain ⟨b1, b2⟩ := h1 (p / 4) (p % 4) hy
  rw [e]
  by_cases z : (p / 4 < i ∧ p % 4 < cols) ∨ (p / 4 = i ∧ p % 4 < 0)
  · exact a1 z
  · exact (a2 z).trans (b2 z).symm
/-- what an entry is: the value of cell o in some W that meets the sheet's equations on B with the inputs put in -/
def wi_ans (B : Nat → Prop) (len kk aa num inp : Nat → Int32) (r q o : Nat) (x y : Nat) (v : Int32) : Prop := ∃ W, wi_sol B len kk aa num (nI r) (inp x) (nI q) (inp (4 + y)) W ∧ v = W o
def wi_src (r q : Nat) : Int32 := ((1 : Int32) <<< (nI r &&& 31)) ||| ((1 : Int32) <<< (nI q &&& 31))
theorem wi_srcT {r q a : Nat} (hr : r < 16) (hq : q < 16) : bt (wi_src r q) a = true ↔ a = r ∨ a = q := by
  unfold wi_src
  rw [wi_orT, wi_oneT hr, wi_oneT hq]
/-- the setting of a table -/
def wi_tx (len kk aa num now0 : Nat → Int32) (r q : Nat) (A B cone : Int32) : Prop := wi_sh len kk aa ∧ wi_vals len kk aa num now0 ∧ (r < 16 ∧ q < 16 ∧ r ≠ q) ∧ wi_up (wi_N len kk aa) (wi_src r q) A ∧ (∀ a d, a < 16 → wi_N len kk aa a d → bt B a = true → bt B d = true) ∧ (∀ a, a < 16 → (bt cone a = true ↔ bt A a = true ∧ bt B a = true ∧ a ≠ r ∧ a ≠ q))
def wi_ti (len kk aa now0 : Nat → Int32) (r q : Nat) (cone : Int32) (now : Nat → Int32) : Prop := (∀ a, a < 16 → bt cone a = true → 0 < wi_L len a → now a = wi_F len kk aa a now) ∧ (∀ a, a < 16 → a ≠ r → a ≠ q → (bt cone a = false ∨ wi_L len a = 0) → now a = now0 a)
section
variable {len kk aa num now0 now now3 : Nat → Int32} {r q : Nat} {A B cone x y : Int32}
theorem wi_ti_0 (h : wi_tx len kk aa num now0 r q A B cone) : wi_ti len kk aa now0 r q cone now0 := by
  obtain ⟨_, hv, _⟩ := h
  refine ⟨fun a ha _ hl => ?_, fun _ _ _ _ _ => rfl⟩
  have := hv a ha
  rw [if_neg (by omega)] at this
  exact this
theorem wi_tx_pre (h : wi_tx len kk aa num now0 r q A B cone) (ht : wi_ti len kk aa now0 r q cone now) : ∀ a, a < 16 → bt cone a = true → 0 < wi_L len a → (∀ d, wi_N len kk aa a d → bt (wi_src r q) d = true → False) → upd (upd now r x) q y a = wi_F len kk aa a (upd (upd now r x) q y) := by
  obtain ⟨hsh, _, ⟨hr, hq, _⟩, _, _, hco⟩ := h
  intro a ha hcn hl hno
  obtain ⟨_, _, ar, aq⟩ := (hco a ha).mp hcn
  rw [pk_un aq, pk_un ar, ht.1 a ha hcn hl]
  refine (wi_F_loc hsh ha hl (fun d _ hN => ?_)).symm
  rw [pk_un (fun z => hno d hN ((wi_srcT hr hq).mpr (Or.inr z))), pk_un (fun z => hno d hN ((wi_srcT hr hq).mpr (Or.inl z)))]
theorem wi_tx_ti (h : wi_tx len kk aa num now0 r q A B cone) (ht : wi_ti len kk aa now0 r q cone now) (hs : wi_spr len kk aa cone (upd (upd now r x) q y) now3) : wi_ti len kk aa now0 r q cone now3 := by
  refine ⟨hs.1, fun a ha ar aq hno => ?_⟩
  rw [hs.2 a hno, pk_un aq, pk_un ar]
  exact ht.2 a ha ar aq hno
theorem wi_tx_sol (h : wi_tx len kk aa num now0 r q A B cone) (ht : wi_ti len kk aa now0 r q cone now) (hs : wi_spr len kk aa cone (upd (upd now r x) q y) now3) : wi_sol (fun a => bt B a = true) len kk aa num (nI r) x (nI q) y now3 := by
  have ht3 := wi_tx_ti h ht hs
  obtain ⟨hsh, hv, ⟨hr, hq, hrq⟩, hA, hB, hco⟩ := h
  have ncr : ∀ a, a < 16 → a = r ∨ a = q → bt cone a = false := fun a ha z => wi_nf (fun w => by
    have := (hco a ha).mp w
    rcases z with z | z
    · exact this.2.2.1 z
    · exact this.2.2.2 z)
  intro a ha hBa
  by_cases zr : a = r
  · rw [zr, if_pos rfl, hs.2 r (Or.inl (ncr r hr (Or.inl rfl))), pk_un hrq, pk_us]
  · rw [if_neg (fun e => zr ((nI_eq (by omega) (by omega)).mp e))]
    by_cases zq : a = q
    · rw [zq, if_pos rfl, hs.2 q (Or.inl (ncr q hq (Or.inr rfl))), pk_us]
    · rw [if_neg (fun e => zq ((nI_eq (by omega) (by omega)).mp e))]
      by_cases l : wi_L len a = 0
      · rw [if_pos l, ht3.2 a ha zr zq (Or.inr l), hv a ha, if_pos l]
      · rw [if_neg l]
        cases hc : bt cone a with
        | true => exact hs.1 a ha hc (by omega)
        | false =>
          have hAa : ¬ bt A a = true := fun w => by
            have := (hco a ha).mpr ⟨w, hBa, zr, zq⟩
            rw [hc] at this
            exact absurd this (by decide)
          have := hv a ha
          rw [if_neg l] at this
          rw [ht3.2 a ha zr zq (Or.inl hc), this]
          refine (wi_F_loc hsh ha (by omega) (fun d hd hN => ?_)).symm
          have hAd : ¬ bt A d = true := fun w => hAa (hA.2.1 a d ha hN w)
          refine ht3.2 d hd (fun z => hAd (hA.1 d ((wi_srcT hr hq).mpr (Or.inl z)))) (fun z => hAd (hA.1 d ((wi_srcT hr hq).mpr (Or.inr z)))) (Or.inl (wi_nf (fun w => hAd ((hco d hd).mp w).1)))
end
theorem wi_vals_eq {len kk aa num now0 now : Nat → Int32} (hsh : wi_sh len kk aa) (h : wi_vals len kk aa num now0) (e : ∀ a, a < 16 → now a = now0 a) : wi_vals len kk aa num now := by
  intro a ha
  rw [e a ha, h a ha]
  by_cases l : wi_L len a = 0
  · rw [if_pos l, if_pos l]
  · rw [if_neg l, if_neg l]
    exact (wi_F_loc hsh ha (by omega) (fun d hd _ => e d hd)).symm
theorem wi_sol_tok {B : Nat → Prop} {len kk aa bk ba num W : Nat → Int32} {r x q y : Int32} (hsh : wi_sh len kk aa) (hsm : wi_same len kk aa bk ba) (h : wi_sol B len kk aa num r x q y W) : wi_sol B len bk ba num r x q y W := by
  intro a ha hB
  rw [h a ha hB]
  by_cases z1 : nI a = r
  · rw [if_pos z1, if_pos z1]
  · rw [if_neg z1, if_neg z1]
    by_cases z2 : nI a = q
    · rw [if_pos z2, if_pos z2]
    · rw [if_neg z2, if_neg z2]
      by_cases l : wi_L len a = 0
      · rw [if_pos l, if_pos l]
      · rw [if_neg l, if_neg l]
        exact (wi_F_tok hsh hsm ha (by omega)).symm
section
variable {f_typed f_rows f_columns : Int32} {a_length a_kindOf a_argOf a_names a_now a_order a_typedKind a_typedArg a_inputs a_inputCount a_entries a_aside a_stack : Nat → Int32}
theorem wi_xt214 {post : Int32 → SX → Prop} (h : ∀ now, (∀ a, a < 16 → now a = a_aside a) → post (f_rows * f_columns) (f_typed, f_rows, f_columns, a_length, a_kindOf, a_argOf, a_names, now, a_order, a_typedKind, a_typedArg, a_inputs, a_inputCount, a_entries, a_aside, a_stack)) : ∀ n i now, i ≤ 16 → 16 < n + i → (∀ a, a < i → now a = a_aside a) → wX_table_214 post f_typed f_rows f_columns n (nI i) a_length a_kindOf a_argOf a_names now a_order a_typedKind a_typedArg a_inputs a_inputCount a_entries a_aside a_stack := by
  intro n
  induction n with
  | zero => intro i now hi hn; omega
  | succ n ih =>
    intro i now hi hn hv
    refine pk_le 16 i (fun hx => ?_) (fun hx => ?_)
    · exact h now (fun a ha => hv a (by omega))
    · have hin : vp_in (nI i) 16 := vp_in_nI hx (by omega)
      rw [nI_clamp (show i < 2 ^ 31 by omega)]
      refine ⟨hin, hin, nm_e (nm_r (e' := nI (i + 1)) (nI_1 i) ?_)⟩
      refine ih (i + 1) _ (by omega) (by omega) (fun a ha => ?_)
      by_cases z : a = i
      · rw [z, pk_us]
      · rw [pk_un z]
        exact hv a (by omega)
theorem wi_xt135 {post : Int32 → SX → Prop} {J : Int32 → Int32 → Int32 → Int32 → (Nat → Int32) → (Nat → Int32) → (Nat → Int32) → (Nat → Int32) → (Nat → Int32) → (Nat → Int32) → (Nat → Int32) → (Nat → Int32) → (Nat → Int32) → (Nat → Int32) → (Nat → Int32) → (Nat → Int32) → (Nat → Int32) → Prop} {o r q rows cols i : Nat} {A B cone : Int32} {num now0 en0 : Nat → Int32} (ho : o < 16) (hBo : bt B o = true) (hx : wi_tx a_length a_kindOf a_argOf num now0 r q A B cone) (htop : wi_top (wi_N a_length a_kindOf a_argOf) a_order) (hnm : wi_nms (wi_N a_length a_kindOf a_argOf) a_names) (hi : i < 4) (hcols : cols ≤ 4) (h : ∀ now en st, wi_ti a_length a_kindOf a_argOf now0 r q cone now → wi_ei (wi_ans (fun a => bt B a = true) a_length a_kindOf a_argOf num a_inputs r q o) cols (i + 1) 0 en0 en → J (nI (i + 1)) f_typed (nI rows) (nI cols) a_length a_kindOf a_argOf a_names now a_order a_typedKind a_typedArg a_inputs a_inputCount en a_aside st) : ∀ n j now en st, j ≤ cols → cols < n + j → wi_ti a_length a_kindOf a_argOf now0 r q cone now → wi_ei (wi_ans (fun a => bt B a = true) a_length a_kindOf a_argOf num a_inputs r q o) cols i j en0 en → wX_table_135 post J (nI o) (nI r) (nI q) (wi_src r q) cone (nI i) n (nI j) f_typed (nI rows) (nI cols) a_length a_kindOf a_argOf a_names now a_order a_typedKind a_typedArg a_inputs a_inputCount en a_aside st := by
  have hx' := hx
  obtain ⟨hsh, _, ⟨hr, hq, _⟩, _⟩ := hx'
  have hro : vp_in (nI r) 16 := vp_in_nI hr (by omega)
  have hqo : vp_in (nI q) 16 := vp_in_nI hq (by omega)
  have hoo : vp_in (nI o) 16 := vp_in_nI ho (by omega)
  intro n
  induction n with
  | zero => intro j now en st hj hn; omega
  | succ n ih =>
    intro j now en st hj hn ht he
    refine pk_le cols j (fun hjc => ?_) (fun hjc => ?_)
    · have e : j = cols := by omega
      subst e
      exact nm_r (nI_1 i) (h now en st ht (wi_ei_row he))
    · rw [wi_4p, nI_clamp (show r < 2 ^ 31 by omega), nI_clamp (show q < 2 ^ 31 by omega), nI_clamp (show i < 2 ^ 31 by omega), nI_clamp (show 4 + j < 2 ^ 31 by omega)]
      refine ⟨vp_in_nI (by omega) (by omega), hro, nm_e ⟨vp_in_nI (by omega) (by omega), hqo, nm_e ?_⟩⟩
      refine wi_xspread htop hsh hnm (wi_tx_pre hx ht) (fun now3 st3 hs => ?_)
      refine And.intro hoo ?_
      rw [wi_ix4, nI_clamp (show i * 4 + j < 2 ^ 31 by omega), nI_clamp (show o < 2 ^ 31 by omega)]
      refine ⟨vp_in_nI (by omega) (by omega), nm_e (nm_r (e' := nI (j + 1)) (nI_1 j) ?_)⟩
      exact ih (j + 1) now3 _ st3 (by omega) (by omega) (wi_tx_ti hx ht hs) (wi_ei_s he (by omega) ⟨now3, wi_tx_sol hx ht hs, rfl⟩)
theorem wi_xt123 {post : Int32 → SX → Prop} {o r q rows cols : Nat} {A B cone : Int32} {num now0 en0 : Nat → Int32} (ho : o < 16) (hBo : bt B o = true) (hx : wi_tx a_length a_kindOf a_argOf num now0 r q A B cone) (htop : wi_top (wi_N a_length a_kindOf a_argOf) a_order) (hnm : wi_nms (wi_N a_length a_kindOf a_argOf) a_names) (hrows : rows ≤ 4) (hcols : cols ≤ 4) (h : ∀ now en st, (∀ a, a < 16 → now a = a_aside a) → wi_ei (wi_ans (fun a => bt B a = true) a_length a_kindOf a_argOf num a_inputs r q o) cols rows 0 en0 en → post (nI rows * nI cols) (f_typed, nI rows, nI cols, a_length, a_kindOf, a_argOf, a_names, now, a_order, a_typedKind, a_typedArg, a_inputs, a_inputCount, en, a_aside, st)) : ∀ n i now en st, i ≤ rows → rows < n + i → wi_ti a_length a_kindOf a_argOf now0 r q cone now → wi_ei (wi_ans (fun a => bt B a = true) a_length a_kindOf a_argOf num a_inputs r q o) cols i 0 en0 en → wX_table_123 post (nI o) (nI r) (nI q) (wi_src r q) cone n (nI i) f_typed (nI rows) (nI cols) a_length a_kindOf a_argOf a_names now a_order a_typedKind a_typedArg a_inputs a_inputCount en a_aside st := by
  intro n
  induction n with
  | zero => intro i now en st hi hn; omega
  | succ n ih =>
    intro i now en st hi hn ht he
    refine pk_le rows i (fun hir => ?_) (fun hir => ?_)
    · have e : i = rows := by omega
      subst e
      exact ⟨17, wi_xt214 (fun now' hn' => h now' en st hn' he) 17 0 now (by omega) (by omega) (fun a ha => absurd ha (Nat.not_lt_zero _))⟩
    · exact ⟨cols + 1, wi_xt135 ho hBo hx htop hnm (by omega) hcols (fun now' en' st' ht' he' => ih (i + 1) now' en' st' (by omega) (by omega) ht' he') (cols + 1) 0 now en st (by omega) (by omega) ht he⟩
theorem wi_xt93 {post : Int32 → SX → Prop} {o r q rows cols : Nat} {A B cone : Int32} {num : Nat → Int32} (ho : o < 16) (hBo : bt B o = true) (hx : wi_tx a_length a_kindOf a_argOf num a_now r q A B cone) (htop : wi_top (wi_N a_length a_kindOf a_argOf) a_order) (hnm : wi_nms (wi_N a_length a_kindOf a_argOf) a_names) (hrows : rows ≤ 4) (hcols : cols ≤ 4) (h : ∀ now en asd st, (∀ a, a < 16 → now a = a_now a) → wi_ei (wi_ans (fun a => bt B a = true) a_length a_kindOf a_argOf num a_inputs r q o) cols rows 0 a_entries en → post (nI rows * nI cols) (f_typed, nI rows, nI cols, a_length, a_kindOf, a_argOf, a_names, now, a_order, a_typedKind, a_typedArg, a_inputs, a_inputCount, en, asd, st)) : ∀ n i asd, i ≤ 16 → 16 < n + i → (∀ a, a < i → asd a = a_now a) → wX_table_93 post (nI o) (nI r) (nI q) (wi_src r q) cone f_typed (nI rows) (nI cols) n (nI i) a_length a_kindOf a_argOf a_names a_now a_order a_typedKind a_typedArg a_inputs a_inputCount a_entries asd a_stack := by
  intro n
  induction n with
  | zero => intro i asd hi hn; omega
  | succ n ih =>
    intro i asd hi hn hv
    refine pk_le 16 i (fun h16 => ?_) (fun h16 => ?_)
    · refine ⟨rows + 1, wi_xt123 ho hBo hx htop hnm hrows hcols (fun now en st hn' he => ?_) (rows + 1) 0 a_now a_entries a_stack (by omega) (by omega) (wi_ti_0 hx) (wi_ei_0 _ _ _)⟩
      exact h now en asd st (fun a ha => (hn' a ha).trans (hv a (by omega))) he
    · have hin : vp_in (nI i) 16 := vp_in_nI h16 (by omega)
      rw [nI_clamp (show i < 2 ^ 31 by omega)]
      refine ⟨hin, hin, nm_e (nm_r (e' := nI (i + 1)) (nI_1 i) ?_)⟩
      refine ih (i + 1) _ (by omega) (by omega) (fun a ha => ?_)
      by_cases z : a = i
      · rw [z, pk_us]
      · rw [pk_un z]
        exact hv a (by omega)
end
section
variable {g_count g_rows g_columns g_tableRows g_tableColumns : Int32} {b_kinds b_args b_sizes b_numbers b_typed b_typedArgs b_inputs b_entries b_values b_before b_stack b_depends : Nat → Int32}
theorem wi_yt46 {post : Int32 → SY → Prop} {J : Int32 → Int32 → Int32 → Int32 → Int32 → Int32 → (Nat → Int32) → (Nat → Int32) → (Nat → Int32) → (Nat → Int32) → (Nat → Int32) → (Nat → Int32) → (Nat → Int32) → (Nat → Int32) → (Nat → Int32) → (Nat → Int32) → (Nat → Int32) → (Nat → Int32) → Prop} {o r q rows cols i : Nat} {B : Nat → Prop} {rk : Nat → Nat} {en0 en1 : Nat → Int32} (ho : o < 16) (hsh : wi_sh b_sizes b_kinds b_args) (hB : ∀ c d, c < 16 → B c → wi_N b_sizes b_kinds b_args c d → B d) (hBo : B o) (hrk : ∀ c d, c < 16 → wi_N b_sizes b_kinds b_args c d → rk d < rk c) (hr16 : ∀ c, c < 16 → rk c < 16) (hrows : rows ≤ 4) (hcols : cols ≤ 4) (hi : i < rows) (hE : wi_ei (wi_ans B b_sizes b_kinds b_args b_numbers b_inputs r q o) cols rows 0 en0 en1) (h : ∀ en vals st, wi_ei (fun x y v => v = en1 (x * 4 + y)) cols (i + 1) 0 en0 en → J (nI (i + 1)) g_count (nI rows) (nI cols) g_tableRows g_tableColumns b_kinds b_args b_sizes b_numbers b_typed b_typedArgs b_inputs en vals b_before st b_depends) : ∀ n j en vals st, j ≤ cols → cols < n + j → wi_ei (fun x y v => v = en1 (x * 4 + y)) cols i j en0 en → wY_table_46 post J (nI o) (nI r) (nI q) (nI i) n (nI j) g_count (nI rows) (nI cols) g_tableRows g_tableColumns b_kinds b_args b_sizes b_numbers b_typed b_typedArgs b_inputs en vals b_before st b_depends := by
  have hoo : vp_in (nI o) 16 := vp_in_nI ho (by omega)
  intro n
  induction n with
  | zero => intro j en vals st hj hn; omega
  | succ n ih =>
    intro j en vals st hj hn he
    refine pk_le cols j (fun hjc => ?_) (fun hjc => ?_)
    · have e : j = cols := by omega
      subst e
      exact nm_r (nI_1 i) (h en vals st (wi_ei_row he))
    · rw [wi_4p, nI_clamp (show i < 2 ^ 31 by omega), nI_clamp (show 4 + j < 2 ^ 31 by omega)]
      refine ⟨vp_in_nI (by omega) (by omega), vp_in_nI (by omega) (by omega), ?_⟩
      obtain ⟨W, hW, eW⟩ := (hE i j (by omega)).1 (Or.inl ⟨hi, hjc⟩)
      refine wi_ywork hsh hB hrk hr16 hW (fun vals' st' hv' => ?_)
      refine And.intro hoo ?_
      rw [wi_ix4, nI_clamp (show i * 4 + j < 2 ^ 31 by omega), nI_clamp (show o < 2 ^ 31 by omega)]
      refine ⟨vp_in_nI (by omega) (by omega), nm_e (nm_r (e' := nI (j + 1)) (nI_1 j) ?_)⟩
      refine ih (j + 1) _ vals' st' (by omega) (by omega) (wi_ei_s he (by omega) ?_)
      rw [hv' o ho hBo]
      exact eW.symm
theorem wi_yt34 {post : Int32 → SY → Prop} {o r q rows cols : Nat} {B : Nat → Prop} {rk : Nat → Nat} {en0 en1 : Nat → Int32} (ho : o < 16) (hsh : wi_sh b_sizes b_kinds b_args) (hB : ∀ c d, c < 16 → B c → wi_N b_sizes b_kinds b_args c d → B d) (hBo : B o) (hrk : ∀ c d, c < 16 → wi_N b_sizes b_kinds b_args c d → rk d < rk c) (hr16 : ∀ c, c < 16 → rk c < 16) (hrows : rows ≤ 4) (hcols : cols ≤ 4) (hE : wi_ei (wi_ans B b_sizes b_kinds b_args b_numbers b_inputs r q o) cols rows 0 en0 en1) (h : ∀ vals st, post (nI rows * nI cols) (g_count, 0, 0, nI rows, nI cols, b_kinds, b_args, b_sizes, b_numbers, b_typed, b_typedArgs, b_inputs, en1, vals, b_before, st, b_depends)) : ∀ n i en vals st, i ≤ rows → rows < n + i → wi_ei (fun x y v => v = en1 (x * 4 + y)) cols i 0 en0 en → wY_table_34 post (nI o) (nI r) (nI q) n (nI i) g_count (nI rows) (nI cols) g_tableRows g_tableColumns b_kinds b_args b_sizes b_numbers b_typed b_typedArgs b_inputs en vals b_before st b_depends := by
  intro n
  induction n with
  | zero => intro i en vals st hi hn; omega
  | succ n ih =>
    intro i en vals st hi hn he
    refine pk_le rows i (fun hir => ?_) (fun hir => ?_)
    · have e : i = rows := by omega
      subst e
      have e : en = en1 := wi_ei_eq hE he
      subst e
      exact h vals st
    · exact ⟨cols + 1, wi_yt46 ho hsh hB hBo hrk hr16 hrows hcols hir hE (fun en' vals' st' he' => ih (i + 1) en' vals' st' (by omega) (by omega) he') (cols + 1) 0 en vals st (by omega) (by omega) he⟩
end
end
section
theorem wi_cone {A B : Int32} {r q a : Nat} (hr : r < 16) (hq : q < 16) (ha : a < 16) : bt ((A &&& B) &&& (wi_src r q ^^^ (-1))) a = true ↔ bt A a = true ∧ bt B a = true ∧ a ≠ r ∧ a ≠ q := by
  rw [wi_andT, wi_andT, wi_not _ (by omega)]
  have h := wi_srcT (a := a) hr hq
  cases hb : bt (wi_src r q) a with
  | true =>
    have := h.mp hb
    exact ⟨fun z => absurd z.2 (by decide), fun z => absurd this (fun w => w.elim z.2.2.1 z.2.2.2)⟩
  | false =>
    have hn : ¬ (a = r ∨ a = q) := fun w => by
      have := h.mpr w
      rw [hb] at this
      exact absurd this (by decide)
    exact ⟨fun z => ⟨z.1.1, z.1.2, fun w => hn (Or.inl w), fun w => hn (Or.inr w)⟩, fun z => ⟨⟨z.1, z.2.1⟩, rfl⟩⟩
theorem i_vc_table {k : Nat} {u : SX} {v : SY} (I : i_Rel k u v) (hk : k + 4 ≤ 2048) (v1 : Int32) (v2 : Int32) (v3 : Int32) : wpX_table (fun r u' => wpY_table (fun r' v' => r' = r ∧ i_Rel (k + 4) u' v') v v1 v2 v3) u v1 v2 v3 := by
  refine wi_el (P := fun u v => wpX_table (fun r u' => wpY_table (fun r' v' => r' = r ∧ i_Rel (k + 4) u' v') v v1 v2 v3) u v1 v2 v3) I ?_
  intro f_typed f_rows f_columns a_length a_kindOf a_argOf a_names a_now a_order a_typedKind a_typedArg a_inputs a_inputCount a_entries a_aside a_stack g_count g_rows g_columns g_tableRows g_tableColumns b_kinds b_args b_sizes b_numbers b_typed b_typedArgs b_inputs b_entries b_values b_before b_stack b_depends hT hI hB hC
  unfold wpX_table wpY_table
  dsimp only
  by_cases hv1 : vp_in v1 16
  · obtain ⟨o, ho, rfl⟩ := vp_in_of hv1 (by omega)
    refine wi_xoff_in ho ?_
    refine br_t rfl ?_
    by_cases hv2 : vp_in v2 16
    · obtain ⟨r, hr, rfl⟩ := vp_in_of hv2 (by omega)
      refine wi_xoff_in hr ?_
      refine br_t rfl ?_
      by_cases hv3 : vp_in v3 16
      · obtain ⟨q, hq, rfl⟩ := vp_in_of hv3 (by omega)
        refine wi_xoff_in hq ?_
        refine br_t rfl ?_
        refine br_c (fun e => ?_) (fun e => ?_)
        · refine wi_ybad_in ho ?_
          refine br_t rfl ?_
          refine wi_ybad_in hr ?_
          refine br_t rfl ?_
          refine wi_ybad_in hq ?_
          exact br_t rfl (br_t e ⟨rfl, wi_mk hT hI hB hC⟩)
        · have hrq : r ≠ q := fun z => e (by rw [z])
          obtain ⟨rfl, rows, cols, hrows, hcols, e0, e1, rfl, rfl⟩ := hI
          have hC' := hC
          obtain ⟨rfl, hsh, hsm, hnm, htop, hval⟩ := hC'
          obtain ⟨rk, hr16, hrk⟩ := wi_cel_rk hC
          refine nm_r e0 (nm_r e1 (nm_e (nm_e (nm_r (e' := wi_src r q) rfl ?_))))
          refine wi_xabove htop hnm (fun A hA => ?_)
          refine wi_xbelow htop hnm ho (fun B hBo hBc => ?_)
          refine nm_e ⟨17, ?_⟩
          have hx : wi_tx b_sizes a_kindOf a_argOf b_numbers a_now r q A B ((A &&& B) &&& (wi_src r q ^^^ (-1))) := ⟨hsh, hval, ⟨hr, hq, hrq⟩, hA, hBc, fun a ha => wi_cone hr hq ha⟩
          refine wi_xt93 ho hBo hx htop hnm hrows hcols (fun now en asd st hnow he => ?_) 17 0 a_aside (by omega) (by omega) (fun a ha => absurd ha (Nat.not_lt_zero _))
          refine wi_ybad_in ho ?_
          refine br_t rfl ?_
          refine wi_ybad_in hr ?_
          refine br_t rfl ?_
          refine wi_ybad_in hq ?_
          refine br_t rfl (br_f e ⟨rows + 1, ?_⟩)
          have hE : wi_ei (wi_ans (fun a => bt B a = true) b_sizes b_kinds b_args b_numbers b_inputs r q o) cols rows 0 a_entries en := by
            intro x y hy
            obtain ⟨h1, h2⟩ := he x y hy
            refine ⟨fun z => ?_, h2⟩
            obtain ⟨W, hW, eW⟩ := h1 z
            exact ⟨W, wi_sol_tok hsh hsm hW, eW⟩
          obtain ⟨rfl, hB2⟩ := hB
          refine wi_yt34 ho (wi_cel_sh hC) (B := fun a => bt B a = true) (fun c d hc hb hN => hBc c d hc ((wi_cel_N hC hc d).mp hN) hb) hBo hrk hr16 hrows hcols hE (fun vals st' => ?_) (rows + 1) 0 b_entries b_values b_stack (by omega) (by omega) (wi_ei_0 _ _ _)
          refine ⟨rfl, wi_mk hT ⟨rfl, 0, 0, by omega, by omega, ?_, pk_us, rfl, rfl⟩ ⟨rfl, rfl, rfl, rows, cols, hrows, hcols, rfl, rfl⟩ ⟨rfl, hsh, hsm, hnm, htop, wi_vals_eq hsh hval hnow⟩⟩
          rw [pk_un (by omega)]
          exact pk_us
      · refine wi_xoff_out hv3 ?_
        refine br_f (by decide) ?_
        refine wi_ybad_in ho ?_
        refine br_t rfl ?_
        refine wi_ybad_in hr ?_
        refine br_t rfl ?_
        refine wi_ybad_out hv3 ?_
        exact br_f (by decide) ⟨rfl, wi_mk hT hI hB hC⟩
    · refine wi_xoff_out hv2 ?_
      refine br_f (by decide) ?_
      refine wi_ybad_in ho ?_
      refine br_t rfl ?_
      refine wi_ybad_out hv2 ?_
      exact br_f (by decide) ⟨rfl, wi_mk hT hI hB hC⟩
  · refine wi_xoff_out hv1 ?_
    refine br_f (by decide) ?_
    refine wi_ybad_out hv1 ?_
    exact br_f (by decide) ⟨rfl, wi_mk hT hI hB hC⟩
end
