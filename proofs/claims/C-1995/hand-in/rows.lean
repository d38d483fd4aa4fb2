section
theorem pk_us {f : Nat → Int32} {k : Nat} {x : Int32} : upd f k x k = x := if_pos rfl
theorem pk_un {f : Nat → Int32} {k j : Nat} {x : Int32} (h : j ≠ k) : upd f k x j = f j := if_neg h
theorem pk_m1 (n : Nat) : nI (n + 1) + (-1) = nI n := by
  rw [← nI_1, Int32.add_assoc, show (1 : Int32) + (-1) = 0 from rfl, Int32.add_zero]
theorem pk_mul (a b : Nat) : nI a * nI b = nI (a * b) := (Int32.ofNat_mul a b).symm
theorem pk_ix (x : Int32) {n : Nat} (hn : n < 2 ^ 31) : x < 0 ∨ nI n ≤ x ∨ ∃ j : Nat, j < n ∧ x = nI j := by
  by_cases h : x < 0
  · exact Or.inl h
  · obtain ⟨j, hj, rfl⟩ := nI_of h
    by_cases h2 : j < n
    · exact Or.inr (Or.inr ⟨j, h2, rfl⟩)
    · exact Or.inr (Or.inl (nI_le (by omega) hj))
def bt (x : Int32) (i : Nat) : Bool := x.toBitVec.getLsbD i
theorem b_ext {x y : Int32} (h : ∀ i, i < 32 → bt x i = bt y i) : x = y := Int32.toBitVec_inj.mp (BitVec.eq_of_getLsbD_eq (fun i hi => h i hi))
theorem b_or (x y : Int32) (i : Nat) : bt (x ||| y) i = (bt x i || bt y i) := by unfold bt; rw [Int32.toBitVec_or, BitVec.getLsbD_or]
theorem b_and (x y : Int32) (i : Nat) : bt (x &&& y) i = (bt x i && bt y i) := by unfold bt; rw [Int32.toBitVec_and, BitVec.getLsbD_and]
theorem b_xor (x y : Int32) (i : Nat) : bt (x ^^^ y) i = (bt x i ^^ bt y i) := by unfold bt; rw [Int32.toBitVec_xor, BitVec.getLsbD_xor]
theorem b_m1 : ∀ i, i < 32 → bt (-1) i = true := by decide +kernel
theorem b_0 (i : Nat) : bt 0 i = false := BitVec.getLsbD_zero
theorem s_l : ∀ n, n < 32 → ((nI n &&& 31).toBitVec.smod 32).toNat = n := by decide +kernel
theorem b_sshr (n : Nat) (hn : n < 32) (x : Int32) {i : Nat} (hi : i < 32) : bt (x >>> (nI n &&& 31)) i = if n + i < 32 then bt x (n + i) else bt x 31 := by
  unfold bt
  rw [Int32.toBitVec_shiftRight]
  show (x.toBitVec.sshiftRight ((nI n &&& 31).toBitVec.smod 32).toNat).getLsbD i = _
  rw [s_l n hn, BitVec.getLsbD_sshiftRight, BitVec.msb_eq_getLsbD_last]
  simp [hi]
theorem pq_b1 : ∀ i, i < 32 → bt 1 i = decide (i = 0) := by decide +kernel
theorem pq_one : ∀ q, q < 32 → ∀ p, p < 32 → bt ((1 : Int32) <<< (nI q &&& 31)) p = decide (p = q) := by decide +kernel
theorem pq_clr (x : Int32) {q p : Nat} (hq : q < 32) (hp : p < 32) : bt (x &&& (((1 : Int32) <<< (nI q &&& 31)) ^^^ (-1))) p = (bt x p && !decide (p = q)) := by
  rw [b_and, b_xor, pq_one q hq p hp, b_m1 p hp, Bool.xor_true]
theorem pq_set (x : Int32) {q p : Nat} (hq : q < 32) (hp : p < 32) : bt (x ||| ((1 : Int32) <<< (nI q &&& 31))) p = (bt x p || decide (p = q)) := by
  rw [b_or, pq_one q hq p hp]
theorem pq_clr_n (x : Int32) {q p : Nat} (hq : q < 32) (hp : p < 32) (h : p ≠ q) : bt (x &&& (((1 : Int32) <<< (nI q &&& 31)) ^^^ (-1))) p = bt x p := by
  rw [pq_clr x hq hp, decide_eq_false h, Bool.not_false, Bool.and_true]
theorem pq_clr_s (x : Int32) {q : Nat} (hq : q < 32) : bt (x &&& (((1 : Int32) <<< (nI q &&& 31)) ^^^ (-1))) q = false := by
  rw [pq_clr x hq hq, decide_eq_true rfl, Bool.not_true, Bool.and_false]
theorem pq_set_n (x : Int32) {q p : Nat} (hq : q < 32) (hp : p < 32) (h : p ≠ q) : bt (x ||| ((1 : Int32) <<< (nI q &&& 31))) p = bt x p := by
  rw [pq_set x hq hp, decide_eq_false h, Bool.or_false]
theorem pq_set_s (x : Int32) {q : Nat} (hq : q < 32) : bt (x ||| ((1 : Int32) <<< (nI q &&& 31))) q = true := by
  rw [pq_set x hq hq, decide_eq_true rfl, Bool.or_true]
theorem pq_tst (x : Int32) {n : Nat} (hn : n < 32) : ((x >>> (nI n &&& 31)) &&& 1) = 1 ↔ bt x n = true := by
  have e : ∀ i, i < 32 → bt ((x >>> (nI n &&& 31)) &&& 1) i = (bt x n && decide (i = 0)) := by
    intro i hi
    rw [b_and, b_sshr n hn x hi, pq_b1 i hi]
    by_cases h : i = 0
    · subst h
      rw [if_pos (by omega)]
      rfl
    · rw [decide_eq_false h, Bool.and_false, Bool.and_false]
  constructor
  · intro h
    have h0 := e 0 (by decide)
    rw [h, pq_b1 0 (by decide), decide_eq_true rfl, Bool.and_true] at h0
    exact h0.symm
  · intro h
    apply b_ext
    intro i hi
    rw [e i hi, h, pq_b1 i hi, Bool.true_and]
theorem pq_lt {p : Int32} {n : Nat} (hn : n < 2 ^ 31) (h0 : ¬ p < 0) (h : ¬ nI n ≤ p) : ∃ j : Nat, j < n ∧ p = nI j := by
  rcases pk_ix p hn with a | a | a
  · exact absurd a h0
  · exact absurd a h
  · exact a
theorem pq_m6 (q : Nat) : nI q * 6 = nI (6 * q) := by
  show nI q * nI 6 = _
  rw [pk_mul, Nat.mul_comm]
theorem pq_e6 {cl : Nat → Int32} {q c : Nat} (hq : q < 12) (hc : cl q = nI c) : nI q * 6 + cl (nI q).toNatClampNeg = nI (6 * q + c) := by
  rw [nI_clamp (by omega), hc, pq_m6, nI_add]
theorem pq_le6 {cl : Nat → Int32} {q c j : Nat} (hq : q < 12) (hc : cl q = nI c) (h : 6 * q + c ≤ j) (hj : j < 100) : nI q * 6 + cl (nI q).toNatClampNeg ≤ nI j := by
  rw [pq_e6 hq hc]
  exact nI_le h (by omega)
theorem pq_nle6 {cl : Nat → Int32} {q c j : Nat} (hq : q < 12) (hc : cl q = nI c) (h : j < 6 * q + c) (h6 : c ≤ 6) : ¬ nI q * 6 + cl (nI q).toNatClampNeg ≤ nI j := by
  rw [pq_e6 hq hc]
  exact nI_ge h (by omega)
theorem pq_cl {n : Nat} (h : n < 100) : (nI n).toNatClampNeg = n := nI_clamp (by omega)
theorem pq_ne {a b : Nat} (h : a ≠ b) (ha : a < 100) (hb : b < 100) : ¬ nI a = nI b := fun z => h ((nI_eq (by omega) (by omega)).mp z)
end
section
def pq_cnt (P : Nat → Bool) : Nat → Nat
  | 0 => 0
  | n + 1 => pq_cnt P n + (if P n = true then 1 else 0)
theorem pq_cnt_le (P : Nat → Bool) (n : Nat) : pq_cnt P n ≤ n := by
  induction n with
  | zero => exact Nat.le_refl 0
  | succ n ih =>
    show pq_cnt P n + (if P n = true then 1 else 0) ≤ n + 1
    by_cases h : P n = true
    · rw [if_pos h]; omega
    · rw [if_neg h]; omega
theorem pq_cnt_mono {P Q : Nat → Bool} {n : Nat} (h : ∀ i, i < n → P i = true → Q i = true) : pq_cnt P n ≤ pq_cnt Q n := by
  induction n with
  | zero => exact Nat.le_refl 0
  | succ n ih =>
    have h1 := ih (fun i hi => h i (by omega))
    show pq_cnt P n + (if P n = true then 1 else 0) ≤ pq_cnt Q n + (if Q n = true then 1 else 0)
    by_cases hp : P n = true
    · rw [if_pos hp, if_pos (h n (by omega) hp)]; omega
    · rw [if_neg hp]; omega
theorem pq_cnt_lt {P Q : Nat → Bool} {n i : Nat} (h : ∀ i, i < n → P i = true → Q i = true) (hi : i < n) (hq : Q i = true) (hp : ¬ P i = true) : pq_cnt P n < pq_cnt Q n := by
  induction n with
  | zero => omega
  | succ n ih =>
    show pq_cnt P n + (if P n = true then 1 else 0) < pq_cnt Q n + (if Q n = true then 1 else 0)
    by_cases e : i = n
    · subst e
      have h1 := pq_cnt_mono (P := P) (Q := Q) (n := i) (fun j hj => h j (by omega))
      rw [if_neg hp, if_pos hq]; omega
    · have h1 := ih (fun j hj => h j (by omega)) (by omega)
      by_cases hp' : P n = true
      · rw [if_pos hp', if_pos (h n (by omega) hp')]; omega
      · rw [if_neg hp']; omega
def pq_bf (S : Nat → Int32) (x p : Nat) : Bool := decide ((S p).toInt < (S x).toInt ∨ ((S x).toInt = (S p).toInt ∧ x < p))
theorem pq_bf_iff {S : Nat → Int32} {x p : Nat} : pq_bf S x p = true ↔ ((S p).toInt < (S x).toInt ∨ ((S x).toInt = (S p).toInt ∧ x < p)) := decide_eq_true_iff
def pq_rk (M : Nat → Bool) (S : Nat → Int32) (n p : Nat) : Nat := pq_cnt (fun x => M x && pq_bf S x p) n
theorem pq_rk_s (M : Nat → Bool) (S : Nat → Int32) (n p : Nat) : pq_rk M S (n + 1) p = pq_rk M S n p + (if (M n && pq_bf S n p) = true then 1 else 0) := rfl
section
variable {M : Nat → Bool} {S : Nat → Int32}
theorem pq_mb {x p : Nat} : (M x && pq_bf S x p) = true ↔ (M x = true ∧ ((S p).toInt < (S x).toInt ∨ ((S x).toInt = (S p).toInt ∧ x < p))) := by
  rw [Bool.and_eq_true, pq_bf_iff]
theorem pq_rk_lt {n x p : Nat} (hx : x < n) (hm : M x = true) (hb : (S p).toInt < (S x).toInt ∨ ((S x).toInt = (S p).toInt ∧ x < p)) : pq_rk M S n x < pq_rk M S n p := by
  refine pq_cnt_lt (i := x) ?_ hx ?_ ?_
  · intro i hi h
    have h1 := pq_mb.mp h
    exact pq_mb.mpr ⟨h1.1, by have := h1.2; omega⟩
  · exact pq_mb.mpr ⟨hm, hb⟩
  · intro h
    have := (pq_mb.mp h).2
    omega
theorem pq_rk_bd {n p : Nat} (hp : p < n) (hm : M p = true) : pq_rk M S n p < pq_cnt M n := by
  refine pq_cnt_lt (i := p) ?_ hp hm ?_
  · intro i hi h
    exact (pq_mb.mp h).1
  · intro h
    have := (pq_mb.mp h).2
    omega
theorem pq_rk_nw {n : Nat} : pq_rk M S n n ≤ pq_cnt M n := pq_cnt_mono (fun _ _ h => (pq_mb.mp h).1)
theorem pq_rk_ge {n p : Nat} (h : (S p).toInt < (S n).toInt) : pq_rk M S n n ≤ pq_rk M S n p := by
  refine pq_cnt_mono ?_
  intro i hi hh
  have h1 := pq_mb.mp hh
  exact pq_mb.mpr ⟨h1.1, by have := h1.2; omega⟩
theorem pq_rk_inj {n p p' : Nat} (hp : p < n) (hp' : p' < n) (hm : M p = true) (hm' : M p' = true) (h : pq_rk M S n p = pq_rk M S n p') : p = p' := by
  by_cases a : (S p').toInt < (S p).toInt ∨ ((S p).toInt = (S p').toInt ∧ p < p')
  · have := pq_rk_lt hp hm a
    omega
  · by_cases b : (S p).toInt < (S p').toInt ∨ ((S p').toInt = (S p).toInt ∧ p' < p)
    · have := pq_rk_lt hp' hm' b
      omega
    · omega
def pq_Fd (M : Nat → Bool) (S : Nat → Int32) (n f : Nat) (a b : Nat → Int32) : Prop :=
  f = pq_cnt M n ∧ (∀ p, p < n → M p = true → a (pq_rk M S n p) = nI p ∧ b (pq_rk M S n p) = S p) ∧ (∀ i, i < f → ∃ p, p < n ∧ M p = true ∧ pq_rk M S n p = i)
theorem pq_Fd_0 {a b : Nat → Int32} : pq_Fd M S 0 0 a b := ⟨rfl, fun p hp => absurd hp (Nat.not_lt_zero p), fun i hi => absurd hi (Nat.not_lt_zero i)⟩
theorem pq_Fd_skip {n f : Nat} {a b : Nat → Int32} (h : pq_Fd M S n f a b) (hm : ¬ M n = true) : pq_Fd M S (n + 1) f a b := by
  obtain ⟨h1, h2, h3⟩ := h
  have e : ∀ p, pq_rk M S (n + 1) p = pq_rk M S n p := by
    intro p
    rw [pq_rk_s, if_neg (fun z => hm (pq_mb.mp z).1), Nat.add_zero]
  refine ⟨?_, ?_, ?_⟩
  · show f = pq_cnt M n + (if M n = true then 1 else 0)
    rw [if_neg hm, Nat.add_zero]; exact h1
  · intro p hp hM
    have hn : p ≠ n := fun z => hm (z ▸ hM)
    rw [e p]
    exact h2 p (by omega) hM
  · intro i hi
    obtain ⟨p, hp, hM, hr⟩ := h3 i hi
    exact ⟨p, by omega, hM, by rw [e p]; exact hr⟩
theorem pq_guard {n f i : Nat} {a b : Nat → Int32} (h : pq_Fd M S n f a b) (hi : i < f) : b i < S n ↔ pq_rk M S n n ≤ i := by
  obtain ⟨h1, h2, h3⟩ := h
  obtain ⟨p, hp, hM, hr⟩ := h3 i hi
  have hb := (h2 p hp hM).2
  rw [hr] at hb
  rw [hb, Int32.lt_iff_toInt_lt]
  constructor
  · intro z
    rw [← hr]
    exact pq_rk_ge z
  · intro z
    by_cases c : (S p).toInt < (S n).toInt
    · exact c
    · have h4 := pq_rk_lt (S := S) (n := n) (x := p) (p := n) hp hM (by omega)
      omega
theorem pq_Fd_ins {n f r : Nat} {a b A B : Nat → Int32} (h : pq_Fd M S n f a b) (hm : M n = true) (hr : pq_rk M S n n = r) (hA : ∀ i, i < r → A i = a i) (hA' : ∀ i, r < i → i ≤ f → A i = a (i - 1)) (hB : ∀ i, i < r → B i = b i) (hB' : ∀ i, r < i → i ≤ f → B i = b (i - 1)) : pq_Fd M S (n + 1) (f + 1) (upd A r (nI n)) (upd B r (S n)) := by
  obtain ⟨h1, h2, h3⟩ := h
  have en : pq_rk M S (n + 1) n = r := by
    rw [pq_rk_s, if_neg (fun z => by have := (pq_mb.mp z).2; omega), Nat.add_zero]; exact hr
  have eg : ∀ p, p < n → (S p).toInt < (S n).toInt → pq_rk M S (n + 1) p = pq_rk M S n p + 1 ∧ r ≤ pq_rk M S n p := by
    intro p hp hk
    refine ⟨?_, by rw [← hr]; exact pq_rk_ge hk⟩
    rw [pq_rk_s, if_pos (pq_mb.mpr ⟨hm, Or.inl hk⟩)]
  have el : ∀ p, p < n → M p = true → ¬ (S p).toInt < (S n).toInt → pq_rk M S (n + 1) p = pq_rk M S n p ∧ pq_rk M S n p < r := by
    intro p hp hM hk
    refine ⟨?_, by rw [← hr]; exact pq_rk_lt hp hM (by omega)⟩
    rw [pq_rk_s, if_neg (fun z => by have := (pq_mb.mp z).2; omega), Nat.add_zero]
  refine ⟨?_, ?_, ?_⟩
  · show f + 1 = pq_cnt M n + (if M n = true then 1 else 0)
    rw [if_pos hm, h1]
  · intro p hp hM
    by_cases e : p = n
    · subst e
      rw [en]
      exact ⟨pk_us, pk_us⟩
    · have hp' : p < n := by omega
      have h4 := h2 p hp' hM
      by_cases hk : (S p).toInt < (S n).toInt
      · obtain ⟨e1, e2⟩ := eg p hp' hk
        have hb := pq_rk_bd (S := S) hp' hM
        rw [e1, pk_un (by omega), pk_un (by omega), hA' _ (by omega) (by omega), hB' _ (by omega) (by omega), Nat.add_sub_cancel]
        exact h4
      · obtain ⟨e1, e2⟩ := el p hp' hM hk
        rw [e1, pk_un (by omega), pk_un (by omega), hA _ e2, hB _ e2]
        exact h4
  · intro i hi
    by_cases c1 : i < r
    · have hrf : r ≤ f := by rw [← hr, h1]; exact pq_rk_nw
      obtain ⟨p, hp, hM, hpr⟩ := h3 i (by omega)
      by_cases hk : (S p).toInt < (S n).toInt
      · have := (eg p hp hk).2
        omega
      · exact ⟨p, by omega, hM, by rw [(el p hp hM hk).1]; exact hpr⟩
    · by_cases c2 : i = r
      · exact ⟨n, by omega, hm, by rw [en, c2]⟩
      · obtain ⟨p, hp, hM, hpr⟩ := h3 (i - 1) (by omega)
        by_cases hk : (S p).toInt < (S n).toInt
        · exact ⟨p, by omega, hM, by rw [(eg p hp hk).1]; omega⟩
        · have := (el p hp hM hk).2
          omega
end
end
section
def pq_cn (ws : Nat → Int32) (x : Int32) : Nat → Nat
  | 0 => 0
  | n + 1 => pq_cn ws x n + (if ws n = x then 1 else 0)
theorem pq_cn_le (ws : Nat → Int32) (x : Int32) (n : Nat) : pq_cn ws x n ≤ n := by
  induction n with
  | zero => exact Nat.le_refl 0
  | succ n ih =>
    show pq_cn ws x n + (if ws n = x then 1 else 0) ≤ n + 1
    by_cases h : ws n = x
    · rw [if_pos h]; omega
    · rw [if_neg h]; omega
theorem pq_cn_pos {ws : Nat → Int32} {x : Int32} {n i : Nat} (hi : i < n) (h : ws i = x) : 0 < pq_cn ws x n := by
  induction n with
  | zero => omega
  | succ n ih =>
    show 0 < pq_cn ws x n + (if ws n = x then 1 else 0)
    by_cases e : i = n
    · subst e
      rw [if_pos h]; omega
    · have := ih (by omega)
      omega
theorem pq_cn_congr {ws ws' : Nat → Int32} {x : Int32} {n : Nat} (h : ∀ i, i < n → ws' i = ws i) : pq_cn ws' x n = pq_cn ws x n := by
  induction n with
  | zero => rfl
  | succ n ih =>
    show pq_cn ws' x n + (if ws' n = x then 1 else 0) = pq_cn ws x n + (if ws n = x then 1 else 0)
    rw [ih (fun i hi => h i (by omega)), h n (by omega)]
def pq_bs (ws : Nat → Int32) (x y : Int32) : Nat → Bool
  | 0 => false
  | n + 1 => pq_bs ws x y n || decide (ws n = x ∧ ws (n + 1) = y)
theorem pq_bs_mono {ws : Nat → Int32} {x y : Int32} {n m : Nat} (hn : n ≤ m) (h : pq_bs ws x y n = true) : pq_bs ws x y m = true := by
  induction m with
  | zero =>
    have : n = 0 := by omega
    subst this
    exact h
  | succ m ih =>
    by_cases e : n = m + 1
    · subst e
      exact h
    · show (pq_bs ws x y m || decide (ws m = x ∧ ws (m + 1) = y)) = true
      rw [ih (by omega), Bool.true_or]
theorem pq_bs_hit {ws : Nat → Int32} {x y : Int32} {n : Nat} (h1 : ws n = x) (h2 : ws (n + 1) = y) : pq_bs ws x y (n + 1) = true := by
  show (pq_bs ws x y n || decide (ws n = x ∧ ws (n + 1) = y)) = true
  rw [decide_eq_true ⟨h1, h2⟩, Bool.or_true]
theorem pq_bs_miss {ws : Nat → Int32} {x y : Int32} {n : Nat} (h : pq_bs ws x y n = false) (h2 : ¬ (ws n = x ∧ ws (n + 1) = y)) : pq_bs ws x y (n + 1) = false := by
  show (pq_bs ws x y n || decide (ws n = x ∧ ws (n + 1) = y)) = false
  rw [decide_eq_false h2, Bool.or_false]
  exact h
theorem pq_bs_ex {ws : Nat → Int32} {x y : Int32} {n : Nat} (h : pq_bs ws x y n = true) : ∃ i, i < n ∧ ws i = x := by
  induction n with
  | zero => exact absurd h Bool.false_ne_true
  | succ n ih =>
    by_cases c : ws n = x ∧ ws (n + 1) = y
    · exact ⟨n, by omega, c.1⟩
    · have h' : (pq_bs ws x y n || decide (ws n = x ∧ ws (n + 1) = y)) = true := h
      rw [decide_eq_false c, Bool.or_false] at h'
      obtain ⟨i, hi, e⟩ := ih h'
      exact ⟨i, by omega, e⟩
theorem pq_bs_congr {ws ws' : Nat → Int32} {x y : Int32} {n : Nat} (h : ∀ i, i ≤ n → ws' i = ws i) : pq_bs ws' x y n = pq_bs ws x y n := by
  induction n with
  | zero => rfl
  | succ n ih =>
    show (pq_bs ws' x y n || decide (ws' n = x ∧ ws' (n + 1) = y)) = (pq_bs ws x y n || decide (ws n = x ∧ ws (n + 1) = y))
    rw [ih (fun i hi => h i (by omega)), h n (by omega), h (n + 1) (by omega)]
def pq_ev (nb : Int32) (kd fi sy ws : Nat → Int32) (L j : Nat) : Nat :=
  if kd j = 1 then (if pq_cn ws (fi j) L = 0 then 1 else 0)
  else if kd j = 3 then (if pq_bs ws (fi j) (sy j) (L - 1) = true then 1 else 0)
  else if kd j = 4 then (if nb < fi j then 0 else if sy j < nb then 0 else 1)
  else if kd j = 2 then (if pq_cn ws (fi j) L = 0 then 1 else 2)
  else (if pq_cn ws (fi j) L = 0 then 0 else 1)
section
variable {nb : Int32} {kd fi sy ws : Nat → Int32} {L j : Nat}
theorem pq_ev1 (h : kd j = 1) : pq_ev nb kd fi sy ws L j = (if pq_cn ws (fi j) L = 0 then 1 else 0) := by
  unfold pq_ev
  rw [if_pos h]
theorem pq_ev3 (h : kd j = 3) : pq_ev nb kd fi sy ws L j = (if pq_bs ws (fi j) (sy j) (L - 1) = true then 1 else 0) := by
  unfold pq_ev
  rw [if_neg (by rw [h]; decide), if_pos h]
theorem pq_ev4 (h : kd j = 4) : pq_ev nb kd fi sy ws L j = (if nb < fi j then 0 else if sy j < nb then 0 else 1) := by
  unfold pq_ev
  rw [if_neg (by rw [h]; decide), if_neg (by rw [h]; decide), if_pos h]
theorem pq_ev2 (h : kd j = 2) : pq_ev nb kd fi sy ws L j = (if pq_cn ws (fi j) L = 0 then 1 else 2) := by
  unfold pq_ev
  rw [if_neg (by rw [h]; decide), if_neg (by rw [h]; decide), if_neg (by rw [h]; decide), if_pos h]
theorem pq_ev0 (h : kd j = 0) : pq_ev nb kd fi sy ws L j = (if pq_cn ws (fi j) L = 0 then 0 else 1) := by
  unfold pq_ev
  rw [if_neg (by rw [h]; decide), if_neg (by rw [h]; decide), if_neg (by rw [h]; decide), if_neg (by rw [h]; decide)]
theorem pq_ev_sure (h : kd j = 0 ∨ kd j = 3) (he : pq_ev nb kd fi sy ws L j ≠ 0) : pq_cn ws (fi j) L ≠ 0 := by
  rcases h with h | h
  · intro z
    rw [pq_ev0 h, if_pos z] at he
    exact he rfl
  · intro z
    rw [pq_ev3 h] at he
    by_cases c : pq_bs ws (fi j) (sy j) (L - 1) = true
    · obtain ⟨i, hi, e⟩ := pq_bs_ex c
      have := pq_cn_pos (n := L) (i := i) (by omega) e
      omega
    · rw [if_neg c] at he
      exact he rfl
theorem pq_ev_two (hk : kd j = 0 ∨ kd j = 1 ∨ kd j = 2 ∨ kd j = 3 ∨ kd j = 4) (he : pq_ev nb kd fi sy ws L j = 2) : kd j = 2 ∧ pq_cn ws (fi j) L ≠ 0 := by
  rcases hk with h | h | h | h | h
  · rw [pq_ev0 h] at he
    split at he <;> omega
  · rw [pq_ev1 h] at he
    split at he <;> omega
  · refine ⟨h, ?_⟩
    rw [pq_ev2 h] at he
    intro z
    rw [if_pos z] at he
    omega
  · rw [pq_ev3 h] at he
    split at he <;> omega
  · rw [pq_ev4 h] at he
    split at he
    · omega
    · split at he <;> omega
end
def pq_ck (ev : Nat → Nat) (l : Int32) : Nat → Nat → Nat → Int32
  | 0, _, m => if nI m < l then 0 else 1
  | d + 1, j, m => if ev j = 0 then 0 else if ev j = 2 then pq_ck ev l d (j + 1) (m + 1) else pq_ck ev l d (j + 1) m
section
variable {ev : Nat → Nat} {l : Int32}
theorem pq_ck_z {d j m : Nat} (h : ev j = 0) : pq_ck ev l (d + 1) j m = 0 := by
  show (if ev j = 0 then (0 : Int32) else _) = 0
  rw [if_pos h]
theorem pq_ck_1 {d j m : Nat} (h : ev j = 1) : pq_ck ev l (d + 1) j m = pq_ck ev l d (j + 1) m := by
  show (if ev j = 0 then (0 : Int32) else if ev j = 2 then pq_ck ev l d (j + 1) (m + 1) else pq_ck ev l d (j + 1) m) = _
  rw [if_neg (by omega), if_neg (by omega)]
theorem pq_ck_2 {d j m : Nat} (h : ev j = 2) : pq_ck ev l (d + 1) j m = pq_ck ev l d (j + 1) (m + 1) := by
  show (if ev j = 0 then (0 : Int32) else if ev j = 2 then pq_ck ev l d (j + 1) (m + 1) else pq_ck ev l d (j + 1) m) = _
  rw [if_neg (by omega), if_pos h]
theorem pq_ck_all : ∀ d j m, pq_ck ev l d j m ≠ 0 → ∀ i, j ≤ i → i < j + d → ev i ≠ 0 := by
  intro d
  induction d with
  | zero => intro j m _ i h1 h2; omega
  | succ d ih =>
    intro j m h i h1 h2
    by_cases e : ev j = 0
    · rw [pq_ck_z e] at h
      exact absurd rfl h
    · by_cases c : i = j
      · subst c
        exact e
      · have h' : (if ev j = 0 then (0 : Int32) else if ev j = 2 then pq_ck ev l d (j + 1) (m + 1) else pq_ck ev l d (j + 1) m) ≠ 0 := h
        rw [if_neg e] at h'
        by_cases c2 : ev j = 2
        · rw [if_pos c2] at h'
          exact ih _ _ h' i (by omega) (by omega)
        · rw [if_neg c2] at h'
          exact ih _ _ h' i (by omega) (by omega)
theorem pq_ck_met : ∀ d j m, pq_ck ev l d j m ≠ 0 → nI m < l → ∃ i, j ≤ i ∧ i < j + d ∧ ev i = 2 := by
  intro d
  induction d with
  | zero =>
    intro j m h hl
    have h' : (if nI m < l then (0 : Int32) else 1) ≠ 0 := h
    rw [if_pos hl] at h'
    exact absurd rfl h'
  | succ d ih =>
    intro j m h hl
    by_cases e : ev j = 0
    · rw [pq_ck_z e] at h
      exact absurd rfl h
    · by_cases c2 : ev j = 2
      · exact ⟨j, by omega, by omega, c2⟩
      · have h' : (if ev j = 0 then (0 : Int32) else if ev j = 2 then pq_ck ev l d (j + 1) (m + 1) else pq_ck ev l d (j + 1) m) ≠ 0 := h
        rw [if_neg e, if_neg c2] at h'
        obtain ⟨i, h1, h2, h3⟩ := ih _ _ h' hl
        exact ⟨i, by omega, by omega, h3⟩
theorem pq_ck_01 : ∀ d j m, pq_ck ev l d j m = 0 ∨ pq_ck ev l d j m = 1 := by
  intro d
  induction d with
  | zero =>
    intro j m
    show (if nI m < l then (0 : Int32) else 1) = 0 ∨ (if nI m < l then (0 : Int32) else 1) = 1
    by_cases h : nI m < l
    · rw [if_pos h]; exact Or.inl rfl
    · rw [if_neg h]; exact Or.inr rfl
  | succ d ih =>
    intro j m
    by_cases e : ev j = 0
    · exact Or.inl (pq_ck_z e)
    · show (if ev j = 0 then (0 : Int32) else if ev j = 2 then pq_ck ev l d (j + 1) (m + 1) else pq_ck ev l d (j + 1) m) = 0 ∨ (if ev j = 0 then (0 : Int32) else if ev j = 2 then pq_ck ev l d (j + 1) (m + 1) else pq_ck ev l d (j + 1) m) = 1
      rw [if_neg e]
      by_cases c2 : ev j = 2
      · rw [if_pos c2]; exact ih _ _
      · rw [if_neg c2]; exact ih _ _
end
def pq_c (cl : Nat → Int32) (q : Nat) : Nat := (cl q).toNatClampNeg
theorem pq_c_of {cl : Nat → Int32} {q c : Nat} (h : cl q = nI c) (hc : c ≤ 6) : pq_c cl q = c := by
  show (cl q).toNatClampNeg = c
  rw [h, pq_cl (by omega)]
def pq_mv (nb : Int32) (us le cl kd fi sy ws : Nat → Int32) (L q : Nat) : Int32 := if us q = 0 then 0 else pq_ck (pq_ev nb kd fi sy ws L) (le q) (pq_c cl q) (6 * q) 0
def pq_M (nb : Int32) (us le cl kd fi sy ws : Nat → Int32) (L q : Nat) : Bool := decide (¬ pq_mv nb us le cl kd fi sy ws L q = 0)
def pq_s1 (kd fi ws : Nat → Int32) (L j : Nat) (s : Int32) : Int32 := if kd j = 0 ∨ kd j = 2 then s + nI (pq_cn ws (fi j) L) else if kd j = 3 then s + 5 else s
def pq_sc (kd fi ws : Nat → Int32) (L : Nat) : Nat → Nat → Int32 → Int32
  | 0, _, s => s
  | d + 1, j, s => pq_sc kd fi ws L d (j + 1) (pq_s1 kd fi ws L j s)
def pq_S (cl kd fi ws : Nat → Int32) (L q : Nat) : Int32 := pq_sc kd fi ws L (pq_c cl q) (6 * q) 0
theorem pq_M_t {nb : Int32} {us le cl kd fi sy ws : Nat → Int32} {L q : Nat} : pq_M nb us le cl kd fi sy ws L q = true ↔ ¬ pq_mv nb us le cl kd fi sy ws L q = 0 := decide_eq_true_iff
theorem pq_mv_u {nb : Int32} {us le cl kd fi sy ws : Nat → Int32} {L q : Nat} (h : ¬ us q = 0) : pq_mv nb us le cl kd fi sy ws L q = pq_ck (pq_ev nb kd fi sy ws L) (le q) (pq_c cl q) (6 * q) 0 := if_neg h
theorem pq_mv_n {nb : Int32} {us le cl kd fi sy ws : Nat → Int32} {L q : Nat} (h : us q = 0) : pq_mv nb us le cl kd fi sy ws L q = 0 := if_pos h
def pq_FP (le cl kd fi : Nat → Int32) (al : Int32) (fl : Nat → Int32) (q : Nat) : Prop :=
  bt al q = true ∨ (∃ i, 6 * q ≤ i ∧ i < 6 * q + pq_c cl q ∧ (kd i = 0 ∨ kd i = 3) ∧ bt (fl (fi i).toNatClampNeg) q = true) ∨ (¬ le q = 0 ∧ ∀ i, 6 * q ≤ i → i < 6 * q + pq_c cl q → kd i = 2 → bt (fl (fi i).toNatClampNeg) q = true)
def pq_Fi (al : Int32) (us le cl kd fi fl : Nat → Int32) : Prop :=
  ∀ q, q < 12 → (us q = 0 → bt al q = false ∧ ∀ t, t < 24 → bt (fl t) q = false) ∧ (¬ us q = 0 → pq_FP le cl kd fi al fl q)
def pq_K (k f s s' : Int32) : Prop := (k = 0 ∨ k = 1 ∨ k = 2 ∨ k = 3 ∨ k = 4) ∧ (¬ k = 4 → ∃ t, t < 24 ∧ f = nI t) ∧ (k = 3 → ∃ t, t < 24 ∧ s = nI t) ∧ (k = 3 ∨ k = 4 → s = s')
def pq_St (le cl kd fi se sy : Nat → Int32) : Prop :=
  (∀ q, q < 12 → cl q = nI (pq_c cl q) ∧ pq_c cl q ≤ 6 ∧ ¬ le q < 0) ∧ (∀ j, j < 72 → pq_K (kd j) (fi j) (se j) (sy j))
def pq_Dc (L : Nat) (lw : Int32) (ct bh ws : Nat → Int32) : Prop :=
  L ≤ 16 ∧ (∀ i, i < L → ∃ t, t < 24 ∧ ws i = nI t) ∧ (L = 0 → lw < 0) ∧ (0 < L → lw = ws (L - 1)) ∧ (∀ t, t < 24 → ct t = nI (pq_cn ws (nI t) L)) ∧ (∀ t, t < 24 → ∀ s, s < 24 → bt (bh t) s = pq_bs ws (nI t) (nI s) (L - 1))
theorem pq_cand {nb al : Int32} {us le cl kd fi se sy ws fl : Nat → Int32} {L q : Nat} (hS : pq_St le cl kd fi se sy) (hF : pq_Fi al us le cl kd fi fl) (hq : q < 12) (h : pq_M nb us le cl kd fi sy ws L q = true) :
    bt al q = true ∨ ∃ t, t < 24 ∧ pq_cn ws (nI t) L ≠ 0 ∧ bt (fl t) q = true := by
  have hm := pq_M_t.mp h
  by_cases hu : us q = 0
  · exact absurd (pq_mv_n hu) hm
  · rw [pq_mv_u hu] at hm
    have hc := (hS.1 q hq)
    rcases (hF q hq).2 hu with a | ⟨i, h1, h2, h3, h4⟩ | ⟨h1, h2⟩
    · exact Or.inl a
    · obtain ⟨t, ht, e⟩ := (hS.2 i (by omega)).2.1 (by rcases h3 with h3 | h3 <;> rw [h3] <;> decide)
      have h5 := pq_ev_sure h3 (pq_ck_all _ _ _ hm i h1 h2)
      rw [e] at h5
      rw [e, pq_cl (by omega)] at h4
      exact Or.inr ⟨t, ht, h5, h4⟩
    · have hl : nI 0 < le q := by
        rw [nI_0]
        have h3 := hc.2.2
        rw [Int32.lt_iff_toInt_lt] at h3 ⊢
        have h4 : ¬ (le q).toInt = (0 : Int32).toInt := fun z => h1 (Int32.toInt_inj.mp z)
        omega
      obtain ⟨i, h3, h4, h5⟩ := pq_ck_met _ _ _ hm hl
      obtain ⟨h6, h7⟩ := pq_ev_two (hS.2 i (by omega)).1 h5
      obtain ⟨t, ht, e⟩ := (hS.2 i (by omega)).2.1 (by rw [h6]; decide)
      have h8 := h2 i h3 h4 h6
      rw [e] at h7
      rw [e, pq_cl (by omega)] at h8
      exact Or.inr ⟨t, ht, h7, h8⟩
end
section
def pq_isQ (us : Nat → Int32) (p : Int32) : Prop := ∃ q, q < 12 ∧ p = nI q ∧ ¬ us q = 0
def pq_isT (p : Int32) : Prop := ∃ t, t < 24 ∧ p = nI t
section
variable {al wd nb lw fd : Int32} {us le cl kd fi se fl ak ct bh fq fs : Nat → Int32}
theorem pq_xnoQ1 {post : Int32 → Prop} {p : Int32} (h : ¬ pq_isQ us p) (hp : post 1) : wpX_noQuery post (al, wd, nb, lw, fd, us, le, cl, kd, fi, se, fl, ak, ct, bh, fq, fs) p := by
  by_cases h0 : p < 0
  · exact br_t h0 hp
  · by_cases h1 : 12 ≤ p
    · exact br_f h0 (br_t h1 hp)
    · obtain ⟨j, hj, rfl⟩ := pq_lt (n := 12) (by decide) h0 h1
      have z : us (nI j).toNatClampNeg = 0 := by
        rw [pq_cl (by omega)]
        by_cases c : us j = 0
        · exact c
        · exact absurd ⟨j, hj, rfl, c⟩ h
      exact br_f h0 (br_f h1 ⟨vp_in_nI hj (by decide), br_t z hp⟩)
theorem pq_xnoQ0 {post : Int32 → Prop} {q : Nat} (hq : q < 12) (hu : ¬ us q = 0) (hp : post 0) : wpX_noQuery post (al, wd, nb, lw, fd, us, le, cl, kd, fi, se, fl, ak, ct, bh, fq, fs) (nI q) := by
  have z : ¬ us (nI q).toNatClampNeg = 0 := by
    rw [pq_cl (by omega)]
    exact hu
  exact br_f (nI_pos (by omega)) (br_f (nI_ge (b := 12) hq (by decide)) ⟨vp_in_nI hq (by decide), br_f z hp⟩)
theorem pq_xbT1 {post : Int32 → Prop} {p : Int32} (h : ¬ pq_isT p) (hp : post 1) : wpX_badTerm post p := by
  by_cases h0 : p < 0
  · exact br_t h0 hp
  · have h1 : ¬ p < 24 := by
      intro z
      obtain ⟨j, hj, rfl⟩ := pq_lt (p := p) (n := 24) (by decide) h0 (Int32.not_le.mpr z)
      exact h ⟨j, hj, rfl⟩
    exact br_f h0 (br_f h1 hp)
theorem pq_xbT0 {post : Int32 → Prop} {t : Nat} (ht : t < 24) (hp : post 0) : wpX_badTerm post (nI t) :=
  br_f (nI_pos (by omega)) (br_t (nI_lt (b := 24) ht (by decide)) hp)
theorem pq_xsure {post : Int32 → Prop} {j : Nat} (hj : j < 72) (h1 : (kd j = 0 ∨ kd j = 3) → post 1) (h0 : post 0) : wpX_sure post (al, wd, nb, lw, fd, us, le, cl, kd, fi, se, fl, ak, ct, bh, fq, fs) (nI j) := by
  have e : kd (nI j).toNatClampNeg = kd j := by rw [pq_cl (by omega)]
  have hv : vp_in (nI j) 72 := vp_in_nI hj (by decide)
  by_cases c0 : kd j = 0
  · exact ⟨hv, br_t (e.trans c0) (h1 (Or.inl c0))⟩
  · by_cases c3 : kd j = 3
    · exact ⟨hv, br_f (fun z => c0 (e.symm.trans z)) ⟨hv, br_t (e.trans c3) (h1 (Or.inr c3))⟩⟩
    · exact ⟨hv, br_f (fun z => c0 (e.symm.trans z)) ⟨hv, br_f (fun z => c3 (e.symm.trans z)) h0⟩⟩
theorem pq_xcnt5 {post : SX → Prop} {q c : Nat} {by1 : Int32} (hq : q < 12) (hc : cl q = nI c) (h6 : c ≤ 6) (hK : ∀ j, j < 72 → (kd j = 0 ∨ kd j = 3) → ∃ t, t < 24 ∧ fi j = nI t) (H : ∀ ak', post (al, wd, nb, lw, fd, us, le, cl, kd, fi, se, fl, ak', ct, bh, fq, fs)) :
    ∀ d n j ak, d < n → j + d = 6 * q + c → wX_count_5 post (nI q) by1 al wd nb lw fd n (nI j) us le cl kd fi se fl ak ct bh fq fs := by
  intro d
  induction d with
  | zero =>
    intro n j ak hn hj
    obtain ⟨m, rfl⟩ : ∃ m, n = m + 1 := ⟨n - 1, by omega⟩
    exact ⟨vp_in_nI hq (by decide), br_t (pq_le6 hq hc (by omega) (by omega)) (H ak)⟩
  | succ d ih =>
    intro n j ak hn hj
    obtain ⟨m, rfl⟩ : ∃ m, n = m + 1 := ⟨n - 1, by omega⟩
    refine ⟨vp_in_nI hq (by decide), br_f (pq_nle6 hq hc (by omega) h6) (pq_xsure (by omega) ?_ ?_)⟩
    · intro hs
      obtain ⟨t, ht, e⟩ := hK j (by omega) hs
      have e' : fi (nI j).toNatClampNeg = nI t := by rw [pq_cl (by omega)]; exact e
      have hv : vp_in (fi (nI j).toNatClampNeg) 24 := by rw [e']; exact vp_in_nI ht (by decide)
      exact br_f (by decide) ⟨vp_in_nI (by omega) (by decide), hv, hv, fun ak' _ => nm_r (nI_1 j) (ih m (j + 1) ak' (by omega) (by omega))⟩
    · exact br_t rfl (nm_r (nI_1 j) (ih m (j + 1) ak (by omega) (by omega)))
theorem pq_xcount {post : SX → Prop} {q c : Nat} {by1 : Int32} (hq : q < 12) (hc : cl q = nI c) (h6 : c ≤ 6) (hK : ∀ j, j < 72 → (kd j = 0 ∨ kd j = 3) → ∃ t, t < 24 ∧ fi j = nI t) (H : ∀ ak', post (al, wd, nb, lw, fd, us, le, cl, kd, fi, se, fl, ak', ct, bh, fq, fs)) : wpX_count post (al, wd, nb, lw, fd, us, le, cl, kd, fi, se, fl, ak, ct, bh, fq, fs) (nI q) by1 :=
  nm_r (pq_m6 q) ⟨c + 1, pq_xcnt5 hq hc h6 hK H c (c + 1) (6 * q) ak (by omega) rfl⟩
theorem pq_xunf16 {post : SX → Prop} {q c : Nat} {fl0 : Nat → Int32} (hq : q < 12) (hc : cl q = nI c) (h6 : c ≤ 6) (hK : ∀ j, j < 72 → (kd j = 0 ∨ kd j = 3) → ∃ t, t < 24 ∧ fi j = nI t)
    (H : ∀ fl' ak', (∀ i, i < 24 → fl' i = fl0 i &&& (((1 : Int32) <<< (nI q &&& 31)) ^^^ (-1))) → post (al, wd, nb, lw, fd, us, le, cl, kd, fi, se, fl', ak', ct, bh, fq, fs)) :
    ∀ d n t fl, d < n → t + d = 24 → (∀ i, i < t → fl i = fl0 i &&& (((1 : Int32) <<< (nI q &&& 31)) ^^^ (-1))) → (∀ i, t ≤ i → fl i = fl0 i) → wX_unfile_16 post (nI q) al wd nb lw fd n (nI t) us le cl kd fi se fl ak ct bh fq fs := by
  intro d
  induction d with
  | zero =>
    intro n t fl hn ht h1 h2
    obtain ⟨m, rfl⟩ : ∃ m, n = m + 1 := ⟨n - 1, by omega⟩
    refine br_t (nI_le (a := 24) (by omega) (by omega)) (pq_xcount hq hc h6 hK ?_)
    intro ak'
    exact H fl ak' (fun i hi => h1 i (by omega))
  | succ d ih =>
    intro n t fl hn ht h1 h2
    obtain ⟨m, rfl⟩ : ∃ m, n = m + 1 := ⟨n - 1, by omega⟩
    have hv : vp_in (nI t) 24 := vp_in_nI (by omega) (by decide)
    refine br_f (nI_ge (b := 24) (by omega) (by decide)) ⟨hv, hv, ?_⟩
    refine nm_r (e' := upd fl t (fl t &&& (((1 : Int32) <<< (nI q &&& 31)) ^^^ (-1)))) (by rw [pq_cl (by omega)]) ?_
    refine nm_r (nI_1 t) (ih m (t + 1) _ (by omega) (by omega) ?_ ?_)
    · intro i hi
      by_cases e : i = t
      · subst e
        rw [pk_us, h2 i (by omega)]
      · rw [pk_un e]
        exact h1 i (by omega)
    · intro i hi
      rw [pk_un (by omega)]
      exact h2 i (by omega)
theorem pq_xunfile {post : SX → Prop} {q c : Nat} (hq : q < 12) (hc : cl q = nI c) (h6 : c ≤ 6) (hK : ∀ j, j < 72 → (kd j = 0 ∨ kd j = 3) → ∃ t, t < 24 ∧ fi j = nI t)
    (H : ∀ al' fl' ak', (∀ p, p < 12 → p ≠ q → bt al' p = bt al p ∧ ∀ t, t < 24 → bt (fl' t) p = bt (fl t) p) → (bt al' q = false ∧ ∀ t, t < 24 → bt (fl' t) q = false) → post (al', wd, nb, lw, fd, us, le, cl, kd, fi, se, fl', ak', ct, bh, fq, fs)) : wpX_unfile post (al, wd, nb, lw, fd, us, le, cl, kd, fi, se, fl, ak, ct, bh, fq, fs) (nI q) := by
  refine nm_e ⟨25, ?_⟩
  refine pq_xunf16 (fl0 := fl) hq hc h6 hK ?_ 24 25 0 fl (by decide) rfl (fun i hi => absurd hi (Nat.not_lt_zero i)) (fun i _ => rfl)
  intro fl' ak' h
  refine H _ fl' ak' ?_ ?_
  · intro p hp hpq
    refine ⟨pq_clr_n _ (by omega) (by omega) hpq, ?_⟩
    intro t ht
    rw [h t ht]
    exact pq_clr_n _ (by omega) (by omega) hpq
  · refine ⟨pq_clr_s _ (by omega), ?_⟩
    intro t ht
    rw [h t ht]
    exact pq_clr_s _ (by omega)
theorem pq_xrar7 {post : Int32 → Prop} {q c : Nat} (hq : q < 12) (hc : cl q = nI c) (h6 : c ≤ 6) (hK : ∀ j, j < 72 → (kd j = 0 ∨ kd j = 3) → ∃ t, t < 24 ∧ fi j = nI t)
    (H : ∀ r, (r < 0 ∨ ∃ i, 6 * q ≤ i ∧ i < 6 * q + c ∧ (kd i = 0 ∨ kd i = 3) ∧ r = fi i) → post r) :
    ∀ d n j r, d < n → j + d = 6 * q + c → 6 * q ≤ j → (r < 0 ∨ ∃ i, 6 * q ≤ i ∧ i < j ∧ (kd i = 0 ∨ kd i = 3) ∧ r = fi i) → wX_rarest_7 post (nI q) al wd nb lw fd us le cl kd fi se fl ak ct bh fq fs n r (nI j) := by
  intro d
  induction d with
  | zero =>
    intro n j r hn hj hj6 hr
    obtain ⟨m, rfl⟩ : ∃ m, n = m + 1 := ⟨n - 1, by omega⟩
    have ej : j = 6 * q + c := by omega
    subst ej
    exact ⟨vp_in_nI hq (by decide), br_t (pq_le6 hq hc (Nat.le_refl _) (by omega)) (H r hr)⟩
  | succ d ih =>
    intro n j r hn hj hj6 hr
    obtain ⟨m, rfl⟩ : ∃ m, n = m + 1 := ⟨n - 1, by omega⟩
    have hr' : r < 0 ∨ ∃ i, 6 * q ≤ i ∧ i < j + 1 ∧ (kd i = 0 ∨ kd i = 3) ∧ r = fi i := by
      rcases hr with a | ⟨i, a, b, c1, d1⟩
      · exact Or.inl a
      · exact Or.inr ⟨i, a, by omega, c1, d1⟩
    have hv : vp_in (nI j) 72 := vp_in_nI (by omega) (by decide)
    have hg : ∀ x, (x < 0 ∨ ∃ i, 6 * q ≤ i ∧ i < j + 1 ∧ (kd i = 0 ∨ kd i = 3) ∧ x = fi i) → wX_rarest_7 post (nI q) al wd nb lw fd us le cl kd fi se fl ak ct bh fq fs m x (nI (j + 1)) := fun x hx => ih m (j + 1) x (by omega) (by omega) (by omega) hx
    refine ⟨vp_in_nI hq (by decide), br_f (pq_nle6 hq hc (by omega) h6) (pq_xsure (by omega) ?_ ?_)⟩
    · intro hs
      obtain ⟨t, ht, e⟩ := hK j (by omega) hs
      have e' : fi (nI j).toNatClampNeg = fi j := by rw [pq_cl (by omega)]
      have hvf : vp_in (fi (nI j).toNatClampNeg) 24 := by rw [e', e]; exact vp_in_nI ht (by decide)
      have hnew : wX_rarest_7 post (nI q) al wd nb lw fd us le cl kd fi se fl ak ct bh fq fs m (fi j) (nI (j + 1)) := hg (fi j) (Or.inr ⟨j, by omega, by omega, hs, rfl⟩)
      refine br_f (by decide) ?_
      by_cases hr0 : r < 0
      · exact br_t hr0 ⟨hv, nm_r e' (nm_r (nI_1 j) hnew)⟩
      · have hvr : vp_in r 24 := by
          rcases hr with a | ⟨i, a, b, c1, d1⟩
          · exact absurd a hr0
          · obtain ⟨t', ht', e2⟩ := hK i (by omega) c1
            rw [d1, e2]
            exact vp_in_nI ht' (by decide)
        exact br_f hr0 ⟨hv, hvf, hvr, br_c (fun _ => nm_r (nI_1 j) (hg r hr')) (fun _ => ⟨hv, nm_r e' (nm_r (nI_1 j) hnew)⟩)⟩
    · exact br_t rfl (nm_r (nI_1 j) (hg r hr'))
theorem pq_xrarest {post : Int32 → Prop} {q c : Nat} (hq : q < 12) (hc : cl q = nI c) (h6 : c ≤ 6) (hK : ∀ j, j < 72 → (kd j = 0 ∨ kd j = 3) → ∃ t, t < 24 ∧ fi j = nI t)
    (H : ∀ r, (r < 0 ∨ ∃ i, 6 * q ≤ i ∧ i < 6 * q + c ∧ (kd i = 0 ∨ kd i = 3) ∧ r = fi i) → post r) : wpX_rarest post (al, wd, nb, lw, fd, us, le, cl, kd, fi, se, fl, ak, ct, bh, fq, fs) (nI q) :=
  nm_r (pq_m6 q) ⟨c + 1, pq_xrar7 hq hc h6 hK H c (c + 1) (6 * q) (-1) (by omega) rfl (Nat.le_refl _) (Or.inl (by decide))⟩
theorem pq_xfile56 {post : SX → Prop} {q c : Nat} {fl0 : Nat → Int32} (hq : q < 12) (hc : cl q = nI c) (h6 : c ≤ 6) (hK : ∀ j, j < 72 → kd j = 2 → ∃ t, t < 24 ∧ fi j = nI t)
    (H : ∀ fl', (∀ p, p < 12 → p ≠ q → ∀ t, t < 24 → bt (fl' t) p = bt (fl0 t) p) → (∀ i, 6 * q ≤ i → i < 6 * q + c → kd i = 2 → bt (fl' (fi i).toNatClampNeg) q = true) → post (al, wd, nb, lw, fd, us, le, cl, kd, fi, se, fl', ak, ct, bh, fq, fs)) :
    ∀ d n j fl, d < n → j + d = 6 * q + c → 6 * q ≤ j → (∀ p, p < 12 → p ≠ q → ∀ t, t < 24 → bt (fl t) p = bt (fl0 t) p) → (∀ i, 6 * q ≤ i → i < j → kd i = 2 → bt (fl (fi i).toNatClampNeg) q = true) → wX_file_56 post (nI q) al wd nb lw fd n (nI j) us le cl kd fi se fl ak ct bh fq fs := by
  intro d
  induction d with
  | zero =>
    intro n j fl hn hj hj6 h1 h2
    obtain ⟨m, rfl⟩ : ∃ m, n = m + 1 := ⟨n - 1, by omega⟩
    exact ⟨vp_in_nI hq (by decide), br_t (pq_le6 hq hc (by omega) (by omega)) (H fl h1 (fun i a b => h2 i a (by omega)))⟩
  | succ d ih =>
    intro n j fl hn hj hj6 h1 h2
    obtain ⟨m, rfl⟩ : ∃ m, n = m + 1 := ⟨n - 1, by omega⟩
    have hv : vp_in (nI j) 72 := vp_in_nI (by omega) (by decide)
    have ek : kd (nI j).toNatClampNeg = kd j := by rw [pq_cl (by omega)]
    refine ⟨vp_in_nI hq (by decide), br_f (pq_nle6 hq hc (by omega) h6) ⟨hv, ?_⟩⟩
    by_cases hk : kd j = 2
    · obtain ⟨t, ht, e⟩ := hK j (by omega) hk
      have e' : fi (nI j).toNatClampNeg = nI t := by rw [pq_cl (by omega)]; exact e
      have hvf : vp_in (fi (nI j).toNatClampNeg) 24 := by rw [e']; exact vp_in_nI ht (by decide)
      refine br_t (ek.trans hk) ⟨hv, hvf, hvf, ?_⟩
      refine nm_r (e' := upd fl t (fl t ||| ((1 : Int32) <<< (nI q &&& 31)))) (by rw [e', pq_cl (n := t) (by omega)]) ?_
      refine nm_r (nI_1 j) (ih m (j + 1) _ (by omega) (by omega) (by omega) ?_ ?_)
      · intro p hp hpq s hs
        by_cases es : s = t
        · subst es
          rw [pk_us, pq_set_n _ (by omega) (by omega) hpq]
          exact h1 p hp hpq s hs
        · rw [pk_un es]
          exact h1 p hp hpq s hs
      · intro i hi hi2 hki
        by_cases es : (fi i).toNatClampNeg = t
        · rw [es, pk_us, pq_set_s _ (by omega)]
        · rw [pk_un es]
          by_cases ei : i = j
          · subst ei
            rw [e, pq_cl (by omega)] at es
            exact absurd rfl es
          · exact h2 i hi (by omega) hki
    · refine br_f (fun z => hk (ek.symm.trans z)) (nm_r (nI_1 j) (ih m (j + 1) fl (by omega) (by omega) (by omega) h1 ?_))
      intro i hi hi2 hki
      by_cases ei : i = j
      · subst ei
        exact absurd hki hk
      · exact h2 i hi (by omega) hki
theorem pq_xfile {post : SX → Prop} {q c : Nat} (hq : q < 12) (hc : cl q = nI c) (h6 : c ≤ 6) (hK : ∀ j, j < 72 → ¬ kd j = 4 → ∃ t, t < 24 ∧ fi j = nI t)
    (H : ∀ al' fl' ak', (∀ p, p < 12 → p ≠ q → bt al' p = bt al p ∧ ∀ t, t < 24 → bt (fl' t) p = bt (fl t) p) → pq_FP le cl kd fi al' fl' q → post (al', wd, nb, lw, fd, us, le, cl, kd, fi, se, fl', ak', ct, bh, fq, fs)) : wpX_file post (al, wd, nb, lw, fd, us, le, cl, kd, fi, se, fl, ak, ct, bh, fq, fs) (nI q) := by
  have hK1 : ∀ j, j < 72 → (kd j = 0 ∨ kd j = 3) → ∃ t, t < 24 ∧ fi j = nI t := by
    intro j hj h
    exact hK j hj (by rcases h with h | h <;> rw [h] <;> decide)
  have hK2 : ∀ j, j < 72 → kd j = 2 → ∃ t, t < 24 ∧ fi j = nI t := by
    intro j hj h
    exact hK j hj (by rw [h]; decide)
  have ec : pq_c cl q = c := pq_c_of hc h6
  have el : le (nI q).toNatClampNeg = le q := by rw [pq_cl (by omega)]
  have hvq : vp_in (nI q) 12 := vp_in_nI hq (by decide)
  refine pq_xcount hq hc h6 hK1 ?_
  intro ak'
  refine pq_xrarest hq hc h6 hK1 ?_
  intro r hr
  by_cases hr0 : r < 0
  · refine br_t hr0 ⟨hvq, ?_⟩
    by_cases hl : le q = 0
    · refine br_t (el.trans hl) (nm_e (H _ fl ak' ?_ (Or.inl (pq_set_s _ (by omega)))))
      intro p hp hpq
      exact ⟨pq_set_n _ (by omega) (by omega) hpq, fun t ht => rfl⟩
    · refine br_f (fun z => hl (el.symm.trans z)) (nm_r (pq_m6 q) ⟨c + 1, ?_⟩)
      refine pq_xfile56 (fl0 := fl) hq hc h6 hK2 ?_ c (c + 1) (6 * q) fl (by omega) rfl (Nat.le_refl _) (fun p hp hpq t ht => rfl) (fun i a b => absurd b (by omega))
      intro fl' h1 h2
      refine H al fl' ak' (fun p hp hpq => ⟨rfl, h1 p hp hpq⟩) (Or.inr (Or.inr ⟨hl, ?_⟩))
      rw [ec]
      exact h2
  · rcases hr with a | ⟨i, hi1, hi2, hi3, hi4⟩
    · exact absurd a hr0
    · obtain ⟨t, ht, e⟩ := hK1 i (by omega) hi3
      have er : r = nI t := hi4.trans e
      subst er
      have hvr : vp_in (nI t) 24 := vp_in_nI ht (by decide)
      refine br_f hr0 ⟨hvr, hvr, nm_r (e' := upd fl t (fl t ||| ((1 : Int32) <<< (nI q &&& 31)))) (by rw [pq_cl (n := t) (by omega)]) (H al _ ak' ?_ (Or.inr (Or.inl ⟨i, hi1, ?_, hi3, ?_⟩)))⟩
      · intro p hp hpq
        refine ⟨rfl, ?_⟩
        intro s hs
        by_cases es : s = t
        · subst es
          rw [pk_us, pq_set_n _ (by omega) (by omega) hpq]
        · rw [pk_un es]
      · rw [ec]
        exact hi2
      · rw [← hi4, pq_cl (by omega), pk_us, pq_set_s _ (by omega)]
theorem pq_xaddF {post : Int32 → SX → Prop} {q c : Nat} {k f s : Int32} (hq : q < 12) (hc : cl q = nI c) (h6 : 6 ≤ c) (hc9 : c < 100) (H : post (-3) (al, wd, nb, lw, fd, us, le, cl, kd, fi, se, fl, ak, ct, bh, fq, fs)) : wpX_add post (al, wd, nb, lw, fd, us, le, cl, kd, fi, se, fl, ak, ct, bh, fq, fs) (nI q) k f s := by
  have e : ¬ cl (nI q).toNatClampNeg < 6 := by
    rw [pq_cl (by omega), hc]
    exact nI_nlt (b := 6) h6 (by omega)
  exact ⟨vp_in_nI hq (by decide), br_f e H⟩
theorem pq_xadd {post : Int32 → SX → Prop} {q c : Nat} {k f s : Int32} (hq : q < 12) (hc : cl q = nI c) (h6 : c < 6) (hK : ∀ j, j < 72 → ¬ kd j = 4 → ∃ t, t < 24 ∧ fi j = nI t) (hKn : ¬ k = 4 → ∃ t, t < 24 ∧ f = nI t)
    (H : ∀ al' fl' ak', (∀ p, p < 12 → p ≠ q → bt al' p = bt al p ∧ ∀ t, t < 24 → bt (fl' t) p = bt (fl t) p) → pq_FP le (upd cl q (nI (c + 1))) (upd kd (6 * q + c) k) (upd fi (6 * q + c) f) al' fl' q →
      post (nI (c + 1)) (al', wd, nb, lw, fd, us, le, upd cl q (nI (c + 1)), upd kd (6 * q + c) k, upd fi (6 * q + c) f, upd se (6 * q + c) s, fl', ak', ct, bh, fq, fs)) : wpX_add post (al, wd, nb, lw, fd, us, le, cl, kd, fi, se, fl, ak, ct, bh, fq, fs) (nI q) k f s := by
  have hK1 : ∀ j, j < 72 → (kd j = 0 ∨ kd j = 3) → ∃ t, t < 24 ∧ fi j = nI t := by
    intro j hj h
    exact hK j hj (by rcases h with h | h <;> rw [h] <;> decide)
  have e : cl (nI q).toNatClampNeg < 6 := by
    rw [pq_cl (by omega), hc]
    exact nI_lt (b := 6) h6 (by decide)
  have hvq : vp_in (nI q) 12 := vp_in_nI hq (by decide)
  have hva : vp_in (nI (6 * q + c)) 72 := vp_in_nI (by omega) (by decide)
  have eI : (nI (6 * q + c)).toNatClampNeg = 6 * q + c := pq_cl (by omega)
  have eq' : (nI q).toNatClampNeg = q := pq_cl (by omega)
  refine ⟨hvq, br_t e (pq_xunfile hq hc (by omega) hK1 ?_)⟩
  intro al1 fl1 ak1 h1 h2
  refine ⟨hvq, nm_r (pq_e6 hq hc) ⟨hva, ?_⟩⟩
  refine nm_r (e' := upd kd (6 * q + c) k) (by rw [eI]) ⟨hva, ?_⟩
  refine nm_r (e' := upd fi (6 * q + c) f) (by rw [eI]) ⟨hva, ?_⟩
  refine nm_r (e' := upd se (6 * q + c) s) (by rw [eI]) ⟨hvq, hvq, ?_⟩
  refine nm_r (e' := upd cl q (nI (c + 1))) (by rw [eq', hc, nI_1]) ?_
  refine pq_xfile (c := c + 1) hq pk_us (by omega) ?_ ?_
  · intro j hj hk
    by_cases ej : j = 6 * q + c
    · subst ej
      rw [pk_us] at hk ⊢
      exact hKn hk
    · rw [pk_un ej] at hk ⊢
      exact hK j hj hk
  · intro al2 fl2 ak2 h3 h4
    refine ⟨hvq, ?_⟩
    have er : upd cl q (nI (c + 1)) (nI q).toNatClampNeg = nI (c + 1) := by rw [eq', pk_us]
    rw [er]
    refine H al2 fl2 ak2 ?_ h4
    intro p hp hpq
    refine ⟨(h3 p hp hpq).1.trans (h1 p hp hpq).1, ?_⟩
    intro t ht
    exact ((h3 p hp hpq).2 t ht).trans ((h1 p hp hpq).2 t ht)
end
end
section
section
variable {al wd nb lw fd : Int32} {us le cl kd fi se fl ak ct bh fq fs : Nat → Int32} {sy ws : Nat → Int32} {L : Nat}
theorem pq_ct (hD : pq_Dc L lw ct bh ws) {x : Int32} (hx : ∃ t, t < 24 ∧ x = nI t) : vp_in x 24 ∧ ct x.toNatClampNeg = nI (pq_cn ws x L) := by
  obtain ⟨t, ht, e⟩ := hx
  subst e
  exact ⟨vp_in_nI ht (by decide), by rw [pq_cl (n := t) (by omega)]; exact hD.2.2.2.2.1 t ht⟩
theorem pq_cn16 (hD : pq_Dc L lw ct bh ws) (x : Int32) : pq_cn ws x L ≤ 16 := Nat.le_trans (pq_cn_le ws x L) hD.1
theorem pq_n0le {n : Nat} (h : n = 0) : nI n ≤ 0 := by
  rw [h]
  decide +kernel
theorem pq_xholds {post : Int32 → Prop} {j : Nat} (hj : j < 72) (hD : pq_Dc L lw ct bh ws) (hK : pq_K (kd j) (fi j) (se j) (sy j)) (H0 : pq_ev nb kd fi sy ws L j = 0 → post 0) (H1 : ¬ pq_ev nb kd fi sy ws L j = 0 → post 1) : wpX_holds post (al, wd, nb, lw, fd, us, le, cl, kd, fi, se, fl, ak, ct, bh, fq, fs) (nI j) := by
  have ek : kd (nI j).toNatClampNeg = kd j := by rw [pq_cl (by omega)]
  have ef : fi (nI j).toNatClampNeg = fi j := by rw [pq_cl (by omega)]
  have es : se (nI j).toNatClampNeg = se j := by rw [pq_cl (by omega)]
  have hv : vp_in (nI j) 72 := vp_in_nI hj (by decide)
  have h16 := pq_cn16 hD (fi j)
  obtain ⟨hk, hf, hs, hss⟩ := hK
  rcases hk with h | h | h | h | h
  · obtain ⟨hvf, ec⟩ := pq_ct hD (hf (by rw [h]; decide))
    rw [← ef] at hvf ec
    refine ⟨hv, nm_r (e' := 0) (ek.trans h) (br_f (by decide) (br_f (by decide) (br_t rfl ⟨hv, hvf, ?_⟩)))⟩
    rw [ec, ef]
    by_cases z : pq_cn ws (fi j) L = 0
    · exact br_t (pq_n0le z) (H0 (by rw [pq_ev0 h, if_pos z]))
    · exact br_f (nI_nle (by omega) (by omega)) (H1 (by rw [pq_ev0 h, if_neg z]; decide))
  · obtain ⟨hvf, ec⟩ := pq_ct hD (hf (by rw [h]; decide))
    rw [← ef] at hvf ec
    refine ⟨hv, nm_r (e' := 1) (ek.trans h) (br_f (by decide) (br_f (by decide) (br_f (by decide) (br_t rfl ⟨hv, hvf, ?_⟩))))⟩
    rw [ec, ef]
    by_cases z : pq_cn ws (fi j) L = 0
    · exact br_t (by rw [z, nI_0]) (H1 (by rw [pq_ev1 h, if_pos z]; decide))
    · exact br_f (nI_ne0 (by omega) (by omega)) (H0 (by rw [pq_ev1 h, if_neg z]))
  · refine ⟨hv, nm_r (e' := 2) (ek.trans h) (br_f (by decide) (br_f (by decide) (br_f (by decide) (br_f (by decide) (br_t rfl (H1 ?_))))))⟩
    rw [pq_ev2 h]
    split <;> decide
  · obtain ⟨hvf, ec⟩ := pq_ct hD (hf (by rw [h]; decide))
    obtain ⟨t, ht, et⟩ := hf (by rw [h]; decide)
    obtain ⟨s, hs1, hs2⟩ := hs h
    rw [← ef] at hvf
    refine ⟨hv, nm_r (e' := 3) (ek.trans h) (br_f (by decide) (br_f (by decide) (br_f (by decide) (br_f (by decide) (br_f (by decide) (br_t rfl ⟨hv, hvf, hv, ?_⟩))))))⟩
    have eb : pq_bs ws (fi j) (sy j) (L - 1) = bt (bh t) s := by
      rw [← hss (Or.inl h), et, hs2]
      exact (hD.2.2.2.2.2 t ht s hs1).symm
    rw [ef, es, et, hs2, pq_cl (n := t) (by omega), pq_tst _ (by omega)]
    by_cases z : bt (bh t) s = true
    · exact br_t z (H1 (by rw [pq_ev3 h, eb, if_pos z]; decide))
    · exact br_f z (H0 (by rw [pq_ev3 h, eb, if_neg z]))
  · refine ⟨hv, nm_r (e' := 4) (ek.trans h) (br_f (by decide) (br_f (by decide) (br_f (by decide) (br_f (by decide) (br_f (by decide) (br_f (by decide) (br_t rfl ⟨hv, ?_⟩)))))))⟩
    have e2 := hss (Or.inr h)
    rw [ef, es, e2]
    by_cases z : nb < fi j
    · exact br_t z (H0 (by rw [pq_ev4 h, if_pos z]))
    · by_cases z2 : sy j < nb
      · exact br_f z ⟨hv, br_t z2 (H0 (by rw [pq_ev4 h, if_neg z, if_pos z2]))⟩
      · exact br_f z ⟨hv, br_f z2 (H1 (by rw [pq_ev4 h, if_neg z, if_neg z2]; decide))⟩
theorem pq_ev_le {j : Nat} (h : ¬ kd j = 2) : pq_ev nb kd fi sy ws L j ≤ 1 := by
  unfold pq_ev
  repeat' split
  all_goals first | omega | exact absurd ‹kd j = 2› h
theorem pq_xck7 {post : Int32 → Prop} {q c : Nat} (hq : q < 12) (hc : cl q = nI c) (h6 : c ≤ 6) (hD : pq_Dc L lw ct bh ws) (hK : ∀ j, j < 72 → pq_K (kd j) (fi j) (se j) (sy j)) :
    ∀ d n j m, d < n → j + d = 6 * q + c → post (pq_ck (pq_ev nb kd fi sy ws L) (le q) d j m) → wX_check_7 post (nI q) al wd nb lw fd us le cl kd fi se fl ak ct bh fq fs n (nI m) (nI j) := by
  intro d
  induction d with
  | zero =>
    intro n j m hn hj hp
    obtain ⟨n', rfl⟩ : ∃ m, n = m + 1 := ⟨n - 1, by omega⟩
    have el : le (nI q).toNatClampNeg = le q := by rw [pq_cl (by omega)]
    refine ⟨vp_in_nI hq (by decide), br_t (pq_le6 hq hc (by omega) (by omega)) ⟨vp_in_nI hq (by decide), ?_⟩⟩
    rw [el]
    have hp' : post (if nI m < le q then 0 else 1) := hp
    by_cases z : nI m < le q
    · rw [if_pos z] at hp'
      exact br_t z hp'
    · rw [if_neg z] at hp'
      exact br_f z hp'
  | succ d ih =>
    intro n j m hn hj hp
    obtain ⟨n', rfl⟩ : ∃ m, n = m + 1 := ⟨n - 1, by omega⟩
    have hv : vp_in (nI j) 72 := vp_in_nI (by omega) (by decide)
    have ek : kd (nI j).toNatClampNeg = kd j := by rw [pq_cl (by omega)]
    have ef : fi (nI j).toNatClampNeg = fi j := by rw [pq_cl (by omega)]
    have h16 := pq_cn16 hD (fi j)
    refine ⟨vp_in_nI hq (by decide), br_f (pq_nle6 hq hc (by omega) h6) (pq_xholds (by omega) hD (hK j (by omega)) ?_ ?_)⟩
    · intro h0
      rw [pq_ck_z h0] at hp
      exact br_t rfl hp
    · intro h0
      refine br_f (by decide) ⟨hv, ?_⟩
      by_cases hk : kd j = 2
      · obtain ⟨hvf, ec⟩ := pq_ct hD ((hK j (by omega)).2.1 (by rw [hk]; decide))
        rw [← ef] at hvf ec
        refine br_t (ek.trans hk) ⟨hv, hvf, ?_⟩
        rw [ec, ef]
        by_cases z : pq_cn ws (fi j) L = 0
        · rw [pq_ck_1 (by rw [pq_ev2 hk, if_pos z])] at hp
          exact br_t (pq_n0le z) (nm_r (nI_1 j) (ih n' (j + 1) m (by omega) (by omega) hp))
        · rw [pq_ck_2 (by rw [pq_ev2 hk, if_neg z])] at hp
          exact br_f (nI_nle (by omega) (by omega)) (nm_r (nI_1 m) (nm_r (nI_1 j) (ih n' (j + 1) (m + 1) (by omega) (by omega) hp)))
      · have h1 := pq_ev_le (nb := nb) (fi := fi) (sy := sy) (ws := ws) (L := L) hk
        rw [pq_ck_1 (by omega)] at hp
        exact br_f (fun z => hk (ek.symm.trans z)) (nm_r (nI_1 j) (ih n' (j + 1) m (by omega) (by omega) hp))
theorem pq_xcheck {post : Int32 → Prop} {q : Nat} (hq : q < 12) (hu : ¬ us q = 0) (hS : pq_St le cl kd fi se sy) (hD : pq_Dc L lw ct bh ws) (hp : post (pq_mv nb us le cl kd fi sy ws L q)) : wpX_check post (al, wd, nb, lw, fd, us, le, cl, kd, fi, se, fl, ak, ct, bh, fq, fs) (nI q) := by
  rw [pq_mv_u hu] at hp
  exact nm_r (pq_m6 q) ⟨pq_c cl q + 1, pq_xck7 hq (hS.1 q hq).1 (hS.1 q hq).2.1 hD hS.2 _ _ _ 0 (by omega) rfl hp⟩
theorem pq_xsc7 {post : Int32 → Prop} {q c : Nat} (hq : q < 12) (hc : cl q = nI c) (h6 : c ≤ 6) (hD : pq_Dc L lw ct bh ws) (hK : ∀ j, j < 72 → pq_K (kd j) (fi j) (se j) (sy j)) :
    ∀ d n j s, d < n → j + d = 6 * q + c → post (pq_sc kd fi ws L d j s) → wX_scoreOf_7 post (nI q) al wd nb lw fd us le cl kd fi se fl ak ct bh fq fs n s (nI j) := by
  intro d
  induction d with
  | zero =>
    intro n j s hn hj hp
    obtain ⟨n', rfl⟩ : ∃ m, n = m + 1 := ⟨n - 1, by omega⟩
    exact ⟨vp_in_nI hq (by decide), br_t (pq_le6 hq hc (by omega) (by omega)) hp⟩
  | succ d ih =>
    intro n j s hn hj hp
    obtain ⟨n', rfl⟩ : ∃ m, n = m + 1 := ⟨n - 1, by omega⟩
    have hv : vp_in (nI j) 72 := vp_in_nI (by omega) (by decide)
    have ek : kd (nI j).toNatClampNeg = kd j := by rw [pq_cl (by omega)]
    have ef : fi (nI j).toNatClampNeg = fi j := by rw [pq_cl (by omega)]
    have hp' : post (pq_sc kd fi ws L d (j + 1) (pq_s1 kd fi ws L j s)) := hp
    have h41 : (kd j = 0 ∨ kd j = 2) → wX_scoreOf_41 post (wX_scoreOf_7 post (nI q) al wd nb lw fd us le cl kd fi se fl ak ct bh fq fs n') (nI q) s (nI j) al wd nb lw fd us le cl kd fi se fl ak ct bh fq fs := by
      intro hk
      obtain ⟨hvf, ec⟩ := pq_ct hD ((hK j (by omega)).2.1 (by rcases hk with hk | hk <;> rw [hk] <;> decide))
      rw [← ef] at hvf ec
      unfold pq_s1 at hp'
      rw [if_pos hk] at hp'
      have h3 : ¬ kd (nI j).toNatClampNeg = 3 := by
        rw [ek]
        rcases hk with hk | hk <;> rw [hk] <;> decide
      refine ⟨hv, hvf, nm_r (e' := s + nI (pq_cn ws (fi j) L)) (by rw [ec, ef]) ⟨hv, br_f h3 (nm_r (nI_1 j) (ih n' (j + 1) _ (by omega) (by omega) hp'))⟩⟩
    refine ⟨vp_in_nI hq (by decide), br_f (pq_nle6 hq hc (by omega) h6) ⟨hv, ?_⟩⟩
    by_cases k0 : kd j = 0
    · exact br_t (ek.trans k0) (h41 (Or.inl k0))
    · refine br_f (fun z => k0 (ek.symm.trans z)) ⟨hv, ?_⟩
      by_cases k2 : kd j = 2
      · exact br_t (ek.trans k2) (h41 (Or.inr k2))
      · refine br_f (fun z => k2 (ek.symm.trans z)) ⟨hv, ?_⟩
        unfold pq_s1 at hp'
        rw [if_neg (fun z => z.elim k0 k2)] at hp'
        by_cases k3 : kd j = 3
        · rw [if_pos k3] at hp'
          exact br_t (ek.trans k3) (nm_e (nm_r (nI_1 j) (ih n' (j + 1) _ (by omega) (by omega) hp')))
        · rw [if_neg k3] at hp'
          exact br_f (fun z => k3 (ek.symm.trans z)) (nm_r (nI_1 j) (ih n' (j + 1) _ (by omega) (by omega) hp'))
theorem pq_xscore {post : Int32 → Prop} {q : Nat} (hq : q < 12) (hS : pq_St le cl kd fi se sy) (hD : pq_Dc L lw ct bh ws) (hp : post (pq_S cl kd fi ws L q)) : wpX_scoreOf post (al, wd, nb, lw, fd, us, le, cl, kd, fi, se, fl, ak, ct, bh, fq, fs) (nI q) :=
  nm_r (pq_m6 q) ⟨pq_c cl q + 1, pq_xsc7 hq (hS.1 q hq).1 (hS.1 q hq).2.1 hD hS.2 _ _ _ _ (by omega) rfl hp⟩
end
section
variable {al wd nb lw fd : Int32} {us le cl kd fi se fl ak ct bh fq fs : Nat → Int32} {M : Nat → Bool} {S : Nat → Int32}
theorem pq_xkeep61 {post : SX → Prop} {q f r : Nat} {a b : Nat → Int32} (h : pq_Fd M S q f a b) (hm : M q = true) (hf : f < 12) (hr : pq_rk M S q q = r) (hrf : r ≤ f) (H : ∀ fq' fs', pq_Fd M S (q + 1) (f + 1) fq' fs' → post (al, wd, nb, lw, nI (f + 1), us, le, cl, kd, fi, se, fl, ak, ct, bh, fq', fs'))
    (hA : ∀ i, i < r → fq i = a i) (hA' : ∀ i, r < i → i ≤ f → fq i = a (i - 1)) (hB : ∀ i, i < r → fs i = b i) (hB' : ∀ i, r < i → i ≤ f → fs i = b (i - 1)) : wX_keep_61 post (nI q) (S q) (nI r) al wd nb lw (nI f) us le cl kd fi se fl ak ct bh fq fs := by
  have e : (nI r).toNatClampNeg = r := pq_cl (by omega)
  have hv : vp_in (nI r) 12 := vp_in_nI (by omega) (by decide)
  refine ⟨hv, nm_r (e' := upd fq r (nI q)) (by rw [e]) ⟨hv, nm_r (e' := upd fs r (S q)) (by rw [e]) (nm_r (nI_1 f) (H _ _ ?_))⟩⟩
  exact pq_Fd_ins h hm hr hA hA' hB hB'
theorem pq_xkeep11 {post : SX → Prop} {q f : Nat} {a b : Nat → Int32} (h : pq_Fd M S q f a b) (hm : M q = true) (hf : f < 12) (H : ∀ fq' fs', pq_Fd M S (q + 1) (f + 1) fq' fs' → post (al, wd, nb, lw, nI (f + 1), us, le, cl, kd, fi, se, fl, ak, ct, bh, fq', fs')) :
    ∀ r n fq fs, r < n → pq_rk M S q q ≤ r → r ≤ f → (∀ i, i < r → fq i = a i) → (∀ i, r < i → i ≤ f → fq i = a (i - 1)) → (∀ i, i < r → fs i = b i) → (∀ i, r < i → i ≤ f → fs i = b (i - 1)) →
      wX_keep_11 post (nI q) (S q) al wd nb lw (nI f) n (nI r) us le cl kd fi se fl ak ct bh fq fs := by
  intro r
  induction r with
  | zero =>
    intro n fq fs hn hr hrf hA hA' hB hB'
    obtain ⟨n', rfl⟩ : ∃ m, n = m + 1 := ⟨n - 1, by omega⟩
    exact br_t (pq_n0le rfl) (pq_xkeep61 h hm hf (by omega) (by omega) H hA hA' hB hB')
  | succ r ih =>
    intro n fq fs hn hr hrf hA hA' hB hB'
    obtain ⟨n', rfl⟩ : ∃ m, n = m + 1 := ⟨n - 1, by omega⟩
    have e1 : (nI (r + 1)).toNatClampNeg = r + 1 := pq_cl (by omega)
    have e0 : (nI (r + 1) - 1).toNatClampNeg = r := by rw [nI_pred, pq_cl (by omega)]
    have hv0 : vp_in (nI (r + 1) - 1) 12 := by rw [nI_pred]; exact vp_in_nI (by omega) (by decide)
    have hv1 : vp_in (nI (r + 1)) 12 := vp_in_nI (by omega) (by decide)
    have eb : fs (nI (r + 1) - 1).toNatClampNeg = b r := by rw [e0]; exact hB r (by omega)
    have hg := pq_guard h (i := r) (by omega)
    refine br_f (nI_nle (by omega) (by omega)) ⟨hv0, ?_⟩
    by_cases c : pq_rk M S q q ≤ r
    · have hlt : ¬ S q ≤ fs (nI (r + 1) - 1).toNatClampNeg := by
        rw [eb]
        exact Int32.not_le.mpr (hg.mpr c)
      refine br_f hlt ⟨hv0, hv1, nm_r (e' := upd fq (r + 1) (a r)) (by rw [e1, e0, hA r (by omega)]) ⟨hv0, hv1, nm_r (e' := upd fs (r + 1) (b r)) (by rw [e1, eb]) (nm_r (pk_m1 r) (ih n' _ _ (by omega) c (by omega) ?_ ?_ ?_ ?_))⟩⟩
      · intro i hi
        rw [pk_un (by omega)]
        exact hA i (by omega)
      · intro i hi hi2
        by_cases ei : i = r + 1
        · subst ei
          rw [pk_us, Nat.add_sub_cancel]
        · rw [pk_un ei]
          exact hA' i (by omega) hi2
      · intro i hi
        rw [pk_un (by omega)]
        exact hB i (by omega)
      · intro i hi hi2
        by_cases ei : i = r + 1
        · subst ei
          rw [pk_us, Nat.add_sub_cancel]
        · rw [pk_un ei]
          exact hB' i (by omega) hi2
    · have hge : S q ≤ fs (nI (r + 1) - 1).toNatClampNeg := by
        rw [eb]
        exact Int32.not_lt.mp (fun z => c (hg.mp z))
      exact br_t hge (pq_xkeep61 h hm hf (by omega) (by omega) H hA hA' hB hB')
end
section
variable {al wd nb lw fd : Int32} {us le cl kd fi se fl ak ct bh fq fs : Nat → Int32} {sy ws : Nat → Int32} {L : Nat}
theorem pq_xkeep {post : SX → Prop} {q f : Nat} {M : Nat → Bool} (hq : q < 12) (hS : pq_St le cl kd fi se sy) (hD : pq_Dc L lw ct bh ws) (h : pq_Fd M (pq_S cl kd fi ws L) q f fq fs) (hm : M q = true)
    (H : ∀ fq' fs', pq_Fd M (pq_S cl kd fi ws L) (q + 1) (f + 1) fq' fs' → post (al, wd, nb, lw, nI (f + 1), us, le, cl, kd, fi, se, fl, ak, ct, bh, fq', fs')) : wpX_keep post (al, wd, nb, lw, nI f, us, le, cl, kd, fi, se, fl, ak, ct, bh, fq, fs) (nI q) := by
  refine pq_xscore hq hS hD ⟨f + 1, ?_⟩
  have hf : f ≤ q := by rw [h.1]; exact pq_cnt_le M q
  exact pq_xkeep11 h hm (by omega) H f (f + 1) fq fs (by omega) (by rw [h.1]; exact pq_rk_nw) (Nat.le_refl _) (fun i _ => rfl) (fun i a b => absurd b (by omega)) (fun i _ => rfl) (fun i a b => absurd b (by omega))
theorem pq_xperc44 {post : SX → Prop} {mk : Int32} (hS : pq_St le cl kd fi se sy) (hD : pq_Dc L lw ct bh ws)
    (h0 : ∀ q, q < 12 → bt mk q = true → ¬ us q = 0) (h1 : ∀ q, q < 12 → pq_M nb us le cl kd fi sy ws L q = true → bt mk q = true)
    (H : ∀ f fq' fs', pq_Fd (pq_M nb us le cl kd fi sy ws L) (pq_S cl kd fi ws L) 12 f fq' fs' → post (al, wd, nb, lw, nI f, us, le, cl, kd, fi, se, fl, ak, ct, bh, fq', fs')) :
    ∀ d n q f fq fs, d < n → q + d = 12 → pq_Fd (pq_M nb us le cl kd fi sy ws L) (pq_S cl kd fi ws L) q f fq fs → wX_percolate_44 post mk n (nI q) al wd nb lw (nI f) us le cl kd fi se fl ak ct bh fq fs := by
  intro d
  induction d with
  | zero =>
    intro n q f fq fs hn hq hF
    obtain ⟨n', rfl⟩ : ∃ m, n = m + 1 := ⟨n - 1, by omega⟩
    have eq' : q = 12 := by omega
    subst eq'
    exact br_t (nI_le (a := 12) (Nat.le_refl _) (by decide)) (H f fq fs hF)
  | succ d ih =>
    intro n q f fq fs hn hq hF
    obtain ⟨n', rfl⟩ : ∃ m, n = m + 1 := ⟨n - 1, by omega⟩
    refine br_f (nI_ge (b := 12) (by omega) (by decide)) ?_
    by_cases hb : bt mk q = true
    · refine br_t ((pq_tst mk (by omega)).mpr hb) (pq_xcheck (by omega) (h0 q (by omega) hb) hS hD ?_)
      by_cases hm : pq_mv nb us le cl kd fi sy ws L q = 0
      · refine br_t hm (nm_r (nI_1 q) (ih n' (q + 1) f fq fs (by omega) (by omega) (pq_Fd_skip hF (fun z => pq_M_t.mp z hm))))
      · refine br_f hm (pq_xkeep (by omega) hS hD hF (pq_M_t.mpr hm) ?_)
        intro fq' fs' hF'
        exact nm_r (nI_1 q) (ih n' (q + 1) (f + 1) fq' fs' (by omega) (by omega) hF')
    · refine br_f (fun z => hb ((pq_tst mk (by omega)).mp z)) (nm_r (nI_1 q) (ih n' (q + 1) f fq fs (by omega) (by omega) (pq_Fd_skip hF (fun z => hb (h1 q (by omega) z)))))
theorem pq_xperc7 {post : SX → Prop} (hS : pq_St le cl kd fi se sy) (hD : pq_Dc L lw ct bh ws) (hF : pq_Fi al us le cl kd fi fl)
    (H : ∀ f fq' fs', pq_Fd (pq_M nb us le cl kd fi sy ws L) (pq_S cl kd fi ws L) 12 f fq' fs' → post (al, wd, nb, lw, nI f, us, le, cl, kd, fi, se, fl, ak, ct, bh, fq', fs')) :
    ∀ d n t mk, d < n → t + d = 24 → (∀ q, q < 12 → us q = 0 → bt mk q = false) → (∀ q, q < 12 → bt al q = true → bt mk q = true) → (∀ q, q < 12 → ∀ s, s < t → pq_cn ws (nI s) L ≠ 0 → bt (fl s) q = true → bt mk q = true) → wX_percolate_7 post al wd nb lw fd us le cl kd fi se fl ak ct bh fq fs n mk (nI t) := by
  intro d
  induction d with
  | zero =>
    intro n t mk hn ht a1 a2 a3
    obtain ⟨n', rfl⟩ : ∃ m, n = m + 1 := ⟨n - 1, by omega⟩
    refine br_t (nI_le (a := 24) (by omega) (by omega)) ⟨13, ?_⟩
    refine pq_xperc44 (mk := mk) hS hD ?_ ?_ H 12 13 0 0 fq fs (by decide) rfl pq_Fd_0
    · intro q hq hb hu
      rw [a1 q hq hu] at hb
      exact absurd hb (by decide)
    · intro q hq hM
      rcases pq_cand hS hF hq hM with c | ⟨s, hs, c1, c2⟩
      · exact a2 q hq c
      · exact a3 q hq s (by omega) c1 c2
  | succ d ih =>
    intro n t mk hn ht a1 a2 a3
    obtain ⟨n', rfl⟩ : ∃ m, n = m + 1 := ⟨n - 1, by omega⟩
    have hv : vp_in (nI t) 24 := vp_in_nI (by omega) (by decide)
    have ef : fl (nI t).toNatClampNeg = fl t := by rw [pq_cl (by omega)]
    have ec : ct (nI t).toNatClampNeg = nI (pq_cn ws (nI t) L) := (pq_ct hD ⟨t, by omega, rfl⟩).2
    have h16 := pq_cn16 hD (nI t)
    refine br_f (nI_ge (b := 24) (by omega) (by decide)) ⟨hv, ?_⟩
    rw [ec]
    by_cases z : pq_cn ws (nI t) L = 0
    · refine br_t (pq_n0le z) (nm_r (nI_1 t) (ih n' (t + 1) mk (by omega) (by omega) a1 a2 ?_))
      intro q hq s hs c1 c2
      by_cases es : s = t
      · subst es
        exact absurd z c1
      · exact a3 q hq s (by omega) c1 c2
    · refine br_f (nI_nle (by omega) (by omega)) ⟨hv, nm_r (e' := mk ||| fl t) (by rw [ef]) (nm_r (nI_1 t) (ih n' (t + 1) _ (by omega) (by omega) ?_ ?_ ?_))⟩
      · intro q hq hu
        rw [b_or, a1 q hq hu, ((hF q hq).1 hu).2 t (by omega)]
        rfl
      · intro q hq hb
        rw [b_or, a2 q hq hb, Bool.true_or]
      · intro q hq s hs c1 c2
        by_cases es : s = t
        · subst es
          rw [b_or, c2, Bool.or_true]
        · rw [b_or, a3 q hq s (by omega) c1 c2, Bool.true_or]
theorem pq_xperc {post : SX → Prop} (hS : pq_St le cl kd fi se sy) (hD : pq_Dc L lw ct bh ws) (hF : pq_Fi al us le cl kd fi fl)
    (H : ∀ f fq' fs', pq_Fd (pq_M nb us le cl kd fi sy ws L) (pq_S cl kd fi ws L) 12 f fq' fs' → post (al, wd, nb, lw, nI f, us, le, cl, kd, fi, se, fl, ak, ct, bh, fq', fs')) : wpX_percolate post (al, wd, nb, lw, fd, us, le, cl, kd, fi, se, fl, ak, ct, bh, fq, fs) :=
  ⟨25, pq_xperc7 hS hD hF H 24 25 0 al (by decide) rfl (fun q hq hu => ((hF q hq).1 hu).1) (fun q hq h => h) (fun q hq s hs => absurd hs (Nat.not_lt_zero s))⟩
end
end
section
section
variable {ln nb : Int32} {us le cl kd fi sy ws : Nat → Int32} {L : Nat}
theorem pq_yisQ0 {post : Int32 → Prop} {p : Int32} (h : ¬ pq_isQ us p) (hp : post 0) : wpY_isQuery post (ln, nb, us, le, cl, kd, fi, sy, ws) p := by
  by_cases h0 : p < 0
  · exact br_t h0 hp
  · by_cases h1 : 12 ≤ p
    · exact br_f h0 (br_t h1 hp)
    · obtain ⟨j, hj, rfl⟩ := pq_lt (n := 12) (by decide) h0 h1
      have z : us (nI j).toNatClampNeg = 0 := by
        rw [pq_cl (by omega)]
        by_cases c : us j = 0
        · exact c
        · exact absurd ⟨j, hj, rfl, c⟩ h
      exact br_f h0 (br_f h1 ⟨vp_in_nI hj (by decide), br_t z hp⟩)
theorem pq_yisQ1 {post : Int32 → Prop} {q : Nat} (hq : q < 12) (hu : ¬ us q = 0) (hp : post 1) : wpY_isQuery post (ln, nb, us, le, cl, kd, fi, sy, ws) (nI q) := by
  have z : ¬ us (nI q).toNatClampNeg = 0 := by
    rw [pq_cl (by omega)]
    exact hu
  exact br_f (nI_pos (by omega)) (br_f (nI_ge (b := 12) hq (by decide)) ⟨vp_in_nI hq (by decide), br_f z hp⟩)
theorem pq_yisT0 {post : Int32 → Prop} {p : Int32} (h : ¬ pq_isT p) (hp : post 0) : wpY_isTerm post (ln, nb, us, le, cl, kd, fi, sy, ws) p := by
  by_cases h0 : p < 0
  · exact br_t h0 hp
  · by_cases h1 : 24 ≤ p
    · exact br_f h0 (br_t h1 hp)
    · exact absurd (pq_lt (n := 24) (by decide) h0 h1) h
theorem pq_yisT1 {post : Int32 → Prop} {t : Nat} (ht : t < 24) (hp : post 1) : wpY_isTerm post (ln, nb, us, le, cl, kd, fi, sy, ws) (nI t) :=
  br_f (nI_pos (by omega)) (br_f (nI_ge (b := 24) ht (by decide)) hp)
theorem pq_yoft4 {post : Int32 → Prop} {x : Int32} (hL : L ≤ 16) (hp : post (nI (pq_cn ws x L))) :
    ∀ d n i, d < n → i + d = L → wY_often_4 post x (nI L) nb us le cl kd fi sy ws n (nI (pq_cn ws x i)) (nI i) := by
  intro d
  induction d with
  | zero =>
    intro n i hn hi
    obtain ⟨n', rfl⟩ : ∃ m, n = m + 1 := ⟨n - 1, by omega⟩
    have e : i = L := by omega
    subst e
    exact br_t (nI_le (Nat.le_refl _) (by omega)) hp
  | succ d ih =>
    intro n i hn hi
    obtain ⟨n', rfl⟩ : ∃ m, n = m + 1 := ⟨n - 1, by omega⟩
    have ew : ws (nI i).toNatClampNeg = ws i := by rw [pq_cl (by omega)]
    have hx := ih n' (i + 1) (by omega) (by omega)
    refine br_f (nI_ge (by omega) (by omega)) ⟨vp_in_nI (by omega) (by decide), ?_⟩
    by_cases z : ws i = x
    · have e : pq_cn ws x (i + 1) = pq_cn ws x i + 1 := by
        show pq_cn ws x i + (if ws i = x then 1 else 0) = _
        rw [if_pos z]
      rw [e] at hx
      exact br_t (ew.trans z) (nm_r (nI_1 _) (nm_r (nI_1 i) hx))
    · have e : pq_cn ws x (i + 1) = pq_cn ws x i := by
        show pq_cn ws x i + (if ws i = x then 1 else 0) = _
        rw [if_neg z, Nat.add_zero]
      rw [e] at hx
      exact br_f (fun y => z (ew.symm.trans y)) (nm_r (nI_1 i) hx)
theorem pq_yoften {post : Int32 → Prop} {x : Int32} (hL : L ≤ 16) (hp : post (nI (pq_cn ws x L))) : wpY_often post (nI L, nb, us, le, cl, kd, fi, sy, ws) x :=
  ⟨L + 1, pq_yoft4 hL hp L (L + 1) 0 (by omega) (by omega)⟩
theorem pq_ybes2 {post : Int32 → Prop} {x y : Int32} (hL : L ≤ 16) (h1 : pq_bs ws x y (L - 1) = true → post 1) (h0 : pq_bs ws x y (L - 1) = false → post 0) :
    ∀ d n i, d < n → i + d = L - 1 → pq_bs ws x y i = false → wY_beside_2 post x y (nI L) nb us le cl kd fi sy ws n (nI i) := by
  intro d
  induction d with
  | zero =>
    intro n i hn hi hb
    obtain ⟨n', rfl⟩ : ∃ m, n = m + 1 := ⟨n - 1, by omega⟩
    have e : i = L - 1 := by omega
    refine br_t ?_ (h0 (by rw [← e]; exact hb))
    rw [nI_1]
    exact nI_le (by omega) (by omega)
  | succ d ih =>
    intro n i hn hi hb
    obtain ⟨n', rfl⟩ : ∃ m, n = m + 1 := ⟨n - 1, by omega⟩
    have ew : ws (nI i).toNatClampNeg = ws i := by rw [pq_cl (by omega)]
    have ew1 : ws (nI i + 1).toNatClampNeg = ws (i + 1) := by rw [nI_1, pq_cl (by omega)]
    have hv1 : vp_in (nI i + 1) 16 := by rw [nI_1]; exact vp_in_nI (by omega) (by decide)
    have hc : ¬ nI L ≤ nI i + 1 := by rw [nI_1]; exact nI_ge (by omega) (by omega)
    refine br_f hc ⟨vp_in_nI (by omega) (by decide), ?_⟩
    by_cases z : ws i = x
    · refine br_t (ew.trans z) ⟨hv1, ?_⟩
      by_cases z2 : ws (i + 1) = y
      · exact br_t (ew1.trans z2) (h1 (pq_bs_mono (by omega) (pq_bs_hit z z2)))
      · exact br_f (fun w => z2 (ew1.symm.trans w)) (nm_r (nI_1 i) (ih n' (i + 1) (by omega) (by omega) (pq_bs_miss hb (fun w => z2 w.2))))
    · exact br_f (fun w => z (ew.symm.trans w)) (nm_r (nI_1 i) (ih n' (i + 1) (by omega) (by omega) (pq_bs_miss hb (fun w => z w.1))))
theorem pq_ybeside {post : Int32 → Prop} {x y : Int32} (hL : L ≤ 16) (h1 : pq_bs ws x y (L - 1) = true → post 1) (h0 : pq_bs ws x y (L - 1) = false → post 0) : wpY_beside post (nI L, nb, us, le, cl, kd, fi, sy, ws) x y :=
  ⟨L + 1, pq_ybes2 hL h1 h0 (L - 1) (L + 1) 0 (by omega) (by omega) rfl⟩
theorem pq_yholds {post : Int32 → Prop} {j : Nat} (hj : j < 72) (hL : L ≤ 16) (hk : kd j = 0 ∨ kd j = 1 ∨ kd j = 2 ∨ kd j = 3 ∨ kd j = 4)
    (HA : ¬ kd j = 2 → pq_ev nb kd fi sy ws L j = 0 → post 0) (HB : ¬ kd j = 2 → pq_ev nb kd fi sy ws L j = 1 → post 1) (HC : kd j = 2 → pq_ev nb kd fi sy ws L j = 1 → post 0) (HD : kd j = 2 → pq_ev nb kd fi sy ws L j = 2 → post 1) : wpY_holds post (nI L, nb, us, le, cl, kd, fi, sy, ws) (nI j) := by
  have ek : kd (nI j).toNatClampNeg = kd j := by rw [pq_cl (by omega)]
  have ef : fi (nI j).toNatClampNeg = fi j := by rw [pq_cl (by omega)]
  have es : sy (nI j).toNatClampNeg = sy j := by rw [pq_cl (by omega)]
  have hv : vp_in (nI j) 72 := vp_in_nI hj (by decide)
  have h16 : pq_cn ws (fi j) L ≤ 16 := Nat.le_trans (pq_cn_le ws (fi j) L) hL
  have kne : ∀ a b : Int32, kd j = a → ¬ a = b → ¬ kd (nI j).toNatClampNeg = b := by
    intro a b h1 h2 h3
    exact h2 (h1.symm.trans (ek.symm.trans h3))
  rcases hk with h | h | h | h | h
  · refine ⟨hv, br_f (kne 0 1 h (by decide)) ⟨hv, br_f (kne 0 3 h (by decide)) ⟨hv, br_f (kne 0 4 h (by decide)) ⟨hv, ?_⟩⟩⟩⟩
    rw [ef]
    have h2 : ¬ kd j = 2 := by rw [h]; decide
    refine pq_yoften hL ?_
    by_cases z : pq_cn ws (fi j) L = 0
    · exact br_t (pq_n0le z) (HA h2 (by rw [pq_ev0 h, if_pos z]))
    · exact br_f (nI_nle (by omega) (by omega)) (HB h2 (by rw [pq_ev0 h, if_neg z]))
  · refine ⟨hv, br_t (ek.trans h) ⟨hv, ?_⟩⟩
    rw [ef]
    have h2 : ¬ kd j = 2 := by rw [h]; decide
    refine pq_yoften hL ?_
    by_cases z : pq_cn ws (fi j) L = 0
    · exact br_t (by rw [z, nI_0]) (HB h2 (by rw [pq_ev1 h, if_pos z]))
    · exact br_f (nI_ne0 (by omega) (by omega)) (HA h2 (by rw [pq_ev1 h, if_neg z]))
  · refine ⟨hv, br_f (kne 2 1 h (by decide)) ⟨hv, br_f (kne 2 3 h (by decide)) ⟨hv, br_f (kne 2 4 h (by decide)) ⟨hv, ?_⟩⟩⟩⟩
    rw [ef]
    refine pq_yoften hL ?_
    by_cases z : pq_cn ws (fi j) L = 0
    · exact br_t (pq_n0le z) (HC h (by rw [pq_ev2 h, if_pos z]))
    · exact br_f (nI_nle (by omega) (by omega)) (HD h (by rw [pq_ev2 h, if_neg z]))
  · refine ⟨hv, br_f (kne 3 1 h (by decide)) ⟨hv, br_t (ek.trans h) ⟨hv, hv, ?_⟩⟩⟩
    rw [ef, es]
    have h2 : ¬ kd j = 2 := by rw [h]; decide
    refine pq_ybeside hL ?_ ?_
    · intro z
      exact ⟨narrow_b1, HB h2 (by rw [pq_ev3 h, if_pos z])⟩
    · intro z
      exact ⟨narrow_b0, HA h2 (by rw [pq_ev3 h, z]; rfl)⟩
  · refine ⟨hv, br_f (kne 4 1 h (by decide)) ⟨hv, br_f (kne 4 3 h (by decide)) ⟨hv, br_t (ek.trans h) ⟨hv, ?_⟩⟩⟩⟩
    rw [ef, es]
    have h2 : ¬ kd j = 2 := by rw [h]; decide
    by_cases z : nb < fi j
    · exact br_t z (HA h2 (by rw [pq_ev4 h, if_pos z]))
    · by_cases z2 : sy j < nb
      · exact br_f z ⟨hv, br_t z2 (HA h2 (by rw [pq_ev4 h, if_neg z, if_pos z2]))⟩
      · exact br_f z ⟨hv, br_f z2 (HB h2 (by rw [pq_ev4 h, if_neg z, if_neg z2]))⟩
theorem pq_ymq17 {post : Int32 → Prop} {q c : Nat} (hq : q < 12) (hc : cl q = nI c) (h6 : c ≤ 6) (hL : L ≤ 16) (hK : ∀ j, j < 72 → kd j = 0 ∨ kd j = 1 ∨ kd j = 2 ∨ kd j = 3 ∨ kd j = 4) :
    ∀ d n j m, d < n → j + d = 6 * q + c → post (pq_ck (pq_ev nb kd fi sy ws L) (le q) d j m) → wY_matchesQuery_17 post (nI q) (nI L) nb us le cl kd fi sy ws n (nI m) (nI j) := by
  intro d
  induction d with
  | zero =>
    intro n j m hn hj hp
    obtain ⟨n', rfl⟩ : ∃ m, n = m + 1 := ⟨n - 1, by omega⟩
    have el : le (nI q).toNatClampNeg = le q := by rw [pq_cl (by omega)]
    refine ⟨vp_in_nI hq (by decide), br_t (pq_le6 hq hc (by omega) (by omega)) ⟨vp_in_nI hq (by decide), ?_⟩⟩
    rw [el]
    have hp' : post (if nI m < le q then 0 else 1) := hp
    by_cases z : nI m < le q
    · rw [if_pos z] at hp'
      exact br_t z hp'
    · rw [if_neg z] at hp'
      exact br_f z hp'
  | succ d ih =>
    intro n j m hn hj hp
    obtain ⟨n', rfl⟩ : ∃ m, n = m + 1 := ⟨n - 1, by omega⟩
    have hv : vp_in (nI j) 72 := vp_in_nI (by omega) (by decide)
    have ek : kd (nI j).toNatClampNeg = kd j := by rw [pq_cl (by omega)]
    refine ⟨vp_in_nI hq (by decide), br_f (pq_nle6 hq hc (by omega) h6) (pq_yholds (by omega) hL (hK j (by omega)) ?_ ?_ ?_ ?_)⟩
    · intro hk he
      rw [pq_ck_z he] at hp
      exact ⟨hv, br_f (fun z => hk (ek.symm.trans z)) (br_t rfl hp)⟩
    · intro hk he
      rw [pq_ck_1 he] at hp
      exact ⟨hv, br_f (fun z => hk (ek.symm.trans z)) (br_f (by decide) (nm_r (nI_1 j) (ih n' (j + 1) m (by omega) (by omega) hp)))⟩
    · intro hk he
      rw [pq_ck_1 he] at hp
      exact ⟨hv, br_t (ek.trans hk) (br_t rfl (nm_r (nI_1 j) (ih n' (j + 1) m (by omega) (by omega) hp)))⟩
    · intro hk he
      rw [pq_ck_2 he] at hp
      exact ⟨hv, br_t (ek.trans hk) (br_f (by decide) (nm_r (nI_1 m) (nm_r (nI_1 j) (ih n' (j + 1) (m + 1) (by omega) (by omega) hp))))⟩
theorem pq_ysc7 {post : Int32 → Prop} {q c : Nat} (hq : q < 12) (hc : cl q = nI c) (h6 : c ≤ 6) (hL : L ≤ 16) :
    ∀ d n j s, d < n → j + d = 6 * q + c → post (pq_sc kd fi ws L d j s) → wY_scoreOf_7 post (nI q) (nI L) nb us le cl kd fi sy ws n s (nI j) := by
  intro d
  induction d with
  | zero =>
    intro n j s hn hj hp
    obtain ⟨n', rfl⟩ : ∃ m, n = m + 1 := ⟨n - 1, by omega⟩
    exact ⟨vp_in_nI hq (by decide), br_t (pq_le6 hq hc (by omega) (by omega)) hp⟩
  | succ d ih =>
    intro n j s hn hj hp
    obtain ⟨n', rfl⟩ : ∃ m, n = m + 1 := ⟨n - 1, by omega⟩
    have hv : vp_in (nI j) 72 := vp_in_nI (by omega) (by decide)
    have ek : kd (nI j).toNatClampNeg = kd j := by rw [pq_cl (by omega)]
    have ef : fi (nI j).toNatClampNeg = fi j := by rw [pq_cl (by omega)]
    have hp' : post (pq_sc kd fi ws L d (j + 1) (pq_s1 kd fi ws L j s)) := hp
    have h41 : (kd j = 0 ∨ kd j = 2) → wY_scoreOf_41 post (wY_scoreOf_7 post (nI q) (nI L) nb us le cl kd fi sy ws n') (nI q) s (nI j) (nI L) nb us le cl kd fi sy ws := by
      intro hk
      unfold pq_s1 at hp'
      rw [if_pos hk] at hp'
      have h3 : ¬ kd (nI j).toNatClampNeg = 3 := by
        rw [ek]
        rcases hk with hk | hk <;> rw [hk] <;> decide
      refine And.intro hv ?_
      rw [ef]
      exact pq_yoften hL (nm_e ⟨hv, br_f h3 (nm_r (nI_1 j) (ih n' (j + 1) _ (by omega) (by omega) hp'))⟩)
    refine ⟨vp_in_nI hq (by decide), br_f (pq_nle6 hq hc (by omega) h6) ⟨hv, ?_⟩⟩
    by_cases k0 : kd j = 0
    · exact br_t (ek.trans k0) (h41 (Or.inl k0))
    · refine br_f (fun z => k0 (ek.symm.trans z)) ⟨hv, ?_⟩
      by_cases k2 : kd j = 2
      · exact br_t (ek.trans k2) (h41 (Or.inr k2))
      · refine br_f (fun z => k2 (ek.symm.trans z)) ⟨hv, ?_⟩
        unfold pq_s1 at hp'
        rw [if_neg (fun z => z.elim k0 k2)] at hp'
        by_cases k3 : kd j = 3
        · rw [if_pos k3] at hp'
          exact br_t (ek.trans k3) (nm_e (nm_r (nI_1 j) (ih n' (j + 1) _ (by omega) (by omega) hp')))
        · rw [if_neg k3] at hp'
          exact br_f (fun z => k3 (ek.symm.trans z)) (nm_r (nI_1 j) (ih n' (j + 1) _ (by omega) (by omega) hp'))
end
section
variable {ln nb : Int32} {us le cl kd fi sy ws : Nat → Int32} {L : Nat} {se : Nat → Int32}
theorem pq_yscore {post : Int32 → Prop} {q : Nat} (hq : q < 12) (hS : pq_St le cl kd fi se sy) (hL : L ≤ 16) (hp : post (pq_S cl kd fi ws L q)) : wpY_scoreOf post (nI L, nb, us, le, cl, kd, fi, sy, ws) (nI q) :=
  nm_r (pq_m6 q) ⟨pq_c cl q + 1, pq_ysc7 hq (hS.1 q hq).1 (hS.1 q hq).2.1 hL _ _ _ _ (by omega) rfl hp⟩
theorem pq_ymq {post : Int32 → Prop} {q : Nat} (hq : q < 12) (hS : pq_St le cl kd fi se sy) (hL : L ≤ 16) (hp : post (pq_mv nb us le cl kd fi sy ws L q)) : wpY_matchesQuery post (nI L, nb, us, le, cl, kd, fi, sy, ws) (nI q) := by
  unfold wpY_matchesQuery
  dsimp only
  by_cases hu : us q = 0
  · rw [pq_mv_n hu] at hp
    refine pq_yisQ0 ?_ (br_t rfl hp)
    intro h
    obtain ⟨p, h1, h2, h3⟩ := h
    have e : q = p := (nI_eq (by omega) (by omega)).mp h2
    exact h3 (by rw [← e]; exact hu)
  · rw [pq_mv_u hu] at hp
    refine pq_yisQ1 hq hu (br_f (by decide) (nm_r (pq_m6 q) ⟨pq_c cl q + 1, ?_⟩))
    exact pq_ymq17 hq (hS.1 q hq).1 (hS.1 q hq).2.1 hL (fun j hj => (hS.2 j hj).1) _ _ _ 0 (by omega) rfl hp
theorem pq_ymat4 {post : Int32 → Prop} (hS : pq_St le cl kd fi se sy) (hL : L ≤ 16) (hp : post (nI (pq_cnt (pq_M nb us le cl kd fi sy ws L) 12))) :
    ∀ d n x, d < n → x + d = 12 → wY_matches_4 post (nI L) nb us le cl kd fi sy ws n (nI (pq_cnt (pq_M nb us le cl kd fi sy ws L) x)) (nI x) := by
  intro d
  induction d with
  | zero =>
    intro n x hn hx
    obtain ⟨n', rfl⟩ : ∃ m, n = m + 1 := ⟨n - 1, by omega⟩
    have e : x = 12 := by omega
    subst e
    exact br_t (nI_le (a := 12) (Nat.le_refl _) (by decide)) hp
  | succ d ih =>
    intro n x hn hx
    obtain ⟨n', rfl⟩ : ∃ m, n = m + 1 := ⟨n - 1, by omega⟩
    have h1 := ih n' (x + 1) (by omega) (by omega)
    refine br_f (nI_ge (b := 12) (by omega) (by decide)) (pq_ymq (by omega) hS hL ?_)
    by_cases z : pq_mv nb us le cl kd fi sy ws L x = 0
    · have e : pq_cnt (pq_M nb us le cl kd fi sy ws L) (x + 1) = pq_cnt (pq_M nb us le cl kd fi sy ws L) x := by
        show pq_cnt (pq_M nb us le cl kd fi sy ws L) x + (if pq_M nb us le cl kd fi sy ws L x = true then 1 else 0) = _
        rw [if_neg (fun w => pq_M_t.mp w z), Nat.add_zero]
      rw [e] at h1
      exact br_t z (nm_r (nI_1 x) h1)
    · have e : pq_cnt (pq_M nb us le cl kd fi sy ws L) (x + 1) = pq_cnt (pq_M nb us le cl kd fi sy ws L) x + 1 := by
        show pq_cnt (pq_M nb us le cl kd fi sy ws L) x + (if pq_M nb us le cl kd fi sy ws L x = true then 1 else 0) = _
        rw [if_pos (pq_M_t.mpr z)]
      rw [e] at h1
      exact br_f z (nm_r (nI_1 _) (nm_r (nI_1 x) h1))
theorem pq_ymatches {post : Int32 → Prop} (hS : pq_St le cl kd fi se sy) (hL : L ≤ 16) (hp : post (nI (pq_cnt (pq_M nb us le cl kd fi sy ws L) 12))) : wpY_matches post (nI L, nb, us, le, cl, kd, fi, sy, ws) :=
  ⟨13, pq_ymat4 hS hL hp 12 13 0 (by decide) rfl⟩
theorem pq_ybf45 {post : Int32 → Prop} {J : Int32 → Int32 → Prop} {x1 c : Int32} {x : Nat} (h : J c (nI (x + 1))) : wY_before_45 post J x1 c (nI x) (nI L) nb us le cl kd fi sy ws :=
  br_t rfl (nm_r (nI_1 x) h)
theorem pq_ybf41 {post : Int32 → Prop} {J : Int32 → Int32 → Prop} {x1 : Int32} {x c : Nat} (hx : x < 12) (hS : pq_St le cl kd fi se sy) (hL : L ≤ 16)
    (h0 : ¬ pq_M nb us le cl kd fi sy ws L x = true → J (nI c) (nI (x + 1))) (h1 : pq_M nb us le cl kd fi sy ws L x = true → J (nI (c + 1)) (nI (x + 1))) : wY_before_41 post J x1 (nI c) (nI x) (nI L) nb us le cl kd fi sy ws := by
  refine br_f (by decide) (pq_ymq hx hS hL ?_)
  by_cases z : pq_mv nb us le cl kd fi sy ws L x = 0
  · exact br_t z (nm_r (nI_1 x) (h0 (fun w => pq_M_t.mp w z)))
  · exact br_f z (nm_r (nI_1 c) (nm_r (nI_1 x) (h1 (pq_M_t.mpr z))))
theorem pq_ybf4 {post : Int32 → Prop} {q : Nat} (hq : q < 12) (hS : pq_St le cl kd fi se sy) (hL : L ≤ 16) (hp : post (nI (pq_rk (pq_M nb us le cl kd fi sy ws L) (pq_S cl kd fi ws L) 12 q))) :
    ∀ d n x, d < n → x + d = 12 → wY_before_4 post (nI q) (nI L) nb us le cl kd fi sy ws n (nI (pq_rk (pq_M nb us le cl kd fi sy ws L) (pq_S cl kd fi ws L) x q)) (nI x) := by
  intro d
  induction d with
  | zero =>
    intro n x hn hx
    obtain ⟨n', rfl⟩ : ∃ m, n = m + 1 := ⟨n - 1, by omega⟩
    have e : x = 12 := by omega
    subst e
    exact br_t (nI_le (a := 12) (Nat.le_refl _) (by decide)) hp
  | succ d ih =>
    intro n x hn hx
    obtain ⟨n', rfl⟩ : ∃ m, n = m + 1 := ⟨n - 1, by omega⟩
    have h1 := ih n' (x + 1) (by omega) (by omega)
    have hno : (¬ (pq_M nb us le cl kd fi sy ws L x && pq_bf (pq_S cl kd fi ws L) x q) = true) → wY_before_4 post (nI q) (nI L) nb us le cl kd fi sy ws n' (nI (pq_rk (pq_M nb us le cl kd fi sy ws L) (pq_S cl kd fi ws L) x q)) (nI (x + 1)) := by
      intro z
      rw [pq_rk_s, if_neg z, Nat.add_zero] at h1
      exact h1
    have hyes : (pq_M nb us le cl kd fi sy ws L x && pq_bf (pq_S cl kd fi ws L) x q) = true → wY_before_4 post (nI q) (nI L) nb us le cl kd fi sy ws n' (nI (pq_rk (pq_M nb us le cl kd fi sy ws L) (pq_S cl kd fi ws L) x q + 1)) (nI (x + 1)) := by
      intro z
      rw [pq_rk_s, if_pos z] at h1
      exact h1
    have g41 : ((pq_S cl kd fi ws L q).toInt < (pq_S cl kd fi ws L x).toInt ∨ ((pq_S cl kd fi ws L x).toInt = (pq_S cl kd fi ws L q).toInt ∧ x < q)) → wY_before_41 post (wY_before_4 post (nI q) (nI L) nb us le cl kd fi sy ws n') (nI q) (nI (pq_rk (pq_M nb us le cl kd fi sy ws L) (pq_S cl kd fi ws L) x q)) (nI x) (nI L) nb us le cl kd fi sy ws := by
      intro hb
      refine pq_ybf41 (by omega) hS hL ?_ ?_
      · intro z
        exact hno (fun w => z (pq_mb.mp w).1)
      · intro z
        exact hyes (pq_mb.mpr ⟨z, hb⟩)
    have g45 : ¬ ((pq_S cl kd fi ws L q).toInt < (pq_S cl kd fi ws L x).toInt ∨ ((pq_S cl kd fi ws L x).toInt = (pq_S cl kd fi ws L q).toInt ∧ x < q)) → wY_before_45 post (wY_before_4 post (nI q) (nI L) nb us le cl kd fi sy ws n') (nI q) (nI (pq_rk (pq_M nb us le cl kd fi sy ws L) (pq_S cl kd fi ws L) x q)) (nI x) (nI L) nb us le cl kd fi sy ws := by
      intro hb
      exact pq_ybf45 (hno (fun w => hb (pq_mb.mp w).2))
    refine br_f (nI_ge (b := 12) (by omega) (by decide)) ?_
    refine pq_yscore (q := x) (by omega) hS hL ?_
    refine pq_yscore (q := q) hq hS hL ?_
    refine br_c ?_ ?_
    · intro z
      exact g41 (Or.inl (Int32.lt_iff_toInt_lt.mp z))
    · intro z
      have z' : ¬ (pq_S cl kd fi ws L q).toInt < (pq_S cl kd fi ws L x).toInt := fun w => z (Int32.lt_iff_toInt_lt.mpr w)
      refine pq_yscore (q := x) (by omega) hS hL ?_
      refine pq_yscore (q := q) hq hS hL ?_
      refine br_c ?_ ?_
      · intro e
        refine br_c ?_ ?_
        · intro hle
          have hle' := (nI_leI (by omega) (by omega)).mp hle
          exact g45 (fun w => by omega)
        · intro hle
          have hle' : ¬ q ≤ x := fun w => hle (nI_le w (by omega))
          exact g41 (Or.inr ⟨congrArg Int32.toInt e, by omega⟩)
      · intro e
        exact g45 (fun w => w.elim z' (fun v => e (Int32.toInt_inj.mp v.1)))
theorem pq_ybefore {post : Int32 → Prop} {q : Nat} (hq : q < 12) (hS : pq_St le cl kd fi se sy) (hL : L ≤ 16) (hp : post (nI (pq_rk (pq_M nb us le cl kd fi sy ws L) (pq_S cl kd fi ws L) 12 q))) : wpY_before post (nI L, nb, us, le, cl, kd, fi, sy, ws) (nI q) :=
  ⟨13, pq_ybf4 hq hS hL hp 12 13 0 (by decide) rfl⟩
theorem pq_rk12 {M : Nat → Bool} {S : Nat → Int32} (p : Nat) : pq_rk M S 12 p ≤ 12 := pq_cnt_le _ 12
theorem pq_ymt2a {post : Int32 → Prop} {p : Nat} (hp12 : p < 12) (hM : pq_M nb us le cl kd fi sy ws L p = true) (hS : pq_St le cl kd fi se sy) (hL : L ≤ 16) (hp : post (nI p)) :
    ∀ d n x, d < n → x + d = p → wY_match_2 post (nI (pq_rk (pq_M nb us le cl kd fi sy ws L) (pq_S cl kd fi ws L) 12 p)) (nI L) nb us le cl kd fi sy ws n (nI x) := by
  intro d
  induction d with
  | zero =>
    intro n x hn hx
    obtain ⟨n', rfl⟩ : ∃ m, n = m + 1 := ⟨n - 1, by omega⟩
    have e : x = p := by omega
    subst e
    exact br_f (nI_ge (b := 12) (by omega) (by decide)) (pq_ymq (by omega) hS hL (br_f (pq_M_t.mp hM) (pq_ybefore hp12 hS hL (br_t rfl hp))))
  | succ d ih =>
    intro n x hn hx
    obtain ⟨n', rfl⟩ : ∃ m, n = m + 1 := ⟨n - 1, by omega⟩
    have h1 := ih n' (x + 1) (by omega) (by omega)
    refine br_f (nI_ge (b := 12) (by omega) (by decide)) (pq_ymq (by omega) hS hL ?_)
    by_cases z : pq_mv nb us le cl kd fi sy ws L x = 0
    · exact br_t z (nm_r (nI_1 x) h1)
    · refine br_f z (pq_ybefore (by omega) hS hL (br_f ?_ (nm_r (nI_1 x) h1)))
      intro w
      have b1 := pq_rk12 (M := pq_M nb us le cl kd fi sy ws L) (S := pq_S cl kd fi ws L) x
      have b2 := pq_rk12 (M := pq_M nb us le cl kd fi sy ws L) (S := pq_S cl kd fi ws L) p
      have e := (nI_eq (by omega) (by omega)).mp w
      have e2 := pq_rk_inj (by omega) hp12 (pq_M_t.mpr z) hM e
      omega
theorem pq_ymt2b {post : Int32 → Prop} {v : Int32} (hn5 : ∀ p, p < 12 → pq_M nb us le cl kd fi sy ws L p = true → ¬ nI (pq_rk (pq_M nb us le cl kd fi sy ws L) (pq_S cl kd fi ws L) 12 p) = v) (hS : pq_St le cl kd fi se sy) (hL : L ≤ 16) (hp : post (-5)) :
    ∀ d n x, d < n → x + d = 12 → wY_match_2 post v (nI L) nb us le cl kd fi sy ws n (nI x) := by
  intro d
  induction d with
  | zero =>
    intro n x hn hx
    obtain ⟨n', rfl⟩ : ∃ m, n = m + 1 := ⟨n - 1, by omega⟩
    exact br_t (nI_le (a := 12) (by omega) (by omega)) hp
  | succ d ih =>
    intro n x hn hx
    obtain ⟨n', rfl⟩ : ∃ m, n = m + 1 := ⟨n - 1, by omega⟩
    have h1 := ih n' (x + 1) (by omega) (by omega)
    refine br_f (nI_ge (b := 12) (by omega) (by decide)) (pq_ymq (by omega) hS hL ?_)
    by_cases z : pq_mv nb us le cl kd fi sy ws L x = 0
    · exact br_t z (nm_r (nI_1 x) h1)
    · exact br_f z (pq_ybefore (by omega) hS hL (br_f (hn5 x (by omega) (pq_M_t.mpr z)) (nm_r (nI_1 x) h1)))
theorem pq_ymatchA {post : Int32 → Prop} {p : Nat} (hp12 : p < 12) (hM : pq_M nb us le cl kd fi sy ws L p = true) (hS : pq_St le cl kd fi se sy) (hL : L ≤ 16) (hp : post (nI p)) : wpY_match post (nI L, nb, us, le, cl, kd, fi, sy, ws) (nI (pq_rk (pq_M nb us le cl kd fi sy ws L) (pq_S cl kd fi ws L) 12 p)) :=
  ⟨p + 1, pq_ymt2a hp12 hM hS hL hp p (p + 1) 0 (by omega) (by omega)⟩
theorem pq_ymatchB {post : Int32 → Prop} {v : Int32} (hn5 : ∀ p, p < 12 → pq_M nb us le cl kd fi sy ws L p = true → ¬ nI (pq_rk (pq_M nb us le cl kd fi sy ws L) (pq_S cl kd fi ws L) 12 p) = v) (hS : pq_St le cl kd fi se sy) (hL : L ≤ 16) (hp : post (-5)) : wpY_match post (nI L, nb, us, le, cl, kd, fi, sy, ws) v :=
  ⟨13, pq_ymt2b hn5 hS hL hp 12 13 0 (by decide) rfl⟩
end
end
section
def i_Rel (k : Nat) (u : SX) (v : SY) : Prop := ∃ (al nb lw fd : Int32) (us le cl kd fi se fl ak ct bh fq fs sy ws : Nat → Int32) (L : Nat), u = (al, nI L, nb, lw, fd, us, le, cl, kd, fi, se, fl, ak, ct, bh, fq, fs) ∧ v = (nI L, nb, us, le, cl, kd, fi, sy, ws) ∧ pq_St le cl kd fi se sy ∧ pq_Dc L lw ct bh ws ∧ pq_Fi al us le cl kd fi fl
theorem pq_in {k : Nat} {al nb lw fd : Int32} {us le cl kd fi se fl ak ct bh fq fs sy ws : Nat → Int32} {L : Nat} (hS : pq_St le cl kd fi se sy) (hD : pq_Dc L lw ct bh ws) (hF : pq_Fi al us le cl kd fi fl) : i_Rel k (al, nI L, nb, lw, fd, us, le, cl, kd, fi, se, fl, ak, ct, bh, fq, fs) (nI L, nb, us, le, cl, kd, fi, sy, ws) :=
  ⟨al, nb, lw, fd, us, le, cl, kd, fi, se, fl, ak, ct, bh, fq, fs, sy, ws, L, rfl, rfl, hS, hD, hF⟩
theorem pq_el {k : Nat} {u : SX} {v : SY} {P : SX → SY → Prop}
    (h : ∀ (al nb lw fd : Int32) (us le cl kd fi se fl ak ct bh fq fs sy ws : Nat → Int32) (L : Nat), pq_St le cl kd fi se sy → pq_Dc L lw ct bh ws → pq_Fi al us le cl kd fi fl → P (al, nI L, nb, lw, fd, us, le, cl, kd, fi, se, fl, ak, ct, bh, fq, fs) (nI L, nb, us, le, cl, kd, fi, sy, ws)) (I : i_Rel k u v) : P u v :=
  Exists.elim I fun al I => Exists.elim I fun nb I => Exists.elim I fun lw I => Exists.elim I fun fd I => Exists.elim I fun us I => Exists.elim I fun le I => Exists.elim I fun cl I => Exists.elim I fun kd I => Exists.elim I fun fi I => Exists.elim I fun se I => Exists.elim I fun fl I => Exists.elim I fun ak I => Exists.elim I fun ct I => Exists.elim I fun bh I => Exists.elim I fun fq I => Exists.elim I fun fs I => Exists.elim I fun sy I => Exists.elim I fun ws I => Exists.elim I fun L I => by
    rw [I.1, I.2.1]
    exact h al nb lw fd us le cl kd fi se fl ak ct bh fq fs sy ws L I.2.2.1 I.2.2.2.1 I.2.2.2.2
theorem i_up {k : Nat} {u : SX} {v : SY} (h : i_Rel k u v) : i_Rel (k + 4) u v := h
theorem pq_St0 : pq_St (fun _ => 0) (fun _ => 0) (fun _ => 0) (fun _ => 0) (fun _ => 0) (fun _ => 0) := by
  refine ⟨?_, ?_⟩
  · intro q hq
    have e : pq_c (fun _ => 0) q = 0 := pq_c_of (cl := fun _ => 0) (q := q) (c := 0) rfl (by decide)
    rw [e]
    exact ⟨rfl, by decide, show ¬ (0 : Int32) < 0 by decide⟩
  · intro j hj
    exact ⟨Or.inl rfl, fun _ => ⟨0, by decide, rfl⟩, fun h => absurd h (show ¬ (0 : Int32) = 3 by decide), fun _ => rfl⟩
theorem pq_Dc0 {ct bh ws : Nat → Int32} (h : ∀ t, t < 24 → ct t = 0 ∧ bh t = 0) : pq_Dc 0 (-1) ct bh ws := by
  refine ⟨by decide, fun i hi => absurd hi (Nat.not_lt_zero i), fun _ => by decide, fun hh => absurd hh (by decide), ?_, ?_⟩
  · intro t ht
    rw [(h t ht).1]
    rfl
  · intro t ht s hs
    rw [(h t ht).2, b_0]
    rfl
theorem pq_Fi0 : pq_Fi 0 (fun _ => 0) (fun _ => 0) (fun _ => 0) (fun _ => 0) (fun _ => 0) (fun _ => 0) := fun q _ => ⟨fun _ => ⟨b_0 q, fun _ _ => b_0 q⟩, fun h => absurd rfl h⟩
theorem i_vc0 : wpX_init (fun u => wpY_init (fun v => i_Rel 0 u v)) :=
  pq_in (k := 0) (al := 0) (nb := 0) (lw := -1) (fd := 0) (us := fun _ => 0) (ak := fun _ => 0) (fq := fun _ => 0) (fs := fun _ => 0) (ws := fun _ => 0) (L := 0) pq_St0 (pq_Dc0 (ct := fun _ => 0) (bh := fun _ => 0) (fun _ _ => ⟨rfl, rfl⟩)) pq_Fi0
theorem pq_FP_fr {le cl kd fi fl le' cl' kd' fi' fl' : Nat → Int32} {al al' : Int32} {q : Nat} (hq : q < 12) (h : pq_FP le cl kd fi al fl q) (el : le' q = le q) (ec : cl' q = cl q) (h6 : pq_c cl q ≤ 6) (ek : ∀ i, 6 * q ≤ i → i < 6 * q + 6 → kd' i = kd i ∧ fi' i = fi i)
    (hb : bt al' q = bt al q) (hf : ∀ t, t < 24 → bt (fl' t) q = bt (fl t) q) (hK : ∀ i, i < 72 → ¬ kd i = 4 → ∃ t, t < 24 ∧ fi i = nI t) : pq_FP le' cl' kd' fi' al' fl' q := by
  have ec' : pq_c cl' q = pq_c cl q := by
    unfold pq_c
    rw [ec]
  have hx : ∀ i, i < 72 → ¬ kd i = 4 → bt (fl' (fi i).toNatClampNeg) q = bt (fl (fi i).toNatClampNeg) q := by
    intro i hi hk
    obtain ⟨t, ht, e⟩ := hK i hi hk
    rw [e, pq_cl (by omega)]
    exact hf t ht
  unfold pq_FP
  rw [ec', el, hb]
  rcases h with a | ⟨i, h1, h2, h3, h4⟩ | ⟨h1, h2⟩
  · exact Or.inl a
  · obtain ⟨e1, e2⟩ := ek i h1 (by omega)
    refine Or.inr (Or.inl ⟨i, h1, h2, by rw [e1]; exact h3, ?_⟩)
    rw [e2, hx i (by omega) (by rcases h3 with h3 | h3 <;> rw [h3] <;> decide)]
    exact h4
  · refine Or.inr (Or.inr ⟨h1, ?_⟩)
    intro i a b hk
    obtain ⟨e1, e2⟩ := ek i a (by omega)
    rw [e1] at hk
    rw [e2, hx i (by omega) (by rw [hk]; decide)]
    exact h2 i a b hk
theorem pq_StK {le cl kd fi se sy : Nat → Int32} (hS : pq_St le cl kd fi se sy) : ∀ i, i < 72 → ¬ kd i = 4 → ∃ t, t < 24 ∧ fi i = nI t := fun i hi => (hS.2 i hi).2.1
theorem pq_StK1 {le cl kd fi se sy : Nat → Int32} (hS : pq_St le cl kd fi se sy) : ∀ j, j < 72 → (kd j = 0 ∨ kd j = 3) → ∃ t, t < 24 ∧ fi j = nI t := by
  intro j hj h
  exact pq_StK hS j hj (by rcases h with h | h <;> rw [h] <;> decide)
theorem pq_cu {cl : Nat → Int32} {q c : Nat} (h : c ≤ 6) : upd cl q (nI c) q = nI (pq_c (upd cl q (nI c)) q) ∧ pq_c (upd cl q (nI c)) q ≤ 6 := by
  have e : pq_c (upd cl q (nI c)) q = c := pq_c_of pk_us h
  rw [e, pk_us]
  exact ⟨rfl, h⟩
theorem pq_cun {cl : Nat → Int32} {q p c : Nat} (hp : p ≠ q) : pq_c (upd cl q (nI c)) p = pq_c cl p := by
  unfold pq_c
  rw [pk_un hp]
theorem pq_first (us : Nat → Int32) : ∀ n, ∃ q, q ≤ n ∧ (∀ i, i < q → ¬ us i = 0) ∧ (q < n → us q = 0) := by
  intro n
  induction n with
  | zero => exact ⟨0, Nat.le_refl _, fun i hi => absurd hi (Nat.not_lt_zero i), fun h => absurd h (Nat.not_lt_zero 0)⟩
  | succ n ih =>
    obtain ⟨q, h1, h2, h3⟩ := ih
    by_cases e : q < n
    · exact ⟨q, by omega, h2, fun _ => h3 e⟩
    · by_cases z : us q = 0
      · exact ⟨q, by omega, h2, fun _ => z⟩
      · refine ⟨n + 1, Nat.le_refl _, ?_, fun h => absurd h (by omega)⟩
        intro i hi
        by_cases ei : i = q
        · subst ei
          exact z
        · exact h2 i (by omega)
section
variable {al wd nb lw fd : Int32} {us le cl kd fi se fl ak ct bh fq fs : Nat → Int32}
theorem pq_xcr15 {post : Int32 → SX → Prop} {v : Int32} {q : Nat} (hq : q ≤ 12) (ha : ∀ i, i < q → ¬ us i = 0) (hu : q < 12 → us q = 0) (H : wX_create_36 post v (nI q) al wd nb lw fd us le cl kd fi se fl ak ct bh fq fs) :
    ∀ d n i, d < n → i + d = q → wX_create_15 post v al wd nb lw fd us le cl kd fi se fl ak ct bh fq fs n (nI i) := by
  intro d
  induction d with
  | zero =>
    intro n i hn hi
    obtain ⟨n', rfl⟩ : ∃ m, n = m + 1 := ⟨n - 1, by omega⟩
    have e : i = q := by omega
    subst e
    by_cases h : i = 12
    · exact br_t (nI_le (a := 12) (by omega) (by omega)) H
    · have z : us (nI i).toNatClampNeg = 0 := by
        rw [pq_cl (by omega)]
        exact hu (by omega)
      exact br_f (nI_ge (b := 12) (by omega) (by decide)) ⟨vp_in_nI (by omega) (by decide), br_t z H⟩
  | succ d ih =>
    intro n i hn hi
    obtain ⟨n', rfl⟩ : ∃ m, n = m + 1 := ⟨n - 1, by omega⟩
    have z : ¬ us (nI i).toNatClampNeg = 0 := by
      rw [pq_cl (by omega)]
      exact ha i (by omega)
    exact br_f (nI_ge (b := 12) (by omega) (by decide)) ⟨vp_in_nI (by omega) (by decide), br_f z (nm_r (nI_1 i) (ih n' (i + 1) (by omega) (by omega)))⟩
theorem pq_xrem26 {post : Int32 → SX → Prop} (H : post (nI (pq_cnt (fun i => decide (¬ us i = 0)) 12)) (al, wd, nb, lw, fd, us, le, cl, kd, fi, se, fl, ak, ct, bh, fq, fs)) :
    ∀ d n i, d < n → i + d = 12 → wX_remove_26 post al wd nb lw fd us le cl kd fi se fl ak ct bh fq fs n (nI (pq_cnt (fun i => decide (¬ us i = 0)) i)) (nI i) := by
  intro d
  induction d with
  | zero =>
    intro n i hn hi
    obtain ⟨n', rfl⟩ : ∃ m, n = m + 1 := ⟨n - 1, by omega⟩
    have e : i = 12 := by omega
    subst e
    exact br_t (nI_le (a := 12) (Nat.le_refl _) (by decide)) H
  | succ d ih =>
    intro n i hn hi
    obtain ⟨n', rfl⟩ : ∃ m, n = m + 1 := ⟨n - 1, by omega⟩
    have h1 := ih n' (i + 1) (by omega) (by omega)
    have eu : us (nI i).toNatClampNeg = us i := by rw [pq_cl (by omega)]
    refine br_f (nI_ge (b := 12) (by omega) (by decide)) ⟨vp_in_nI (by omega) (by decide), ?_⟩
    by_cases z : us i = 0
    · have e : pq_cnt (fun i => decide (¬ us i = 0)) (i + 1) = pq_cnt (fun i => decide (¬ us i = 0)) i := by
        show pq_cnt (fun i => decide (¬ us i = 0)) i + (if decide (¬ us i = 0) = true then 1 else 0) = _
        rw [if_neg (fun w => absurd z (of_decide_eq_true w)), Nat.add_zero]
      rw [e] at h1
      exact br_t (eu.trans z) (nm_r (nI_1 i) h1)
    · have e : pq_cnt (fun i => decide (¬ us i = 0)) (i + 1) = pq_cnt (fun i => decide (¬ us i = 0)) i + 1 := by
        show pq_cnt (fun i => decide (¬ us i = 0)) i + (if decide (¬ us i = 0) = true then 1 else 0) = _
        rw [if_pos (decide_eq_true z)]
      rw [e] at h1
      exact br_f (fun w => z (eu.symm.trans w)) (nm_r (nI_1 _) (nm_r (nI_1 i) h1))
theorem pq_xdoc17 {post : SX → Prop} (H : ∀ ct' bh', (∀ t, t < 24 → ct' t = 0 ∧ bh' t = 0) → post (al, wd, nb, lw, fd, us, le, cl, kd, fi, se, fl, ak, ct', bh', fq, fs)) :
    ∀ d n t ct bh, d < n → t + d = 24 → (∀ i, i < t → ct i = 0 ∧ bh i = 0) → wX_document_17 post al wd nb lw fd n (nI t) us le cl kd fi se fl ak ct bh fq fs := by
  intro d
  induction d with
  | zero =>
    intro n t ct bh hn ht h
    obtain ⟨n', rfl⟩ : ∃ m, n = m + 1 := ⟨n - 1, by omega⟩
    exact br_t (nI_le (a := 24) (by omega) (by omega)) (H ct bh (fun i hi => h i (by omega)))
  | succ d ih =>
    intro n t ct bh hn ht h
    obtain ⟨n', rfl⟩ : ∃ m, n = m + 1 := ⟨n - 1, by omega⟩
    have hv : vp_in (nI t) 24 := vp_in_nI (by omega) (by decide)
    have e : (nI t).toNatClampNeg = t := pq_cl (by omega)
    refine br_f (nI_ge (b := 24) (by omega) (by decide)) ⟨hv, nm_r (e' := upd ct t 0) (by rw [e]) ⟨hv, nm_r (e' := upd bh t 0) (by rw [e]) (nm_r (nI_1 t) (ih n' (t + 1) _ _ (by omega) (by omega) ?_))⟩⟩
    intro i hi
    by_cases ei : i = t
    · subst ei
      exact ⟨pk_us, pk_us⟩
    · rw [pk_un ei, pk_un ei]
      exact h i (by omega)
end
section
variable {ln nb : Int32} {us le cl kd fi sy ws : Nat → Int32}
theorem pq_ycr15 {post : Int32 → SY → Prop} {v : Int32} {q : Nat} (hq : q ≤ 12) (ha : ∀ i, i < q → ¬ us i = 0) (hu : q < 12 → us q = 0) (HF : q = 12 → post (-3) (ln, nb, us, le, cl, kd, fi, sy, ws)) (HN : q < 12 → post (nI q) (ln, nb, upd us q (vp_nar .boolean 1), upd le q v, upd cl q (nI 0), kd, fi, sy, ws)) :
    ∀ d n i, d < n → i + d = q → wY_create_15 post v ln nb us le cl kd fi sy ws n (nI i) := by
  intro d
  induction d with
  | zero =>
    intro n i hn hi
    obtain ⟨n', rfl⟩ : ∃ m, n = m + 1 := ⟨n - 1, by omega⟩
    have e : i = q := by omega
    subst e
    by_cases h : i = 12
    · exact br_t (nI_le (a := 12) (by omega) (by omega)) (HF h)
    · have ei : (nI i).toNatClampNeg = i := pq_cl (by omega)
      have hv : vp_in (nI i) 12 := vp_in_nI (by omega) (by decide)
      have z : us (nI i).toNatClampNeg = 0 := by
        rw [ei]
        exact hu (by omega)
      exact br_f (nI_ge (b := 12) (by omega) (by decide)) ⟨hv, br_t z ⟨hv, nm_r (e' := upd us i (vp_nar .boolean 1)) (by rw [ei]) ⟨hv, nm_r (e' := upd le i v) (by rw [ei]) ⟨hv, nm_r (e' := upd cl i (nI 0)) (by rw [ei, nI_0]) (HN (by omega))⟩⟩⟩⟩
  | succ d ih =>
    intro n i hn hi
    obtain ⟨n', rfl⟩ : ∃ m, n = m + 1 := ⟨n - 1, by omega⟩
    have z : ¬ us (nI i).toNatClampNeg = 0 := by
      rw [pq_cl (by omega)]
      exact ha i (by omega)
    exact br_f (nI_ge (b := 12) (by omega) (by decide)) ⟨vp_in_nI (by omega) (by decide), br_f z (nm_r (nI_1 i) (ih n' (i + 1) (by omega) (by omega)))⟩
theorem pq_yrem21 {post : Int32 → SY → Prop} (H : post (nI (pq_cnt (fun i => decide (¬ us i = 0)) 12)) (ln, nb, us, le, cl, kd, fi, sy, ws)) :
    ∀ d n i, d < n → i + d = 12 → wY_remove_21 post ln nb us le cl kd fi sy ws n (nI (pq_cnt (fun i => decide (¬ us i = 0)) i)) (nI i) := by
  intro d
  induction d with
  | zero =>
    intro n i hn hi
    obtain ⟨n', rfl⟩ : ∃ m, n = m + 1 := ⟨n - 1, by omega⟩
    have e : i = 12 := by omega
    subst e
    exact br_t (nI_le (a := 12) (Nat.le_refl _) (by decide)) H
  | succ d ih =>
    intro n i hn hi
    obtain ⟨n', rfl⟩ : ∃ m, n = m + 1 := ⟨n - 1, by omega⟩
    have h1 := ih n' (i + 1) (by omega) (by omega)
    have eu : us (nI i).toNatClampNeg = us i := by rw [pq_cl (by omega)]
    refine br_f (nI_ge (b := 12) (by omega) (by decide)) ⟨vp_in_nI (by omega) (by decide), ?_⟩
    by_cases z : us i = 0
    · have e : pq_cnt (fun i => decide (¬ us i = 0)) (i + 1) = pq_cnt (fun i => decide (¬ us i = 0)) i := by
        show pq_cnt (fun i => decide (¬ us i = 0)) i + (if decide (¬ us i = 0) = true then 1 else 0) = _
        rw [if_neg (fun w => absurd z (of_decide_eq_true w)), Nat.add_zero]
      rw [e] at h1
      exact br_t (eu.trans z) (nm_r (nI_1 i) h1)
    · have e : pq_cnt (fun i => decide (¬ us i = 0)) (i + 1) = pq_cnt (fun i => decide (¬ us i = 0)) i + 1 := by
        show pq_cnt (fun i => decide (¬ us i = 0)) i + (if decide (¬ us i = 0) = true then 1 else 0) = _
        rw [if_pos (decide_eq_true z)]
      rw [e] at h1
      exact br_f (fun w => z (eu.symm.trans w)) (nm_r (nI_1 _) (nm_r (nI_1 i) h1))
theorem pq_yaddq {post : Int32 → SY → Prop} {p kk a b : Int32} (h : ¬ pq_isQ us p) (hp : post (-1) (ln, nb, us, le, cl, kd, fi, sy, ws)) : wpY_add post (ln, nb, us, le, cl, kd, fi, sy, ws) p kk a b := by
  unfold wpY_add
  exact pq_yisQ0 h (br_t rfl hp)
theorem pq_yaddt {post : Int32 → SY → Prop} {q : Nat} {kk a b : Int32} (hq : q < 12) (hu : ¬ us q = 0) (hk : ¬ 3 < kk) (h : ¬ pq_isT a) (hp : post (-2) (ln, nb, us, le, cl, kd, fi, sy, ws)) : wpY_add post (ln, nb, us, le, cl, kd, fi, sy, ws) (nI q) kk a b := by
  unfold wpY_add
  exact pq_yisQ1 hq hu (br_f (by decide) (br_f hk (pq_yisT0 h (br_t rfl hp))))
theorem pq_yaddu {post : Int32 → SY → Prop} {q t : Nat} {kk b : Int32} (hq : q < 12) (hu : ¬ us q = 0) (hk : ¬ 3 < kk) (ht : t < 24) (h : ¬ pq_isT b) (hp : post (-2) (ln, nb, us, le, cl, kd, fi, sy, ws)) : wpY_add post (ln, nb, us, le, cl, kd, fi, sy, ws) (nI q) kk (nI t) b := by
  unfold wpY_add
  exact pq_yisQ1 hq hu (br_f (by decide) (br_f hk (pq_yisT1 ht (br_f (by decide) (pq_yisT0 h (br_t rfl hp))))))
theorem pq_yadd3 {post : Int32 → SY → Prop} {q t s : Nat} {kk : Int32} (hq : q < 12) (hu : ¬ us q = 0) (hk : ¬ 3 < kk) (ht : t < 24) (hs : s < 24) (h : wY_add_35 post (nI q) kk (nI t) (nI s) ln nb us le cl kd fi sy ws) : wpY_add post (ln, nb, us, le, cl, kd, fi, sy, ws) (nI q) kk (nI t) (nI s) := by
  unfold wpY_add
  exact pq_yisQ1 hq hu (br_f (by decide) (br_f hk (pq_yisT1 ht (br_f (by decide) (pq_yisT1 hs (br_f (by decide) h))))))
theorem pq_yadd4 {post : Int32 → SY → Prop} {q : Nat} {kk a b : Int32} (hq : q < 12) (hu : ¬ us q = 0) (hk : 3 < kk) (h : wY_add_35 post (nI q) kk a b ln nb us le cl kd fi sy ws) : wpY_add post (ln, nb, us, le, cl, kd, fi, sy, ws) (nI q) kk a b := by
  unfold wpY_add
  exact pq_yisQ1 hq hu (br_f (by decide) (br_t hk h))
theorem pq_y35F {post : Int32 → SY → Prop} {q : Nat} {kk a b : Int32} (hq : q < 12) (hc : cl q = nI 6) (hp : post (-3) (ln, nb, us, le, cl, kd, fi, sy, ws)) : wY_add_35 post (nI q) kk a b ln nb us le cl kd fi sy ws := by
  have e : cl (nI q).toNatClampNeg = 6 := by
    rw [pq_cl (by omega), hc]
    rfl
  exact ⟨vp_in_nI hq (by decide), br_t e hp⟩
theorem pq_y35 {post : Int32 → SY → Prop} {q c : Nat} {kk a b : Int32} (hq : q < 12) (hc : cl q = nI c) (h6 : c < 6) (hp : post (nI (c + 1)) (ln, nb, us, le, upd cl q (nI (c + 1)), upd kd (6 * q + c) kk, upd fi (6 * q + c) a, upd sy (6 * q + c) b, ws)) : wY_add_35 post (nI q) kk a b ln nb us le cl kd fi sy ws := by
  have hvq : vp_in (nI q) 12 := vp_in_nI hq (by decide)
  have hva : vp_in (nI (6 * q + c)) 72 := vp_in_nI (by omega) (by decide)
  have eI : (nI (6 * q + c)).toNatClampNeg = 6 * q + c := pq_cl (by omega)
  have eq' : (nI q).toNatClampNeg = q := pq_cl (by omega)
  have e : ¬ cl (nI q).toNatClampNeg = 6 := by
    rw [eq', hc]
    exact pq_ne (b := 6) (by omega) (by omega) (by decide)
  have er : upd cl q (nI (c + 1)) (nI q).toNatClampNeg = nI (c + 1) := by rw [eq', pk_us]
  refine ⟨hvq, br_f e ⟨hvq, nm_r (pq_e6 hq hc) ⟨hva, nm_r (e' := upd kd (6 * q + c) kk) (by rw [eI]) ⟨hva, nm_r (e' := upd fi (6 * q + c) a) (by rw [eI]) ⟨hva, nm_r (e' := upd sy (6 * q + c) b) (by rw [eI]) ⟨hvq, hvq, nm_r (e' := upd cl q (nI (c + 1))) (by rw [eq', hc, nI_1]) ⟨hvq, ?_⟩⟩⟩⟩⟩⟩⟩
  rw [er]
  exact hp
end
end
section
section
variable {al nb lw fd : Int32} {us le cl kd fi se fl ak ct bh fq fs sy ws : Nat → Int32} {L : Nat}
theorem pq_addXY {k q : Nat} {kk f s s' : Int32} {PX : Int32 → SX → Prop} (hS : pq_St le cl kd fi se sy) (hD : pq_Dc L lw ct bh ws) (hF : pq_Fi al us le cl kd fi fl) (hq : q < 12) (hu : ¬ us q = 0) (hK : pq_K kk f s s')
    (H : ∀ r u' v', i_Rel k u' v' → (∀ post : Int32 → SY → Prop, post r v' → wY_add_35 post (nI q) kk f s' (nI L) nb us le cl kd fi sy ws) → PX r u') : wpX_add PX (al, nI L, nb, lw, fd, us, le, cl, kd, fi, se, fl, ak, ct, bh, fq, fs) (nI q) kk f s := by
  obtain ⟨hc, h6, hl⟩ := hS.1 q hq
  by_cases h : pq_c cl q < 6
  · refine pq_xadd hq hc h (pq_StK hS) hK.2.1 ?_
    intro al' fl' ak' h1 h2
    refine H _ _ (nI L, nb, us, le, upd cl q (nI (pq_c cl q + 1)), upd kd (6 * q + pq_c cl q) kk, upd fi (6 * q + pq_c cl q) f, upd sy (6 * q + pq_c cl q) s', ws) (pq_in ?_ hD ?_) (fun post hp => pq_y35 hq hc h hp)
    · refine ⟨?_, ?_⟩
      · intro p hp
        by_cases e : p = q
        · subst e
          have h3 := pq_cu (cl := cl) (q := p) (c := pq_c cl p + 1) (by omega)
          exact ⟨h3.1, h3.2, hl⟩
        · rw [pq_cun e, pk_un e]
          exact hS.1 p hp
      · intro j hj
        by_cases e : j = 6 * q + pq_c cl q
        · rw [e, pk_us, pk_us, pk_us, pk_us]
          exact hK
        · rw [pk_un e, pk_un e, pk_un e, pk_un e]
          exact hS.2 j hj
    · intro p hp
      by_cases e : p = q
      · subst e
        exact ⟨fun z => absurd z hu, fun _ => h2⟩
      · obtain ⟨b1, b2⟩ := h1 p hp e
        refine ⟨?_, ?_⟩
        · intro z
          obtain ⟨b3, b4⟩ := (hF p hp).1 z
          exact ⟨b1.trans b3, fun t ht => (b2 t ht).trans (b4 t ht)⟩
        · intro z
          refine pq_FP_fr hp ((hF p hp).2 z) rfl (pk_un e) (hS.1 p hp).2.1 ?_ b1 b2 (pq_StK hS)
          intro i hi1 hi2
          have hne : i ≠ 6 * q + pq_c cl q := by omega
          exact ⟨pk_un hne, pk_un hne⟩
  · have e6 : pq_c cl q = 6 := by omega
    rw [e6] at hc
    exact pq_xaddF hq hc (Nat.le_refl _) (by decide) (H _ _ (nI L, nb, us, le, cl, kd, fi, sy, ws) (pq_in hS hD hF) (fun post hp => pq_y35F hq hc hp))
theorem pq_xaTq {post : Int32 → SX → Prop} {p kk t : Int32} (h : ¬ pq_isQ us p) (hp : post (-1) (al, nI L, nb, lw, fd, us, le, cl, kd, fi, se, fl, ak, ct, bh, fq, fs)) : wpX_addTerm post (al, nI L, nb, lw, fd, us, le, cl, kd, fi, se, fl, ak, ct, bh, fq, fs) p kk t := by
  unfold wpX_addTerm
  exact pq_xnoQ1 h (br_f (by decide) hp)
theorem pq_xaTt {post : Int32 → SX → Prop} {q : Nat} {kk t : Int32} (hq : q < 12) (hu : ¬ us q = 0) (h : ¬ pq_isT t) (hp : post (-2) (al, nI L, nb, lw, fd, us, le, cl, kd, fi, se, fl, ak, ct, bh, fq, fs)) : wpX_addTerm post (al, nI L, nb, lw, fd, us, le, cl, kd, fi, se, fl, ak, ct, bh, fq, fs) (nI q) kk t := by
  unfold wpX_addTerm
  exact pq_xnoQ0 hq hu (br_t rfl (pq_xbT1 h (br_f (by decide) hp)))
theorem pq_xaT {k q t : Nat} {kk s' : Int32} {PX : Int32 → SX → Prop} (hS : pq_St le cl kd fi se sy) (hD : pq_Dc L lw ct bh ws) (hF : pq_Fi al us le cl kd fi fl) (hq : q < 12) (hu : ¬ us q = 0) (ht : t < 24) (hK : pq_K kk (nI t) 0 s')
    (H : ∀ r u' v', i_Rel k u' v' → (∀ post : Int32 → SY → Prop, post r v' → wY_add_35 post (nI q) kk (nI t) s' (nI L) nb us le cl kd fi sy ws) → PX r u') : wpX_addTerm PX (al, nI L, nb, lw, fd, us, le, cl, kd, fi, se, fl, ak, ct, bh, fq, fs) (nI q) kk (nI t) := by
  unfold wpX_addTerm
  refine pq_xnoQ0 hq hu (br_t rfl (pq_xbT0 ht (br_t rfl (pq_addXY (k := k) hS hD hF hq hu hK ?_))))
  intro r u' v' hR hy
  obtain ⟨a1, a2, a3, a4, a5, a6, a7, a8, a9, a10, a11, a12, a13, a14, a15, a16, a17⟩ := u'
  exact H r _ v' hR hy
end
theorem i_vc_must {k : Nat} {u : SX} {v : SY} (I : i_Rel k u v) (hk : k + 4 ≤ 2048) (v1 : Int32) (v2 : Int32) : wpX_must (fun r u' => wpY_must (fun r' v' => r' = r ∧ i_Rel (k + 4) u' v') v v1 v2) u v1 v2 := by
  refine pq_el (P := fun u v => wpX_must (fun r u' => wpY_must (fun r' v' => r' = r ∧ i_Rel (k + 4) u' v') v v1 v2) u v1 v2) ?_ I
  intro al nb lw fd us le cl kd fi se fl ak ct bh fq fs sy ws L hS hD hF
  unfold wpX_must wpY_must
  dsimp only
  by_cases hQ : pq_isQ us v1
  · obtain ⟨q, hq, rfl, hu⟩ := hQ
    by_cases hT : pq_isT v2
    · obtain ⟨t, ht, rfl⟩ := hT
      refine pq_xaT (k := k + 4) (s' := nI t) hS hD hF hq hu ht ⟨Or.inl rfl, fun _ => ⟨t, ht, rfl⟩, fun h => absurd h (by decide), fun h => absurd h (by decide)⟩ ?_
      intro r u' v' hR hy
      obtain ⟨a1, a2, a3, a4, a5, a6, a7, a8, a9, a10, a11, a12, a13, a14, a15, a16, a17⟩ := u'
      obtain ⟨b1, b2, b3, b4, b5, b6, b7, b8, b9⟩ := v'
      exact pq_yadd3 hq hu (by decide) ht ht (hy _ ⟨rfl, hR⟩)
    · exact pq_xaTt hq hu hT (pq_yaddt hq hu (by decide) hT ⟨rfl, pq_in hS hD hF⟩)
  · exact pq_xaTq hQ (pq_yaddq hQ ⟨rfl, pq_in hS hD hF⟩)
theorem i_vc_not {k : Nat} {u : SX} {v : SY} (I : i_Rel k u v) (hk : k + 4 ≤ 2048) (v1 : Int32) (v2 : Int32) : wpX_not (fun r u' => wpY_not (fun r' v' => r' = r ∧ i_Rel (k + 4) u' v') v v1 v2) u v1 v2 := by
  refine pq_el (P := fun u v => wpX_not (fun r u' => wpY_not (fun r' v' => r' = r ∧ i_Rel (k + 4) u' v') v v1 v2) u v1 v2) ?_ I
  intro al nb lw fd us le cl kd fi se fl ak ct bh fq fs sy ws L hS hD hF
  unfold wpX_not wpY_not
  dsimp only
  by_cases hQ : pq_isQ us v1
  · obtain ⟨q, hq, rfl, hu⟩ := hQ
    by_cases hT : pq_isT v2
    · obtain ⟨t, ht, rfl⟩ := hT
      refine pq_xaT (k := k + 4) (s' := nI t) hS hD hF hq hu ht ⟨Or.inr (Or.inl rfl), fun _ => ⟨t, ht, rfl⟩, fun h => absurd h (by decide), fun h => absurd h (by decide)⟩ ?_
      intro r u' v' hR hy
      obtain ⟨a1, a2, a3, a4, a5, a6, a7, a8, a9, a10, a11, a12, a13, a14, a15, a16, a17⟩ := u'
      obtain ⟨b1, b2, b3, b4, b5, b6, b7, b8, b9⟩ := v'
      exact pq_yadd3 hq hu (by decide) ht ht (hy _ ⟨rfl, hR⟩)
    · exact pq_xaTt hq hu hT (pq_yaddt hq hu (by decide) hT ⟨rfl, pq_in hS hD hF⟩)
  · exact pq_xaTq hQ (pq_yaddq hQ ⟨rfl, pq_in hS hD hF⟩)
theorem i_vc_should {k : Nat} {u : SX} {v : SY} (I : i_Rel k u v) (hk : k + 4 ≤ 2048) (v1 : Int32) (v2 : Int32) : wpX_should (fun r u' => wpY_should (fun r' v' => r' = r ∧ i_Rel (k + 4) u' v') v v1 v2) u v1 v2 := by
  refine pq_el (P := fun u v => wpX_should (fun r u' => wpY_should (fun r' v' => r' = r ∧ i_Rel (k + 4) u' v') v v1 v2) u v1 v2) ?_ I
  intro al nb lw fd us le cl kd fi se fl ak ct bh fq fs sy ws L hS hD hF
  unfold wpX_should wpY_should
  dsimp only
  by_cases hQ : pq_isQ us v1
  · obtain ⟨q, hq, rfl, hu⟩ := hQ
    by_cases hT : pq_isT v2
    · obtain ⟨t, ht, rfl⟩ := hT
      refine pq_xaT (k := k + 4) (s' := nI t) hS hD hF hq hu ht ⟨Or.inr (Or.inr (Or.inl rfl)), fun _ => ⟨t, ht, rfl⟩, fun h => absurd h (by decide), fun h => absurd h (by decide)⟩ ?_
      intro r u' v' hR hy
      obtain ⟨a1, a2, a3, a4, a5, a6, a7, a8, a9, a10, a11, a12, a13, a14, a15, a16, a17⟩ := u'
      obtain ⟨b1, b2, b3, b4, b5, b6, b7, b8, b9⟩ := v'
      exact pq_yadd3 hq hu (by decide) ht ht (hy _ ⟨rfl, hR⟩)
    · exact pq_xaTt hq hu hT (pq_yaddt hq hu (by decide) hT ⟨rfl, pq_in hS hD hF⟩)
  · exact pq_xaTq hQ (pq_yaddq hQ ⟨rfl, pq_in hS hD hF⟩)
theorem i_vc_phrase {k : Nat} {u : SX} {v : SY} (I : i_Rel k u v) (hk : k + 4 ≤ 2048) (v1 : Int32) (v2 : Int32) (v3 : Int32) : wpX_phrase (fun r u' => wpY_phrase (fun r' v' => r' = r ∧ i_Rel (k + 4) u' v') v v1 v2 v3) u v1 v2 v3 := by
  refine pq_el (P := fun u v => wpX_phrase (fun r u' => wpY_phrase (fun r' v' => r' = r ∧ i_Rel (k + 4) u' v') v v1 v2 v3) u v1 v2 v3) ?_ I
  intro al nb lw fd us le cl kd fi se fl ak ct bh fq fs sy ws L hS hD hF
  unfold wpX_phrase wpY_phrase
  dsimp only
  by_cases hQ : pq_isQ us v1
  · obtain ⟨q, hq, rfl, hu⟩ := hQ
    by_cases hT : pq_isT v2
    · obtain ⟨t, ht, rfl⟩ := hT
      by_cases hT2 : pq_isT v3
      · obtain ⟨s, hs, rfl⟩ := hT2
        refine pq_xnoQ0 hq hu (br_t rfl (pq_xbT0 ht (br_t rfl (pq_xbT0 hs (br_t rfl ?_)))))
        refine pq_addXY (k := k + 4) (s' := nI s) hS hD hF hq hu ⟨Or.inr (Or.inr (Or.inr (Or.inl rfl))), fun _ => ⟨t, ht, rfl⟩, fun _ => ⟨s, hs, rfl⟩, fun _ => rfl⟩ ?_
        intro r u' v' hR hy
        obtain ⟨a1, a2, a3, a4, a5, a6, a7, a8, a9, a10, a11, a12, a13, a14, a15, a16, a17⟩ := u'
        obtain ⟨b1, b2, b3, b4, b5, b6, b7, b8, b9⟩ := v'
        exact pq_yadd3 hq hu (by decide) ht hs (hy _ ⟨rfl, hR⟩)
      · exact pq_xnoQ0 hq hu (br_t rfl (pq_xbT0 ht (br_t rfl (pq_xbT1 hT2 (br_f (by decide) (pq_yaddu hq hu (by decide) ht hT2 ⟨rfl, pq_in hS hD hF⟩))))))
    · exact pq_xnoQ0 hq hu (br_t rfl (pq_xbT1 hT (br_f (by decide) (pq_yaddt hq hu (by decide) hT ⟨rfl, pq_in hS hD hF⟩))))
  · exact pq_xnoQ1 hQ (br_f (by decide) (pq_yaddq hQ ⟨rfl, pq_in hS hD hF⟩))
theorem i_vc_range {k : Nat} {u : SX} {v : SY} (I : i_Rel k u v) (hk : k + 4 ≤ 2048) (v1 : Int32) (v2 : Int32) (v3 : Int32) : wpX_range (fun r u' => wpY_range (fun r' v' => r' = r ∧ i_Rel (k + 4) u' v') v v1 v2 v3) u v1 v2 v3 := by
  refine pq_el (P := fun u v => wpX_range (fun r u' => wpY_range (fun r' v' => r' = r ∧ i_Rel (k + 4) u' v') v v1 v2 v3) u v1 v2 v3) ?_ I
  intro al nb lw fd us le cl kd fi se fl ak ct bh fq fs sy ws L hS hD hF
  unfold wpX_range wpY_range
  dsimp only
  by_cases hQ : pq_isQ us v1
  · obtain ⟨q, hq, rfl, hu⟩ := hQ
    refine pq_xnoQ0 hq hu (br_t rfl ?_)
    refine pq_addXY (k := k + 4) (s' := v3) hS hD hF hq hu ⟨Or.inr (Or.inr (Or.inr (Or.inr rfl))), fun h => absurd rfl h, fun h => absurd h (by decide), fun _ => rfl⟩ ?_
    intro r u' v' hR hy
    obtain ⟨a1, a2, a3, a4, a5, a6, a7, a8, a9, a10, a11, a12, a13, a14, a15, a16, a17⟩ := u'
    obtain ⟨b1, b2, b3, b4, b5, b6, b7, b8, b9⟩ := v'
    exact pq_yadd4 hq hu (by decide) (hy _ ⟨rfl, hR⟩)
  · exact pq_xnoQ1 hQ (br_f (by decide) (pq_yaddq hQ ⟨rfl, pq_in hS hD hF⟩))
end
section
theorem pq_used1 : ¬ vp_nar .boolean 1 = 0 := by
  show ¬ (1 : Int32) = 0
  decide
theorem i_vc_create {k : Nat} {u : SX} {v : SY} (I : i_Rel k u v) (hk : k + 4 ≤ 2048) (v1 : Int32) : wpX_create (fun r u' => wpY_create (fun r' v' => r' = r ∧ i_Rel (k + 4) u' v') v v1) u v1 := by
  refine pq_el (P := fun u v => wpX_create (fun r u' => wpY_create (fun r' v' => r' = r ∧ i_Rel (k + 4) u' v') v v1) u v1) ?_ I
  intro al nb lw fd us le cl kd fi se fl ak ct bh fq fs sy ws L hS hD hF
  unfold wpX_create wpY_create
  dsimp only
  by_cases h0 : v1 < 0
  · exact br_t h0 (br_t h0 ⟨rfl, pq_in hS hD hF⟩)
  · by_cases h6 : v1 ≤ 6
    · obtain ⟨q, hq, ha, hu⟩ := pq_first us 12
      refine br_f h0 (br_t h6 ⟨q + 1, pq_xcr15 hq ha hu ?_ q (q + 1) 0 (by omega) (by omega)⟩)
      unfold wX_create_36
      by_cases e12 : q = 12
      · subst e12
        exact br_t rfl (br_f h0 (br_t h6 ⟨13, pq_ycr15 hq ha hu (fun _ => ⟨rfl, pq_in hS hD hF⟩) (fun z => absurd z (by decide)) 12 13 0 (by decide) rfl⟩))
      · have hq' : q < 12 := by omega
        have eq' : (nI q).toNatClampNeg = q := pq_cl (by omega)
        have hv : vp_in (nI q) 12 := vp_in_nI hq' (by decide)
        refine br_f (pq_ne (b := 12) e12 (by omega) (by decide)) ⟨hv, nm_r (e' := upd us q (vp_nar .boolean 1)) (by rw [eq']) ⟨hv, nm_r (e' := upd le q v1) (by rw [eq']) ⟨hv, nm_r (e' := upd cl q (nI 0)) (by rw [eq', nI_0]) ?_⟩⟩⟩
        refine pq_xfile (c := 0) hq' pk_us (by decide) (pq_StK hS) ?_
        intro al' fl' ak' h1 h2
        refine br_f h0 (br_t h6 ⟨q + 1, pq_ycr15 hq ha hu (fun z => absurd z e12) (fun _ => ⟨rfl, pq_in ?_ hD ?_⟩) q (q + 1) 0 (by omega) (by omega)⟩)
        · refine ⟨?_, hS.2⟩
          intro p hp
          by_cases e : p = q
          · subst e
            have h3 := pq_cu (cl := cl) (q := p) (c := 0) (by decide)
            exact ⟨h3.1, h3.2, by rw [pk_us]; exact h0⟩
          · rw [pq_cun e, pk_un e, pk_un e]
            exact hS.1 p hp
        · intro p hp
          by_cases e : p = q
          · subst e
            rw [pk_us]
            exact ⟨fun z => absurd z pq_used1, fun _ => h2⟩
          · obtain ⟨b1, b2⟩ := h1 p hp e
            rw [pk_un e]
            refine ⟨?_, ?_⟩
            · intro z
              obtain ⟨b3, b4⟩ := (hF p hp).1 z
              exact ⟨b1.trans b3, fun t ht => (b2 t ht).trans (b4 t ht)⟩
            · intro z
              exact pq_FP_fr hp ((hF p hp).2 z) (pk_un e) (pk_un e) (hS.1 p hp).2.1 (fun i _ _ => ⟨rfl, rfl⟩) b1 b2 (pq_StK hS)
    · exact br_f h0 (br_f h6 (br_f h0 (br_f h6 ⟨rfl, pq_in hS hD hF⟩)))
theorem i_vc_remove {k : Nat} {u : SX} {v : SY} (I : i_Rel k u v) (hk : k + 4 ≤ 2048) (v1 : Int32) : wpX_remove (fun r u' => wpY_remove (fun r' v' => r' = r ∧ i_Rel (k + 4) u' v') v v1) u v1 := by
  refine pq_el (P := fun u v => wpX_remove (fun r u' => wpY_remove (fun r' v' => r' = r ∧ i_Rel (k + 4) u' v') v v1) u v1) ?_ I
  intro al nb lw fd us le cl kd fi se fl ak ct bh fq fs sy ws L hS hD hF
  unfold wpX_remove wpY_remove
  dsimp only
  by_cases hQ : pq_isQ us v1
  · obtain ⟨q, hq, rfl, hu⟩ := hQ
    have eq' : (nI q).toNatClampNeg = q := pq_cl (by omega)
    have hv : vp_in (nI q) 12 := vp_in_nI hq (by decide)
    refine pq_xnoQ0 hq hu (br_t rfl (pq_xunfile hq (hS.1 q hq).1 (hS.1 q hq).2.1 (pq_StK1 hS) ?_))
    intro al' fl' ak' h1 h2
    refine ⟨hv, nm_r (e' := upd us q (vp_nar .boolean 0)) (by rw [eq']) ⟨13, pq_xrem26 ?_ 12 13 0 (by decide) rfl⟩⟩
    refine pq_yisQ1 hq hu (br_f (by decide) ⟨hv, nm_r (e' := upd us q (vp_nar .boolean 0)) (by rw [eq']) ⟨13, pq_yrem21 ⟨rfl, pq_in hS hD ?_⟩ 12 13 0 (by decide) rfl⟩⟩)
    intro p hp
    by_cases e : p = q
    · subst e
      rw [pk_us]
      exact ⟨fun _ => h2, fun z => absurd rfl z⟩
    · obtain ⟨b1, b2⟩ := h1 p hp e
      rw [pk_un e]
      refine ⟨?_, ?_⟩
      · intro z
        obtain ⟨b3, b4⟩ := (hF p hp).1 z
        exact ⟨b1.trans b3, fun t ht => (b2 t ht).trans (b4 t ht)⟩
      · intro z
        exact pq_FP_fr hp ((hF p hp).2 z) rfl rfl (hS.1 p hp).2.1 (fun i _ _ => ⟨rfl, rfl⟩) b1 b2 (pq_StK hS)
  · exact pq_xnoQ1 hQ (br_f (by decide) (pq_yisQ0 hQ (br_t rfl ⟨rfl, pq_in hS hD hF⟩)))
theorem i_vc_document {k : Nat} {u : SX} {v : SY} (I : i_Rel k u v) (hk : k + 4 ≤ 2048) (v1 : Int32) : wpX_document (fun u' => wpY_document (fun v' => i_Rel (k + 4) u' v') v v1) u v1 := by
  refine pq_el (P := fun u v => wpX_document (fun u' => wpY_document (fun v' => i_Rel (k + 4) u' v') v v1) u v1) ?_ I
  intro al nb lw fd us le cl kd fi se fl ak ct bh fq fs sy ws L hS hD hF
  unfold wpX_document wpY_document
  dsimp only
  refine ⟨25, pq_xdoc17 ?_ 24 25 0 ct bh (by decide) rfl (fun i hi => absurd hi (Nat.not_lt_zero i))⟩
  intro ct' bh' h
  exact pq_in (L := 0) hS (pq_Dc0 h) hF
theorem pq_Dc_w {L t : Nat} {lw : Int32} {ct bh ws bh' : Nat → Int32} (hD : pq_Dc L lw ct bh ws) (hL : L < 16) (ht : t < 24)
    (hb : ∀ x, x < 24 → ∀ y, y < 24 → bt (bh' x) y = (bt (bh x) y || decide (0 < L ∧ lw = nI x ∧ y = t))) : pq_Dc (L + 1) (nI t) (upd ct t (nI (pq_cn ws (nI t) L + 1))) bh' (upd ws L (nI t)) := by
  obtain ⟨h1, h2, h3, h4, h5, h6⟩ := hD
  have ew : ∀ i, i < L → upd ws L (nI t) i = ws i := fun i hi => pk_un (by omega)
  refine ⟨by omega, ?_, fun z => absurd z (by omega), ?_, ?_, ?_⟩
  · intro i hi
    by_cases e : i = L
    · subst e
      exact ⟨t, ht, pk_us⟩
    · rw [pk_un e]
      exact h2 i (by omega)
  · intro _
    rw [Nat.add_sub_cancel, pk_us]
  · intro x hx
    show _ = nI (pq_cn (upd ws L (nI t)) (nI x) L + (if upd ws L (nI t) L = nI x then 1 else 0))
    rw [pq_cn_congr ew, pk_us]
    by_cases e : x = t
    · subst e
      rw [pk_us, if_pos rfl]
    · rw [pk_un e, if_neg (pq_ne (fun z => e z.symm) (by omega) (by omega)), Nat.add_zero]
      exact h5 x hx
  · intro x hx y hy
    rw [hb x hx y hy, h6 x hx y hy, Nat.add_sub_cancel]
    by_cases e0 : L = 0
    · subst e0
      rw [decide_eq_false (fun z => absurd z.1 (by decide))]
      rfl
    · obtain ⟨l, rfl⟩ : ∃ l, L = l + 1 := ⟨L - 1, by omega⟩
      show _ = (pq_bs (upd ws (l + 1) (nI t)) (nI x) (nI y) l || decide (upd ws (l + 1) (nI t) l = nI x ∧ upd ws (l + 1) (nI t) (l + 1) = nI y))
      have e1 : l + 1 - 1 = l := by omega
      have e4 := h4 (by omega)
      rw [e1] at e4 ⊢
      rw [pq_bs_congr (ws' := upd ws (l + 1) (nI t)) (ws := ws) (n := l) (fun i hi => ew i (by omega)), pk_us, ew l (by omega), e4]
      congr 1
      apply decide_eq_decide.mpr
      constructor
      · intro z
        exact ⟨z.2.1, by rw [z.2.2]⟩
      · intro z
        exact ⟨by omega, z.1, ((nI_eq (by omega) (by omega)).mp z.2).symm⟩
theorem i_vc_word {k : Nat} {u : SX} {v : SY} (I : i_Rel k u v) (hk : k + 4 ≤ 2048) (v1 : Int32) : wpX_word (fun r u' => wpY_word (fun r' v' => r' = r ∧ i_Rel (k + 4) u' v') v v1) u v1 := by
  refine pq_el (P := fun u v => wpX_word (fun r u' => wpY_word (fun r' v' => r' = r ∧ i_Rel (k + 4) u' v') v v1) u v1) ?_ I
  intro al nb lw fd us le cl kd fi se fl ak ct bh fq fs sy ws L hS hD hF
  unfold wpX_word wpY_word
  dsimp only
  by_cases hT : pq_isT v1
  · obtain ⟨t, ht, rfl⟩ := hT
    have h16 := hD.1
    refine pq_xbT0 ht (br_t rfl ?_)
    by_cases hL : L < 16
    · have et : (nI t).toNatClampNeg = t := pq_cl (by omega)
      have hv : vp_in (nI t) 24 := vp_in_nI ht (by decide)
      have hY : ∀ (r : Int32) (lw' : Int32) (ct' bh' : Nat → Int32), r = nI (L + 1) → pq_Dc (L + 1) lw' ct' bh' (upd ws L (nI t)) → wpY_isTerm (fun r_1 => (r_1 = 0 → (-2 : Int32) = r ∧ i_Rel (k + 4) (al, r, nb, lw', fd, us, le, cl, kd, fi, se, fl, ak, ct', bh', fq, fs) (nI L, nb, us, le, cl, kd, fi, sy, ws)) ∧ (¬ r_1 = 0 → (nI L = 16 → (-3 : Int32) = r ∧ i_Rel (k + 4) (al, r, nb, lw', fd, us, le, cl, kd, fi, se, fl, ak, ct', bh', fq, fs) (nI L, nb, us, le, cl, kd, fi, sy, ws)) ∧ (¬ nI L = 16 → vp_in (nI L) 16 ∧ ∀ a_words_14, a_words_14 = upd ws (nI L).toNatClampNeg (nI t) → ∀ f_length_15, f_length_15 = nI L + 1 → f_length_15 = r ∧ i_Rel (k + 4) (al, r, nb, lw', fd, us, le, cl, kd, fi, se, fl, ak, ct', bh', fq, fs) (f_length_15, nb, us, le, cl, kd, fi, sy, a_words_14)))) (nI L, nb, us, le, cl, kd, fi, sy, ws) (nI t) := by
        intro r lw' ct' bh' er hD'
        subst er
        exact pq_yisT1 ht (br_f (by decide) (br_f (pq_ne (b := 16) (by omega) (by omega) (by decide)) ⟨vp_in_nI hL (by decide), nm_r (e' := upd ws L (nI t)) (by rw [pq_cl (by omega)]) (nm_r (nI_1 L) ⟨rfl, pq_in hS hD' hF⟩)⟩))
      have ec : ct t + 1 = nI (pq_cn ws (nI t) L + 1) := by rw [hD.2.2.2.2.1 t ht, nI_1]
      refine br_t (nI_lt (b := 16) hL (by decide)) ⟨hv, hv, nm_r (e' := upd ct t (nI (pq_cn ws (nI t) L + 1))) (by rw [et, ec]) ?_⟩
      by_cases e0 : L = 0
      · have hlw : lw < 0 := hD.2.2.1 e0
        refine br_t hlw (nm_r (nI_1 L) (hY _ _ _ _ rfl (pq_Dc_w hD hL ht ?_)))
        intro x hx y hy
        rw [decide_eq_false (fun z => absurd z.1 (by omega)), Bool.or_false]
      · obtain ⟨s, hs, es⟩ := hD.2.1 (L - 1) (by omega)
        have el : lw = nI s := (hD.2.2.2.1 (by omega)).trans es
        have hvl : vp_in lw 24 := by rw [el]; exact vp_in_nI hs (by decide)
        have hnl : ¬ lw < 0 := by rw [el]; exact nI_pos (by omega)
        refine br_f hnl ⟨hvl, hvl, nm_r (e' := upd bh s (bh s ||| ((1 : Int32) <<< (nI t &&& 31)))) (by rw [el, pq_cl (n := s) (by omega)]) (nm_r (nI_1 L) (hY _ _ _ _ rfl (pq_Dc_w hD hL ht ?_)))⟩
        intro x hx y hy
        by_cases ex : x = s
        · subst ex
          rw [pk_us, pq_set _ (by omega) (by omega)]
          congr 1
          exact decide_eq_decide.mpr ⟨fun z => ⟨by omega, el, z⟩, fun z => z.2.2⟩
        · rw [pk_un ex, decide_eq_false (fun z => ex ((nI_eq (by omega) (by omega)).mp (el.symm.trans z.2.1)).symm), Bool.or_false]
    · have e16 : L = 16 := by omega
      subst e16
      exact br_f (nI_nlt (b := 16) (Nat.le_refl _) (by decide)) (pq_yisT1 ht (br_f (by decide) (br_t rfl ⟨rfl, pq_in hS hD hF⟩)))
  · exact pq_xbT1 hT (br_f (by decide) (pq_yisT0 hT (br_t rfl ⟨rfl, pq_in hS hD hF⟩)))
theorem i_vc_matches {k : Nat} {u : SX} {v : SY} (I : i_Rel k u v) (hk : k + 4 ≤ 2048) : wpX_matches (fun r u' => wpY_matches (fun r' => r' = r ∧ i_Rel (k + 4) u' v) v) u := by
  refine pq_el (P := fun u v => wpX_matches (fun r u' => wpY_matches (fun r' => r' = r ∧ i_Rel (k + 4) u' v) v) u) ?_ I
  intro al nb lw fd us le cl kd fi se fl ak ct bh fq fs sy ws L hS hD hF
  unfold wpX_matches
  dsimp only
  refine pq_xperc hS hD hF ?_
  intro f fq' fs' h
  exact pq_ymatches hS hD.1 ⟨by rw [h.1], pq_in hS hD hF⟩
theorem i_vc_match {k : Nat} {u : SX} {v : SY} (I : i_Rel k u v) (hk : k + 4 ≤ 2048) (v1 : Int32) : wpX_match (fun r u' => wpY_match (fun r' => r' = r ∧ i_Rel (k + 4) u' v) v v1) u v1 := by
  refine pq_el (P := fun u v => wpX_match (fun r u' => wpY_match (fun r' => r' = r ∧ i_Rel (k + 4) u' v) v v1) u v1) ?_ I
  intro al nb lw fd us le cl kd fi se fl ak ct bh fq fs sy ws L hS hD hF
  unfold wpX_match
  dsimp only
  refine pq_xperc hS hD hF ?_
  intro f fq' fs' h
  have hf12 : f ≤ 12 := by rw [h.1]; exact pq_cnt_le _ 12
  by_cases h0 : v1 < 0
  · refine br_t h0 (pq_ymatchB ?_ hS hD.1 ⟨rfl, pq_in hS hD hF⟩)
    intro p hp hM z
    have b1 := pq_rk12 (M := pq_M nb us le cl kd fi sy ws L) (S := pq_S cl kd fi ws L) p
    rw [← z] at h0
    exact nI_pos (by omega) h0
  · obtain ⟨i, hi, rfl⟩ := nI_of h0
    by_cases hif : i < f
    · obtain ⟨p, hp, hM, hr⟩ := h.2.2 i hif
      have ha := (h.2.1 p hp hM).1
      rw [hr] at ha
      have ea : fq' (nI i).toNatClampNeg = nI p := by rw [pq_cl (by omega)]; exact ha
      refine br_f h0 (br_t (nI_lt hif (by omega)) ⟨vp_in_nI (by omega) (by decide), ?_⟩)
      dsimp only
      rw [ea]
      have hy := pq_ymatchA (post := fun r' => r' = nI p ∧ i_Rel (k + 4) (al, nI L, nb, lw, nI f, us, le, cl, kd, fi, se, fl, ak, ct, bh, fq', fs') (nI L, nb, us, le, cl, kd, fi, sy, ws)) hp hM hS hD.1 ⟨rfl, pq_in hS hD hF⟩
      rw [hr] at hy
      exact hy
    · refine br_f h0 (br_f (nI_nlt (by omega) hi) (pq_ymatchB ?_ hS hD.1 ⟨rfl, pq_in hS hD hF⟩))
      intro p hp hM z
      have b1 := pq_rk_bd (S := pq_S cl kd fi ws L) hp hM
      have b3 := h.1
      have b2 := (nI_eq (by omega) hi).mp z
      omega
theorem i_vc_score {k : Nat} {u : SX} {v : SY} (I : i_Rel k u v) (hk : k + 4 ≤ 2048) (v1 : Int32) : wpX_score (fun r u' => wpY_score (fun r' => r' = r ∧ i_Rel (k + 4) u' v) v v1) u v1 := by
  refine pq_el (P := fun u v => wpX_score (fun r u' => wpY_score (fun r' => r' = r ∧ i_Rel (k + 4) u' v) v v1) u v1) ?_ I
  intro al nb lw fd us le cl kd fi se fl ak ct bh fq fs sy ws L hS hD hF
  unfold wpX_score wpY_score
  dsimp only
  refine pq_xperc hS hD hF ?_
  intro f fq' fs' h
  have hf12 : f ≤ 12 := by rw [h.1]; exact pq_cnt_le _ 12
  by_cases h0 : v1 < 0
  · refine br_t h0 (pq_ymatchB ?_ hS hD.1 (br_f (by decide) ⟨rfl, pq_in hS hD hF⟩))
    intro p hp hM z
    have b1 := pq_rk12 (M := pq_M nb us le cl kd fi sy ws L) (S := pq_S cl kd fi ws L) p
    rw [← z] at h0
    exact nI_pos (by omega) h0
  · obtain ⟨i, hi, rfl⟩ := nI_of h0
    by_cases hif : i < f
    · obtain ⟨p, hp, hM, hr⟩ := h.2.2 i hif
      have ha := (h.2.1 p hp hM).2
      rw [hr] at ha
      have ea : fs' (nI i).toNatClampNeg = pq_S cl kd fi ws L p := by rw [pq_cl (by omega)]; exact ha
      refine br_f h0 (br_t (nI_lt hif (by omega)) ⟨vp_in_nI (by omega) (by decide), ?_⟩)
      dsimp only
      rw [ea]
      have hy := pq_ymatchA (post := fun r_1 => (0 ≤ r_1 → wpY_scoreOf (fun r_12 => r_12 = pq_S cl kd fi ws L p ∧ i_Rel (k + 4) (al, nI L, nb, lw, nI f, us, le, cl, kd, fi, se, fl, ak, ct, bh, fq', fs') (nI L, nb, us, le, cl, kd, fi, sy, ws)) (nI L, nb, us, le, cl, kd, fi, sy, ws) r_1) ∧ (¬ 0 ≤ r_1 → (0 : Int32) = pq_S cl kd fi ws L p ∧ i_Rel (k + 4) (al, nI L, nb, lw, nI f, us, le, cl, kd, fi, se, fl, ak, ct, bh, fq', fs') (nI L, nb, us, le, cl, kd, fi, sy, ws))) hp hM hS hD.1 (br_t (nI_pos' (by omega)) (pq_yscore hp hS hD.1 ⟨rfl, pq_in hS hD hF⟩))
      rw [hr] at hy
      exact hy
    · refine br_f h0 (br_f (nI_nlt (by omega) hi) (pq_ymatchB ?_ hS hD.1 (br_f (by decide) ⟨rfl, pq_in hS hD hF⟩)))
      intro p hp hM z
      have b1 := pq_rk_bd (S := pq_S cl kd fi ws L) hp hM
      have b3 := h.1
      have b2 := (nI_eq (by omega) hi).mp z
      omega
theorem i_vc_matchesQuery {k : Nat} {u : SX} {v : SY} (I : i_Rel k u v) (hk : k + 4 ≤ 2048) (v1 : Int32) : wpX_matchesQuery (fun r => wpY_matchesQuery (fun r' => r' = r ∧ i_Rel (k + 4) u v) v v1) u v1 := by
  refine pq_el (P := fun u v => wpX_matchesQuery (fun r => wpY_matchesQuery (fun r' => r' = r ∧ i_Rel (k + 4) u v) v v1) u v1) ?_ I
  intro al nb lw fd us le cl kd fi se fl ak ct bh fq fs sy ws L hS hD hF
  unfold wpX_matchesQuery
  dsimp only
  by_cases hQ : pq_isQ us v1
  · obtain ⟨q, hq, rfl, hu⟩ := hQ
    refine pq_xnoQ0 hq hu (br_t rfl (pq_xcheck hq hu hS hD ⟨?_, pq_ymq hq hS hD.1 ⟨rfl, pq_in hS hD hF⟩⟩))
    rw [pq_mv_u hu]
    rcases pq_ck_01 (ev := pq_ev nb kd fi sy ws L) (l := le q) (pq_c cl q) (6 * q) 0 with e | e
    · rw [e]
      rfl
    · rw [e]
      rfl
  · refine pq_xnoQ1 hQ (br_f (by decide) ?_)
    unfold wpY_matchesQuery
    dsimp only
    exact pq_yisQ0 hQ (br_t rfl ⟨rfl, pq_in hS hD hF⟩)
end
