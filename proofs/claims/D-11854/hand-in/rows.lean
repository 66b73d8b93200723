section
/-! the plain law of orders: factorials, sums, free values, counts -/
def rk_f : Nat → Nat
  | 0 => 1
  | k + 1 => (k + 1) * rk_f k
theorem rk_f_s (k : Nat) : rk_f (k + 1) = (k + 1) * rk_f k := rfl
theorem rk_f_pos (k : Nat) : 0 < rk_f k := by
  induction k with
  | zero => exact Nat.one_pos
  | succ k ih => exact Nat.mul_pos (Nat.succ_pos k) ih
theorem rk_f_le : ∀ k, k < 8 → rk_f k ≤ 5040 := by decide
theorem rk_f_d {n i : Nat} (h : i < n) : rk_f (n - i) = (n - i) * rk_f (n - 1 - i) := by
  obtain ⟨k, hk⟩ : ∃ k, n - i = k + 1 := ⟨n - i - 1, by omega⟩
  rw [hk, show n - 1 - i = k by omega]
  rfl
def rk_sum (w : Nat → Nat) : Nat → Nat
  | 0 => 0
  | k + 1 => rk_sum w k + w k
theorem rk_sum_s (w : Nat → Nat) (k : Nat) : rk_sum w (k + 1) = rk_sum w k + w k := rfl
theorem rk_sum_c {w v : Nat → Nat} {k : Nat} (h : ∀ j, j < k → w j = v j) : rk_sum w k = rk_sum v k := by
  induction k with
  | zero => rfl
  | succ k ih => rw [rk_sum_s, rk_sum_s, ih (fun j hj => h j (by omega)), h k (by omega)]
theorem rk_sum_le {w : Nat → Nat} {a b : Nat} (h : a ≤ b) : rk_sum w a ≤ rk_sum w b := by
  induction b with
  | zero => rw [show a = 0 by omega]; exact Nat.le_refl _
  | succ b ih =>
    by_cases e : a = b + 1
    · rw [e]; exact Nat.le_refl _
    · have := ih (by omega)
      rw [rk_sum_s]; omega
theorem rk_sum_mul (w : Nat → Nat) (c k : Nat) : rk_sum (fun j => w j * c) k = rk_sum w k * c := by
  induction k with
  | zero => exact (Nat.zero_mul c).symm
  | succ k ih => rw [rk_sum_s, rk_sum_s, ih, Nat.add_mul]
theorem rk_rev (h : Nat → Nat) (n k : Nat) (hk : k ≤ n) : rk_sum (fun j => h (n - 1 - j)) k + rk_sum h (n - k) = rk_sum h n := by
  induction k with
  | zero => exact Nat.zero_add _
  | succ k ih =>
    have ih' := ih (by omega)
    rw [show n - k = (n - (k + 1)) + 1 by omega, rk_sum_s] at ih'
    show rk_sum (fun j => h (n - 1 - j)) k + h (n - 1 - k) + rk_sum h (n - (k + 1)) = _
    rw [show n - 1 - k = n - (k + 1) by omega]
    omega
def rk_fr (p : Nat → Nat) : Nat → Nat → Bool
  | 0 => fun _ => true
  | i + 1 => fun y => rk_fr p i y && decide (p i ≠ y)
def rk_c (p : Nat → Nat) (i v : Nat) : Nat := rk_sum (fun y => if rk_fr p i y = true then 1 else 0) v
def rk_l (p : Nat → Nat) (i v : Nat) : Nat := rk_sum (fun l => if p l < v then 1 else 0) i
theorem rk_fr_s (p : Nat → Nat) (i y : Nat) : rk_fr p (i + 1) y = (rk_fr p i y && decide (p i ≠ y)) := rfl
theorem rk_c_s (p : Nat → Nat) (i v : Nat) : rk_c p i (v + 1) = rk_c p i v + (if rk_fr p i v = true then 1 else 0) := rfl
theorem rk_l_s (p : Nat → Nat) (i v : Nat) : rk_l p (i + 1) v = rk_l p i v + (if p i < v then 1 else 0) := rfl
theorem rk_fr_iff {p : Nat → Nat} {i y : Nat} : rk_fr p i y = true ↔ ∀ k, k < i → p k ≠ y := by
  induction i with
  | zero => exact ⟨fun _ k hk => absurd hk (by omega), fun _ => rfl⟩
  | succ i ih =>
    rw [rk_fr_s, Bool.and_eq_true, ih, decide_eq_true_iff]
    constructor
    · intro h k hk
      by_cases e : k = i
      · rw [e]; exact h.2
      · exact h.1 k (by omega)
    · exact fun h => ⟨fun k hk => h k (by omega), h i (by omega)⟩
theorem rk_fr_c {p q : Nat → Nat} {i : Nat} (h : ∀ k, k < i → p k = q k) (y : Nat) : rk_fr p i y = rk_fr q i y := by
  induction i with
  | zero => rfl
  | succ i ih => rw [rk_fr_s, rk_fr_s, ih (fun k hk => h k (by omega)), h i (by omega)]
theorem rk_c_c {p q : Nat → Nat} {i : Nat} (h : ∀ k, k < i → p k = q k) (v : Nat) : rk_c p i v = rk_c q i v :=
  rk_sum_c (fun j _ => by rw [rk_fr_c h j])
theorem rk_cB {p : Nat → Nat} {i : Nat} (h : rk_fr p i (p i) = true) (v : Nat) : rk_c p (i + 1) v + (if p i < v then 1 else 0) = rk_c p i v := by
  induction v with
  | zero => rw [if_neg (by omega)]; rfl
  | succ v ih =>
    rw [rk_c_s, rk_c_s, rk_fr_s]
    by_cases e : p i = v
    · have hv : rk_fr p i v = true := e ▸ h
      have h1 : (rk_fr p i v && decide (p i ≠ v)) = false := by rw [hv, decide_eq_false (by omega)]; rfl
      rw [if_neg (by omega)] at ih
      rw [h1, hv, if_neg (by decide), if_pos rfl, if_pos (by omega)]
      omega
    · have h1 : (rk_fr p i v && decide (p i ≠ v)) = rk_fr p i v := by rw [decide_eq_true e, Bool.and_true]
      rw [h1]
      generalize (if rk_fr p i v = true then 1 else 0) = z
      by_cases e2 : p i < v
      · rw [if_pos e2] at ih
        rw [if_pos (show p i < v + 1 by omega)]
        omega
      · rw [if_neg e2] at ih
        rw [if_neg (show ¬ p i < v + 1 by omega)]
        omega
theorem rk_c_0 (p : Nat → Nat) (v : Nat) : rk_c p 0 v = v := by
  induction v with
  | zero => rfl
  | succ v ih => rw [rk_c_s, ih, show rk_fr p 0 v = true from rfl, if_pos rfl]
theorem rk_cl {p : Nat → Nat} {i : Nat} (h : ∀ k, k < i → rk_fr p k (p k) = true) (v : Nat) : rk_c p i v + rk_l p i v = v := by
  induction i with
  | zero => rw [rk_c_0]; rfl
  | succ i ih =>
    have h1 := ih (fun k hk => h k (by omega))
    have h2 := rk_cB (h i (by omega)) v
    rw [rk_l_s]
    omega
theorem rk_l_n {p : Nat → Nat} {i n : Nat} (h : ∀ k, k < i → p k < n) : rk_l p i n = i := by
  induction i with
  | zero => rfl
  | succ i ih => rw [rk_l_s, ih (fun k hk => h k (by omega)), if_pos (h i (by omega))]
theorem rk_tot {p : Nat → Nat} {i n : Nat} (h : ∀ k, k < i → rk_fr p k (p k) = true) (hn : ∀ k, k < i → p k < n) : rk_c p i n + i = n := by
  have h1 := rk_cl h n
  rw [rk_l_n hn] at h1
  exact h1
theorem rk_ivt {p : Nat → Nat} {i d : Nat} : ∀ v, d < rk_c p i v → ∃ u, u < v ∧ rk_fr p i u = true ∧ rk_c p i u = d := by
  intro v
  induction v with
  | zero => intro h; exact absurd h (Nat.not_lt_zero d)
  | succ v ih =>
    intro h
    rw [rk_c_s] at h
    by_cases e : d < rk_c p i v
    · obtain ⟨u, h1, h2⟩ := ih e
      exact ⟨u, by omega, h2⟩
    · by_cases f : rk_fr p i v = true
      · rw [if_pos f] at h
        exact ⟨v, by omega, f, by omega⟩
      · rw [if_neg f] at h
        omega
theorem rk_c_lt {p : Nat → Nat} {i a b : Nat} (h : a < b) (hf : rk_fr p i a = true) : rk_c p i a < rk_c p i b := by
  have h1 : rk_c p i (a + 1) ≤ rk_c p i b := rk_sum_le h
  rw [rk_c_s, if_pos hf] at h1
  omega
theorem rk_uniq {p : Nat → Nat} {i a b : Nat} (ha : rk_fr p i a = true) (hb : rk_fr p i b = true) (h : rk_c p i a = rk_c p i b) : a = b := by
  rcases Nat.lt_trichotomy a b with z | z | z
  · have := rk_c_lt z ha; omega
  · exact z
  · have := rk_c_lt z hb; omega
theorem rk_c_gap {p : Nat → Nat} {i a b : Nat} (hab : a ≤ b) (h : ∀ x, a ≤ x → x < b → rk_fr p i x = false) : rk_c p i b = rk_c p i a := by
  induction b with
  | zero => rw [show a = 0 by omega]
  | succ b ih =>
    by_cases e : a = b + 1
    · rw [e]
    · rw [rk_c_s, ih (by omega) (fun x h1 h2 => h x h1 (by omega)), h b (by omega) (by omega), if_neg (by decide), Nat.add_zero]
/-- the first k places of the m-th order of n things -/
def rk_P (n m : Nat) (p : Nat → Nat) (k : Nat) : Prop := ∀ i, i < k → p i < n ∧ rk_fr p i (p i) = true ∧ rk_c p i (p i) = m % rk_f (n - i) / rk_f (n - 1 - i)
theorem rk_d_lt (n m i : Nat) (h : i < n) : m % rk_f (n - i) / rk_f (n - 1 - i) < n - i := by
  have h1 : m % rk_f (n - i) < rk_f (n - i) := Nat.mod_lt _ (rk_f_pos _)
  generalize m % rk_f (n - i) = z at *
  rw [rk_f_d h] at h1
  exact (Nat.div_lt_iff_lt_mul (rk_f_pos _)).mpr h1
theorem rk_ex (n m : Nat) : ∀ k, k ≤ n → ∃ p, rk_P n m p k := by
  intro k
  induction k with
  | zero => exact fun _ => ⟨fun _ => 0, fun i hi => absurd hi (by omega)⟩
  | succ k ih =>
    intro hk
    obtain ⟨p, hp⟩ := ih (by omega)
    have ht := rk_tot (n := n) (fun j hj => (hp j hj).2.1) (fun j hj => (hp j hj).1)
    have hd := rk_d_lt n m k (by omega)
    obtain ⟨v, v1, v2, v3⟩ := rk_ivt (p := p) (i := k) n (show m % rk_f (n - k) / rk_f (n - 1 - k) < rk_c p k n by omega)
    have hq : ∀ j, j < k → (fun j => if j = k then v else p j) j = p j := fun j hj => if_neg (by omega)
    refine ⟨fun j => if j = k then v else p j, fun i hi => ?_⟩
    by_cases e : i = k
    · subst e
      have e1 : (fun j => if j = i then v else p j) i = v := if_pos rfl
      rw [e1, rk_fr_c hq, rk_c_c hq]
      exact ⟨v1, v2, v3⟩
    · have hi' : i < k := by omega
      rw [hq i hi', rk_fr_c (fun j hj => hq j (by omega)), rk_c_c (fun j hj => hq j (by omega))]
      exact hp i hi'
theorem rk_Rs {n m : Nat} {p : Nat → Nat} (h : rk_P n m p n) {i : Nat} (hi : i < n) : m % rk_f (n - i) = rk_c p i (p i) * rk_f (n - 1 - i) + m % rk_f (n - 1 - i) := by
  rw [(h i hi).2.2]
  have h1 : m % rk_f (n - i) % rk_f (n - 1 - i) = m % rk_f (n - 1 - i) := Nat.mod_mod_of_dvd m ⟨n - i, by rw [rk_f_d hi, Nat.mul_comm]⟩
  have h2 := Nat.div_add_mod (m % rk_f (n - i)) (rk_f (n - 1 - i))
  rw [h1, Nat.mul_comm] at h2
  exact h2.symm
/-- what withItem answers for orders -/
def rk_w1 (n : Nat) (p : Nat → Nat) (i x : Nat) : Nat := if x < n ∧ rk_fr p i x = true then rk_f (n - 1 - i) else 0
theorem rk_w1_c {n : Nat} {p q : Nat → Nat} {i : Nat} (h : ∀ k, k < i → p k = q k) (x : Nat) : rk_w1 n p i x = rk_w1 n q i x := by
  unfold rk_w1
  rw [rk_fr_c h x]
theorem rk_w1_lt {n : Nat} (hn : n ≤ 7) (p : Nat → Nat) (i x : Nat) : rk_w1 n p i x < 2 ^ 31 := by
  have := rk_f_le (n - 1 - i) (by omega)
  unfold rk_w1
  split <;> omega
theorem rk_w1_sum {n : Nat} {p : Nat → Nat} {i v : Nat} (hv : v ≤ n) : rk_sum (rk_w1 n p i) v = rk_c p i v * rk_f (n - 1 - i) := by
  unfold rk_c
  rw [← rk_sum_mul]
  refine rk_sum_c (fun j hj => ?_)
  unfold rk_w1
  by_cases f : rk_fr p i j = true
  · rw [if_pos ⟨by omega, f⟩, if_pos f, Nat.one_mul]
  · rw [if_neg (fun z => f z.2), if_neg f, Nat.zero_mul]
theorem rk_go1 {n m : Nat} {p : Nat → Nat} (h : rk_P n m p n) {i : Nat} (hi : i < n) :
    m % rk_f (n - i) = rk_sum (rk_w1 n p i) (p i) + m % rk_f (n - (i + 1)) ∧ m % rk_f (n - (i + 1)) < rk_w1 n p i (p i) := by
  rw [rk_w1_sum (Nat.le_of_lt (h i hi).1), show n - (i + 1) = n - 1 - i by omega]
  refine ⟨rk_Rs h hi, ?_⟩
  unfold rk_w1
  rw [if_pos ⟨(h i hi).1, (h i hi).2.1⟩]
  exact Nat.mod_lt _ (rk_f_pos _)
/-- the rank of the places below i, telescoped -/
theorem rk_rk {n m : Nat} {p : Nat → Nat} (h : rk_P n m p n) (hm : m < rk_f n) {i : Nat} (hi : i ≤ n) :
    rk_sum (fun j => rk_sum (rk_w1 n p j) (p j)) i + m % rk_f (n - i) = m := by
  induction i with
  | zero => rw [Nat.sub_zero, Nat.mod_eq_of_lt hm]; exact Nat.zero_add m
  | succ i ih =>
    have h1 := ih (by omega)
    have h2 := (rk_go1 h (show i < n by omega)).1
    show rk_sum (fun j => rk_sum (rk_w1 n p j) (p j)) i + rk_sum (rk_w1 n p i) (p i) + m % rk_f (n - (i + 1)) = m
    omega
theorem rk_first {n m : Nat} {p : Nat → Nat} (h : rk_P n m p n) (hm : m < rk_f n) {i : Nat} (hi : i < n) :
    rk_sum (fun j => rk_sum (rk_w1 n p j) (p j)) (i + 1) = m / rk_f (n - 1 - i) * rk_f (n - 1 - i) := by
  have h1 := rk_rk h hm (show i + 1 ≤ n by omega)
  rw [show n - (i + 1) = n - 1 - i by omega] at h1
  have h2 := Nat.div_add_mod m (rk_f (n - 1 - i))
  rw [Nat.mul_comm] at h2
  omega
theorem rk_inj {n m : Nat} {p : Nat → Nat} (h : rk_P n m p n) {a b : Nat} (hab : a < b) (hb : b < n) : p a ≠ p b :=
  rk_fr_iff.mp (h b hb).2.1 a hab
theorem rk_perm {n m : Nat} {p : Nat → Nat} (h : rk_P n m p n) {v : Nat} (hv : v ≤ n) : rk_l p n v = v := by
  have h1 := rk_cl (fun k hk => (h k hk).2.1) v
  have h2 := rk_tot (n := n) (fun k hk => (h k hk).2.1) (fun k hk => (h k hk).1)
  have h3 : rk_c p n v ≤ rk_c p n n := rk_sum_le hv
  omega
theorem rk_mirT {n m : Nat} {p : Nat → Nat} (h : rk_P n m p n) {j : Nat} (hj : j < n) : rk_c (fun i => p (n - 1 - i)) (n - 1 - j) (p j) = rk_l p j (p j) := by
  have inj : ∀ k, k < n → rk_fr (fun i => p (n - 1 - i)) k (p (n - 1 - k)) = true := fun k hk =>
    rk_fr_iff.mpr (fun a ha z => rk_inj h (show n - 1 - k < n - 1 - a by omega) (by omega) z.symm)
  have h1 := rk_cl (p := fun i => p (n - 1 - i)) (i := n - 1 - j) (fun k hk => inj k (by omega)) (p j)
  have h2 := rk_perm h (Nat.le_of_lt (h j hj).1)
  have h3 := rk_rev (fun l => if p l < p j then 1 else 0) n (n - 1 - j) (by omega)
  have h4 : rk_l p (j + 1) (p j) = rk_l p j (p j) := by rw [rk_l_s, if_neg (by omega), Nat.add_zero]
  rw [show n - (n - 1 - j) = j + 1 by omega] at h3
  have h5 : rk_l (fun i => p (n - 1 - i)) (n - 1 - j) (p j) + rk_l p (j + 1) (p j) = rk_l p n (p j) := h3
  omega
theorem rk_mir {n m : Nat} {p : Nat → Nat} (h : rk_P n m p n) :
    rk_sum (fun j => rk_sum (rk_w1 n (fun i => p (n - 1 - i)) j) (p (n - 1 - j))) n = rk_sum (fun j => rk_l p j (p j) * rk_f j) n := by
  have h1 := rk_rev (fun j => rk_l p j (p j) * rk_f j) n n (Nat.le_refl n)
  rw [Nat.sub_self] at h1
  have h2 : rk_sum (fun j => (fun j => rk_l p j (p j) * rk_f j) (n - 1 - j)) n = rk_sum (fun j => rk_l p j (p j) * rk_f j) n := h1
  rw [← h2]
  refine rk_sum_c (fun j hj => ?_)
  show rk_sum (rk_w1 n (fun i => p (n - 1 - i)) j) (p (n - 1 - j)) = rk_l p (n - 1 - j) (p (n - 1 - j)) * rk_f (n - 1 - j)
  rw [rk_w1_sum (Nat.le_of_lt (h _ (by omega)).1)]
  have h3 := rk_mirT h (show n - 1 - j < n by omega)
  rw [show n - 1 - (n - 1 - j) = j by omega] at h3
  rw [h3]
/-- next: a place that takes nothing greater -/
theorem rk_last {n m : Nat} {p : Nat → Nat} (h : rk_P n m p n) {i : Nat} (hi : i < n) (hg : ∀ x, p i < x → x < n → rk_fr p i x = false) (hr : m % rk_f (n - 1 - i) + 1 = rk_f (n - 1 - i)) :
    m % rk_f (n - i) + 1 = rk_f (n - i) := by
  have h1 := rk_tot (n := n) (i := i) (fun k hk => (h k (by omega)).2.1) (fun k hk => (h k (by omega)).1)
  have h2 := rk_c_gap (p := p) (i := i) (show p i + 1 ≤ n from (h i hi).1) (fun x a b => hg x a b)
  rw [rk_c_s, if_pos (h i hi).2.1] at h2
  rw [rk_Rs h hi, rk_f_d hi, show n - i = rk_c p i (p i) + 1 by omega, Nat.add_mul, Nat.one_mul]
  omega
theorem rk_free {p : Nat → Nat} {i n : Nat} (h : ∀ k, k < i → rk_fr p k (p k) = true) (hn : ∀ k, k < i → p k < n) (hi : i < n) : ∃ x, x < n ∧ rk_fr p i x = true ∧ ∀ y, y < x → rk_fr p i y = false := by
  have h1 := rk_tot h hn
  obtain ⟨u, u1, u2, u3⟩ := rk_ivt (p := p) (i := i) (d := 0) n (by omega)
  refine ⟨u, u1, u2, fun y hy => ?_⟩
  cases f : rk_fr p i y with
  | false => rfl
  | true => have := rk_c_lt hy f; omega
end
section
/-! bits: rows turned from kit/laws/BITS.to-paste -/
def rk_bt (x : Int32) (i : Nat) : Bool := x.toBitVec.getLsbD i
theorem rk_b_ext {x y : Int32} (h : ∀ i, i < 32 → rk_bt x i = rk_bt y i) : x = y := Int32.toBitVec_inj.mp (BitVec.eq_of_getLsbD_eq (fun i hi => h i hi))
theorem rk_b_or (x y : Int32) (i : Nat) : rk_bt (x ||| y) i = (rk_bt x i || rk_bt y i) := by unfold rk_bt; rw [Int32.toBitVec_or, BitVec.getLsbD_or]
theorem rk_b_and (x y : Int32) (i : Nat) : rk_bt (x &&& y) i = (rk_bt x i && rk_bt y i) := by unfold rk_bt; rw [Int32.toBitVec_and, BitVec.getLsbD_and]
theorem rk_b_0 (i : Nat) : rk_bt 0 i = false := BitVec.getLsbD_zero
theorem rk_b_1 : ∀ i, i < 32 → rk_bt 1 i = decide (i = 0) := by decide +kernel
theorem rk_s_l : ∀ n, n < 32 → ((nI n &&& 31).toBitVec.smod 32).toNat = n := by decide +kernel
theorem rk_b_shl (n : Nat) (hn : n < 32) (x : Int32) {i : Nat} (hi : i < 32) : rk_bt (x <<< (nI n &&& 31)) i = (decide (n ≤ i) && rk_bt x (i - n)) := by
  unfold rk_bt
  rw [Int32.toBitVec_shiftLeft]
  show (x.toBitVec <<< ((nI n &&& 31).toBitVec.smod 32).toNat).getLsbD i = _
  rw [rk_s_l n hn, BitVec.getLsbD_shiftLeft]
  rcases Nat.lt_or_ge i n with h | h
  · simp [h, Nat.not_le.mpr h]
  · simp [hi, h, Nat.not_lt.mpr h]
theorem rk_b_sshr (n : Nat) (hn : n < 32) (x : Int32) {i : Nat} (hi : i < 32) : rk_bt (x >>> (nI n &&& 31)) i = if n + i < 32 then rk_bt x (n + i) else rk_bt x 31 := by
  unfold rk_bt
  rw [Int32.toBitVec_shiftRight]
  show (x.toBitVec.sshiftRight ((nI n &&& 31).toBitVec.smod 32).toNat).getLsbD i = _
  rw [rk_s_l n hn, BitVec.getLsbD_sshiftRight, BitVec.msb_eq_getLsbD_last]
  simp [hi]
theorem rk_and1 (x : Int32) : x &&& 1 = 0 ↔ rk_bt x 0 = false := by
  constructor
  · intro h
    have h1 : rk_bt (x &&& 1) 0 = false := by rw [h]; exact rk_b_0 0
    rw [rk_b_and, rk_b_1 0 (by omega), decide_eq_true rfl, Bool.and_true] at h1
    exact h1
  · intro h
    refine rk_b_ext (fun i hi => ?_)
    rw [rk_b_and, rk_b_1 i hi, rk_b_0]
    by_cases e : i = 0
    · rw [e, h]; rfl
    · rw [decide_eq_false e, Bool.and_false]
theorem rk_bit0 (s : Int32) {u : Nat} (hu : u < 32) : ((s >>> (nI u &&& 31)) &&& 1) = 0 ↔ rk_bt s u = false := by
  rw [rk_and1, rk_b_sshr u hu s (by omega), if_pos (by omega)]
  exact Iff.rfl
/-- the mask of the values before place i -/
def rk_MK (p : Nat → Nat) (i : Nat) (s : Int32) : Prop := ∀ u, u < 8 → rk_bt s u = !(rk_fr p i u)
theorem rk_MK0 (p : Nat → Nat) : rk_MK p 0 0 := fun u _ => rk_b_0 u
theorem rk_MKs {p : Nat → Nat} {i : Nat} {s : Int32} (h : rk_MK p i s) (hp : p i < 8) : rk_MK p (i + 1) (s ||| ((1 : Int32) <<< (nI (p i) &&& 31))) := by
  intro u hu
  rw [rk_b_or, rk_b_shl (p i) (by omega) 1 (by omega), h u hu, rk_b_1 (u - p i) (by omega), rk_fr_s]
  by_cases e : p i = u
  · rw [decide_eq_true (show p i ≤ u by omega), decide_eq_true (show u - p i = 0 by omega), decide_eq_false (show ¬ p i ≠ u by omega), Bool.and_false, Bool.and_true, Bool.or_true]
    rfl
  · rw [decide_eq_true (show p i ≠ u from e), Bool.and_true]
    by_cases e2 : p i ≤ u
    · rw [decide_eq_false (show ¬ u - p i = 0 by omega), Bool.and_false, Bool.or_false]
    · rw [decide_eq_false e2, Bool.false_and, Bool.or_false]
theorem rk_MKb {p : Nat → Nat} {i : Nat} {s : Int32} (h : rk_MK p i s) {u : Nat} (hu : u < 8) : ((s >>> (nI u &&& 31)) &&& 1) = 0 ↔ rk_fr p i u = true := by
  rw [rk_bit0 s (by omega), h u hu]
  cases rk_fr p i u <;> decide
/-! bytes, stores, tables -/
theorem rk_nb : ∀ x, x < 128 → (nI x).toInt8.toInt32 = nI x := by decide +kernel
theorem rk_vn {x : Nat} (h : x < 128) : vp_nar .byte (nI x) = nI x := by rw [vp_nar_byte, rk_nb x h]
def rk_B (a : Nat → Int32) : Prop := ∀ k, k < 14 → ∃ v, v < 128 ∧ a k = nI v
theorem rk_B_u {a : Nat → Int32} {i x : Nat} (h : rk_B a) (hx : x < 128) : rk_B (upd a i (nI x)) := by
  intro k hk
  by_cases e : k = i
  · exact ⟨x, hx, by rw [e, pk_us]⟩
  · rw [pk_un e]
    exact h k hk
theorem rk_u_id {a : Nat → Int32} {i : Nat} {v : Int32} (h : v = a i) : upd a i v = a := by
  funext j
  by_cases e : j = i
  · rw [e, pk_us, h]
  · rw [pk_un e]
theorem rk_rest {a : Nat → Int32} {i : Nat} {v : Int32} (hB : rk_B a) (hi : i < 14) : upd (upd a i v) i (vp_nar .byte (a i)) = a := by
  obtain ⟨x, h1, h2⟩ := hB i hi
  rw [h2, rk_vn h1, ← h2]
  funext j
  by_cases e : j = i
  · rw [e, pk_us]
  · rw [pk_un e, pk_un e]
/-- a place more is filled -/
theorem rk_fill {a : Nat → Int32} {t : Nat → Nat} {i : Nat} {v : Int32} (h : ∀ j, j < i → a j = nI (t j)) (hv : v = nI (t i)) : ∀ j, j < i + 1 → upd a i v j = nI (t j) := by
  intro j hj
  by_cases e : j = i
  · rw [e, pk_us, hv]
  · rw [pk_un e]
    exact h j (by omega)
def rk_ge : Nat → Nat → Nat
  | 0 => fun _ => 1
  | l + 1 => fun g => g * rk_ge l g + rk_ge l (g + 1)
def rk_nr (q : Nat → Nat) (z : Nat) : Nat → Nat
  | 0 => q 0
  | o + 1 => rk_nr q z o + (if o < z then q (o + 1) else 0)
def rk_ne : Nat → Nat → Nat
  | 0 => fun _ => 1
  | z + 1 => rk_nr (rk_ne z) z
def rk_T (a4 a5 a6 : Nat → Int32) : Prop := (∀ k, k < 8 → a6 k = nI (rk_f k)) ∧ (∀ l g, l < 8 → l + g < 16 → a4 (16 * l + g) = nI (rk_ge l g)) ∧ (∀ z o, z < 8 → o ≤ z → a5 (8 * z + o) = nI (rk_ne z o))
theorem rk_ma (c a b : Nat) : nI c * nI a + nI b = nI (c * a + b) := by rw [pk_mul, nI_add]
theorem rk_g1 (x : Int32) : x - 1 + 1 = x := Int32.sub_add_cancel x 1
theorem rk_gle {v g : Nat} (hv : v < 2 ^ 30) (hg : g < 2 ^ 30) : nI v ≤ nI g - 1 ↔ v + 1 ≤ g := by
  rw [Int32.le_iff_toInt_le, nI_toInt (by omega), show (1 : Int32) = nI 1 from rfl, pk_sub_toInt hg (by omega)]
  omega
theorem rk_nx3 {n i s : Nat} (h : i ≤ n + s) : nI n - nI i + nI s = nI (n + s - i) := by
  rw [← pk_sub h, ← nI_add, Int32.sub_eq_add_neg, Int32.sub_eq_add_neg, Int32.add_assoc, Int32.add_comm (-nI i), ← Int32.add_assoc]
/-- the law's factorial -/
theorem rk_fac {post : Int32 → Prop} {k : Nat} (hk : k < 8) (H : post (nI (rk_f k))) : wpL_factorial post () (nI k) :=
  pk_loop (fun n i s => wL_factorial_4 post (nI k) n s (nI i)) (fun i s => 2 ≤ i ∧ s = nI (rk_f (i - 1))) (max (k + 1) 2) 2 1 (by omega) ⟨by omega, rfl⟩
    (fun n s h => pk_lt k (max (k + 1) 2) (fun _ => by
      have e : rk_f (max (k + 1) 2 - 1) = rk_f k := by
        by_cases z : k = 0
        · rw [z]; rfl
        · rw [show max (k + 1) 2 - 1 = k by omega]
      rw [e] at h
      rw [h.2]
      exact H) (fun z => absurd z (by omega)))
    (fun n i s hi h hw => pk_lt k i (fun z => absurd z (by omega)) (fun z => nm_r (show s * nI i = nI (rk_f (i + 1 - 1)) by
      rw [h.2, pk_mul, Nat.add_sub_cancel]
      obtain ⟨j, hj⟩ : ∃ j, i = j + 1 := ⟨i - 1, by omega⟩
      rw [hj, Nat.add_sub_cancel, rk_f_s, Nat.mul_comm]) (nm_r (nI_1 i) (hw _ ⟨by omega, rfl⟩))))
end
section
section
variable {sr sz ch ln cu : Int32} {a1 a2 a3 a4 a5 a6 : Nat → Int32}
theorem rk_sB {post : Int32 → Prop} {p : Nat → Nat} {i : Nat} (hi : i ≤ 14) (hp : ∀ j, j < i → a1 j = nI (p j)) (H : post (nI (rk_sum p i))) : wpX_sumBefore post (sr, sz, ch, ln, cu, a1, a2, a3, a4, a5, a6) (nI i) :=
  pk_loop (σ := Unit) (fun n j _ => wX_sumBefore_4 post (nI i) sr sz ch ln cu a1 a2 a3 a4 a5 a6 n (nI (rk_sum p j)) (nI j)) (fun _ _ => True) i 0 () (by omega) trivial
    (fun n _ _ => pk_le i i (fun _ => H) (fun z => absurd z (by omega)))
    (fun n j _ hj _ hw => pk_le i j (fun z => absurd z (by omega)) (fun _ => ⟨pk_in j 14 (by omega), nm_r (show nI (rk_sum p j) + a1 (nI j).toNatClampNeg = nI (rk_sum p (j + 1)) by rw [nI_clamp (by omega), hp j hj]; exact nI_add _ _) (nm_r (nI_1 j) (hw () trivial))⟩))
theorem rk_uB {post : Int32 → Prop} {p : Nat → Nat} {i : Nat} (hi : i ≤ 14) (hp : ∀ j, j < i → a1 j = nI (p j)) (h8 : ∀ j, j < i → p j < 8) (H : ∀ s, rk_MK p i s → post s) : wpX_usedBefore post (sr, sz, ch, ln, cu, a1, a2, a3, a4, a5, a6) (nI i) :=
  pk_loop (fun n j s => wX_usedBefore_4 post (nI i) sr sz ch ln cu a1 a2 a3 a4 a5 a6 n s (nI j)) (fun j s => rk_MK p j s) i 0 0 (by omega) (rk_MK0 p)
    (fun n s h => pk_le i i (fun _ => H s h) (fun z => absurd z (by omega)))
    (fun n j s hj h hw => pk_le i j (fun z => absurd z (by omega)) (fun _ => ⟨pk_in j 14 (by omega), nm_r (show s ||| ((1 : Int32) <<< ((a1 (nI j).toNatClampNeg) &&& 31)) = s ||| ((1 : Int32) <<< (nI (p j) &&& 31)) by rw [nI_clamp (by omega), hp j hj]) (nm_r (nI_1 j) (hw _ (rk_MKs h (h8 j hj))))⟩))
/-- how many groups stand before place i -/
def rk_G (p : Nat → Nat) : Nat → Nat
  | 0 => 0
  | j + 1 => max (rk_G p j) (p j + 1)
theorem rk_G_le {p : Nat → Nat} {i : Nat} (h : ∀ j, j < i → p j < 128) : rk_G p i ≤ 128 := by
  induction i with
  | zero => exact Nat.zero_le _
  | succ i ih =>
    have h1 := ih (fun j hj => h j (by omega))
    have h2 := h i (by omega)
    show max (rk_G p i) (p i + 1) ≤ 128
    omega
theorem rk_gB {post : Int32 → Prop} {p : Nat → Nat} {i : Nat} (hi : i ≤ 14) (hp : ∀ j, j < i → a1 j = nI (p j)) (h8 : ∀ j, j < i → p j < 128) (H : post (nI (rk_G p i) - 1)) : wpX_greatestBefore post (sr, sz, ch, ln, cu, a1, a2, a3, a4, a5, a6) (nI i) :=
  pk_loop (fun n j s => wX_greatestBefore_4 post (nI i) sr sz ch ln cu a1 a2 a3 a4 a5 a6 n s (nI j)) (fun j s => s = nI (rk_G p j) - 1) i 0 (-1) (by omega) (show (-1 : Int32) = nI 0 - 1 by decide)
    (fun n s h => pk_le i i (fun _ => by rw [h]; exact H) (fun z => absurd z (by omega)))
    (fun n j s hj h hw => pk_le i j (fun z => absurd z (by omega)) (fun _ => ⟨pk_in j 14 (by omega), by
      have hG : rk_G p j ≤ 128 := rk_G_le (fun t ht => h8 t (by omega))
      have hpj := h8 j hj
      have e : a1 (nI j).toNatClampNeg = nI (p j) := by rw [nI_clamp (by omega), hp j hj]
      rw [e]
      refine ek_if (d := p j + 1 ≤ rk_G p j) (by rw [h]; exact rk_gle (by omega) (by omega)) (fun z => nm_r (nI_1 j) (hw _ ?_)) (fun z => ⟨pk_in j 14 (by omega), nm_e (nm_r (nI_1 j) (hw _ ?_))⟩)
      · rw [h, show rk_G p (j + 1) = rk_G p j from Nat.max_eq_left z]
      · rw [show rk_G p (j + 1) = p j + 1 from Nat.max_eq_right (by omega), nI_pred]⟩))
/-! goingOn -/
theorem rk_gn1 {post : Int32 → Prop} {n i : Nat} (hn : n ≤ 7) (hi : i ≤ n) (hT : rk_T a4 a5 a6) (H : post (nI (rk_f (n - i)))) : wpX_goingOn post (1, sz, ch, nI n, cu, a1, a2, a3, a4, a5, a6) (nI i) :=
  nm_r (pk_sub hi) (br_t rfl ⟨pk_in (n - i) 8 (by omega), by rw [nI_clamp (by omega), hT.1 _ (by omega)]; exact H⟩)
theorem rk_gn2 {post : Int32 → Prop} {p : Nat → Nat} {n i : Nat} (hn : n ≤ 7) (hi : i ≤ n) (hp : ∀ j, j < i → a1 j = nI (p j)) (h8 : ∀ j, j < i → p j < 128) (hG : n - i + rk_G p i < 16) (hT : rk_T a4 a5 a6) (H : post (nI (rk_ge (n - i) (rk_G p i)))) : wpX_goingOn post (2, sz, ch, nI n, cu, a1, a2, a3, a4, a5, a6) (nI i) :=
  nm_r (pk_sub hi) (br_f (by decide) (br_t rfl (rk_gB (by omega) hp h8 (nm_r (rk_g1 _) ⟨pk_in (16 * (n - i) + rk_G p i) 128 (by omega) (rk_ma 16 _ _), by
    rw [show (16 : Int32) * nI (n - i) + nI (rk_G p i) = nI (16 * (n - i) + rk_G p i) from rk_ma 16 _ _, nI_clamp (by omega), hT.2.1 _ _ (by omega) hG]
    exact H⟩))))
theorem rk_gn3 {post : Int32 → Prop} {p : Nat → Nat} {n i : Nat} (hn : n ≤ 7) (hi : i ≤ 14) (hp : ∀ j, j < i → a1 j = nI (p j)) (h1 : rk_sum p i ≤ n) (h2 : i ≤ 2 * rk_sum p i) (h3 : rk_sum p i ≤ i) (hT : rk_T a4 a5 a6) (H : post (nI (rk_ne (n + rk_sum p i - i) (n - rk_sum p i)))) : wpX_goingOn post (3, nI n, ch, ln, cu, a1, a2, a3, a4, a5, a6) (nI i) := by
  have e : 8 * (nI n - nI i + nI (rk_sum p i)) + nI n - nI (rk_sum p i) = nI (8 * (n + rk_sum p i - i) + (n - rk_sum p i)) := by
    rw [rk_nx3 (by omega), show (8 : Int32) * nI (n + rk_sum p i - i) + nI n = nI (8 * (n + rk_sum p i - i) + n) from rk_ma 8 _ _, pk_sub (by omega), Nat.add_sub_assoc h1]
  exact nm_e (br_f (by decide) (br_f (by decide) (br_f (by decide) (rk_sB hi hp (br_t rfl ⟨pk_in (8 * (n + rk_sum p i - i) + (n - rk_sum p i)) 64 (by omega) e, by
    rw [e, nI_clamp (by omega), hT.2.2 _ _ (by omega) (by omega)]
    exact H⟩)))))
/-! withItem: what it answers; the state stays -/
def rk_WI (u : St2) (i x r : Nat) : Prop := ∀ post : Int32 → St2 → Prop, post (nI r) u → wpX_withItem post u (nI i) (nI x)
theorem rk_wiF {i x : Nat} (hm : ∀ φ : Int32 → Prop, φ 0 → wpX_mayCome φ (sr, sz, ch, ln, cu, a1, a2, a3, a4, a5, a6) (nI i) (nI x)) : rk_WI (sr, sz, ch, ln, cu, a1, a2, a3, a4, a5, a6) i x 0 := by
  intro post H
  unfold wpX_withItem
  exact hm _ (br_t rfl H)
theorem rk_wiT {i x r : Nat} (hi : i < 14) (hx : x < 128) (hB : rk_B a1) (hm : ∀ φ : Int32 → Prop, φ 1 → wpX_mayCome φ (sr, sz, ch, ln, cu, a1, a2, a3, a4, a5, a6) (nI i) (nI x))
    (hg : ∀ φ : Int32 → Prop, φ (nI r) → wpX_goingOn φ (sr, sz, ch, ln, cu, upd a1 i (nI x), a2, a3, a4, a5, a6) (nI (i + 1))) : rk_WI (sr, sz, ch, ln, cu, a1, a2, a3, a4, a5, a6) i x r := by
  intro post H
  unfold wpX_withItem
  refine hm _ (br_f (by decide) ⟨pk_in i 14 hi, nm_e ⟨pk_in i 14 hi, nm_r (show upd a1 (nI i).toNatClampNeg (nI x).toInt8.toInt32 = upd a1 i (nI x) by rw [nI_clamp (by omega), rk_nb x hx]) ?_⟩⟩)
  rw [nI_1]
  exact hg _ ⟨pk_in i 14 hi, nm_r (by rw [nI_clamp (by omega)]; exact rk_rest hB hi) H⟩
/-! orders -/
theorem rk_wi1 {p : Nat → Nat} {n i x : Nat} (hn : n ≤ 7) (hi : i < n) (hx : x < 8) (hB : rk_B a1) (hp : ∀ j, j < i → a1 j = nI (p j)) (h8 : ∀ j, j < i → p j < 8) (hT : rk_T a4 a5 a6) : rk_WI (1, nI n, ch, nI n, cu, a1, a2, a3, a4, a5, a6) i x (rk_w1 n p i x) := by
  by_cases h1 : x < n
  · by_cases h2 : rk_fr p i x = true
    · rw [show rk_w1 n p i x = rk_f (n - 1 - i) from if_pos ⟨h1, h2⟩]
      refine rk_wiT (by omega) (by omega) hB (fun φ H => ?_) (fun φ H => rk_gn1 hn (by omega) hT (by rw [show n - (i + 1) = n - 1 - i by omega]; exact H))
      exact br_f (by decide) (br_t rfl (pk_le n x (fun z => absurd z (by omega)) (fun _ => rk_uB (by omega) hp h8 (fun s hs => br_t ((rk_MKb hs hx).mpr h2) H))))
    · rw [show rk_w1 n p i x = 0 from if_neg (fun z => h2 z.2)]
      refine rk_wiF (fun φ H => ?_)
      exact br_f (by decide) (br_t rfl (pk_le n x (fun z => absurd z (by omega)) (fun _ => rk_uB (by omega) hp h8 (fun s hs => br_f (fun z => h2 ((rk_MKb hs hx).mp z)) H))))
  · rw [show rk_w1 n p i x = 0 from if_neg (fun z => h1 z.1)]
    refine rk_wiF (fun φ H => ?_)
    exact br_f (by decide) (br_t rfl (pk_le n x (fun _ => H) (fun z => absurd z (by omega))))
/-! groupings -/
def rk_w2 (n : Nat) (p : Nat → Nat) (i x : Nat) : Nat := if x ≤ rk_G p i then rk_ge (n - (i + 1)) (max (rk_G p i) (x + 1)) else 0
theorem rk_G_c {p q : Nat → Nat} {i : Nat} (h : ∀ j, j < i → p j = q j) : rk_G p i = rk_G q i := by
  induction i with
  | zero => rfl
  | succ i ih =>
    show max (rk_G p i) (p i + 1) = max (rk_G q i) (q i + 1)
    rw [ih (fun j hj => h j (by omega)), h i (by omega)]
theorem rk_G_u (p : Nat → Nat) (i x : Nat) : rk_G (fun j => if j = i then x else p j) (i + 1) = max (rk_G p i) (x + 1) := by
  show max (rk_G (fun j => if j = i then x else p j) i) ((if i = i then x else p i) + 1) = _
  rw [if_pos rfl, rk_G_c (q := p) (fun j hj => if_neg (by omega))]
theorem rk_pu {p : Nat → Nat} {i x : Nat} (hp : ∀ j, j < i → a1 j = nI (p j)) : ∀ j, j < i + 1 → upd a1 i (nI x) j = nI ((fun j => if j = i then x else p j) j) :=
  rk_fill (t := fun j => if j = i then x else p j) (fun j hj => by rw [hp j hj]; exact congrArg nI (if_neg (by omega)).symm) (congrArg nI (if_pos rfl).symm)
theorem rk_wi2 {p : Nat → Nat} {n i x : Nat} (hn : n ≤ 7) (hi : i < n) (hx : x < 8) (hB : rk_B a1) (hp : ∀ j, j < i → a1 j = nI (p j)) (h8 : ∀ j, j < i → p j < 8) (hG : rk_G p i ≤ 8) (hT : rk_T a4 a5 a6) : rk_WI (2, nI n, ch, nI n, cu, a1, a2, a3, a4, a5, a6) i x (rk_w2 n p i x) := by
  by_cases h1 : x ≤ rk_G p i
  · rw [show rk_w2 n p i x = rk_ge (n - (i + 1)) (max (rk_G p i) (x + 1)) from if_pos h1]
    refine rk_wiT (by omega) (by omega) hB (fun φ H => ?_) (fun φ H => rk_gn2 (p := fun j => if j = i then x else p j) hn (by omega) (rk_pu hp) (fun j hj => ?_) (by rw [rk_G_u]; omega) hT (by rw [rk_G_u]; exact H))
    · exact br_f (by decide) (br_f (by decide) (br_t rfl (rk_gB (by omega) hp (fun j hj => Nat.lt_trans (h8 j hj) (by omega)) (by
        rw [rk_g1]
        exact pk_lt (rk_G p i) x (fun z => absurd z (by omega)) (fun _ => H)))))
    · show (if j = i then x else p j) < 128
      split
      · omega
      · exact Nat.lt_trans (h8 j (by omega)) (by omega)
  · rw [show rk_w2 n p i x = 0 from if_neg h1]
    refine rk_wiF (fun φ H => ?_)
    exact br_f (by decide) (br_f (by decide) (br_t rfl (rk_gB (by omega) hp (fun j hj => Nat.lt_trans (h8 j hj) (by omega)) (by
        rw [rk_g1]
        exact pk_lt (rk_G p i) x (fun _ => H) (fun z => absurd z (by omega))))))
/-! nestings -/
def rk_w3 (n : Nat) (p : Nat → Nat) (i x : Nat) : Nat :=
  if x = 1 then (if rk_sum p i < n then rk_ne (n + (rk_sum p i + 1) - (i + 1)) (n - (rk_sum p i + 1)) else 0)
  else if x = 0 then (if i < 2 * rk_sum p i then rk_ne (n + rk_sum p i - (i + 1)) (n - rk_sum p i) else 0) else 0
theorem rk_sum_u (p : Nat → Nat) (i x : Nat) : rk_sum (fun j => if j = i then x else p j) (i + 1) = rk_sum p i + x := by
  show rk_sum (fun j => if j = i then x else p j) i + (if i = i then x else p i) = _
  rw [if_pos rfl, rk_sum_c (v := p) (fun j hj => if_neg (by omega))]
theorem rk_wi3 {p : Nat → Nat} {n i x : Nat} (hn : n ≤ 7) (hi : i < 14) (hx : x < 8) (hB : rk_B a1) (hp : ∀ j, j < i → a1 j = nI (p j)) (h1 : rk_sum p i ≤ n) (h2 : i ≤ 2 * rk_sum p i) (h3 : rk_sum p i ≤ i) (hT : rk_T a4 a5 a6) : rk_WI (3, nI n, ch, ln, cu, a1, a2, a3, a4, a5, a6) i x (rk_w3 n p i x) := by
  by_cases x1 : x = 1
  · subst x1
    by_cases c1 : rk_sum p i < n
    · rw [show rk_w3 n p i 1 = rk_ne (n + (rk_sum p i + 1) - (i + 1)) (n - (rk_sum p i + 1)) from (if_pos rfl).trans (if_pos c1)]
      refine rk_wiT hi (by omega) hB (fun φ H => ?_) (fun φ H => rk_gn3 (p := fun j => if j = i then 1 else p j) hn (by omega) (rk_pu hp) (by rw [rk_sum_u]; omega) (by rw [rk_sum_u]; omega) (by rw [rk_sum_u]; omega) hT (by rw [rk_sum_u]; exact H))
      exact br_f (by decide) (br_f (by decide) (br_f (by decide) (br_f (by decide) (br_t (by decide) (rk_sB (by omega) hp (br_t rfl (pk_le n (rk_sum p i) (fun z => absurd z (by omega)) (fun _ => H))))))))
    · rw [show rk_w3 n p i 1 = 0 from (if_pos rfl).trans (if_neg c1)]
      refine rk_wiF (fun φ H => ?_)
      exact br_f (by decide) (br_f (by decide) (br_f (by decide) (br_f (by decide) (br_t (by decide) (rk_sB (by omega) hp (br_t rfl (pk_le n (rk_sum p i) (fun _ => H) (fun z => absurd z (by omega)))))))))
  · by_cases x0 : x = 0
    · subst x0
      by_cases c1 : i < 2 * rk_sum p i
      · rw [show rk_w3 n p i 0 = rk_ne (n + rk_sum p i - (i + 1)) (n - rk_sum p i) from (if_neg (by omega)).trans ((if_pos rfl).trans (if_pos c1))]
        refine rk_wiT hi (by omega) hB (fun φ H => ?_) (fun φ H => rk_gn3 (p := fun j => if j = i then 0 else p j) hn (by omega) (rk_pu hp) (by rw [rk_sum_u]; omega) (by rw [rk_sum_u]; omega) (by rw [rk_sum_u]; omega) hT (by rw [rk_sum_u]; exact H))
        exact br_f (by decide) (br_f (by decide) (br_f (by decide) (br_f (by decide) (br_t (by decide) (rk_sB (by omega) hp (br_f (by decide) (pk_le (rk_sum p i) (i - rk_sum p i) (fun z => absurd z (by omega)) (fun _ => H) rfl (pk_sub h3))))))))
      · rw [show rk_w3 n p i 0 = 0 from (if_neg (by omega)).trans ((if_pos rfl).trans (if_neg c1))]
        refine rk_wiF (fun φ H => ?_)
        exact br_f (by decide) (br_f (by decide) (br_f (by decide) (br_f (by decide) (br_t (by decide) (rk_sB (by omega) hp (br_f (by decide) (pk_le (rk_sum p i) (i - rk_sum p i) (fun _ => H) (fun z => absurd z (by omega)) rfl (pk_sub h3))))))))
    · rw [show rk_w3 n p i x = 0 from (if_neg x1).trans (if_neg x0)]
      refine rk_wiF (fun φ H => ?_)
      exact br_f (by decide) (br_f (by decide) (br_f (by decide) (br_f (by decide) (pk_le x 1 (fun z => absurd z (by omega)) (fun _ => H)))))
end
end
section
section
variable {sr sz ch ln cu : Int32} {a1 a2 a3 a4 a5 a6 : Nat → Int32}
/-- go: any sort; t the items that it finds, R what is left of the number ahead of each place, w what withItem answers -/
theorem rk_go {post : Int32 → St2 → Prop} {len tot m : Nat} {t R : Nat → Nat} {w : Nat → Nat → Nat} (hl : len ≤ 14)
    (hg : ∀ φ : Int32 → Prop, φ (nI tot) → wpX_goingOn φ (sr, sz, ch, nI len, cu, a1, a2, a3, a4, a5, a6) 0)
    (hm0 : R 0 = m) (hm : m < tot) (htot : tot < 2 ^ 31) (ht : ∀ i, i < len → t i < 128)
    (hw : ∀ i, i < len → ∀ x, x ≤ t i → w i x < 2 ^ 31 ∧ ∀ a, (∀ j, j < i → a j = nI (t j)) → rk_B a → rk_WI (sr, sz, ch, nI len, cu, a, a2, a3, a4, a5, a6) i x (w i x))
    (hR : ∀ i, i < len → R i = rk_sum (w i) (t i) + R (i + 1) ∧ R (i + 1) < w i (t i)) (hB : rk_B a1)
    (H : ∀ a, (∀ j, j < len → a j = nI (t j)) → rk_B a → post (nI m) (sr, sz, ch, nI len, nI m, a, a2, a3, a4, a5, a6)) :
    wpX_go post (sr, sz, ch, nI len, cu, a1, a2, a3, a4, a5, a6) (nI m) := by
  have hRle : ∀ i, i ≤ len → R i ≤ m := by
    intro i
    induction i with
    | zero => intro _; omega
    | succ i ih =>
      intro h
      have h1 := ih (by omega)
      have h2 := (hR i (by omega)).1
      omega
  subst hm0
  unfold wpX_go
  refine hg _ (br_f (nI_pos (by omega)) (br_t (nI_lt hm htot) ?_))
  refine pk_loop (fun n i a => wX_go_22 post (nI (R 0)) n (nI (R i)) (nI i) sr sz ch (nI len) cu a a2 a3 a4 a5 a6) (fun i a => (∀ j, j < i → a j = nI (t j)) ∧ rk_B a) len 0 a1 (by omega) ⟨fun j hj => absurd hj (by omega), hB⟩ ?_ ?_
  · intro n a h
    exact pk_le len len (fun _ => H a h.1 h.2) (fun z => absurd z (by omega))
  · intro n i a hi h hk
    have hti := ht i hi
    have hRi := hR i hi
    have hRl := hRle i (by omega)
    refine pk_le len i (fun z => absurd z (by omega)) (fun _ => ?_)
    refine (hw i hi 0 (by omega)).2 a h.1 h.2 _ ?_
    refine pk_loop (σ := Unit) (fun n' x _ => wX_go_44 post (wX_go_22 post (nI (R 0)) n) (nI (R 0)) (nI i) n' (nI (R i - rk_sum (w i) x)) (nI x) (nI (w i x)) sr sz ch (nI len) cu a a2 a3 a4 a5 a6) (fun _ _ => True) (t i) 0 () (by omega) trivial ?_ ?_
    · intro n' _ _
      have hwi := (hw i hi (t i) (by omega)).1
      rw [show R i - rk_sum (w i) (t i) = R (i + 1) by omega]
      exact pk_lt (R (i + 1)) (w i (t i)) (fun _ => ⟨pk_in i 14 (by omega), nm_r (show upd a (nI i).toNatClampNeg (nI (t i)).toInt8.toInt32 = upd a i (nI (t i)) by rw [nI_clamp (by omega), rk_nb _ hti]) (nm_r (nI_1 i) (hk _ ⟨rk_fill h.1 rfl, rk_B_u h.2 hti⟩))⟩) (fun z => absurd z (by omega))
    · intro n' x _ hx _ hk2
      have hwx := (hw i hi x (by omega)).1
      have hs : rk_sum (w i) (x + 1) ≤ rk_sum (w i) (t i) := rk_sum_le hx
      rw [rk_sum_s] at hs
      exact pk_lt (R i - rk_sum (w i) x) (w i x) (fun z => absurd z (by omega)) (fun _ => nm_r (show nI (R i - rk_sum (w i) x) - nI (w i x) = nI (R i - rk_sum (w i) (x + 1)) by rw [pk_sub (by omega), rk_sum_s, Nat.sub_add_eq]) (nm_r (nI_1 x) ((hw i hi (x + 1) hx).2 a h.1 h.2 _ (hk2 () trivial))))
theorem rk_rank {post : Int32 → St2 → Prop} {p : Nat → Nat} {w : Nat → Nat → Nat} {i : Nat} (hi : i < 14) (hp : ∀ j, j ≤ i → a1 j = nI (p j) ∧ p j < 128)
    (hw : ∀ j, j ≤ i → ∀ x, x < p j → rk_WI (sr, sz, ch, ln, cu, a1, a2, a3, a4, a5, a6) j x (w j x))
    (H : post (nI (rk_sum (fun j => rk_sum (w j) (p j)) (i + 1))) (sr, sz, ch, ln, cu, a1, a2, a3, a4, a5, a6)) : wpX_rankUpTo post (sr, sz, ch, ln, cu, a1, a2, a3, a4, a5, a6) (nI i) := by
  unfold wpX_rankUpTo
  refine pk_loop (σ := Unit) (fun n j _ => wX_rankUpTo_4 post (nI i) n (nI (rk_sum (fun j => rk_sum (w j) (p j)) j)) (nI j) sr sz ch ln cu a1 a2 a3 a4 a5 a6) (fun _ _ => True) (i + 1) 0 () (by omega) trivial ?_ ?_
  · intro n _ _
    exact pk_lt i (i + 1) (fun _ => H) (fun z => absurd z (by omega))
  · intro n j _ hj _ hk
    have hpj := hp j (by omega)
    have hpl := hpj.2
    refine pk_lt i j (fun z => absurd z (by omega)) (fun _ => ⟨pk_in j 14 (by omega), nm_r (show a1 (nI j).toNatClampNeg = nI (p j) by rw [nI_clamp (by omega)]; exact hpj.1) ?_⟩)
    refine pk_loop (σ := Unit) (fun n' x _ => wX_rankUpTo_20 post (wX_rankUpTo_4 post (nI i) n) (nI i) (nI j) (nI (p j)) n' (nI (rk_sum (fun j => rk_sum (w j) (p j)) j + rk_sum (w j) x)) (nI x) sr sz ch ln cu a1 a2 a3 a4 a5 a6) (fun _ _ => True) (p j) 0 () (by omega) trivial ?_ ?_
    · intro n' _ _
      exact pk_le (p j) (p j) (fun _ => ⟨pk_in j 14 (by omega), nm_r (show upd a1 (nI j).toNatClampNeg (nI (p j)).toInt8.toInt32 = a1 by rw [nI_clamp (by omega), rk_nb _ hpl]; exact rk_u_id hpj.1.symm) (nm_r (nI_1 j) (hk () trivial))⟩) (fun z => absurd z (by omega))
    · intro n' x _ hx _ hk2
      refine pk_le (p j) x (fun z => absurd z (by omega)) (fun _ => hw j (by omega) x hx _ ?_)
      exact nm_r (show nI (rk_sum (fun j => rk_sum (w j) (p j)) j + rk_sum (w j) x) + nI (w j x) = nI (rk_sum (fun j => rk_sum (w j) (p j)) j + rk_sum (w j) (x + 1)) by rw [nI_add, rk_sum_s, Nat.add_assoc]) (nm_r (nI_1 x) (hk2 () trivial))
/-! choose -/
theorem rk_ch1 {post : Int32 → St2 → Prop} {n : Nat} {q : Int32} (h1 : 1 ≤ n) (h7 : n ≤ 7) (H : wX_choose_100 post (nI n) 1 (nI n) 0 ln cu a1 a2 a3 a4 a5 a6) : wpX_choose post (sr, sz, ch, ln, cu, a1, a2, a3, a4, a5, a6) 1 (nI n) q :=
  br_f (by decide) (br_f (by decide) (br_f (nI_nlt (b := 1) h1 (by omega)) (br_t (nI_le (b := 7) h7 (by omega)) (br_f (by decide) (br_f (by decide) (br_t rfl (br_t rfl (br_t rfl (br_f (by decide) H)))))))))
theorem rk_ch2 {post : Int32 → St2 → Prop} {n : Nat} {q : Int32} (h1 : 1 ≤ n) (h7 : n ≤ 7) (H : wX_choose_100 post (nI n) 2 (nI n) 0 ln cu a1 a2 a3 a4 a5 a6) : wpX_choose post (sr, sz, ch, ln, cu, a1, a2, a3, a4, a5, a6) 2 (nI n) q :=
  br_f (by decide) (br_f (by decide) (br_f (nI_nlt (b := 1) h1 (by omega)) (br_t (nI_le (b := 7) h7 (by omega)) (br_f (by decide) (br_f (by decide) (br_t rfl (br_t rfl (br_t rfl (br_f (by decide) H)))))))))
theorem rk_ch3 {post : Int32 → St2 → Prop} {n : Nat} {q : Int32} (h1 : 1 ≤ n) (h7 : n ≤ 7) (H : wX_choose_100 post (nI (2 * n)) 3 (nI n) 0 ln cu a1 a2 a3 a4 a5 a6) : wpX_choose post (sr, sz, ch, ln, cu, a1, a2, a3, a4, a5, a6) 3 (nI n) q := by
  rw [← pk_mul] at H
  exact br_f (by decide) (br_f (by decide) (br_f (nI_nlt (b := 1) h1 (by omega)) (br_t (nI_le (b := 7) h7 (by omega)) (br_f (by decide) (br_f (by decide) (br_t rfl (br_t rfl (br_t rfl (br_t rfl H)))))))))
theorem rk_c100 {post : Int32 → St2 → Prop} {len tot : Nat} {t : Nat → Nat} {w : Nat → Nat → Nat} (hl : len ≤ 14)
    (hg : ∀ φ : Int32 → Prop, φ (nI tot) → wpX_goingOn φ (sr, sz, ch, nI len, -2, a1, a2, a3, a4, a5, a6) 0)
    (hm : 0 < tot) (htot : tot < 2 ^ 31) (ht : ∀ i, i < len → t i < 128)
    (hw : ∀ i, i < len → ∀ x, x ≤ t i → w i x < 2 ^ 31 ∧ ∀ a, (∀ j, j < i → a j = nI (t j)) → rk_B a → rk_WI (sr, sz, ch, nI len, -2, a, a2, a3, a4, a5, a6) i x (w i x))
    (hR : ∀ i, i < len → 0 = rk_sum (w i) (t i) + 0 ∧ 0 < w i (t i)) (hB : rk_B a1)
    (H : ∀ a, (∀ j, j < len → a j = nI (t j)) → rk_B a → post 1 (sr, sz, ch, nI len, nI 0, a, a2, a3, a4, a5, a6)) :
    wX_choose_100 post (nI len) sr sz ch ln cu a1 a2 a3 a4 a5 a6 := by
  unfold wX_choose_100 wpX_count
  refine hg _ (br_f (nI_nle hm htot) ?_)
  exact rk_go (R := fun _ => 0) (m := 0) hl hg rfl hm htot ht hw hR hB H
/-! orders: go, choose -/
theorem rk_go_o {post : Int32 → St2 → Prop} {p : Nat → Nat} {n m : Nat} (hn : n ≤ 7) (hm : m < rk_f n) (hP : rk_P n m p n) (hT : rk_T a4 a5 a6) (hB : rk_B a1)
    (H : ∀ a, (∀ j, j < n → a j = nI (p j)) → rk_B a → post (nI m) (1, nI n, ch, nI n, nI m, a, a2, a3, a4, a5, a6)) : wpX_go post (1, nI n, ch, nI n, cu, a1, a2, a3, a4, a5, a6) (nI m) :=
  rk_go (R := fun i => m % rk_f (n - i)) (tot := rk_f n) (t := p) (w := rk_w1 n p) (by omega) (fun φ h => rk_gn1 (i := 0) hn (by omega) hT h) (Nat.mod_eq_of_lt hm) hm
    (by have := rk_f_le n (by omega); omega) (fun i hi => by have := (hP i hi).1; omega)
    (fun i hi x hx => ⟨rk_w1_lt hn p i x, fun a ha hb => rk_wi1 hn hi (by have := (hP i hi).1; omega) hb ha (fun j hj => by have := (hP j (by omega)).1; omega) hT⟩)
    (fun i hi => rk_go1 hP hi) hB H
theorem rk_ch_o {post : Int32 → St2 → Prop} {n : Nat} {q : Int32} (h1 : 1 ≤ n) (hn : n ≤ 7) (hT : rk_T a4 a5 a6) (hB : rk_B a1)
    (H : ∀ a, rk_B a → post 1 (1, nI n, 0, nI n, nI 0, a, a2, a3, a4, a5, a6)) : wpX_choose post (sr, sz, ch, ln, cu, a1, a2, a3, a4, a5, a6) 1 (nI n) q := by
  obtain ⟨p, hP⟩ := rk_ex n 0 n (Nat.le_refl n)
  have hR : ∀ i, i < n → 0 = rk_sum (rk_w1 n p i) (p i) + 0 ∧ 0 < rk_w1 n p i (p i) := fun i hi => by
    have h := rk_go1 hP hi
    rw [Nat.zero_mod, Nat.zero_mod] at h
    exact h
  exact rk_ch1 h1 hn (rk_c100 (tot := rk_f n) (t := p) (w := rk_w1 n p) (by omega) (fun φ h => rk_gn1 (i := 0) hn (by omega) hT h) (rk_f_pos n)
    (by have := rk_f_le n (by omega); omega) (fun i hi => by have := (hP i hi).1; omega)
    (fun i hi x hx => ⟨rk_w1_lt hn p i x, fun a ha hb => rk_wi1 hn hi (by have := (hP i hi).1; omega) hb ha (fun j hj => by have := (hP j (by omega)).1; omega) hT⟩)
    hR hB (fun a _ hb => H a hb))
end
end
section
section
variable {sr sz ch ln cu : Int32} {a1 a2 a3 a4 a5 a6 : Nat → Int32}
theorem rk_x8 (z o : Nat) : (8 : Int32) * nI z + nI o = nI (8 * z + o) := rk_ma 8 z o
theorem rk_x8m {z : Nat} (h : 0 < z) (o : Nat) : (8 : Int32) * nI z - 8 + nI o = nI (8 * z - 8 + o) := by
  rw [show (8 : Int32) * nI z = nI (8 * z) from pk_mul 8 z, show nI (8 * z) - 8 = nI (8 * z - 8) from pk_sub (b := 8) (by omega), nI_add]
theorem rk_x16 (z o : Nat) : (16 : Int32) * nI z + nI o = nI (16 * z + o) := rk_ma 16 z o
theorem rk_x16m {z : Nat} (h : 0 < z) (o : Nat) : (16 : Int32) * nI z - 16 + nI o = nI (16 * z - 16 + o) := by
  rw [show (16 : Int32) * nI z = nI (16 * z) from pk_mul 16 z, show nI (16 * z) - 16 = nI (16 * z - 16) from pk_sub (b := 16) (by omega), nI_add]
theorem rk_x15m {z : Nat} (h : 0 < z) (o : Nat) : (16 : Int32) * nI z - 15 + nI o = nI (16 * z - 15 + o) := by
  rw [show (16 : Int32) * nI z = nI (16 * z) from pk_mul 16 z, show nI (16 * z) - 15 = nI (16 * z - 15) from pk_sub (b := 15) (by omega), nI_add]
theorem rk_ne_eq {z o : Nat} (ho : o ≤ z) : (if z = 0 then 1 else 0) + (if 0 < o then rk_ne z (o - 1) else 0) + (if o < z then rk_ne (z - 1) o else 0) = rk_ne z o := by
  cases z with
  | zero =>
    rw [show o = 0 by omega]
    rfl
  | succ y =>
    rw [if_neg (by omega), Nat.zero_add, Nat.add_sub_cancel]
    cases o with
    | zero =>
      rw [if_neg (by omega), if_pos (by omega), Nat.zero_add]
      rfl
    | succ w =>
      rw [if_pos (by omega), Nat.add_sub_cancel]
      show rk_nr (rk_ne y) y w + (if w + 1 < y + 1 then rk_ne y (w + 1) else 0) = rk_nr (rk_ne y) y w + (if w < y then rk_ne y (w + 1) else 0)
      by_cases e : w < y
      · rw [if_pos e, if_pos (by omega)]
      · rw [if_neg e, if_neg (by omega)]
theorem rk_f242 {post : St2 → Prop} {J J2 : Int32 → (Nat → Int32) → (Nat → Int32) → (Nat → Int32) → (Nat → Int32) → (Nat → Int32) → (Nat → Int32) → Prop} {z o v u t : Nat} (hz : z < 8) (ho : o ≤ z)
    (h1 : 0 < o → a5 (8 * z + o - 1) = nI u) (h2 : o < z → a5 (8 * z - 8 + o) = nI t)
    (H : J (nI (o + 1)) a1 a2 a3 a4 (upd a5 (8 * z + o) (nI (v + (if 0 < o then u else 0) + (if o < z then t else 0)))) a6) :
    wX_fillTables_242 post J2 J (nI z) (nI o) (nI v) sr sz ch ln cu a1 a2 a3 a4 a5 a6 := by
  have L5 : ∀ x, J (nI (o + 1)) a1 a2 a3 a4 (upd a5 (8 * z + o) x) a6 → wX_fillTables_285 post J2 J (nI z) (nI o) x sr sz ch ln cu a1 a2 a3 a4 a5 a6 := fun x hJ =>
    ⟨pk_in (8 * z + o) 64 (by omega) (rk_x8 z o), nm_r (show upd a5 (8 * nI z + nI o).toNatClampNeg x = upd a5 (8 * z + o) x by rw [rk_x8, nI_clamp (by omega)]) (nm_r (nI_1 o) hJ)⟩
  have L3 : ∀ y, J (nI (o + 1)) a1 a2 a3 a4 (upd a5 (8 * z + o) (nI (y + (if o < z then t else 0)))) a6 → wX_fillTables_263 post J2 J (nI z) (nI o) (nI y) sr sz ch ln cu a1 a2 a3 a4 a5 a6 := by
    intro y hJ
    refine pk_le z o (fun h => L5 _ ?_) (fun h => ⟨pk_in (8 * z - 8 + o) 64 (by omega) (rk_x8m (by omega) o), nm_r (show nI y + a5 (8 * nI z - 8 + nI o).toNatClampNeg = nI (y + t) by rw [rk_x8m (by omega), nI_clamp (by omega), h2 h, nI_add]) (L5 _ ?_)⟩)
    · rw [if_neg (by omega), Nat.add_zero] at hJ
      exact hJ
    · rw [if_pos h] at hJ
      exact hJ
  refine pk_le o 0 (fun h => L3 _ ?_) (fun h => ⟨pk_in (8 * z + o - 1) 64 (by omega) (by rw [rk_x8]; exact pk_sub (b := 1) (by omega)), nm_r (show nI v + a5 (8 * nI z + nI o - 1).toNatClampNeg = nI (v + u) by rw [rk_x8, show nI (8 * z + o) - 1 = nI (8 * z + o - 1) from pk_sub (b := 1) (by omega), nI_clamp (by omega), h1 h, nI_add]) (L3 _ ?_)⟩)
  · rw [if_neg (by omega), Nat.add_zero] at H
    exact H
  · rw [if_pos h] at H
    exact H
theorem rk_f220 {post : St2 → Prop} (H : ∀ b, (∀ z o, z < 8 → o ≤ z → b (8 * z + o) = nI (rk_ne z o)) → post (sr, sz, ch, ln, cu, a1, a2, a3, a4, b, a6)) : ∃ n, wX_fillTables_220 post sr sz ch ln cu n 0 a1 a2 a3 a4 a5 a6 := by
  refine pk_loop (fun n z b => wX_fillTables_220 post sr sz ch ln cu n (nI z) a1 a2 a3 a4 b a6) (fun z b => ∀ z' o, z' < z → o ≤ z' → b (8 * z' + o) = nI (rk_ne z' o)) 8 0 a5 (by omega) (fun z' o h => absurd h (by omega)) ?_ ?_
  · intro n b h
    exact pk_le 8 8 (fun _ => H b h) (fun z => absurd z (by omega))
  · intro n z b hz h hk
    refine pk_le 8 z (fun z => absurd z (by omega)) (fun _ => ?_)
    refine pk_loop (fun n' o b => wX_fillTables_228 post (wX_fillTables_220 post sr sz ch ln cu n) (nI z) sr sz ch ln cu n' (nI o) a1 a2 a3 a4 b a6) (fun o b => (∀ z' o, z' < z → o ≤ z' → b (8 * z' + o) = nI (rk_ne z' o)) ∧ (∀ o', o' < o → b (8 * z + o') = nI (rk_ne z o'))) (z + 1) 0 b (by omega) ⟨h, fun o' ho => absurd ho (by omega)⟩ ?_ ?_
    · intro n' b h
      refine pk_lt z (z + 1) (fun _ => nm_r (nI_1 z) (hk _ ?_)) (fun z => absurd z (by omega))
      intro z' o h1 h2
      by_cases e : z' = z
      · rw [e]; exact h.2 o (by omega)
      · exact h.1 z' o (by omega) h2
    · intro n' o b ho h hk2
      have key : ∀ v, v = (if z = 0 then 1 else 0) → wX_fillTables_242 post (wX_fillTables_220 post sr sz ch ln cu n) (wX_fillTables_228 post (wX_fillTables_220 post sr sz ch ln cu n) (nI z) sr sz ch ln cu n') (nI z) (nI o) (nI v) sr sz ch ln cu a1 a2 a3 a4 b a6 := by
        intro v hv
        refine rk_f242 (u := rk_ne z (o - 1)) (t := rk_ne (z - 1) o) hz (by omega) (fun g => ?_) (fun g => ?_) (hk2 _ ⟨fun z' o' g1 g2 => ?_, fun o' g => ?_⟩)
        · rw [show 8 * z + o - 1 = 8 * z + (o - 1) by omega]
          exact h.2 _ (by omega)
        · rw [show 8 * z - 8 + o = 8 * (z - 1) + o by omega]
          exact h.1 _ _ (by omega) (by omega)
        · rw [pk_un (by omega)]
          exact h.1 z' o' g1 g2
        · by_cases e : o' = o
          · rw [e, pk_us, hv, rk_ne_eq (by omega)]
          · rw [pk_un (by omega)]
            exact h.2 o' (by omega)
      exact pk_lt z o (fun z => absurd z (by omega)) (fun _ => pk_eq z 0 (fun e => key 1 (if_pos e).symm) (fun e => key 0 (if_neg e).symm))
theorem rk_f148 {post : St2 → Prop} (h0 : ∀ g, g < 16 → a4 g = 1) (H : ∀ b b', (∀ l g, l < 8 → l + g < 16 → b (16 * l + g) = nI (rk_ge l g)) → (∀ z o, z < 8 → o ≤ z → b' (8 * z + o) = nI (rk_ne z o)) → post (sr, sz, ch, ln, cu, a1, a2, a3, b, b', a6)) : ∃ n, wX_fillTables_148 post sr sz ch ln cu n 1 a1 a2 a3 a4 a5 a6 := by
  refine pk_loop (fun n l b => wX_fillTables_148 post sr sz ch ln cu n (nI l) a1 a2 a3 b a5 a6) (fun l b => 1 ≤ l ∧ ∀ l' g, l' < l → l' + g < 16 → b (16 * l' + g) = nI (rk_ge l' g)) 8 1 a4 (by omega) ⟨by omega, fun l' g h h2 => ?_⟩ ?_ ?_
  · rw [show l' = 0 by omega, show 16 * 0 + g = g by omega, h0 g (by omega)]
    rfl
  · intro n b h
    exact pk_le 8 8 (fun _ => rk_f220 (fun b' hb' => H b b' h.2 hb')) (fun z => absurd z (by omega))
  · intro n l b hl h hk
    have l1 := h.1
    refine pk_le 8 l (fun z => absurd z (by omega)) (fun _ => ?_)
    refine pk_loop (fun n' g b => wX_fillTables_156 post (wX_fillTables_148 post sr sz ch ln cu n) (nI l) sr sz ch ln cu n' (nI g) a1 a2 a3 b a5 a6) (fun g b => (∀ l' g, l' < l → l' + g < 16 → b (16 * l' + g) = nI (rk_ge l' g)) ∧ (∀ g', g' < g → b (16 * l + g') = nI (rk_ge l g'))) (16 - l) 0 b (by omega) ⟨h.2, fun g' hg => absurd hg (by omega)⟩ ?_ ?_
    · intro n' b h
      refine pk_le 16 (16 - l + l) (fun _ => nm_r (nI_1 l) (hk _ ⟨by omega, ?_⟩)) (fun z => absurd z (by omega)) rfl (nI_add _ _)
      intro l' g h1 h2
      by_cases e : l' = l
      · rw [e]; exact h.2 g (by omega)
      · exact h.1 l' g (by omega) h2
    · intro n' g b hg h hk2
      refine pk_le 16 (g + l) (fun z => absurd z (by omega)) (fun _ => ⟨pk_in (16 * l - 16 + g) 128 (by omega) (rk_x16m l1 g), pk_in (16 * l - 15 + g) 128 (by omega) (rk_x15m l1 g), pk_in (16 * l + g) 128 (by omega) (rk_x16 l g),
        nm_r (show upd b (16 * nI l + nI g).toNatClampNeg (nI g * b (16 * nI l - 16 + nI g).toNatClampNeg + b (16 * nI l - 15 + nI g).toNatClampNeg) = upd b (16 * l + g) (nI (rk_ge l g)) by
          rw [rk_x16, rk_x16m l1, rk_x15m l1, nI_clamp (by omega), nI_clamp (by omega), nI_clamp (by omega), show 16 * l - 16 + g = 16 * (l - 1) + g by omega, show 16 * l - 15 + g = 16 * (l - 1) + (g + 1) by omega,
            h.1 (l - 1) g (by omega) (by omega), h.1 (l - 1) (g + 1) (by omega) (by omega), rk_ma]
          obtain ⟨j, hj⟩ : ∃ j, l = j + 1 := ⟨l - 1, by omega⟩
          rw [hj, Nat.add_sub_cancel]
          rfl) (nm_r (nI_1 g) (hk2 _ ⟨fun l' g' g1 g2 => ?_, fun g' g1 => ?_⟩))⟩) rfl (nI_add _ _)
      · rw [pk_un (by omega)]
        exact h.1 l' g' g1 g2
      · by_cases e : g' = g
        · rw [e, pk_us]
        · rw [pk_un (by omega)]
          exact h.2 g' (by omega)
theorem rk_f127 {post : St2 → Prop} (H : ∀ b b', (∀ l g, l < 8 → l + g < 16 → b (16 * l + g) = nI (rk_ge l g)) → (∀ z o, z < 8 → o ≤ z → b' (8 * z + o) = nI (rk_ne z o)) → post (sr, sz, ch, ln, cu, a1, a2, a3, b, b', a6)) : ∃ n, wX_fillTables_127 post sr sz ch ln cu n 0 a1 a2 a3 a4 a5 a6 := by
  refine pk_loop (fun n i b => wX_fillTables_127 post sr sz ch ln cu n (nI i) a1 a2 a3 b a5 a6) (fun i b => ∀ g, g < i → b g = 1) 16 0 a4 (by omega) (fun g h => absurd h (by omega)) ?_ ?_
  · intro n b h
    exact pk_le 16 16 (fun _ => rk_f148 h H) (fun z => absurd z (by omega))
  · intro n i b hi h hk
    refine pk_le 16 i (fun z => absurd z (by omega)) (fun _ => ⟨pk_in i 128 (by omega), nm_r (show upd b (nI i).toNatClampNeg 1 = upd b i 1 by rw [nI_clamp (by omega)]) (nm_r (nI_1 i) (hk _ ?_))⟩)
    intro g hg
    by_cases e : g = i
    · rw [e, pk_us]
    · rw [pk_un e]
      exact h g (by omega)
theorem rk_f39 {post : St2 → Prop} (H : ∀ c b b', (∀ l g, l < 8 → l + g < 16 → b (16 * l + g) = nI (rk_ge l g)) → (∀ z o, z < 8 → o ≤ z → b' (8 * z + o) = nI (rk_ne z o)) → post (sr, sz, ch, ln, cu, a1, a2, c, b, b', a6)) : ∃ n, wX_fillTables_39 post sr sz ch ln cu n 0 a1 a2 a3 a4 a5 a6 := by
  refine pk_loop (fun n i b => wX_fillTables_39 post sr sz ch ln cu n (nI i) a1 a2 b a4 a5 a6) (fun _ _ => True) 8 0 a3 (by omega) trivial ?_ ?_
  · intro n b _
    exact pk_le 8 8 (fun _ => rk_f127 (H b)) (fun z => absurd z (by omega))
  · intro n i b hi _ hk
    refine pk_le 8 i (fun z => absurd z (by omega)) (fun _ => ⟨pk_in (8 * i) 64 (by omega) (pk_mul 8 i), nm_e ?_⟩)
    refine pk_loop (fun n' j b => wX_fillTables_57 post (wX_fillTables_39 post sr sz ch ln cu n) (nI i) sr sz ch ln cu n' (nI j) a1 a2 b a4 a5 a6) (fun j _ => 1 ≤ j) (i + 1) 1 _ (by omega) (by omega) ?_ ?_
    · intro n' b _
      exact pk_lt i (i + 1) (fun _ => nm_r (nI_1 i) (hk _ trivial)) (fun z => absurd z (by omega))
    · intro n' j b hj h1 hk2
      refine pk_lt i j (fun z => absurd z (by omega)) (fun _ => ⟨pk_in (8 * i - 8 + j - 1) 64 (by omega) (by rw [rk_x8m (by omega)]; exact pk_sub (b := 1) (by omega)), ?_⟩)
      exact pk_le i j (fun _ => ⟨pk_in (8 * i + j) 64 (by omega) (rk_x8 i j), nm_e (nm_r (nI_1 j) (hk2 _ (by omega)))⟩)
        (fun _ => ⟨pk_in (8 * i - 8 + j) 64 (by omega) (rk_x8m (by omega) j), pk_in (8 * i + j) 64 (by omega) (rk_x8 i j), nm_e (nm_r (nI_1 j) (hk2 _ (by omega)))⟩)
theorem rk_ft {post : St2 → Prop} (H : ∀ b3 b4 b5 b6, rk_T b4 b5 b6 → post (sr, sz, ch, ln, cu, a1, a2, b3, b4, b5, b6)) : wpX_fillTables post (sr, sz, ch, ln, cu, a1, a2, a3, a4, a5, a6) := by
  unfold wpX_fillTables
  refine nm_e ?_
  refine pk_loop (fun n i b => wX_fillTables_9 post sr sz ch ln cu n (nI i) a1 a2 a3 a4 a5 b) (fun i b => 1 ≤ i ∧ ∀ k, k < i → b k = nI (rk_f k)) 8 1 _ (by omega) ⟨by omega, fun k hk => ?_⟩ ?_ ?_
  · rw [show k = 0 by omega, pk_us]
    rfl
  · intro n b h
    exact pk_le 8 8 (fun _ => rk_f39 (fun b3 b4 b5 h4 h5 => H b3 b4 b5 b ⟨h.2, h4, h5⟩)) (fun z => absurd z (by omega))
  · intro n i b hi h hk
    have h1 := h.1
    refine pk_le 8 i (fun z => absurd z (by omega)) (fun _ => ⟨pk_in (i - 1) 8 (by omega) (pk_sub (b := 1) h1), pk_in i 8 hi, nm_r (show upd b (nI i).toNatClampNeg (nI i * b (nI i - 1).toNatClampNeg) = upd b i (nI (rk_f i)) by
      rw [show nI i - 1 = nI (i - 1) from pk_sub (b := 1) h1, nI_clamp (by omega), nI_clamp (by omega), h.2 (i - 1) (by omega), pk_mul]
      obtain ⟨j, hj⟩ : ∃ j, i = j + 1 := ⟨i - 1, by omega⟩
      rw [hj, Nat.add_sub_cancel]
      rfl) (nm_r (nI_1 i) (hk _ ⟨by omega, rk_fill h.2 rfl⟩))⟩)
/-- the constructor: the tables stand, the items are bytes -/
theorem rk_init {post : St2 → Prop} {mc ms : Nat} (hc : 6 ≤ mc) (hs : 292 ≤ ms) (H : ∀ s z c l k b1 b2 b3 b4 b5 b6, rk_T b4 b5 b6 → rk_B b1 → post (s, z, c, l, k, b1, b2, b3, b4, b5, b6)) : wpX_init post mc ms (sr, sz, ch, ln, cu) := by
  unfold wpX_init
  refine ⟨by omega, by omega, by omega, by omega, by omega, by omega, by omega, by omega, by omega, by omega, by omega, by omega, ?_⟩
  refine rk_ft (fun b3 b4 b5 b6 hT => ?_)
  exact rk_ch_o (n := 3) (by omega) (by omega) hT (fun k _ => ⟨0, by omega, rfl⟩) (fun a hB => H _ _ _ _ _ _ _ _ _ _ _ hT hB)
end
end
section
section
variable {sr sz ch ln cu : Int32} {a1 a2 a3 a4 a5 a6 : Nat → Int32}
theorem rk_item {post : Int32 → Prop} {len m i : Nat} (hm : m < 2 ^ 31) (hl : len ≤ 14) (hi : i < len) (H : post (a1 i)) : wpX_item post (sr, sz, ch, nI len, nI m, a1, a2, a3, a4, a5, a6) (nI i) :=
  br_f (nI_pos hm) (br_f (nI_pos (by omega)) (br_t (nI_lt hi (by omega)) ⟨pk_in i 14 (by omega), by rw [nI_clamp (by omega)]; exact H⟩))
theorem rk_itemB {post : Int32 → Prop} {len m i : Nat} (hm : m < 2 ^ 31) (hi : len ≤ i) (hi2 : i < 2 ^ 31) (H : post (-1)) : wpX_item post (sr, sz, ch, nI len, nI m, a1, a2, a3, a4, a5, a6) (nI i) :=
  br_f (nI_pos hm) (br_f (nI_pos hi2) (br_f (nI_nlt hi hi2) H))
/-! orders -/
theorem rk_like {post : Int32 → Prop} {n m i : Nat} (hn : n ≤ 7) (hm : m < 2 ^ 31) (hi : i < n) (hT : rk_T a4 a5 a6) (H : post (nI (rk_f (n - 1 - i)))) : wpX_like post (1, nI n, ch, nI n, nI m, a1, a2, a3, a4, a5, a6) (nI i) :=
  br_f (nI_pos hm) (br_f (nI_pos (by omega)) (br_t (nI_lt hi (by omega)) (by
    rw [nI_1]
    exact rk_gn1 hn (by omega) hT (by rw [show n - (i + 1) = n - 1 - i by omega]; exact H))))
theorem rk_fl {post : Int32 → St2 → Prop} {p : Nat → Nat} {n m i : Nat} (hn : n ≤ 7) (hm : m < rk_f n) (hi : i < n) (hP : rk_P n m p n) (hT : rk_T a4 a5 a6) (hB : rk_B a1) (hp : ∀ j, j < n → a1 j = nI (p j))
    (H : post (nI (m / rk_f (n - 1 - i) * rk_f (n - 1 - i))) (1, nI n, ch, nI n, nI m, a1, a2, a3, a4, a5, a6)) : wpX_firstLike post (1, nI n, ch, nI n, nI m, a1, a2, a3, a4, a5, a6) (nI i) := by
  have hf := rk_f_le n (by omega)
  refine br_f (nI_pos (by omega)) (br_f (nI_pos (by omega)) (br_t (nI_lt hi (by omega)) ?_))
  refine rk_rank (p := p) (w := rk_w1 n p) (by omega) (fun j hj => ⟨hp j (by omega), by have := (hP j (by omega)).1; omega⟩) (fun j hj x hx => ?_) ?_
  · exact rk_wi1 hn (by omega) (by have := (hP j (by omega)).1; omega) hB (fun t ht => hp t (by omega)) (fun t ht => by have := (hP t (by omega)).1; omega) hT
  · rw [rk_first hP hm hi]
    exact H
theorem rk_diff {post : Int32 → St2 → Prop} {p q : Nat → Nat} {n m mq : Nat} (hn : n ≤ 7) (hm : m < rk_f n) (hq : mq < rk_f n) (hP : rk_P n m p n) (hQ : rk_P n mq q n) (hT : rk_T a4 a5 a6) (hB : rk_B a1) (hp : ∀ j, j < n → a1 j = nI (p j))
    (H : ∀ a b, (∀ j, j < n → a j = nI (p j)) → rk_B a → post (nI (rk_sum (fun j => if p j = q j then 0 else 1) n)) (1, nI n, ch, nI n, nI m, a, b, a3, a4, a5, a6)) : wpX_difference post (1, nI n, ch, nI n, nI m, a1, a2, a3, a4, a5, a6) (nI mq) := by
  have hf := rk_f_le n (by omega)
  unfold wpX_difference
  refine rk_gn1 (i := 0) hn (by omega) hT ?_
  rw [Nat.sub_zero]
  refine br_f (nI_pos (by omega)) (br_t (nI_lt hq (by omega)) ?_)
  refine pk_loop (fun k i b => wX_difference_25 post (nI mq) (nI m) 1 (nI n) ch (nI n) (nI m) k (nI i) a1 b a3 a4 a5 a6) (fun i b => ∀ j, j < i → b j = nI (p j)) n 0 a2 (by omega) (fun j hj => absurd hj (by omega)) ?_ ?_
  · intro k b hb
    refine pk_le n n (fun _ => ?_) (fun z => absurd z (by omega))
    refine rk_go_o hn hq hQ hT hB (fun a ha hBa => ?_)
    refine pk_loop (σ := Unit) (fun k i _ => wX_difference_66 post (nI m) 1 (nI n) ch (nI n) (nI mq) a b a3 a4 a5 a6 k (nI (rk_sum (fun j => if p j = q j then 0 else 1) i)) (nI i)) (fun _ _ => True) n 0 () (by omega) trivial ?_ ?_
    · intro k _ _
      refine pk_le n n (fun _ => ?_) (fun z => absurd z (by omega))
      exact rk_go_o hn hm hP hT hBa (fun a' ha' hB' => H a' b ha' hB')
    · intro k i _ hi _ hk
      have pi := (hP i hi).1
      have qi := (hQ i hi).1
      refine pk_le n i (fun z => absurd z (by omega)) (fun _ => ⟨pk_in i 14 (by omega), pk_in i 14 (by omega), ?_⟩)
      rw [nI_clamp (show i < 2 ^ 31 by omega), ha i hi, hb i hi]
      have hk' := hk () trivial
      rw [rk_sum_s] at hk'
      refine pk_eq (q i) (p i) (fun z => nm_r (nI_1 i) ?_) (fun z => nm_r (nI_1 _) (nm_r (nI_1 i) ?_))
      · rw [if_pos z.symm, Nat.add_zero] at hk'
        exact hk'
      · rw [if_neg (fun e => z e.symm)] at hk'
        exact hk'
  · intro k i b hi hb hk
    have pi := (hP i hi).1
    exact pk_le n i (fun z => absurd z (by omega)) (fun _ => ⟨pk_in i 14 (by omega), pk_in i 14 (by omega), nm_r (show upd b (nI i).toNatClampNeg (vp_nar .byte (a1 (nI i).toNatClampNeg)) = upd b i (nI (p i)) by rw [nI_clamp (by omega), hp i hi, rk_vn (by omega)]) (nm_r (nI_1 i) (hk _ (rk_fill hb rfl)))⟩)
/-- mirrored: orders and nestings -/
theorem rk_mirG {post : Int32 → St2 → Prop} {p r : Nat → Nat} {w : Nat → Nat → Nat} {len m : Nat} (h0 : sr ≠ 0) (h2 : sr ≠ 2) (hl : len ≤ 14) (hl1 : 1 ≤ len) (hm : m < 2 ^ 31) (hp : ∀ j, j < len → a1 j = nI (p j)) (hB : rk_B a1)
    (hr : ∀ j, j < len → r j < 128 ∧ ((sr = 3 ∧ 1 - nI (p (len - 1 - j)) = nI (r j)) ∨ (sr ≠ 3 ∧ p (len - 1 - j) = r j)))
    (hw : ∀ a b, (∀ j, j < len → a j = nI (r j)) → rk_B a → ∀ j, j < len → ∀ x, x < r j → rk_WI (sr, sz, ch, nI len, nI m, a, b, a3, a4, a5, a6) j x (w j x))
    (hgo : ∀ (φ : Int32 → St2 → Prop) a b, rk_B a → (∀ a', (∀ j, j < len → a' j = nI (p j)) → rk_B a' → φ (nI m) (sr, sz, ch, nI len, nI m, a', b, a3, a4, a5, a6)) → wpX_go φ (sr, sz, ch, nI len, nI m, a, b, a3, a4, a5, a6) (nI m))
    (H : ∀ a b, (∀ j, j < len → a j = nI (p j)) → rk_B a → post (nI (rk_sum (fun j => rk_sum (w j) (r j)) len)) (sr, sz, ch, nI len, nI m, a, b, a3, a4, a5, a6)) : wpX_mirrored post (sr, sz, ch, nI len, nI m, a1, a2, a3, a4, a5, a6) := by
  unfold wpX_mirrored
  refine br_f (nI_pos hm) (br_f h2 ?_)
  refine pk_loop (fun k i b => wX_mirrored_25 post (nI m) sr sz ch (nI len) (nI m) k (nI i) a1 b a3 a4 a5 a6) (fun i b => ∀ j, j < i → b j = nI (r j)) len 0 a2 (by omega) (fun j hj => absurd hj (by omega)) ?_ ?_
  · intro k b hb
    refine pk_le len len (fun _ => ?_) (fun z => absurd z (by omega))
    refine pk_loop (fun k i a => wX_mirrored_91 post (nI m) sr sz ch (nI len) (nI m) k (nI i) a b a3 a4 a5 a6) (fun i a => (∀ j, j < i → a j = nI (r j)) ∧ rk_B a) len 0 a1 (by omega) ⟨fun j hj => absurd hj (by omega), hB⟩ ?_ ?_
    · intro k a ha
      refine pk_le len len (fun _ => ?_) (fun z => absurd z (by omega))
      rw [show nI len - 1 = nI (len - 1) from pk_sub (b := 1) hl1]
      refine rk_rank (p := r) (w := w) (by omega) (fun j hj => ⟨ha.1 j (by omega), (hr j (by omega)).1⟩) (fun j hj x hx => hw a b ha.1 ha.2 j (by omega) x hx) ?_
      refine hgo _ a b ha.2 (fun a' h1 h2 => ?_)
      rw [show len - 1 + 1 = len by omega]
      exact H a' b h1 h2
    · intro k i a hi ha hk
      have hri := (hr i hi).1
      exact pk_le len i (fun z => absurd z (by omega)) (fun _ => ⟨pk_in i 14 (by omega), pk_in i 14 (by omega), nm_r (show upd a (nI i).toNatClampNeg (vp_nar .byte (b (nI i).toNatClampNeg)) = upd a i (nI (r i)) by rw [nI_clamp (by omega), hb i hi, rk_vn hri]) (nm_r (nI_1 i) (hk _ ⟨rk_fill ha.1 rfl, rk_B_u ha.2 hri⟩))⟩)
  · intro k i b hi hb hk
    obtain ⟨hri, hrr⟩ := hr i hi
    have e : nI len - 1 - nI i = nI (len - 1 - i) := by rw [show nI len - 1 = nI (len - 1) from pk_sub (b := 1) hl1, pk_sub (by omega)]
    have L : wX_mirrored_75 post (wX_mirrored_25 post (nI m) sr sz ch (nI len) (nI m) k) (nI m) (nI i) (nI (r i)) sr sz ch (nI len) (nI m) a1 b a3 a4 a5 a6 :=
      ⟨pk_in i 14 (by omega), nm_r (show upd b (nI i).toNatClampNeg (nI (r i)).toInt8.toInt32 = upd b i (nI (r i)) by rw [nI_clamp (by omega), rk_nb _ hri]) (nm_r (nI_1 i) (hk _ (rk_fill hb rfl)))⟩
    refine pk_le len i (fun z => absurd z (by omega)) (fun _ => ⟨pk_in (len - 1 - i) 14 (by omega) e, nm_r (show a1 (nI len - 1 - nI i).toNatClampNeg = nI (p (len - 1 - i)) by rw [e, nI_clamp (by omega)]; exact hp _ (by omega)) (br_f h0 ?_)⟩)
    rcases hrr with ⟨h3, hx⟩ | ⟨h3, hx⟩
    · exact br_t h3 (nm_r hx L)
    · rw [hx]
      exact br_f h3 L
theorem rk_mir_o {post : Int32 → St2 → Prop} {p : Nat → Nat} {n m : Nat} (h1 : 1 ≤ n) (hn : n ≤ 7) (hm : m < rk_f n) (hP : rk_P n m p n) (hT : rk_T a4 a5 a6) (hB : rk_B a1) (hp : ∀ j, j < n → a1 j = nI (p j))
    (H : ∀ a b, (∀ j, j < n → a j = nI (p j)) → rk_B a → post (nI (rk_sum (fun j => rk_l p j (p j) * rk_f j) n)) (1, nI n, ch, nI n, nI m, a, b, a3, a4, a5, a6)) : wpX_mirrored post (1, nI n, ch, nI n, nI m, a1, a2, a3, a4, a5, a6) := by
  have hf := rk_f_le n (by omega)
  have lt : ∀ j, j < n → p (n - 1 - j) < n := fun j hj => (hP (n - 1 - j) (by omega)).1
  refine rk_mirG (p := p) (r := fun i => p (n - 1 - i)) (w := rk_w1 n (fun i => p (n - 1 - i))) (by decide) (by decide) (by omega) h1 (by omega) hp hB (fun j hj => ⟨by have := lt j hj; omega, Or.inr ⟨by decide, rfl⟩⟩) (fun a b ha hb j hj x hx => ?_) (fun φ a b hb h => rk_go_o hn hm hP hT hb h) (fun a b ha hb => ?_)
  · exact rk_wi1 hn hj (by have := lt j hj; omega) hb (fun t ht => ha t (by omega)) (fun t ht => by have := lt t (by omega); omega) hT
  · rw [rk_mir hP]
    exact H a b ha hb
/-! next -/
theorem rk_sm {post : Int32 → St2 → Prop} {p : Nat → Nat} {n i x : Nat} (hn : n ≤ 7) (hi : i < n) (hT : rk_T a4 a5 a6) (hB : rk_B a1) (hp : ∀ j, j < i → a1 j = nI (p j)) (h8 : ∀ j, j < i → p j < 8)
    (hx : x < n) (hf : rk_fr p i x = true) (hy : ∀ y, y < x → rk_fr p i y = false) (H : post (nI x) (1, nI n, ch, nI n, cu, a1, a2, a3, a4, a5, a6)) : wpX_smallestAt post (1, nI n, ch, nI n, cu, a1, a2, a3, a4, a5, a6) (nI i) := by
  have hwi : ∀ y, y < 8 → ∀ φ : Int32 → St2 → Prop, φ (nI (rk_w1 n p i y)) (1, nI n, ch, nI n, cu, a1, a2, a3, a4, a5, a6) → wpX_withItem_2 φ (1, nI n, ch, nI n, cu, a1, a2, a3, a4, a5, a6) (nI i) (nI y) :=
    fun y h φ hφ => rk_wi1 hn hi h hB hp h8 hT φ hφ
  unfold wpX_smallestAt
  refine pk_loop (σ := Unit) (fun k y _ => wX_smallestAt_2 post (nI i) k (nI y) 1 (nI n) ch (nI n) cu a1 a2 a3 a4 a5 a6) (fun _ _ => True) x 0 () (by omega) trivial ?_ ?_
  · intro k _ _
    unfold wX_smallestAt_2
    refine hwi x (by omega) _ ?_
    rw [show rk_w1 n p i x = rk_f (n - 1 - i) from if_pos ⟨hx, hf⟩]
    exact br_f (nI_ne0 (rk_f_pos _) (by have := rk_f_le (n - 1 - i) (by omega); omega)) H
  · intro k y _ hyx _ hk
    unfold wX_smallestAt_2
    refine hwi y (by omega) _ ?_
    rw [show rk_w1 n p i y = 0 from if_neg (fun z => absurd z.2 (by rw [hy y hyx]; decide))]
    exact br_t rfl (nm_r (nI_1 y) (hk () trivial))
theorem rk_fr_u {p : Nat → Nat} {i x : Nat} (hf : rk_fr p i x = true) (h : ∀ t, t < i → rk_fr p t (p t) = true) (t : Nat) (ht : t < i + 1) : rk_fr (fun t => if t = i then x else p t) t (if t = i then x else p t) = true := by
  have hc : ∀ s, s < i → (fun t => if t = i then x else p t) s = p s := fun s hs => if_neg (by omega)
  by_cases e : t = i
  · rw [e, if_pos rfl, rk_fr_c hc]
    exact hf
  · rw [if_neg e, rk_fr_c (fun s hs => hc s (by omega))]
    exact h t (by omega)
/-- the rest of the places gets the smallest numbers -/
theorem rk_n89 {post : Int32 → St2 → Prop} {p : Nat → Nat} {n m i : Nat} (hn : n ≤ 7) (hi : i ≤ n) (hT : rk_T a4 a5 a6) (hB : rk_B a1) (hp : ∀ j, j < i → a1 j = nI (p j)) (hlt : ∀ j, j < i → p j < n) (hfr : ∀ j, j < i → rk_fr p j (p j) = true)
    (H : ∀ a, rk_B a → post (nI (m + 1)) (1, nI n, ch, nI n, nI (m + 1), a, a2, a3, a4, a5, a6)) : ∃ k, wX_next_89 post k (nI i) 1 (nI n) ch (nI n) (nI m) a1 a2 a3 a4 a5 a6 := by
  refine pk_loop (fun k j a => wX_next_89 post k (nI j) 1 (nI n) ch (nI n) (nI m) a a2 a3 a4 a5 a6) (fun j a => rk_B a ∧ ∃ q : Nat → Nat, (∀ t, t < j → a t = nI (q t)) ∧ (∀ t, t < j → q t < n) ∧ (∀ t, t < j → rk_fr q t (q t) = true)) n i a1 hi ⟨hB, p, hp, hlt, hfr⟩ ?_ ?_
  · intro k a ha
    exact pk_le n n (fun _ => nm_r (nI_1 m) (H a ha.1)) (fun z => absurd z (by omega))
  · intro k j a hj ⟨hb, q, q1, q2, q3⟩ hk
    obtain ⟨x, x1, x2, x3⟩ := rk_free q3 q2 hj
    refine pk_le n j (fun z => absurd z (by omega)) (fun _ => ?_)
    refine rk_sm hn hj hT hb q1 (fun t ht => by have := q2 t ht; omega) x1 x2 x3 ?_
    refine ⟨pk_in j 14 (by omega), nm_r (show upd a (nI j).toNatClampNeg (nI x).toInt8.toInt32 = upd a j (nI x) by rw [nI_clamp (by omega), rk_nb _ (by omega)]) (nm_r (nI_1 j) (hk _ ⟨rk_B_u hb (by omega), fun t => if t = j then x else q t, rk_pu q1, fun t ht => ?_, fun t ht => ?_⟩))⟩
    · show (if t = j then x else q t) < n
      split
      · exact x1
      · exact q2 t (by omega)
    · exact rk_fr_u x2 q3 t ht
theorem rk_next {post : Int32 → St2 → Prop} {p : Nat → Nat} {n m : Nat} (h1 : 1 ≤ n) (hn : n ≤ 7) (hm : m < rk_f n) (hP : rk_P n m p n) (hT : rk_T a4 a5 a6) (hB : rk_B a1) (hp : ∀ j, j < n → a1 j = nI (p j))
    (H0 : rk_f n ≤ m + 1 → post (-2) (1, nI n, ch, nI n, nI m, a1, a2, a3, a4, a5, a6)) (H1 : m + 1 < rk_f n → ∀ a, rk_B a → post (nI (m + 1)) (1, nI n, ch, nI n, nI (m + 1), a, a2, a3, a4, a5, a6)) : wpX_next post (1, nI n, ch, nI n, nI m, a1, a2, a3, a4, a5, a6) := by
  have hf := rk_f_le n (by omega)
  unfold wpX_next
  refine rk_gn1 (i := 0) hn (by omega) hT ?_
  rw [Nat.sub_zero]
  refine br_f (nI_pos (by omega)) (pk_lt (m + 1) (rk_f n) (fun hlt => ?_) (fun hge => H0 hge) (nI_1 m))
  refine nm_r (show nI n - 1 = nI n - 1 from rfl) ?_
  refine ⟨n + 1, pk_loopD (σ := Unit) (fun k i _ => wX_next_33 post k (nI i - 1) 1 (nI n) ch (nI n) (nI m) a1 a2 a3 a4 a5 a6) (fun i _ => i ≤ n ∧ m % rk_f (n - i) + 1 = rk_f (n - i)) ?_ ?_ n () ⟨Nat.le_refl n, by rw [Nat.sub_self]; exact congrArg (· + 1) (Nat.mod_one m)⟩⟩
  · intro k _ h
    rw [Nat.sub_zero, Nat.mod_eq_of_lt hm] at h
    omega
  · intro k i _ h hk
    obtain ⟨hi, hr⟩ := h
    have pin := (hP i (by omega)).1
    rw [nI_pred]
    refine br_f (nI_pos (by omega)) ⟨pk_in i 14 (by omega), nm_r (show a1 (nI i).toNatClampNeg + 1 = nI (p i + 1) by rw [nI_clamp (by omega), hp i (by omega), nI_1]) ?_⟩
    have hwi : ∀ y, y < 8 → rk_WI (1, nI n, ch, nI n, nI m, a1, a2, a3, a4, a5, a6) i y (rk_w1 n p i y) := fun y h => rk_wi1 hn (by omega) h hB (fun t ht => hp t (by omega)) (fun t ht => by have := (hP t (by omega)).1; omega) hT
    have step : ∀ (e : Nat), p i + 1 ≤ e → e ≤ 8 → (∀ y, p i < y → y < e → rk_w1 n p i y = 0) → (∀ k', wX_next_46 post (wX_next_33 post k) (nI i) (k' + 1) (nI e) 1 (nI n) ch (nI n) (nI m) a1 a2 a3 a4 a5 a6) → ∃ k', wX_next_46 post (wX_next_33 post k) (nI i) k' (nI (p i + 1)) 1 (nI n) ch (nI n) (nI m) a1 a2 a3 a4 a5 a6 := by
      intro e he he8 hz hend
      refine pk_loop (σ := Unit) (fun k' y _ => wX_next_46 post (wX_next_33 post k) (nI i) k' (nI y) 1 (nI n) ch (nI n) (nI m) a1 a2 a3 a4 a5 a6) (fun y _ => p i < y) e (p i + 1) () he (by omega) (fun k' _ _ => hend k') ?_
      intro k' y _ hy hpy hk2
      refine pk_le 8 y (fun z => absurd z (by omega)) (fun _ => hwi y (by omega) _ ?_)
      rw [hz y hpy hy]
      exact br_t rfl (nm_r (nI_1 y) (hk2 () (by omega)))
    by_cases hg : ∃ x, p i < x ∧ x < n ∧ rk_fr p i x = true
    · obtain ⟨x, ⟨x1, x2, x3⟩, x4⟩ := pk_least _ hg
      refine step x (by omega) (by omega) (fun y y1 y2 => if_neg (fun z => x4 y y2 ⟨y1, z⟩)) (fun k' => ?_)
      refine pk_le 8 x (fun z => absurd z (by omega)) (fun _ => hwi x (by omega) _ ?_)
      rw [show rk_w1 n p i x = rk_f (n - 1 - i) from if_pos ⟨x2, x3⟩]
      refine br_f (nI_ne0 (rk_f_pos _) (by have := rk_f_le (n - 1 - i) (by omega); omega)) ?_
      refine pk_eq x 8 (fun z => absurd z (by omega)) (fun _ => ⟨pk_in i 14 (by omega), nm_r (show upd a1 (nI i).toNatClampNeg (nI x).toInt8.toInt32 = upd a1 i (nI x) by rw [nI_clamp (by omega), rk_nb _ (by omega)]) (nm_r (nI_1 i) ?_)⟩)
      refine rk_n89 (p := fun t => if t = i then x else p t) hn (by omega) hT (rk_B_u hB (by omega)) (rk_pu (fun t ht => hp t (by omega))) (fun t ht => ?_) (fun t ht => ?_) (H1 hlt)
      · show (if t = i then x else p t) < n
        split
        · exact x2
        · exact (hP t (by omega)).1
      · exact rk_fr_u x3 (fun t ht => (hP t (by omega)).2.1) t ht
    · have hno : ∀ y, p i < y → y < n → rk_fr p i y = false := fun y y1 y2 => by
        cases f : rk_fr p i y with
        | false => rfl
        | true => exact absurd ⟨y, y1, y2, f⟩ hg
      refine step 8 (by omega) (by omega) (fun y y1 y2 => if_neg (fun z => hg ⟨y, y1, z⟩)) (fun k' => ?_)
      refine pk_le 8 8 (fun _ => ?_) (fun z => absurd z (by omega))
      refine pk_eq 8 8 (fun _ => nm_r (show nI i + (-1) = nI i - 1 from (Int32.sub_eq_add_neg _ _).symm) (hk () ⟨by omega, ?_⟩)) (fun z => absurd rfl z)
      rw [show n - (i + 1) = n - 1 - i by omega] at hr
      exact rk_last hP (by omega) hno hr
end
end
section
theorem rk_s0 {d c : Nat} (hd : d < 2 ^ 31) (hc : c < 2 ^ 31) : nI d - nI c = 0 ↔ c = d := by
  constructor
  · intro h
    have h1 : nI d - nI c + nI c = 0 + nI c := by rw [h]
    rw [Int32.sub_add_cancel, Int32.zero_add] at h1
    exact ((nI_eq hd hc).mp h1).symm
  · intro h
    rw [h, Int32.sub_self]
theorem rk_sm1 (x y : Int32) : x - y + (-1) = x - (y + 1) := by grind
/-- the law's own item: place j of the m-th order -/
theorem rk_Li {post : Int32 → Prop} {p : Nat → Nat} {n m j : Nat} (hn : n ≤ 7) (hm : m < rk_f n) (hP : rk_P n m p n) (hj : j < n) (H : post (nI (p j))) : wpL_item post () (nI n) (nI m) (nI j) := by
  have hf := rk_f_le n (by omega)
  have main : ∃ k, wL_item_11 post (nI n) (nI j) k 0 (nI (m % rk_f (n - 0))) 0 (nI 0) := by
    refine pk_loop (σ := Int32 × Int32) (fun k i s => wL_item_11 post (nI n) (nI j) k s.1 (nI (m % rk_f (n - i))) s.2 (nI i)) (fun i s => rk_MK p i s.1 ∧ (0 < i → s.2 = nI (p (i - 1)))) (j + 1) 0 (0, 0) (by omega) ⟨rk_MK0 p, fun h => absurd h (by omega)⟩ ?_ ?_
    · intro k s h
      refine pk_lt j (j + 1) (fun _ => ?_) (fun z => absurd z (by omega))
      rw [h.2 (by omega)]
      exact H
    · intro k i s hi h hk
      have hi' : i < n := by omega
      obtain ⟨p1, p2, p3⟩ := hP i hi'
      have hd := rk_d_lt n m i hi'
      have hfi := rk_f_le (n - 1 - i) (by omega)
      have hfp := rk_f_pos (n - 1 - i)
      have hR : m % rk_f (n - i) ≤ m := Nat.mod_le _ _
      have hRm : m % rk_f (n - i) % rk_f (n - 1 - i) = m % rk_f (n - (i + 1)) := by
        rw [show n - (i + 1) = n - 1 - i by omega]
        exact Nat.mod_mod_of_dvd m ⟨n - i, by rw [rk_f_d hi', Nat.mul_comm]⟩
      refine pk_lt j i (fun z => absurd z (by omega)) (fun _ => ?_)
      rw [show nI n - 1 = nI (n - 1) from pk_sub (b := 1) (by omega), pk_sub (show i ≤ n - 1 by omega)]
      refine rk_fac (by omega) ⟨nI_ne0 hfp (by omega), nm_r (pk_div (by omega) hfp (by omega)) ⟨nI_ne0 hfp (by omega), nm_r (show _ = nI (m % rk_f (n - (i + 1))) by rw [pk_rem (by omega) hfp (by omega), hRm]) ?_⟩⟩
      rw [← p3] at hd ⊢
      refine pk_loop (σ := Int32 × Int32) (fun k' u t => wL_item_48 post (wL_item_11 post (nI n) (nI j) k) (nI n) (nI j) s.1 (nI (m % rk_f (n - (i + 1)))) (nI i) k' t.1 t.2 (nI u)) (fun u t => t.1 = (if p i < u then nI (p i) else 0) ∧ t.2 = nI (rk_c p i (p i)) - nI (rk_c p i u)) n 0 (0, nI (rk_c p i (p i))) (by omega) ⟨(if_neg (by omega)).symm, (Int32.sub_zero _).symm⟩ ?_ ?_
      · intro k' t ht
        have e : t.1 = nI (p i) := by rw [ht.1, if_pos p1]
        refine pk_le n n (fun _ => nm_r (show s.1 ||| ((1 : Int32) <<< (t.1 &&& 31)) = s.1 ||| ((1 : Int32) <<< (nI (p i) &&& 31)) by rw [e]) (nm_r (nI_1 i) ?_)) (fun z => absurd z (by omega))
        exact hk (s.1 ||| ((1 : Int32) <<< (nI (p i) &&& 31)), t.1) ⟨rk_MKs h.1 (by omega), fun _ => e⟩
      · intro k' u ⟨v, sk⟩ hu ht hk2
        have ht1 : v = (if p i < u then nI (p i) else 0) := ht.1
        have ht2 : sk = nI (rk_c p i (p i)) - nI (rk_c p i u) := ht.2
        have hc := rk_cl (p := p) (i := i) (fun a ha => (hP a (by omega)).2.1) u
        have hs1 : u ≠ p i → (if p i < u + 1 then nI (p i) else 0) = (if p i < u then nI (p i) else 0) := fun z => by
          by_cases g : p i < u
          · rw [if_pos g, if_pos (by omega)]
          · rw [if_neg g, if_neg (by omega)]
        refine pk_le n u (fun z => absurd z (by omega)) (fun _ => ek_if (rk_MKb h.1 (by omega)) (fun fr => ?_) (fun nf => ?_))
        · have e2 : sk + (-1) = nI (rk_c p i (p i)) - nI (rk_c p i (u + 1)) := by rw [ht2, rk_c_s, if_pos fr, ← nI_1, rk_sm1]
          refine ek_if (d := rk_c p i u = rk_c p i (p i)) (by rw [ht2]; exact rk_s0 (by omega) (by omega)) (fun z => ?_) (fun z => ?_)
          · have e1 : nI u = (if p i < u + 1 then nI (p i) else 0) := by rw [← rk_uniq fr p2 z, if_pos (by omega)]
            have hA := hk2 (nI u, sk + (-1)) ⟨e1, e2⟩
            exact fun x8 h8 x9 h9 => by
              rw [h8, h9, nI_1]
              exact hA
          · have e1 : v = (if p i < u + 1 then nI (p i) else 0) := by
              rw [hs1 (fun e => z (by rw [e]))]
              exact ht1
            have hA := hk2 (v, sk + (-1)) ⟨e1, e2⟩
            exact fun x8 h8 x9 h9 => by
              rw [h8, h9, nI_1]
              exact hA
        · have hne : u ≠ p i := fun e => nf (by rw [e]; exact p2)
          refine nm_r (nI_1 u) (hk2 (v, sk) ⟨?_, ?_⟩)
          · rw [hs1 hne]
            exact ht1
          · rw [rk_c_s, if_neg nf, Nat.add_zero]
            exact ht2
  rw [Nat.sub_zero, Nat.mod_eq_of_lt hm] at main
  exact main
end
section
/-! the closed facts of groupings and nestings, n from 1 to 7 -/
def rk_z (_ : Nat) : Nat := 0
def rk_d (i : Nat) : Nat := i
def rk_t0 (i : Nat) : Nat := (i + 1) % 2
def rk_t1 (n i : Nat) : Nat := if i < n then 1 else 0
def rk_R2 (n i : Nat) : Nat := rk_ge n 0 - 1 - rk_sum (fun j => rk_sum (rk_w2 n rk_d j) (rk_d j)) i
def rk_R3 (n i : Nat) : Nat := rk_ne n n - 1 - rk_sum (fun j => rk_sum (rk_w3 n (rk_t1 n) j) (rk_t1 n j)) i
theorem rk_k1 : ∀ n, n < 8 → (0 < rk_ge n 0 ∧ rk_ge n 0 < 1000) ∧ (0 < rk_ne n n ∧ rk_ne n n < 1000) := by decide +kernel
theorem rk_kz : ∀ n, n < 8 → ∀ i, i < n → rk_G rk_z i ≤ 8 ∧ (∀ x, x < 1 → rk_w2 n rk_z i x < 2 ^ 31) ∧ 0 = rk_sum (rk_w2 n rk_z i) 0 + 0 ∧ 0 < rk_w2 n rk_z i 0 := by decide +kernel
theorem rk_kd : ∀ n, n < 8 → ∀ i, i < n → rk_G rk_d i ≤ 8 ∧ (∀ x, x < i + 1 → rk_w2 n rk_d i x < 2 ^ 31) ∧ rk_R2 n i = rk_sum (rk_w2 n rk_d i) i + rk_R2 n (i + 1) ∧ rk_R2 n (i + 1) < rk_w2 n rk_d i i := by decide +kernel
theorem rk_kt0 : ∀ n, n < 8 → ∀ i, i < 2 * n → rk_t0 i < 2 ∧ (rk_sum rk_t0 i ≤ n ∧ i ≤ 2 * rk_sum rk_t0 i ∧ rk_sum rk_t0 i ≤ i) ∧ (∀ x, x < 2 → rk_w3 n rk_t0 i x < 2 ^ 31) ∧ 0 = rk_sum (rk_w3 n rk_t0 i) (rk_t0 i) + 0 ∧ 0 < rk_w3 n rk_t0 i (rk_t0 i) := by decide +kernel
theorem rk_kt1 : ∀ n, n < 8 → ∀ i, i < 2 * n → rk_t1 n i < 2 ∧ (rk_sum (rk_t1 n) i ≤ n ∧ i ≤ 2 * rk_sum (rk_t1 n) i ∧ rk_sum (rk_t1 n) i ≤ i) ∧ (∀ x, x < 2 → rk_w3 n (rk_t1 n) i x < 2 ^ 31) ∧ rk_R3 n i = rk_sum (rk_w3 n (rk_t1 n) i) (rk_t1 n i) + rk_R3 n (i + 1) ∧ rk_R3 n (i + 1) < rk_w3 n (rk_t1 n) i (rk_t1 n i) := by decide +kernel
theorem rk_kr : ∀ n, n < 8 → 0 < n → rk_sum (fun j => rk_sum (rk_w3 n (rk_t1 n) j) (rk_t1 n j)) (2 * n) = rk_ne n n - 1 := by decide +kernel
theorem rk_km : ∀ n, n < 8 → ∀ j, j < 2 * n → 1 - nI (rk_t1 n (2 * n - 1 - j)) = nI (rk_t1 n j) := by decide +kernel
section
variable {sr sz ch ln cu : Int32} {a1 a2 a3 a4 a5 a6 : Nat → Int32}
theorem rk_ct2 {n : Nat} (hn : n ≤ 7) (hT : rk_T a4 a5 a6) : ∀ φ : Int32 → Prop, φ (nI (rk_ge n 0)) → wpX_goingOn φ (2, sz, ch, nI n, cu, a1, a2, a3, a4, a5, a6) 0 :=
  fun φ h => rk_gn2 (p := rk_z) (i := 0) hn (by omega) (fun j hj => absurd hj (by omega)) (fun j hj => absurd hj (by omega)) (show n - 0 + 0 < 16 by omega) hT h
theorem rk_ct3 {n : Nat} (hn : n ≤ 7) (hT : rk_T a4 a5 a6) : ∀ φ : Int32 → Prop, φ (nI (rk_ne n n)) → wpX_goingOn φ (3, nI n, ch, ln, cu, a1, a2, a3, a4, a5, a6) 0 :=
  fun φ h => rk_gn3 (p := rk_z) (i := 0) hn (by omega) (fun j hj => absurd hj (by omega)) (Nat.zero_le n) (Nat.le_refl 0) (Nat.le_refl 0) hT h
theorem rk_ch_g {post : Int32 → St2 → Prop} {n : Nat} {q : Int32} (h1 : 1 ≤ n) (hn : n ≤ 7) (hT : rk_T a4 a5 a6) (hB : rk_B a1)
    (H : ∀ a, rk_B a → post 1 (2, nI n, 0, nI n, nI 0, a, a2, a3, a4, a5, a6)) : wpX_choose post (sr, sz, ch, ln, cu, a1, a2, a3, a4, a5, a6) 2 (nI n) q :=
  rk_ch2 h1 hn (rk_c100 (tot := rk_ge n 0) (t := rk_z) (w := rk_w2 n rk_z) (by omega) (rk_ct2 hn hT) (rk_k1 n (by omega)).1.1 (by have := (rk_k1 n (by omega)).1.2; omega) (fun i _ => show 0 < 128 by omega)
    (fun i hi x hx => ⟨(rk_kz n (by omega) i hi).2.1 x (Nat.lt_succ_of_le hx), fun a ha hb => rk_wi2 hn hi (by have : x ≤ 0 := hx; omega) hb ha (fun j _ => show 0 < 8 by omega) (rk_kz n (by omega) i hi).1 hT⟩)
    (fun i hi => (rk_kz n (by omega) i hi).2.2) hB (fun a _ hb => H a hb))
theorem rk_go_g {post : Int32 → St2 → Prop} {n : Nat} (h1 : 1 ≤ n) (hn : n ≤ 7) (hT : rk_T a4 a5 a6) (hB : rk_B a1)
    (H : ∀ a, (∀ j, j < n → a j = nI j) → rk_B a → post (nI (rk_ge n 0 - 1)) (2, nI n, ch, nI n, nI (rk_ge n 0 - 1), a, a2, a3, a4, a5, a6)) : wpX_go post (2, nI n, ch, nI n, cu, a1, a2, a3, a4, a5, a6) (nI (rk_ge n 0 - 1)) :=
  rk_go (R := rk_R2 n) (tot := rk_ge n 0) (t := rk_d) (w := rk_w2 n rk_d) (by omega) (rk_ct2 hn hT) rfl (by have := (rk_k1 n (by omega)).1.1; omega) (by have := (rk_k1 n (by omega)).1.2; omega) (fun i hi => show i < 128 by omega)
    (fun i hi x hx => ⟨(rk_kd n (by omega) i hi).2.1 x (Nat.lt_succ_of_le hx), fun a ha hb => rk_wi2 hn hi (by have : x ≤ i := hx; omega) hb ha (fun j hj => show j < 8 by omega) (rk_kd n (by omega) i hi).1 hT⟩)
    (fun i hi => (rk_kd n (by omega) i hi).2.2) hB H
theorem rk_nx_g {post : Int32 → St2 → Prop} {n : Nat} (hn : n ≤ 7) (hT : rk_T a4 a5 a6) (H : post (-2) (2, sz, ch, nI n, nI (rk_ge n 0 - 1), a1, a2, a3, a4, a5, a6)) : wpX_next post (2, sz, ch, nI n, nI (rk_ge n 0 - 1), a1, a2, a3, a4, a5, a6) := by
  have k := (rk_k1 n (by omega)).1
  unfold wpX_next
  refine rk_ct2 hn hT _ (br_f (nI_pos (by omega)) ?_)
  exact pk_lt (rk_ge n 0 - 1 + 1) (rk_ge n 0) (fun z => absurd z (by omega)) (fun _ => H) (nI_1 _)
theorem rk_ch_n {post : Int32 → St2 → Prop} {n : Nat} {q : Int32} (h1 : 1 ≤ n) (hn : n ≤ 7) (hT : rk_T a4 a5 a6) (hB : rk_B a1)
    (H : ∀ a, rk_B a → post 1 (3, nI n, 0, nI (2 * n), nI 0, a, a2, a3, a4, a5, a6)) : wpX_choose post (sr, sz, ch, ln, cu, a1, a2, a3, a4, a5, a6) 3 (nI n) q :=
  rk_ch3 h1 hn (rk_c100 (tot := rk_ne n n) (t := rk_t0) (w := rk_w3 n rk_t0) (by omega) (rk_ct3 hn hT) (rk_k1 n (by omega)).2.1 (by have := (rk_k1 n (by omega)).2.2; omega) (fun i hi => by have := (rk_kt0 n (by omega) i hi).1; omega)
    (fun i hi x hx => by
      obtain ⟨e1, ⟨e2, e3, e4⟩, e5, _⟩ := rk_kt0 n (by omega) i hi
      exact ⟨e5 x (by omega), fun a ha hb => rk_wi3 hn (by omega) (by omega) hb ha e2 e3 e4 hT⟩)
    (fun i hi => (rk_kt0 n (by omega) i hi).2.2.2) hB (fun a _ hb => H a hb))
theorem rk_go_n {post : Int32 → St2 → Prop} {n : Nat} (h1 : 1 ≤ n) (hn : n ≤ 7) (hT : rk_T a4 a5 a6) (hB : rk_B a1)
    (H : ∀ a, (∀ j, j < 2 * n → a j = nI (rk_t1 n j)) → rk_B a → post (nI (rk_ne n n - 1)) (3, nI n, ch, nI (2 * n), nI (rk_ne n n - 1), a, a2, a3, a4, a5, a6)) : wpX_go post (3, nI n, ch, nI (2 * n), cu, a1, a2, a3, a4, a5, a6) (nI (rk_ne n n - 1)) :=
  rk_go (R := rk_R3 n) (tot := rk_ne n n) (t := rk_t1 n) (w := rk_w3 n (rk_t1 n)) (by omega) (rk_ct3 hn hT) rfl (by have := (rk_k1 n (by omega)).2.1; omega) (by have := (rk_k1 n (by omega)).2.2; omega) (fun i hi => by have := (rk_kt1 n (by omega) i hi).1; omega)
    (fun i hi x hx => by
      obtain ⟨e1, ⟨e2, e3, e4⟩, e5, _⟩ := rk_kt1 n (by omega) i hi
      exact ⟨e5 x (by omega), fun a ha hb => rk_wi3 hn (by omega) (by omega) hb ha e2 e3 e4 hT⟩)
    (fun i hi => (rk_kt1 n (by omega) i hi).2.2.2) hB H
theorem rk_goB_n {post : Int32 → St2 → Prop} {n : Nat} (hn : n ≤ 7) (hT : rk_T a4 a5 a6) (H : post (-1) (3, nI n, ch, ln, cu, a1, a2, a3, a4, a5, a6)) : wpX_go post (3, nI n, ch, ln, cu, a1, a2, a3, a4, a5, a6) (nI (rk_ne n n)) := by
  have k := (rk_k1 n (by omega)).2
  unfold wpX_go
  exact rk_ct3 hn hT _ (br_f (nI_pos (by omega)) (br_f (nI_nlt (Nat.le_refl _) (by omega)) H))
theorem rk_mir_n {post : Int32 → St2 → Prop} {n : Nat} (h1 : 1 ≤ n) (hn : n ≤ 7) (hT : rk_T a4 a5 a6) (hB : rk_B a1) (hp : ∀ j, j < 2 * n → a1 j = nI (rk_t1 n j))
    (H : ∀ a b, post (nI (rk_ne n n - 1)) (3, nI n, ch, nI (2 * n), nI (rk_ne n n - 1), a, b, a3, a4, a5, a6)) : wpX_mirrored post (3, nI n, ch, nI (2 * n), nI (rk_ne n n - 1), a1, a2, a3, a4, a5, a6) := by
  have k := (rk_k1 n (by omega)).2
  refine rk_mirG (p := rk_t1 n) (r := rk_t1 n) (w := rk_w3 n (rk_t1 n)) (by decide) (by decide) (by omega) (by omega) (by omega) hp hB (fun j hj => ⟨by have := (rk_kt1 n (by omega) j hj).1; omega, Or.inl ⟨rfl, rk_km n (by omega) j hj⟩⟩) (fun a b ha hb j hj x hx => ?_) (fun φ a b hb h => rk_go_n h1 hn hT hb h) (fun a b ha hb => ?_)
  · obtain ⟨e1, ⟨e2, e3, e4⟩, e5, _⟩ := rk_kt1 n (by omega) j hj
    exact rk_wi3 hn (by omega) (by omega) hb (fun t ht => ha t (by omega)) e2 e3 e4 hT
  · rw [rk_kr n (by omega) h1]
    exact H a b
end
end
section
section
variable {sr sz ch ln cu : Int32} {a1 a2 a3 a4 a5 a6 : Nat → Int32}
/-! groupings and nestings: the law's last rows -/
theorem rk_421 {post : Int32 → St0 → Prop} {mc ms kc ks n : Nat} (h1 : 1 ≤ n) (hn : n ≤ 7) (hT : rk_T a4 a5 a6) (hB : rk_B a1) (H : post 1 ()) :
    wL_lawOf_421 post mc ms (nI n) (nI (rk_ge n 0)) (nI (rk_ne n n)) kc ks sr sz ch ln cu a1 a2 a3 a4 a5 a6 := by
  have k1 := (rk_k1 n (by omega)).1
  have k2 := (rk_k1 n (by omega)).2
  have t1 : rk_t1 n (n - 1) = 1 := if_pos (by omega)
  have t2 : rk_t1 n n = 0 := if_neg (by omega)
  unfold wL_lawOf_421
  refine rk_ch_g h1 hn hT hB (fun b1 hB1 => br_f (by decide) ?_)
  unfold wpX_count
  refine rk_ct2 hn hT _ (br_t rfl ?_)
  refine br_f (nI_pos (by omega)) (br_t rfl (br_t rfl ?_))
  rw [show nI (rk_ge n 0) - 1 = nI (rk_ge n 0 - 1) from pk_sub (b := 1) (by omega), show nI n - 1 = nI (n - 1) from pk_sub (b := 1) (by omega), show (2 : Int32) * nI n = nI (2 * n) from pk_mul 2 n, show nI (rk_ne n n) - 1 = nI (rk_ne n n - 1) from pk_sub (b := 1) (by omega)]
  refine rk_go_g h1 hn hT hB1 (fun b2 hb2 hB2 => br_f (nI_pos (by omega)) ?_)
  refine rk_item (by omega) (by omega) (by omega) ?_
  rw [hb2 (n - 1) (by omega)]
  refine br_t rfl ?_
  refine rk_nx_g hn hT (br_t rfl ?_)
  refine rk_ch_n h1 hn hT hB2 (fun b3 hB3 => br_f (by decide) ?_)
  refine rk_ct3 hn hT _ (br_t rfl ?_)
  refine rk_goB_n hn hT (br_t rfl ?_)
  refine rk_go_n h1 hn hT hB3 (fun b4 hb4 hB4 => br_f (nI_pos (by omega)) ?_)
  refine rk_item (by omega) (by omega) (by omega) ?_
  rw [hb4 (n - 1) (by omega), t1]
  refine br_t rfl ?_
  refine rk_item (by omega) (by omega) (by omega) ?_
  rw [hb4 n (by omega), t2]
  refine br_t rfl ?_
  refine rk_itemB (by omega) (Nat.le_refl _) (by omega) (br_t rfl ?_)
  exact rk_mir_n h1 hn hT hB4 hb4 (fun a b => br_t rfl H)
theorem rk_360 {post : Int32 → St0 → Prop} {mc ms kc ks n : Nat} (h1 : 1 ≤ n) (hn : n ≤ 7) (hT : rk_T a4 a5 a6) (hB : rk_B a1) (H : post 1 ()) :
    wL_lawOf_360 post mc ms (nI n) (nI (rk_ge n 0)) kc ks sr sz ch ln cu a1 a2 a3 a4 a5 a6 := by
  have L : ∀ x, x = nI (rk_ne n n) → wL_lawOf_421 post mc ms (nI n) (nI (rk_ge n 0)) x kc ks sr sz ch ln cu a1 a2 a3 a4 a5 a6 := fun x e => by rw [e]; exact rk_421 h1 hn hT hB H
  have e7 : n < 3 ∨ n = 3 ∨ n = 4 ∨ n = 5 ∨ n = 6 ∨ n = 7 := by omega
  unfold wL_lawOf_360
  refine pk_le 3 n (fun h3 => pk_eq n 3 (fun e => L _ ?_) (fun e3 => pk_eq n 4 (fun e => L _ ?_) (fun e4 => pk_eq n 5 (fun e => L _ ?_) (fun e5 => pk_eq n 6 (fun e => L _ ?_) (fun e6 => L _ ?_))))) (fun h => L _ ?_)
  · rw [e]; decide +kernel
  · rw [e]; decide +kernel
  · rw [e]; decide +kernel
  · rw [e]; decide +kernel
  · rw [show n = 7 by omega]; decide +kernel
  · rcases (show n = 1 ∨ n = 2 by omega) with e | e
    · rw [e]; decide +kernel
    · rw [e]; decide +kernel
theorem rk_296 {post : Int32 → St0 → Prop} {v : Int32} {mc ms kc ks n : Nat} (h1 : 1 ≤ n) (hn : n ≤ 7) (hT : rk_T a4 a5 a6) (hB : rk_B a1) (H : post 1 ()) :
    wL_lawOf_296 post mc ms (nI n) v v kc ks sr sz ch ln cu a1 a2 a3 a4 a5 a6 := by
  have L : ∀ x, x = nI (rk_ge n 0) → wL_lawOf_360 post mc ms (nI n) x kc ks sr sz ch ln cu a1 a2 a3 a4 a5 a6 := fun x e => by rw [e]; exact rk_360 h1 hn hT hB H
  unfold wL_lawOf_296
  refine br_t rfl (pk_le 3 n (fun h3 => pk_eq n 3 (fun e => L _ ?_) (fun e3 => pk_eq n 4 (fun e => L _ ?_) (fun e4 => pk_eq n 5 (fun e => L _ ?_) (fun e5 => pk_eq n 6 (fun e => L _ ?_) (fun e6 => L _ ?_))))) (fun h => L _ ?_))
  · rw [e]; decide +kernel
  · rw [e]; decide +kernel
  · rw [e]; decide +kernel
  · rw [e]; decide +kernel
  · rw [show n = 7 by omega]; decide +kernel
  · rcases (show n = 1 ∨ n = 2 by omega) with e | e
    · rw [e]; decide +kernel
    · rw [e]; decide +kernel
/-! the law's loops over the places -/
theorem rk_156 {post : Int32 → St0 → Prop} {J : Int32 → Int32 → Int32 → Prop} {x5 x7 x8 x10 : Int32} {p : Nat → Nat} {mc ms kc ks n m j T : Nat} (hn : n ≤ 7) (hm : m < rk_f n) (hP : rk_P n m p n) (hj : j < n)
    (H : J x10 (nI (T + rk_l p j (p j) * rk_f j)) (nI (j + 1))) :
    ∃ k, wL_lawOf_156 post mc ms J (nI n) x5 (nI m) x7 x8 x10 (nI T) (nI j) (nI (p j)) kc ks sr sz ch ln cu a1 a2 a3 a4 a5 a6 k 0 0 := by
  have pj := (hP j hj).1
  refine pk_loop (σ := Unit) (fun k l _ => wL_lawOf_156 post mc ms J (nI n) x5 (nI m) x7 x8 x10 (nI T) (nI j) (nI (p j)) kc ks sr sz ch ln cu a1 a2 a3 a4 a5 a6 k (nI (rk_l p l (p j))) (nI l)) (fun _ _ => True) j 0 () (by omega) trivial ?_ ?_
  · intro k _ _
    refine pk_le j j (fun _ => ?_) (fun z => absurd z (by omega))
    exact rk_fac (by omega) (nm_r (show nI T + nI (rk_l p j (p j)) * nI (rk_f j) = nI (T + rk_l p j (p j) * rk_f j) by rw [pk_mul, nI_add]) (nm_r (nI_1 j) H))
  · intro k l _ hl _ hk
    have pl := (hP l (by omega)).1
    have hk' := hk () trivial
    refine pk_le j l (fun z => absurd z (by omega)) (fun _ => ?_)
    refine rk_Li hn hm hP (by omega) ?_
    refine pk_le (p j) (p l) (fun h => nm_r (nI_1 l) ?_) (fun h => nm_r (nI_1 _) (nm_r (nI_1 l) ?_))
    · rw [rk_l_s, if_neg (by omega), Nat.add_zero] at hk'
      exact hk'
    · rw [rk_l_s, if_pos h] at hk'
      exact hk'
theorem rk_101 {post : Int32 → St0 → Prop} {p q : Nat → Nat} {mc ms kc ks n m mq pl : Nat} (h1 : 1 ≤ n) (hn : n ≤ 7) (hm : m < rk_f n) (hq : mq < rk_f n) (hpl : pl < n) (hP : rk_P n m p n) (hQ : rk_P n mq q n) (hT : rk_T a4 a5 a6) (hB : rk_B a1) (hp : ∀ j, j < n → a1 j = nI (p j)) (H : post 1 ()) :
    ∃ k, wL_lawOf_101 post mc ms (nI n) (nI (rk_f n)) (nI m) (nI mq) (nI pl) kc ks 1 (nI n) ch (nI n) (nI m) a1 a2 a3 a4 a5 a6 k 0 0 0 := by
  have hf := rk_f_le n (by omega)
  refine pk_loop (σ := Unit) (fun k j _ => wL_lawOf_101 post mc ms (nI n) (nI (rk_f n)) (nI m) (nI mq) (nI pl) kc ks 1 (nI n) ch (nI n) (nI m) a1 a2 a3 a4 a5 a6 k (nI (rk_sum (fun j => if p j = q j then 0 else 1) j)) (nI (rk_sum (fun j => rk_l p j (p j) * rk_f j) j)) (nI j)) (fun _ _ => True) n 0 () (by omega) trivial ?_ ?_
  · intro k _ _
    have hfp := rk_f_pos (n - 1 - pl)
    have hfl := rk_f_le (n - 1 - pl) (by omega)
    refine pk_le n n (fun _ => ?_) (fun z => absurd z (by omega))
    refine rk_diff hn hm hq hP hQ hT hB hp (fun b1 b2 hb hB1 => br_t rfl ?_)
    refine rk_mir_o h1 hn hm hP hT hB1 hb (fun c1 c2 hc hC => br_t rfl ?_)
    rw [show nI n - 1 = nI (n - 1) from pk_sub (b := 1) h1, pk_sub (show pl ≤ n - 1 by omega)]
    refine rk_fac (by omega) ?_
    refine rk_like hn (by omega) hpl hT (br_t rfl ?_)
    refine rk_fl hn hm hpl hP hT hC hc ⟨nI_ne0 hfp (by omega), br_t (by rw [pk_div (by omega) hfp (by omega), pk_mul]) ?_⟩
    refine rk_next h1 hn hm hP hT hC hc (fun hge => ?_) (fun hlt a hBa => ?_)
    · exact pk_le (rk_f n) (m + 1) (fun _ => rk_296 h1 hn hT hC H) (fun z => absurd z (by omega)) rfl (nI_1 m)
    · refine pk_le (rk_f n) (m + 1) (fun z => absurd z (by omega)) (fun _ => ?_) rfl (nI_1 m)
      rw [nI_1]
      exact rk_296 h1 hn hT hBa H
  · intro k j _ hj _ hk
    have pj := (hP j hj).1
    have qj := (hQ j hj).1
    have hk' := hk () trivial
    refine pk_le n j (fun z => absurd z (by omega)) (fun _ => ?_)
    refine rk_Li hn hm hP hj ?_
    refine rk_item (by omega) (by omega) hj ?_
    rw [hp j hj]
    refine br_t rfl ?_
    refine rk_Li hn hq hQ hj ?_
    refine pk_eq (p j) (q j) (fun e => rk_156 hn hm hP hj ?_) (fun e => nm_r (nI_1 _) (rk_156 hn hm hP hj ?_))
    · rw [show rk_sum (fun j => if p j = q j then 0 else 1) (j + 1) = rk_sum (fun j => if p j = q j then 0 else 1) j by rw [rk_sum_s, if_pos e, Nat.add_zero]] at hk'
      exact hk'
    · rw [show rk_sum (fun j => if p j = q j then 0 else 1) (j + 1) = rk_sum (fun j => if p j = q j then 0 else 1) j + 1 by rw [rk_sum_s, if_neg e]] at hk'
      exact hk'
end
theorem rk_law {post : Int32 → St0 → Prop} {mc ms : Nat} (hc : 7 ≤ mc) (hs : 303 ≤ ms) (x0 x1 x2 x3 : Int32) (H : post 1 ()) : wpL_lawOf post mc ms () x0 x1 x2 x3 := by
  obtain ⟨j0, j0l, e0⟩ := pk_andE x0 (m := 255) 8 (by decide)
  obtain ⟨j1, j1l, e1⟩ := pk_andE x1 (m := 65535) 16 (by decide)
  obtain ⟨j2, j2l, e2⟩ := pk_andE x2 (m := 65535) 16 (by decide)
  obtain ⟨j3, j3l, e3⟩ := pk_andE x3 (m := 255) 8 (by decide)
  obtain ⟨n, hnE⟩ : ∃ n, n = 1 + j0 % 7 := ⟨_, rfl⟩
  have h1 : 1 ≤ n := by omega
  have hn : n ≤ 7 := by omega
  have hf := rk_f_le n (by omega)
  have hfp := rk_f_pos n
  have hm : j1 % rk_f n < rk_f n := Nat.mod_lt _ hfp
  have hq : j2 % rk_f n < rk_f n := Nat.mod_lt _ hfp
  have hpl : j3 % n < n := Nat.mod_lt _ (by omega)
  obtain ⟨p, hP⟩ := rk_ex n (j1 % rk_f n) n (Nat.le_refl n)
  obtain ⟨q, hQ⟩ := rk_ex n (j2 % rk_f n) n (Nat.le_refl n)
  unfold wpL_lawOf
  rw [e0, e1, e2, e3]
  refine ⟨by decide, nm_r (show 1 + (nI j0 - nI j0 / 7 * 7) = nI n by
    rw [show nI j0 - nI j0 / 7 * 7 = nI (j0 % 7) from pk_rem (d := 7) (by omega) (by omega) (by omega), hnE]
    exact nI_add 1 _) ?_⟩
  refine rk_fac (by omega) ⟨nI_ne0 hfp (by omega), nm_r (pk_rem (by omega) hfp (by omega)) ⟨nI_ne0 hfp (by omega), nm_r (pk_rem (by omega) hfp (by omega)) ⟨nI_ne0 h1 (by omega), nm_r (pk_rem (by omega) h1 (by omega)) ⟨by omega, by omega, 6, 292, by omega, by omega, ?_⟩⟩⟩⟩
  refine rk_init (by omega) (by omega) (fun s z c l k b1 b2 b3 b4 b5 b6 hT hB => ?_)
  refine rk_ch_o h1 hn hT hB (fun c1 hC => br_f (by decide) ?_)
  unfold wpX_count
  refine rk_gn1 (i := 0) hn (by omega) hT ?_
  rw [Nat.sub_zero]
  refine br_t rfl ?_
  refine rk_go_o hn hm hP hT hC (fun d1 hd hD => br_t rfl ?_)
  exact rk_101 h1 hn hm hq hpl hP hQ hT hD hd H
theorem rk_cell {post : Int32 → Prop} {L : Nat} {xs : Nat → Int32} (hL : L ≤ 4) (k : Nat) (hk : k < 4) (H : ∀ r, post r) : wpL_cellAt post L xs () (nI k) :=
  pk_le L k (fun _ => H 0) (fun h => ⟨pk_in k L h, H _⟩)
theorem i_vc (xs : Nat → Int32) (L : Nat) (hL : L ≤ 4) : wpL_law (fun r => r = 1) L xs := by
  unfold wpL_law
  refine rk_cell hL 0 (by omega) (fun r1 => rk_cell hL 1 (by omega) (fun r2 => rk_cell hL 2 (by omega) (fun r3 => rk_cell hL 3 (by omega) (fun r4 => ?_))))
  exact ⟨156, 2480, by omega, by omega, rk_law (by omega) (by omega) r1 r2 r3 r4 rfl⟩
end
