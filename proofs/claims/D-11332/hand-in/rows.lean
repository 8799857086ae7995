section
/-- the sum of f over the first k places -/
def ro_sm (f : Nat → Nat) : Nat → Nat
  | 0 => 0
  | k + 1 => ro_sm f k + f k
/-- the product of 1 .. k -/
def ro_fc : Nat → Nat
  | 0 => 1
  | k + 1 => ro_fc k * (k + 1)
/-- the code of the first k digits -/
def ro_cd (p : Nat → Nat) : Nat → Nat
  | 0 => 0
  | k + 1 => 10 * ro_cd p k + p k
/-- 1 for a pair that stands the wrong way round -/
def ro_g (p : Nat → Nat) (i j : Nat) : Nat := if i < j ∧ p j < p i then 1 else 0
/-- inversions, as the component counts them -/
def ro_iv (N : Nat) (p : Nat → Nat) : Nat := ro_sm (fun k => ro_g p (k / N) (k % N)) (N * N)
/-- inversions, as the law counts them -/
def ro_iw (N : Nat) (p : Nat → Nat) : Nat := ro_sm (fun k => ro_g p (k % N) (k / N)) (N * N)
/-- the rank -/
def ro_rk (N : Nat) (p : Nat → Nat) : Nat := ro_sm (fun i => ro_sm (ro_g p i) N * ro_fc (N - 1 - i)) N
/-- two places exchanged -/
def ro_sw (p : Nat → Nat) (i j t : Nat) : Nat := if t = i then p j else if t = j then p i else p t
/-- one turn of the component's steps -/
def ro_sf (N : Nat) (p : Nat → Nat) (o : Nat) (q : Nat) : Nat := if q / N < q % N ∧ (o = 0 ∨ q % N = q / N + 1) ∧ ro_iv N (ro_sw p (q / N) (q % N)) = ro_iv N p + 1 then 1 else 0
/-- the component's steps -/
def ro_st (N : Nat) (p : Nat → Nat) (o : Nat) : Nat := ro_sm (ro_sf N p o) (N * N)
/-- 1 for a number between -/
def ro_bt (p : Nat → Nat) (u v m : Nat) : Nat := if u < m ∧ p u < p m ∧ p m < p v then 1 else 0
/-- what the law's turn adds to 'one' -/
def ro_p1 (p : Nat → Nat) (u v : Nat) : Nat := if u < v ∧ p u < p v ∧ ro_sm (ro_bt p u v) v = 0 then 1 else 0
/-- what the law's turn adds to 'two' -/
def ro_p2 (p : Nat → Nat) (u v : Nat) : Nat := if v = u + 1 ∧ p u < p v then 1 else 0
def ro_o1 (N : Nat) (p : Nat → Nat) (k : Nat) : Nat := ro_p1 p (k % N) (k / N)
def ro_o2 (N : Nat) (p : Nat → Nat) (k : Nat) : Nat := ro_p2 p (k % N) (k / N)
/-- the law's search for the place of k + 1, starting at p k -/
def ro_in (p : Nat → Nat) (k : Nat) : Nat → Nat
  | 0 => p k
  | m + 1 => if p m = k + 1 then m + 1 else ro_in p k m
/-- nextFree: n, used; fuel, number, left -/
def ro_nf (N u : Nat) : Nat → Nat → Nat → Nat
  | 0, m, _ => m
  | f + 1, m, l => if N ≤ m then m else if u / 2 ^ m % 2 = 1 then ro_nf N u f (m + 1) l else if l = 0 then m else ro_nf N u f (m + 1) (l - 1)
/-- unrank: left and used ahead of place i -/
def ro_ur (N k : Nat) : Nat → Nat × Nat
  | 0 => (k, 0)
  | i + 1 => ((ro_ur N k i).1 % ro_fc (N - 1 - i), (ro_ur N k i).2 ||| 2 ^ ro_nf N (ro_ur N k i).2 N 1 ((ro_ur N k i).1 / ro_fc (N - 1 - i)))
/-- unrank: the number in place i -/
def ro_un (N k i : Nat) : Nat := ro_nf N (ro_ur N k i).2 N 1 ((ro_ur N k i).1 / ro_fc (N - 1 - i))
/-- the law's digit in place k of the outcome -/
def ro_D (N x y kind : Nat) (p q : Nat → Nat) (k : Nat) : Nat := if kind = 0 then ro_sw p x y k else if kind = 1 then ro_in p k N else if kind = 2 then p (N - 1 - k) else p (q k - 1)
theorem ro_s0 {f : Nat → Nat} {k : Nat} (h : f k = 0) : nI (ro_sm f k) = nI (ro_sm f (k + 1)) := by
  show nI (ro_sm f k) = nI (ro_sm f k + f k)
  rw [h, Nat.add_zero]
theorem ro_s1 {f : Nat → Nat} {k : Nat} (h : f k = 1) : nI (ro_sm f k) + 1 = nI (ro_sm f (k + 1)) := by
  show nI (ro_sm f k) + 1 = nI (ro_sm f k + f k)
  rw [h, nI_1]
theorem ro_sm0 {f : Nat → Nat} (k : Nat) (h : ∀ j, j < k → f j = 0) : ro_sm f k = 0 := by
  induction k with
  | zero => rfl
  | succ k ih =>
    show ro_sm f k + f k = 0
    rw [ih (fun j hj => h j (by omega)), h k (by omega)]
theorem ro_smle {f : Nat → Nat} (h : ∀ j, f j ≤ 1) (k : Nat) : ro_sm f k ≤ k := by
  induction k with
  | zero => exact Nat.le_refl 0
  | succ k ih =>
    show ro_sm f k + f k ≤ k + 1
    have := h k
    omega
theorem ro_g_1 {p : Nat → Nat} {i j : Nat} (h : i < j) (h' : p j < p i) : ro_g p i j = 1 := if_pos ⟨h, h'⟩
theorem ro_g_0 {p : Nat → Nat} {i j : Nat} (h : ¬ (i < j ∧ p j < p i)) : ro_g p i j = 0 := if_neg h
theorem ro_g_le (p : Nat → Nat) (i j : Nat) : ro_g p i j ≤ 1 := by
  by_cases h : i < j ∧ p j < p i
  · rw [ro_g_1 h.1 h.2]
    exact Nat.le_refl 1
  · rw [ro_g_0 h]
    exact Nat.zero_le 1
theorem ro_iv_le (N : Nat) (p : Nat → Nat) : ro_iv N p ≤ N * N := ro_smle (f := fun k => ro_g p (k / N) (k % N)) (fun k => ro_g_le p _ _) (N * N)
theorem ro_turn (g : Nat → Nat → Nat) (N : Nat) (h5 : N ≤ 5) : ro_sm (fun k => g (k / N) (k % N)) (N * N) = ro_sm (fun k => g (k % N) (k / N)) (N * N) := by
  have hc : N = 0 ∨ N = 1 ∨ N = 2 ∨ N = 3 ∨ N = 4 ∨ N = 5 := by omega
  rcases hc with rfl | rfl | rfl | rfl | rfl | rfl <;> simp [ro_sm] <;> omega
theorem ro_ivw (N : Nat) (p : Nat → Nat) (h5 : N ≤ 5) : ro_iv N p = ro_iw N p := ro_turn (ro_g p) N h5
theorem ro_fc0 (k : Nat) : 0 < ro_fc k := by
  induction k with
  | zero => exact Nat.one_pos
  | succ k ih => exact Nat.mul_pos ih (Nat.succ_pos k)
theorem ro_fcb : ∀ k, k < 6 → ro_fc k < 121 := by decide
theorem ro_cdb (p : Nat → Nat) (k : Nat) (h : ∀ j, j < k → p j < 10) : ro_cd p k < 10 ^ k := by
  induction k with
  | zero => exact Nat.one_pos
  | succ k ih =>
    show 10 * ro_cd p k + p k < 10 ^ (k + 1)
    have h1 := ih (fun j hj => h j (by omega))
    have h2 := h k (by omega)
    rw [Nat.pow_succ]
    omega
theorem ro_cdB (p : Nat → Nat) (k : Nat) (h5 : k ≤ 5) (h : ∀ j, j < k → p j < 10) : ro_cd p k < 100000 :=
  Nat.lt_of_lt_of_le (ro_cdb p k h) (Nat.pow_le_pow_right (by decide) h5)
theorem ro_nfb (N u : Nat) : ∀ f m l, m ≤ N → m ≤ ro_nf N u f m l ∧ ro_nf N u f m l ≤ N := by
  intro f
  induction f with
  | zero => exact fun m l h => ⟨Nat.le_refl m, h⟩
  | succ f ih =>
    intro m l h
    show m ≤ (if N ≤ m then m else if u / 2 ^ m % 2 = 1 then ro_nf N u f (m + 1) l else if l = 0 then m else ro_nf N u f (m + 1) (l - 1)) ∧ (if N ≤ m then m else if u / 2 ^ m % 2 = 1 then ro_nf N u f (m + 1) l else if l = 0 then m else ro_nf N u f (m + 1) (l - 1)) ≤ N
    by_cases h1 : N ≤ m
    · rw [if_pos h1]
      exact ⟨Nat.le_refl m, h⟩
    · rw [if_neg h1]
      by_cases h2 : u / 2 ^ m % 2 = 1
      · rw [if_pos h2]
        have := ih (m + 1) l (by omega)
        omega
      · rw [if_neg h2]
        by_cases h3 : l = 0
        · rw [if_pos h3]
          omega
        · rw [if_neg h3]
          have := ih (m + 1) (l - 1) (by omega)
          omega
theorem ro_unb (N k i : Nat) (h : 1 ≤ N) : 1 ≤ ro_un N k i ∧ ro_un N k i ≤ N := ro_nfb N _ N 1 _ h
theorem ro_url (N k : Nat) (i : Nat) : (ro_ur N k i).1 ≤ k := by
  induction i with
  | zero => exact Nat.le_refl k
  | succ i ih => exact Nat.le_trans (Nat.mod_le _ _) ih
theorem ro_uru (N k : Nat) (h1 : 1 ≤ N) (h5 : N ≤ 5) (i : Nat) : (ro_ur N k i).2 < 64 := by
  induction i with
  | zero => exact (by decide : 0 < 64)
  | succ i ih =>
    show (ro_ur N k i).2 ||| 2 ^ ro_un N k i < 2 ^ 6
    refine Nat.or_lt_two_pow ih ?_
    have := ro_unb N k i h1
    exact Nat.pow_lt_pow_right (by decide) (by omega)
theorem ro_fill {s f : Nat → Int32} {c i : Nat} {v : Int32} (h : ∀ j, j < i → s (c + j) = f j) (hv : v = f i) : ∀ j, j < i + 1 → upd s (c + i) v (c + j) = f j := by
  intro j hj
  by_cases e : j = i
  · rw [e, pk_us, hv]
  · rw [pk_un (by omega)]
    exact h j (by omega)
theorem ro_in1 {p : Nat → Nat} {v N m : Nat} (inj : ∀ i j, i < N → j < N → p i = p j → i = j) (hm : m < N) (e : p m = v + 1) : ∀ k, k ≤ N → m < k → ro_in p v k = m + 1 := by
  intro k
  induction k with
  | zero => exact fun _ h => absurd h (by omega)
  | succ k ih =>
    intro hk h
    show (if p k = v + 1 then k + 1 else ro_in p v k) = m + 1
    by_cases h1 : p k = v + 1
    · rw [if_pos h1, inj k m (by omega) hm (h1.trans e.symm)]
    · rw [if_neg h1]
      refine ih (by omega) ?_
      by_cases h2 : m = k
      · rw [h2] at e
        exact absurd e h1
      · omega
/-! ints -/
theorem ro_b8 : ∀ t, t < 128 → (nI t).toInt8.toInt32 = nI t := by decide +kernel
theorem ro_nar {t : Nat} (h : t < 128) : vp_nar .byte (nI t) = nI t := by
  rw [vp_nar_byte]
  exact ro_b8 t h
theorem ro_bit : ∀ u, u < 64 → ∀ m, m < 6 → ((nI u >>> (nI m &&& 31)) &&& 1) = nI (u / 2 ^ m % 2) := by decide +kernel
theorem ro_or : ∀ u, u < 64 → ∀ m, m < 6 → nI u ||| ((1 : Int32) <<< (nI m &&& 31)) = nI (u ||| 2 ^ m) := by decide +kernel
theorem ro_orb : ∀ u, u < 64 → ∀ m, m < 6 → u ||| 2 ^ m < 64 ∧ ∀ d, d < 6 → (u ||| 2 ^ m) / 2 ^ d % 2 = 1 → u / 2 ^ d % 2 = 1 ∨ d = m := by decide +kernel
theorem ro_rd {a : Nat → Int32} {x v : Int32} (c : Nat) (hx : x = nI c) (h : a c = v) (hc : c < 2 ^ 31 := by omega) : a x.toNatClampNeg = v := by
  rw [hx, nI_clamp hc]
  exact h
theorem ro_wr {a : Nat → Int32} {x v w : Int32} (c : Nat) (hx : x = nI c) (h : v = w) (hc : c < 2 ^ 31 := by omega) : upd a x.toNatClampNeg v = upd a c w := by
  rw [hx, nI_clamp hc, h]
end
section
def ro_T2 : List Nat := [12, 21]
def ro_T3 : List Nat := [123, 132, 213, 231, 312, 321]
def ro_T4 : List Nat := [1234, 1243, 1324, 1342, 1423, 1432, 2134, 2143, 2314, 2341, 2413, 2431, 3124, 3142, 3214, 3241, 3412, 3421, 4123, 4132, 4213, 4231, 4312, 4321]
def ro_T5 : List Nat := [12345, 12354, 12435, 12453, 12534, 12543, 13245, 13254, 13425, 13452, 13524, 13542, 14235, 14253, 14325, 14352, 14523, 14532, 15234, 15243, 15324, 15342, 15423, 15432, 21345, 21354, 21435, 21453, 21534, 21543, 23145, 23154, 23415, 23451, 23514, 23541, 24135, 24153, 24315, 24351, 24513, 24531, 25134, 25143, 25314, 25341, 25413, 25431, 31245, 31254, 31425, 31452, 31524, 31542, 32145, 32154, 32415, 32451, 32514, 32541, 34125, 34152, 34215, 34251, 34512, 34521, 35124, 35142, 35214, 35241, 35412, 35421, 41235, 41253, 41325, 41352, 41523, 41532, 42135, 42153, 42315, 42351, 42513, 42531, 43125, 43152, 43215, 43251, 43512, 43521, 45123, 45132, 45213, 45231, 45312, 45321, 51234, 51243, 51324, 51342, 51423, 51432, 52134, 52143, 52314, 52341, 52413, 52431, 53124, 53142, 53214, 53241, 53412, 53421, 54123, 54132, 54213, 54231, 54312, 54321]
/-- digit i of a code of N digits -/
def ro_dg (N c i : Nat) : Nat := c / 10 ^ (N - 1 - i) % 10
def ro_T (N k : Nat) : Nat := if N = 2 then ro_T2.getD k 0 else if N = 3 then ro_T3.getD k 0 else if N = 4 then ro_T4.getD k 0 else ro_T5.getD k 0
/-- the permutation with k before it -/
def ro_P (N k : Nat) : Nat → Nat := ro_dg N (ro_T N k)
theorem ro_u2 : ∀ k, k < 2 → ∀ i, i < 2 → ro_un 2 k i = ro_dg 2 (ro_T2.getD k 0) i := by decide +kernel
theorem ro_k2 : ∀ k, k < 2 → ro_rk 2 (ro_dg 2 (ro_T2.getD k 0)) = k := by decide +kernel
theorem ro_r2 : ∀ c, c ∈ ro_T2 → ∀ j, j < 2 → 1 ≤ ro_dg 2 c j ∧ ro_dg 2 c j ≤ 2 := by decide +kernel
theorem ro_i2 : ∀ c, c ∈ ro_T2 → ∀ i, i < 2 → ∀ j, j < 2 → ro_dg 2 c i = ro_dg 2 c j → i = j := by decide +kernel
theorem ro_q2 : ∀ c, c ∈ ro_T2 → ∀ v, v < 2 → ∃ m, m < 2 ∧ ro_dg 2 c m = v + 1 := by decide +kernel
theorem ro_a2 : ∀ c, c ∈ ro_T2 → ro_st 2 (ro_dg 2 c) 0 = ro_sm (ro_o1 2 (ro_dg 2 c)) (2 * 2) := by decide +kernel
theorem ro_c2 : ∀ c, c ∈ ro_T2 → ro_st 2 (ro_dg 2 c) 1 = ro_sm (ro_o2 2 (ro_dg 2 c)) (2 * 2) := by decide +kernel
theorem ro_m2 : ∀ k, k < 2 → ro_T2.getD k 0 ∈ ro_T2 := by decide +kernel
theorem ro_u3 : ∀ k, k < 6 → ∀ i, i < 3 → ro_un 3 k i = ro_dg 3 (ro_T3.getD k 0) i := by decide +kernel
theorem ro_k3 : ∀ k, k < 6 → ro_rk 3 (ro_dg 3 (ro_T3.getD k 0)) = k := by decide +kernel
theorem ro_r3 : ∀ c, c ∈ ro_T3 → ∀ j, j < 3 → 1 ≤ ro_dg 3 c j ∧ ro_dg 3 c j ≤ 3 := by decide +kernel
theorem ro_i3 : ∀ c, c ∈ ro_T3 → ∀ i, i < 3 → ∀ j, j < 3 → ro_dg 3 c i = ro_dg 3 c j → i = j := by decide +kernel
theorem ro_q3 : ∀ c, c ∈ ro_T3 → ∀ v, v < 3 → ∃ m, m < 3 ∧ ro_dg 3 c m = v + 1 := by decide +kernel
theorem ro_a3 : ∀ c, c ∈ ro_T3 → ro_st 3 (ro_dg 3 c) 0 = ro_sm (ro_o1 3 (ro_dg 3 c)) (3 * 3) := by decide +kernel
theorem ro_c3 : ∀ c, c ∈ ro_T3 → ro_st 3 (ro_dg 3 c) 1 = ro_sm (ro_o2 3 (ro_dg 3 c)) (3 * 3) := by decide +kernel
theorem ro_m3 : ∀ k, k < 6 → ro_T3.getD k 0 ∈ ro_T3 := by decide +kernel
theorem ro_u4 : ∀ k, k < 24 → ∀ i, i < 4 → ro_un 4 k i = ro_dg 4 (ro_T4.getD k 0) i := by decide +kernel
theorem ro_k4 : ∀ k, k < 24 → ro_rk 4 (ro_dg 4 (ro_T4.getD k 0)) = k := by decide +kernel
theorem ro_r4 : ∀ c, c ∈ ro_T4 → ∀ j, j < 4 → 1 ≤ ro_dg 4 c j ∧ ro_dg 4 c j ≤ 4 := by decide +kernel
theorem ro_i4 : ∀ c, c ∈ ro_T4 → ∀ i, i < 4 → ∀ j, j < 4 → ro_dg 4 c i = ro_dg 4 c j → i = j := by decide +kernel
theorem ro_q4 : ∀ c, c ∈ ro_T4 → ∀ v, v < 4 → ∃ m, m < 4 ∧ ro_dg 4 c m = v + 1 := by decide +kernel
theorem ro_a4 : ∀ c, c ∈ ro_T4 → ro_st 4 (ro_dg 4 c) 0 = ro_sm (ro_o1 4 (ro_dg 4 c)) (4 * 4) := by decide +kernel
theorem ro_c4 : ∀ c, c ∈ ro_T4 → ro_st 4 (ro_dg 4 c) 1 = ro_sm (ro_o2 4 (ro_dg 4 c)) (4 * 4) := by decide +kernel
theorem ro_m4 : ∀ k, k < 24 → ro_T4.getD k 0 ∈ ro_T4 := by decide +kernel
theorem ro_u5 : ∀ k, k < 120 → ∀ i, i < 5 → ro_un 5 k i = ro_dg 5 (ro_T5.getD k 0) i := by decide +kernel
theorem ro_k5 : ∀ k, k < 120 → ro_rk 5 (ro_dg 5 (ro_T5.getD k 0)) = k := by decide +kernel
theorem ro_r5 : ∀ c, c ∈ ro_T5 → ∀ j, j < 5 → 1 ≤ ro_dg 5 c j ∧ ro_dg 5 c j ≤ 5 := by decide +kernel
theorem ro_i5 : ∀ c, c ∈ ro_T5 → ∀ i, i < 5 → ∀ j, j < 5 → ro_dg 5 c i = ro_dg 5 c j → i = j := by decide +kernel
theorem ro_q5 : ∀ c, c ∈ ro_T5 → ∀ v, v < 5 → ∃ m, m < 5 ∧ ro_dg 5 c m = v + 1 := by decide +kernel
theorem ro_a5 : ∀ c, c ∈ ro_T5 → ro_st 5 (ro_dg 5 c) 0 = ro_sm (ro_o1 5 (ro_dg 5 c)) (5 * 5) := by decide +kernel
theorem ro_c5 : ∀ c, c ∈ ro_T5 → ro_st 5 (ro_dg 5 c) 1 = ro_sm (ro_o2 5 (ro_dg 5 c)) (5 * 5) := by decide +kernel
theorem ro_m5 : ∀ k, k < 120 → ro_T5.getD k 0 ∈ ro_T5 := by decide +kernel
theorem ro_Pu {N k : Nat} (h2 : 2 ≤ N) (h5 : N ≤ 5) (hk : k < ro_fc N) : ∀ i, i < N → ro_un N k i = ro_P N k i := by
  have hc : N = 2 ∨ N = 3 ∨ N = 4 ∨ N = 5 := by omega
  rcases hc with rfl | rfl | rfl | rfl
  · exact ro_u2 k hk
  · exact ro_u3 k hk
  · exact ro_u4 k hk
  · exact ro_u5 k hk
theorem ro_Pk {N k : Nat} (h2 : 2 ≤ N) (h5 : N ≤ 5) (hk : k < ro_fc N) : ro_rk N (ro_P N k) = k := by
  have hc : N = 2 ∨ N = 3 ∨ N = 4 ∨ N = 5 := by omega
  rcases hc with rfl | rfl | rfl | rfl
  · exact ro_k2 k hk
  · exact ro_k3 k hk
  · exact ro_k4 k hk
  · exact ro_k5 k hk
theorem ro_Pr {N k : Nat} (h2 : 2 ≤ N) (h5 : N ≤ 5) (hk : k < ro_fc N) : ∀ j, j < N → 1 ≤ ro_P N k j ∧ ro_P N k j ≤ N := by
  have hc : N = 2 ∨ N = 3 ∨ N = 4 ∨ N = 5 := by omega
  rcases hc with rfl | rfl | rfl | rfl
  · exact ro_r2 _ (ro_m2 k hk)
  · exact ro_r3 _ (ro_m3 k hk)
  · exact ro_r4 _ (ro_m4 k hk)
  · exact ro_r5 _ (ro_m5 k hk)
theorem ro_Pi {N k : Nat} (h2 : 2 ≤ N) (h5 : N ≤ 5) (hk : k < ro_fc N) : ∀ i, i < N → ∀ j, j < N → ro_P N k i = ro_P N k j → i = j := by
  have hc : N = 2 ∨ N = 3 ∨ N = 4 ∨ N = 5 := by omega
  rcases hc with rfl | rfl | rfl | rfl
  · exact ro_i2 _ (ro_m2 k hk)
  · exact ro_i3 _ (ro_m3 k hk)
  · exact ro_i4 _ (ro_m4 k hk)
  · exact ro_i5 _ (ro_m5 k hk)
theorem ro_Pq {N k : Nat} (h2 : 2 ≤ N) (h5 : N ≤ 5) (hk : k < ro_fc N) : ∀ v, v < N → ∃ m, m < N ∧ ro_P N k m = v + 1 := by
  have hc : N = 2 ∨ N = 3 ∨ N = 4 ∨ N = 5 := by omega
  rcases hc with rfl | rfl | rfl | rfl
  · exact ro_q2 _ (ro_m2 k hk)
  · exact ro_q3 _ (ro_m3 k hk)
  · exact ro_q4 _ (ro_m4 k hk)
  · exact ro_q5 _ (ro_m5 k hk)
theorem ro_Pa {N k : Nat} (h2 : 2 ≤ N) (h5 : N ≤ 5) (hk : k < ro_fc N) : ro_st N (ro_P N k) 0 = ro_sm (ro_o1 N (ro_P N k)) (N * N) := by
  have hc : N = 2 ∨ N = 3 ∨ N = 4 ∨ N = 5 := by omega
  rcases hc with rfl | rfl | rfl | rfl
  · exact ro_a2 _ (ro_m2 k hk)
  · exact ro_a3 _ (ro_m3 k hk)
  · exact ro_a4 _ (ro_m4 k hk)
  · exact ro_a5 _ (ro_m5 k hk)
theorem ro_Pc {N k : Nat} (h2 : 2 ≤ N) (h5 : N ≤ 5) (hk : k < ro_fc N) : ro_st N (ro_P N k) 1 = ro_sm (ro_o2 N (ro_P N k)) (N * N) := by
  have hc : N = 2 ∨ N = 3 ∨ N = 4 ∨ N = 5 := by omega
  rcases hc with rfl | rfl | rfl | rfl
  · exact ro_c2 _ (ro_m2 k hk)
  · exact ro_c3 _ (ro_m3 k hk)
  · exact ro_c4 _ (ro_m4 k hk)
  · exact ro_c5 _ (ro_m5 k hk)
end
section
theorem ro_productOf {post : Int32 → Prop} {fn ft : Int32} {a1 a2 a3 a4 : Nat → Int32} (k : Nat) (hk : k < 13) {x : Int32} (hx : x = nI k) (H : post (nI (ro_fc k))) : wpX_productOf post (fn, ft, a1, a2, a3, a4) x := by
  subst hx
  refine pk_loop (fun n i s => wX_productOf_4 post (nI k) fn ft a1 a2 a3 a4 n s (nI i)) (fun i s => 2 ≤ i ∧ s = nI (ro_fc (i - 1))) (max (k + 1) 2) 2 1 (by omega) ⟨by omega, rfl⟩ ?_ ?_
  · intro n s h
    refine pk_lt k (max (k + 1) 2) (fun _ => ?_) (fun z => absurd z (by omega))
    rw [h.2]
    by_cases hk0 : k = 0
    · subst hk0
      exact H
    · rw [show max (k + 1) 2 - 1 = k by omega]
      exact H
  · intro n i s hi h hw
    refine pk_lt k i (fun z => absurd z (by omega)) (fun z => nm_e (nm_r (nI_1 i) (hw _ ⟨by omega, ?_⟩)))
    rw [h.2, pk_mul]
    obtain ⟨j, rfl⟩ : ∃ j, i = j + 1 := ⟨i - 1, by omega⟩
    rfl
theorem ro_nf5 {post : Int32 → Prop} {ft : Int32} {a1 a2 a3 a4 : Nat → Int32} (N u : Nat) (h5 : N ≤ 5) (hu : u < 64) : ∀ f m l, N ≤ m + f → l < 2 ^ 31 → m < 20 → post (nI (ro_nf N u f m l)) → wX_nextFree_5 post (nI u) (nI N) ft a1 a2 a3 a4 (f + 1) (nI m) (nI l) := by
  intro f
  induction f with
  | zero =>
    intro m l hm hl hm2 H
    exact pk_le N m (fun _ => H) (fun z => absurd z (by omega))
  | succ f ih =>
    intro m l hm hl hm2 H
    have H' : post (nI (if N ≤ m then m else if u / 2 ^ m % 2 = 1 then ro_nf N u f (m + 1) l else if l = 0 then m else ro_nf N u f (m + 1) (l - 1))) := H
    refine pk_le N m (fun z => ?_) (fun z => ?_)
    · rw [if_pos z] at H'
      exact H'
    · rw [if_neg (by omega)] at H'
      have hb := ro_bit u hu m (by omega)
      by_cases h1 : u / 2 ^ m % 2 = 1
      · rw [if_pos h1] at H'
        rw [h1] at hb
        have G : wX_nextFree_27 post (wX_nextFree_5 post (nI u) (nI N) ft a1 a2 a3 a4 (f + 1)) (nI u) (nI m) (nI l) (nI N) ft a1 a2 a3 a4 :=
          br_t hb (nm_r (nI_1 m) (ih (m + 1) l (by omega) hl (by omega) H'))
        exact br_c (fun _ => G) (fun _ => br_t hb G)
      · rw [if_neg h1] at H'
        have h0 : u / 2 ^ m % 2 = 0 := by
          have := Nat.mod_lt (u / 2 ^ m) (show 0 < 2 by decide)
          omega
        rw [h0] at hb
        have hb' : ¬ ((nI u >>> (nI m &&& 31)) &&& 1) = 1 := by
          rw [hb]
          decide
        refine pk_lt 0 l (fun w => ?_) (fun w => ?_)
        · rw [if_neg (by omega)] at H'
          exact br_f hb' (nm_r (pk_sub (a := l) (b := 1) (by omega)) (nm_r (nI_1 m) (ih (m + 1) (l - 1) (by omega) (by omega) (by omega) H')))
        · rw [if_pos (by omega)] at H'
          exact br_f hb' H'
theorem ro_nextFree {post : Int32 → Prop} {ft : Int32} {a1 a2 a3 a4 : Nat → Int32} (N u l : Nat) (h5 : N ≤ 5) (hu : u < 64) (hl : l < 2 ^ 31) (H : post (nI (ro_nf N u N 1 l))) : wpX_nextFree post (nI N, ft, a1, a2, a3, a4) (nI u) (nI l) :=
  ⟨N + 1, ro_nf5 N u h5 hu N 1 l (by omega) hl (by omega) H⟩
theorem ro_badE {post : Int32 → Prop} {u : St2} (e : Nat) (he : e < 2) {x : Int32} (hx : x = nI e) (H : post 0) : wpX_badElement post u x := by
  obtain ⟨fn, ft, a1, a2, a3, a4⟩ := u
  exact pk_lt e 0 (fun z => absurd z (by omega)) (fun _ => pk_le e 1 (fun _ => H) (fun z => absurd z (by omega)) hx) hx
theorem ro_badP {post : Int32 → Prop} {ft : Int32} {a1 a2 a3 a4 : Nat → Int32} (N e : Nat) (h5 : N ≤ 5) (he : e < N) (H : post 0) : wpX_badPlace post (nI N, ft, a1, a2, a3, a4) (nI e) :=
  pk_lt e 0 (fun z => absurd z (by omega)) (fun _ => pk_lt e N (fun _ => H) (fun z => absurd z (by omega)))
theorem ro_codeAt {post : Int32 → Prop} {ft : Int32} {a1 a2 a3 a4 : Nat → Int32} (N b : Nat) (p : Nat → Nat) (h5 : N ≤ 5) (hb : b + N ≤ 20) (ha : ∀ j, j < N → a1 (b + j) = nI (p j)) {x : Int32} (hx : x = nI b) (H : post (nI (ro_cd p N))) : wpX_codeAt post (nI N, ft, a1, a2, a3, a4) x := by
  subst hx
  refine pk_loop (fun n k s => wX_codeAt_4 post (nI b) (nI N) ft a1 a2 a3 a4 n s (nI k)) (fun k s => s = nI (ro_cd p k)) N 0 0 (by omega) rfl ?_ ?_
  · intro n s h
    subst h
    exact pk_le N N (fun _ => H) (fun z => absurd z (by omega))
  · intro n k s hk h hw
    subst h
    refine pk_le N k (fun z => absurd z (by omega)) (fun _ => ⟨pk_in (b + k) 20 (by omega) (nI_add b k), nm_r (e' := nI (ro_cd p (k + 1))) ?_ (nm_r (nI_1 k) (hw _ rfl))⟩)
    rw [ro_rd (b + k) (nI_add b k) (ha k hk)]
    show nI 10 * nI (ro_cd p k) + nI (p k) = nI (10 * ro_cd p k + p k)
    rw [pk_mul, nI_add]
theorem ro_code {post : Int32 → Prop} {ft : Int32} {a1 a2 a3 a4 : Nat → Int32} (N e : Nat) (p : Nat → Nat) (h5 : N ≤ 5) (he : e < 2) (ha : ∀ j, j < N → a1 (5 * e + j) = nI (p j)) {x : Int32} (hx : x = nI e) (H : post (nI (ro_cd p N))) : wpX_code post (nI N, ft, a1, a2, a3, a4) x := by
  subst hx
  unfold wpX_code
  dsimp only
  exact ro_badE e he rfl (br_t rfl (ro_codeAt N (5 * e) p h5 (by omega) ha (pk_mul 5 e) H))
theorem ro_inversionsAt {post : Int32 → Prop} {ft : Int32} {a1 a2 a3 a4 : Nat → Int32} (N b : Nat) (p : Nat → Nat) (h2 : 2 ≤ N) (h5 : N ≤ 5) (hb : b + N ≤ 20) (ha : ∀ j, j < N → a1 (b + j) = nI (p j)) (hp : ∀ j, j < N → p j < 128) {x : Int32} (hx : x = nI b) (H : post (nI (ro_iv N p))) : wpX_inversionsAt post (nI N, ft, a1, a2, a3, a4) x := by
  subst hx
  have hNN : N * N ≤ 25 := Nat.mul_le_mul h5 h5
  refine pk_loop (fun n k s => wX_inversionsAt_4 post (nI b) (nI N) ft a1 a2 a3 a4 n s (nI k)) (fun k s => s = nI (ro_sm (fun k => ro_g p (k / N) (k % N)) k)) (N * N) 0 0 (by omega) rfl ?_ ?_
  · intro n s h
    subst h
    exact pk_le (N * N) (N * N) (fun _ => H) (fun z => absurd z (by omega)) (pk_mul N N)
  · intro n k s hk h hw
    have hd : k / N < N := Nat.div_lt_of_lt_mul hk
    have hm : k % N < N := Nat.mod_lt _ (by omega)
    have hN0 : ¬ nI N = 0 := nI_ne0 (by omega) (by omega)
    refine pk_le (N * N) k (fun z => absurd z (by omega)) (fun _ => ⟨hN0, nm_r (pk_div (by omega) (by omega) (by omega)) ⟨hN0, nm_r (pk_rem (by omega) (by omega) (by omega)) ?_⟩⟩) (pk_mul N N)
    refine pk_le (k % N) (k / N) (fun z => nm_r (nI_1 k) (hw _ ?_)) (fun z => ⟨pk_in (b + k / N) 20 (by omega) (nI_add _ _), pk_in (b + k % N) 20 (by omega) (nI_add _ _), ?_⟩)
    · exact h.trans (ro_s0 (f := fun k => ro_g p (k / N) (k % N)) (ro_g_0 (fun t => absurd t.1 (by omega))))
    · have q1 := hp _ hd
      have q2 := hp _ hm
      refine pk_le (p (k / N)) (p (k % N)) (fun w => nm_r (nI_1 k) (hw _ ?_)) (fun w => nm_e (nm_r (nI_1 k) (hw _ ?_))) (ro_rd (b + k / N) (nI_add _ _) (ha _ hd)) (ro_rd (b + k % N) (nI_add _ _) (ha _ hm))
      · exact h.trans (ro_s0 (f := fun k => ro_g p (k / N) (k % N)) (ro_g_0 (fun t => absurd t.2 (by omega))))
      · rw [h]
        exact ro_s1 (f := fun k => ro_g p (k / N) (k % N)) (ro_g_1 z w)
theorem ro_inversions {post : Int32 → Prop} {ft : Int32} {a1 a2 a3 a4 : Nat → Int32} (N e : Nat) (p : Nat → Nat) (h2 : 2 ≤ N) (h5 : N ≤ 5) (he : e < 2) (ha : ∀ j, j < N → a1 (5 * e + j) = nI (p j)) (hp : ∀ j, j < N → p j < 128) {x : Int32} (hx : x = nI e) (H : post (nI (ro_iv N p))) : wpX_inversions post (nI N, ft, a1, a2, a3, a4) x := by
  subst hx
  unfold wpX_inversions
  dsimp only
  exact ro_badE e he rfl (br_t rfl (ro_inversionsAt N (5 * e) p h2 h5 (by omega) ha hp (pk_mul 5 e) H))
theorem ro_copy {post : St2 → Prop} {ft : Int32} {a1 a2 a3 a4 : Nat → Int32} (N b c : Nat) (p : Nat → Nat) (h5 : N ≤ 5) (hb : b + N ≤ 20) (hc : c + N ≤ 20) (hbc : b + N ≤ c ∨ c + N ≤ b) (ha : ∀ j, j < N → a1 (b + j) = nI (p j)) (hp : ∀ j, j < N → p j < 128) {x y : Int32} (hx : x = nI b) (hy : y = nI c)
    (H : ∀ a, (∀ j, j < N → a (c + j) = nI (p j)) → (∀ j, j < c ∨ c + N ≤ j → a j = a1 j) → post (nI N, ft, a, a2, a3, a4)) : wpX_copy post (nI N, ft, a1, a2, a3, a4) x y := by
  subst hx
  subst hy
  refine pk_loop (fun n i s => wX_copy_2 post (nI b) (nI c) (nI N) ft n (nI i) s a2 a3 a4) (fun i s => (∀ j, j < i → s (c + j) = nI (p j)) ∧ (∀ j, j < c ∨ c + i ≤ j → s j = a1 j)) N 0 a1 (by omega) ⟨fun j hj => absurd hj (by omega), fun j _ => rfl⟩ ?_ ?_
  · intro n s h
    exact pk_le N N (fun _ => H s h.1 h.2) (fun z => absurd z (by omega))
  · intro n i s hi h hw
    refine pk_le N i (fun z => absurd z (by omega)) (fun _ => ⟨pk_in (b + i) 20 (by omega) (nI_add b i), pk_in (c + i) 20 (by omega) (nI_add c i), nm_r (e' := upd s (c + i) (nI (p i))) ?_ (nm_r (nI_1 i) (hw _ ⟨ro_fill h.1 rfl, fun j hj => ?_⟩))⟩)
    · refine ro_wr (c + i) (nI_add c i) ?_
      rw [ro_rd (b + i) (nI_add b i) ((h.2 (b + i) (by omega)).trans (ha i hi)), ro_nar (hp i hi)]
    · rw [pk_un (by omega)]
      exact h.2 j (by omega)
theorem ro_dig7 {post : Int32 → Prop} (p : Nat → Nat) (N i : Nat) (h5 : N ≤ 5) (hp : ∀ j, j < N → p j < 10) (H : post (nI (p i))) : ∀ d, i + d < N → wL_digit_7 post (nI i) (d + 1) (nI (ro_cd p (i + d + 1))) (nI (i + d)) := by
  intro d
  induction d with
  | zero =>
    intro hd
    have hB := ro_cdB p (i + 1) (by omega) (fun j hj => hp j (by omega))
    have hi := hp i (by omega)
    refine pk_le (i + 0) i (fun _ => ⟨by decide, ?_⟩) (fun z => absurd z (by omega))
    have e : nI (ro_cd p (i + 1)) - nI (ro_cd p (i + 1)) / nI 10 * nI 10 = nI (p i) := by
      rw [pk_rem (by omega) (by omega) (by omega)]
      congr 1
      show (10 * ro_cd p i + p i) % 10 = p i
      omega
    exact ek_v (P := post) e H
  | succ d ih =>
    intro hd
    have hB := ro_cdB p (i + d + 1 + 1) (by omega) (fun j hj => hp j (by omega))
    have hi := hp (i + d + 1) (by omega)
    refine pk_le (i + (d + 1)) i (fun z => absurd z (by omega)) (fun _ => ⟨by decide, nm_r (e' := nI (ro_cd p (i + d + 1))) ?_ (nm_r (pk_m1 (i + d)) (ih (by omega)))⟩)
    show nI (ro_cd p (i + d + 1 + 1)) / nI 10 = nI (ro_cd p (i + d + 1))
    rw [pk_div (by omega) (by omega) (by omega)]
    congr 1
    show (10 * ro_cd p (i + d + 1) + p (i + d + 1)) / 10 = ro_cd p (i + d + 1)
    omega
theorem ro_digit {post : Int32 → Prop} {u : St0} (p : Nat → Nat) (N i : Nat) (h5 : N ≤ 5) (hi : i < N) (hp : ∀ j, j < N → p j < 10) {x : Int32} (hx : x = nI i) (H : post (nI (p i))) : wpL_digit post u (nI (ro_cd p N)) (nI N) x := by
  subst hx
  obtain ⟨d, rfl⟩ : ∃ d, N = i + d + 1 := ⟨N - 1 - i, by omega⟩
  exact nm_r (nI_pred (i + d)) ⟨d + 1, ro_dig7 p (i + d + 1) i h5 hp H d (by omega)⟩
theorem ro_inversionsL {post : Int32 → Prop} {u : St0} (p : Nat → Nat) (N : Nat) (h2 : 2 ≤ N) (h5 : N ≤ 5) (hp : ∀ j, j < N → p j < 10) (H : post (nI (ro_iw N p))) : wpL_inversions post u (nI (ro_cd p N)) (nI N) := by
  have hNN : N * N ≤ 25 := Nat.mul_le_mul h5 h5
  refine pk_loop (fun n k s => wL_inversions_4 post (nI (ro_cd p N)) (nI N) n s (nI k)) (fun k s => s = nI (ro_sm (fun k => ro_g p (k % N) (k / N)) k)) (N * N) 0 0 (by omega) rfl ?_ ?_
  · intro n s h
    subst h
    exact pk_le (N * N) (N * N) (fun _ => H) (fun z => absurd z (by omega)) (pk_mul N N)
  · intro n k s hk h hw
    have hd : k / N < N := Nat.div_lt_of_lt_mul hk
    have hm : k % N < N := Nat.mod_lt _ (by omega)
    have hN0 : ¬ nI N = 0 := nI_ne0 (by omega) (by omega)
    refine pk_le (N * N) k (fun z => absurd z (by omega)) (fun _ => ⟨hN0, nm_r (pk_rem (by omega) (by omega) (by omega)) ⟨hN0, nm_r (pk_div (by omega) (by omega) (by omega)) ?_⟩⟩) (pk_mul N N)
    refine pk_le (k / N) (k % N) (fun z => nm_r (nI_1 k) (hw _ ?_)) (fun z => ro_digit p N (k % N) h5 hm hp rfl (ro_digit p N (k / N) h5 hd hp rfl ?_))
    · exact h.trans (ro_s0 (f := fun k => ro_g p (k % N) (k / N)) (ro_g_0 (fun t => absurd t.1 (by omega))))
    · have q1 := hp _ hd
      have q2 := hp _ hm
      refine pk_le (p (k % N)) (p (k / N)) (fun w => nm_r (nI_1 k) (hw _ ?_)) (fun w => nm_e (nm_r (nI_1 k) (hw _ ?_)))
      · exact h.trans (ro_s0 (f := fun k => ro_g p (k % N) (k / N)) (ro_g_0 (fun t => absurd t.2 (by omega))))
      · rw [h]
        exact ro_s1 (f := fun k => ro_g p (k % N) (k / N)) (ro_g_1 z w)
end
section
theorem ro_unrank {post : St2 → Prop} {ft : Int32} {a1 a2 a3 a4 : Nat → Int32} (N k : Nat) (h2 : 2 ≤ N) (h5 : N ≤ 5) (hk : k < 120) {x : Int32} (hx : x = nI k)
    (H : ∀ a, (∀ j, j < N → a (10 + j) = nI (ro_un N k j)) → (∀ j, j < 10 → a j = a1 j) → post (nI N, ft, a, a2, a3, a4)) : wpX_unrank post (nI N, ft, a1, a2, a3, a4) x := by
  subst hx
  refine pk_loop (fun n i s => wX_unrank_7 post (nI N) ft n (nI (ro_ur N k i).1) (nI (ro_ur N k i).2) (nI i) s a2 a3 a4) (fun i s => (∀ j, j < i → s (10 + j) = nI (ro_un N k j)) ∧ (∀ j, j < 10 → s j = a1 j)) N 0 a1 (by omega) ⟨fun j hj => absurd hj (by omega), fun j _ => rfl⟩ ?_ ?_
  · intro n s h
    exact pk_le N N (fun _ => H s h.1 h.2) (fun z => absurd z (by omega))
  · intro n i s hi h hw
    have hl := ro_url N k i
    have hu := ro_uru N k (by omega) h5 i
    have hf0 := ro_fc0 (N - 1 - i)
    have hfb := ro_fcb (N - 1 - i) (by omega)
    have hq := ro_unb N k i (by omega)
    have hdl := Nat.div_le_self (ro_ur N k i).1 (ro_fc (N - 1 - i))
    have e1 : nI N - 1 - nI i = nI (N - 1 - i) := by
      rw [show nI N - 1 = nI (N - 1) from pk_sub (b := 1) (by omega)]
      exact pk_sub (by omega)
    refine pk_le N i (fun z => absurd z (by omega)) (fun _ => ro_productOf (N - 1 - i) (by omega) e1 ?_)
    refine pk_le (ro_fc (N - 1 - i)) 0 (fun z => absurd z (by omega)) (fun _ => ?_)
    unfold wX_unrank_43
    refine ⟨nI_ne0 hf0 (by omega), nm_r (pk_div (by omega) hf0 (by omega)) (nm_r (e' := nI (ro_ur N k (i + 1)).1) ?_ (ro_nextFree N _ _ h5 hu (by omega) ⟨pk_in (10 + i) 20 (by omega) (nI_add 10 i), nm_r (e' := upd s (10 + i) (nI (ro_un N k i))) (ro_wr (10 + i) (nI_add 10 i) (ro_b8 _ (show ro_un N k i < 128 by omega))) (nm_r (e' := nI (ro_ur N k (i + 1)).2) (ro_or _ hu _ (show ro_un N k i < 6 by omega)) (nm_r (nI_1 i) (hw _ ⟨ro_fill h.1 rfl, fun j hj => ?_⟩)))⟩))⟩
    · rw [← pk_div (by omega) hf0 (by omega)]
      exact pk_rem (by omega) hf0 (by omega)
    · rw [pk_un (by omega)]
      exact h.2 j hj
theorem ro_permutation {post : Int32 → St2 → Prop} {a1 a2 a3 a4 : Nat → Int32} (N k : Nat) (h2 : 2 ≤ N) (h5 : N ≤ 5) (hk : k < ro_fc N) {x : Int32} (hx : x = nI k)
    (H : ∀ a, (∀ j, j < 10 → a j = a1 j) → post (nI (ro_cd (ro_P N k) N)) (nI N, nI (ro_fc N), a, a2, a3, a4)) : wpX_permutation post (nI N, nI (ro_fc N), a1, a2, a3, a4) x := by
  subst hx
  have hfb := ro_fcb N (by omega)
  refine pk_lt k 0 (fun z => absurd z (by omega)) (fun _ => pk_lt k (ro_fc N) (fun _ => ?_) (fun z => absurd z (by omega)))
  refine ro_unrank N k h2 h5 (by omega) rfl (fun a ha hb => ?_)
  exact ro_codeAt N 10 (ro_P N k) h5 (by omega) (fun j hj => (ha j hj).trans (congrArg nI (ro_Pu h2 h5 hk j hj))) rfl (H a hb)
theorem ro_put29 {post : Int32 → St2 → Prop} {ft : Int32} {a1 a2 a3 a4 : Nat → Int32} (N e : Nat) (p : Nat → Nat) (h2 : 2 ≤ N) (h5 : N ≤ 5) (he : e < 2) (hp : ∀ j, j < N → 1 ≤ p j ∧ p j ≤ N) (inj : ∀ i, i < N → ∀ j, j < N → p i = p j → i = j)
    (H : ∀ a, (∀ j, j < N → a (5 * e + j) = nI (p j)) → (∀ j, j < 10 → (j < 5 * e ∨ 5 * e + N ≤ j) → a j = a1 j) → post 0 (nI N, ft, a, a2, a3, a4)) :
    ∀ i, i ≤ N → ∀ u s, u < 64 → (∀ d, d < 6 → u / 2 ^ d % 2 = 1 → ∃ j, i ≤ j ∧ j < N ∧ p j = d) → (∀ j, i ≤ j → j < N → s (10 + j) = nI (p j)) → (∀ j, j < 10 → s j = a1 j) → wX_put_29 post (nI e) (nI N) ft (i + 1) (nI (ro_cd p i)) (nI u) (nI i - 1) s a2 a3 a4 := by
  intro i
  induction i with
  | zero =>
    intro hi u s hu hU hs hs2
    refine br_t (show nI 0 - 1 < 0 by decide) (br_t (show nI 0 ≤ 0 by decide) ?_)
    refine ro_copy N 10 (5 * e) p h5 (by omega) (by omega) (by omega) (fun j hj => hs j (by omega) hj) (fun j hj => by have := hp j hj; omega) rfl (pk_mul 5 e) (fun a ha hb => ?_)
    exact H a ha (fun j hj hj2 => (hb j hj2).trans (hs2 j hj))
  | succ i ih =>
    intro hi u s hu hU hs hs2
    have hB := ro_cdB p (i + 1) (by omega) (fun j hj => by have := hp j (by omega); omega)
    have hq := hp i (by omega)
    rw [nI_pred]
    have e1 : nI (ro_cd p (i + 1)) - nI (ro_cd p (i + 1)) / nI 10 * nI 10 = nI (p i) := by
      rw [pk_rem (by omega) (by omega) (by omega)]
      congr 1
      show (10 * ro_cd p i + p i) % 10 = p i
      omega
    have e2 : nI (ro_cd p (i + 1)) / nI 10 = nI (ro_cd p i) := by
      rw [pk_div (by omega) (by omega) (by omega)]
      congr 1
      show (10 * ro_cd p i + p i) / 10 = ro_cd p i
      omega
    have ho := ro_orb u hu (p i) (by omega)
    have hbit : ¬ ((nI u >>> (nI (p i) &&& 31)) &&& 1) = 1 := by
      rw [ro_bit u hu (p i) (by omega)]
      intro z
      have z' : u / 2 ^ p i % 2 = 1 := (nI_eq (b := 1) (by have := Nat.mod_lt (u / 2 ^ p i) (show 0 < 2 by decide); omega) (by decide)).mp z
      obtain ⟨j, j1, j2, j3⟩ := hU (p i) (by omega) z'
      have := inj j j2 i (by omega) j3
      omega
    refine br_f (nI_pos (by omega)) ⟨by decide, nm_r e1 ⟨by decide, nm_r e2 ?_⟩⟩
    refine pk_lt (p i) 1 (fun z => absurd z (by omega)) (fun _ => pk_lt N (p i) (fun z => absurd z (by omega)) (fun _ => br_f hbit ?_))
    refine nm_r (ro_or u hu (p i) (by omega)) ⟨pk_in (10 + i) 20 (by omega) (nI_add 10 i), nm_r (e' := upd s (10 + i) (nI (p i))) (ro_wr (10 + i) (nI_add 10 i) (ro_b8 _ (by omega))) (nm_r (Int32.sub_eq_add_neg (nI i) 1).symm ?_)⟩
    refine ih (by omega) _ _ ho.1 (fun d hd hd2 => ?_) (fun j hj hj2 => ?_) (fun j hj => ?_)
    · rcases ho.2 d hd hd2 with g | g
      · obtain ⟨j, j1, j2, j3⟩ := hU d hd g
        exact ⟨j, by omega, j2, j3⟩
      · exact ⟨i, by omega, by omega, g.symm⟩
    · by_cases g : j = i
      · rw [g, pk_us]
      · rw [pk_un (by omega)]
        exact hs j (by omega) hj2
    · rw [pk_un (by omega)]
      exact hs2 j hj
theorem ro_put {post : Int32 → St2 → Prop} {ft : Int32} {a1 a2 a3 a4 : Nat → Int32} (N e : Nat) (p : Nat → Nat) (h2 : 2 ≤ N) (h5 : N ≤ 5) (he : e < 2) (hp : ∀ j, j < N → 1 ≤ p j ∧ p j ≤ N) (inj : ∀ i, i < N → ∀ j, j < N → p i = p j → i = j) {x : Int32} (hx : x = nI e)
    (H : ∀ a, (∀ j, j < N → a (5 * e + j) = nI (p j)) → (∀ j, j < 10 → (j < 5 * e ∨ 5 * e + N ≤ j) → a j = a1 j) → post 0 (nI N, ft, a, a2, a3, a4)) : wpX_put post (nI N, ft, a1, a2, a3, a4) x (nI (ro_cd p N)) := by
  subst hx
  have hB := ro_cdB p N h5 (fun j hj => by have := hp j hj; omega)
  unfold wpX_put
  dsimp only
  refine ro_badE e he rfl (br_t rfl (br_t (nI_pos' (by omega)) (nm_e ⟨N + 1, ?_⟩)))
  exact ro_put29 N e p h2 h5 he hp inj H N (Nat.le_refl N) 0 a1 (by decide) (fun d _ hd => absurd hd (by rw [Nat.zero_div]; decide)) (fun j h1 h2 => absurd h1 (by omega)) (fun j _ => rfl)
theorem ro_rank {post : Int32 → Prop} {ft : Int32} {a1 a2 a3 a4 : Nat → Int32} (N e : Nat) (p : Nat → Nat) (h2 : 2 ≤ N) (h5 : N ≤ 5) (he : e < 2) (ha : ∀ j, j < N → a1 (5 * e + j) = nI (p j)) (hp : ∀ j, j < N → p j < 128) {x : Int32} (hx : x = nI e) (H : post (nI (ro_rk N p))) : wpX_rank post (nI N, ft, a1, a2, a3, a4) x := by
  subst hx
  unfold wpX_rank
  dsimp only
  refine ro_badE e he rfl (br_t rfl ?_)
  rw [show (5 : Int32) * nI e = nI (5 * e) from pk_mul 5 e]
  refine pk_loop (fun n i s => wX_rankAt_4 (fun r => post r) (nI (5 * e)) (nI N) ft a1 a2 a3 a4 n s (nI i)) (fun i s => s = nI (ro_sm (fun i => ro_sm (ro_g p i) N * ro_fc (N - 1 - i)) i)) N 0 0 (by omega) rfl ?_ ?_
  · intro n s h
    subst h
    exact pk_le N N (fun _ => H) (fun z => absurd z (by omega))
  · intro n i s hi h hw
    refine pk_le N i (fun z => absurd z (by omega)) (fun _ => nm_r (nI_1 i) ?_)
    refine pk_loop (fun m j t => wX_rankAt_20 (fun r => post r) (wX_rankAt_4 (fun r => post r) (nI (5 * e)) (nI N) ft a1 a2 a3 a4 n) (nI (5 * e)) s (nI i) (nI N) ft a1 a2 a3 a4 m t (nI j)) (fun j t => i < j ∧ t = nI (ro_sm (ro_g p i) j)) N (i + 1) 0 (by omega) ⟨by omega, ?_⟩ ?_ ?_
    · rw [ro_sm0 (i + 1) (fun j hj => ro_g_0 (fun t => absurd t.1 (by omega)))]
      rfl
    · intro m t ht
      have e1 : nI N - 1 - nI i = nI (N - 1 - i) := by
        rw [show nI N - 1 = nI (N - 1) from pk_sub (b := 1) (by omega)]
        exact pk_sub (by omega)
      refine pk_le N N (fun _ => ro_productOf (N - 1 - i) (by omega) e1 (nm_e (nm_r (nI_1 i) (hw _ ?_)))) (fun z => absurd z (by omega))
      rw [h, ht.2, pk_mul, nI_add]
      rfl
    · intro m j t hj ht hw2
      have q1 := hp i hi
      have q2 := hp j hj
      refine pk_le N j (fun z => absurd z (by omega)) (fun _ => ⟨pk_in (5 * e + j) 20 (by omega) (nI_add _ _), pk_in (5 * e + i) 20 (by omega) (nI_add _ _), ?_⟩)
      refine pk_le (p i) (p j) (fun w => nm_r (nI_1 j) (hw2 _ ⟨by omega, ?_⟩)) (fun w => nm_e (nm_r (nI_1 j) (hw2 _ ⟨by omega, ?_⟩))) (ro_rd (5 * e + i) (nI_add _ _) (ha _ hi)) (ro_rd (5 * e + j) (nI_add _ _) (ha _ hj))
      · exact ht.2.trans (ro_s0 (ro_g_0 (fun t => absurd t.2 (by omega))))
      · rw [ht.2]
        exact ro_s1 (ro_g_1 ht.1 w)
theorem ro_init146 {post : St2 → Prop} {mc ms kc ks : Nat} {J : Int32 → Int32 → Int32 → (Nat → Int32) → (Nat → Int32) → (Nat → Int32) → (Nat → Int32) → Prop} {ft : Int32} {a1 a2 a3 a4 : Nat → Int32} (N k : Nat) (h2 : 2 ≤ N) (h5 : N ≤ 5) (hk : k < 120) (ha : ∀ j, j < N → a1 (10 + j) = nI (ro_un N k j))
    (H : ∀ b2 b3, J (nI (k + 1)) (nI N) ft a1 b2 b3 a4) : ∃ n, wX_init_146 post mc ms J (nI k) kc ks (nI N) ft n 0 a1 a2 a3 a4 := by
  refine pk_loop (fun n i s => wX_init_146 post mc ms J (nI k) kc ks (nI N) ft n (nI i) a1 s a3 a4) (fun i s => True) N 0 a2 (by omega) trivial ?_ ?_
  · intro n s _
    refine pk_le N N (fun _ => ?_) (fun z => absurd z (by omega))
    refine ro_inversionsAt N 10 (ro_un N k) h2 h5 (by omega) ha (fun j hj => by have := ro_unb N k j (by omega); omega) rfl ?_
    exact ⟨pk_in k 120 hk, nm_e (nm_r (nI_1 k) (H _ _))⟩
  · intro n i s hi _ hw
    refine pk_le N i (fun z => absurd z (by omega)) (fun _ => ⟨pk_in (10 + i) 20 (by omega) (nI_add 10 i), pk_in (5 * k + i) 600 (by omega) ?_, nm_e (nm_r (nI_1 i) (hw _ trivial))⟩)
    rw [show (5 : Int32) * nI k = nI (5 * k) from pk_mul 5 k, nI_add]
theorem ro_init131 {post : St2 → Prop} {mc ms kc ks : Nat} {a1 a2 a3 a4 : Nat → Int32} (N : Nat) (h2 : 2 ≤ N) (h5 : N ≤ 5) (H : ∀ b1 b2 b3 b4, post (nI N, nI (ro_fc N), b1, b2, b3, b4)) : ∃ n, wX_init_131 post mc ms kc ks n 0 (nI N) (nI (ro_fc N)) a1 a2 a3 a4 := by
  have hfb := ro_fcb N (by omega)
  refine pk_loop (σ := (Nat → Int32) × (Nat → Int32) × (Nat → Int32)) (fun n k s => wX_init_131 post mc ms kc ks n (nI k) (nI N) (nI (ro_fc N)) s.1 s.2.1 s.2.2 a4) (fun k s => True) (ro_fc N) 0 (a1, a2, a3) (by omega) trivial ?_ ?_
  · intro n s _
    exact pk_le (ro_fc N) (ro_fc N) (fun _ => H _ _ _ _) (fun z => absurd z (by omega))
  · intro n k s hk _ hw
    refine pk_le (ro_fc N) k (fun z => absurd z (by omega)) (fun _ => ?_)
    refine ro_unrank N k h2 h5 (by omega) rfl (fun a ha hb => ?_)
    exact ro_init146 N k h2 h5 (by omega) ha (fun b2 b3 => hw (a, b2, b3) trivial)
theorem ro_init105 {post : St2 → Prop} {mc ms kc ks : Nat} {a1 a2 a3 a4 : Nat → Int32} (N : Nat) (h2 : 2 ≤ N) (h5 : N ≤ 5) (H : ∀ b1 b2 b3 b4, post (nI N, nI (ro_fc N), b1, b2, b3, b4)) : ∃ n, wX_init_105 post mc ms kc ks (nI N) a1 a2 a3 a4 n 2 1 := by
  refine pk_loop (fun n i s => wX_init_105 post mc ms kc ks (nI N) a1 a2 a3 a4 n (nI i) s) (fun i s => 2 ≤ i ∧ s = nI (ro_fc (i - 1))) (N + 1) 2 1 (by omega) ⟨by omega, rfl⟩ ?_ ?_
  · intro n s h
    have hs : s = nI (ro_fc N) := h.2
    subst hs
    exact pk_lt N (N + 1) (fun _ => ro_init131 N h2 h5 H) (fun z => absurd z (by omega))
  · intro n i s hi h hw
    refine pk_lt N i (fun z => absurd z (by omega)) (fun z => nm_e (nm_r (nI_1 i) (hw _ ⟨by omega, ?_⟩)))
    rw [h.2, pk_mul]
    obtain ⟨j, rfl⟩ : ∃ j, i = j + 1 := ⟨i - 1, by omega⟩
    rfl
theorem ro_init62 {post : St2 → Prop} {mc ms kc ks : Nat} {ft : Int32} {a1 a2 a3 a4 : Nat → Int32} (N : Nat) (h2 : 2 ≤ N) (h5 : N ≤ 5) (H : ∀ b1 b2 b3 b4, post (nI N, nI (ro_fc N), b1, b2, b3, b4)) : ∃ n, wX_init_62 post mc ms kc ks (nI N) ft n 0 a1 a2 a3 a4 := by
  refine pk_loop (fun n i s => wX_init_62 post mc ms kc ks (nI N) ft n (nI i) s a2 a3 a4) (fun i s => True) N 0 a1 (by omega) trivial ?_ ?_
  · intro n s _
    exact pk_le N N (fun _ => ro_init105 N h2 h5 H) (fun z => absurd z (by omega))
  · intro n i s hi _ hw
    exact pk_le N i (fun z => absurd z (by omega)) (fun _ => ⟨pk_in i 20 (by omega), nm_e ⟨pk_in (5 + i) 20 (by omega) (nI_add 5 i), nm_e (nm_r (nI_1 i) (hw _ trivial))⟩⟩)
theorem ro_init {post : St2 → Prop} {fn ft : Int32} (N : Nat) (h2 : 2 ≤ N) (h5 : N ≤ 5) (H : ∀ b1 b2 b3 b4, post (nI N, nI (ro_fc N), b1, b2, b3, b4)) : wpX_init post 4 860 (fn, ft) (nI N) := by
  refine ⟨by omega, by omega, by omega, by omega, by omega, by omega, by omega, by omega, ?_⟩
  exact pk_le 2 N (fun _ => pk_le N 5 (fun _ => ro_init62 N h2 h5 H) (fun z => absurd z (by omega))) (fun z => absurd z (by omega))
end
section
theorem ro_steps {post : Int32 → St2 → Prop} {ft : Int32} {a1 a2 a3 a4 : Nat → Int32} (N o : Nat) (p : Nat → Nat) (h2 : 2 ≤ N) (h5 : N ≤ 5) (ho : o < 2) (ha : ∀ j, j < N → a1 j = nI (p j)) (hp : ∀ j, j < N → p j < 128) {x : Int32} (hx : x = nI o)
    (H : ∀ a, (∀ j, j < 10 → a j = a1 j) → post (nI (ro_st N p o)) (nI N, ft, a, a2, a3, a4)) : wpX_steps post (nI N, ft, a1, a2, a3, a4) 0 x := by
  subst hx
  have hNN : N * N ≤ 25 := Nat.mul_le_mul h5 h5
  have hiv := ro_iv_le N p
  unfold wpX_steps
  dsimp only
  refine ro_badE 0 (by decide) rfl (br_t rfl (ro_badE o ho rfl (br_t rfl ?_)))
  refine ro_inversionsAt N 0 p h2 h5 (by omega) (fun j hj => by rw [Nat.zero_add]; exact ha j hj) hp rfl ?_
  refine pk_loop (σ := Int32 × (Nat → Int32)) (fun n q s => wX_steps_34 post 0 (nI o) (nI (ro_iv N p)) n s.1 (nI q) (nI N) ft s.2 a2 a3 a4) (fun q s => s.1 = nI (ro_sm (ro_sf N p o) q) ∧ ∀ j, j < 10 → s.2 j = a1 j) (N * N) 0 (0, a1) (by omega) ⟨rfl, fun j _ => rfl⟩ ?_ ?_
  · intro n s h
    obtain ⟨c, s⟩ := s
    have hc : c = nI (ro_sm (ro_sf N p o) (N * N)) := h.1
    subst hc
    exact pk_le (N * N) (N * N) (fun _ => H s h.2) (fun z => absurd z (by omega)) (pk_mul N N)
  · intro n q s hq h hw
    obtain ⟨c, s⟩ := s
    have hc : c = nI (ro_sm (ro_sf N p o) q) := h.1
    have hs : ∀ j, j < 10 → s j = a1 j := h.2
    have hd : q / N < N := Nat.div_lt_of_lt_mul hq
    have hm : q % N < N := Nat.mod_lt _ (by omega)
    have hN0 : ¬ nI N = 0 := nI_ne0 (by omega) (by omega)
    have hw' : ∀ c' s', c' = nI (ro_sm (ro_sf N p o) (q + 1)) → (∀ j, j < 10 → s' j = a1 j) → wX_steps_34 post 0 (nI o) (nI (ro_iv N p)) n c' (nI (q + 1)) (nI N) ft s' a2 a3 a4 := fun c' s' e1 e2 => hw (c', s') ⟨e1, e2⟩
    have G : q / N < q % N → (o = 0 ∨ q % N = q / N + 1) → wX_steps_86 post (wX_steps_34 post 0 (nI o) (nI (ro_iv N p)) n) 0 (nI o) (nI (ro_iv N p)) c (nI q) (nI (q / N)) (nI (q % N)) (nI N) ft s a2 a3 a4 := by
      intro g1 g2
      have q1 := hp _ hd
      have q2 := hp _ hm
      have hiw := ro_iv_le N (ro_sw p (q / N) (q % N))
      have hge : 0 ≤ q / N := Nat.zero_le _
      unfold wX_steps_86
      refine ro_copy N 0 15 p h5 (by omega) (by omega) (by omega) (fun j hj => by rw [Nat.zero_add, hs j (by omega)]; exact ha j hj) hp rfl rfl (fun a hA hB => ?_)
      refine ⟨pk_in (15 + q / N) 20 (by omega) (nI_add 15 _), nm_r (ro_rd (15 + q / N) (nI_add 15 _) (hA _ hd)) ⟨pk_in (15 + q % N) 20 (by omega) (nI_add 15 _), pk_in (15 + q / N) 20 (by omega) (nI_add 15 _), nm_r (e' := upd a (15 + q / N) (nI (p (q % N)))) ?_ ⟨pk_in (15 + q % N) 20 (by omega) (nI_add 15 _), nm_r (e' := upd (upd a (15 + q / N) (nI (p (q % N)))) (15 + q % N) (nI (p (q / N)))) ?_ (ro_inversionsAt N 15 (ro_sw p (q / N) (q % N)) h2 h5 (by omega) (fun j hj => ?_) (fun j hj => ?_) rfl ?_)⟩⟩⟩
      · refine ro_wr (15 + q / N) (nI_add 15 _) ?_
        exact (congrArg (vp_nar .byte) (ro_rd (15 + q % N) (nI_add 15 _) (hA _ hm))).trans (ro_nar q2)
      · exact ro_wr (15 + q % N) (nI_add 15 _) (ro_nar q1)
      · show upd (upd a (15 + q / N) (nI (p (q % N)))) (15 + q % N) (nI (p (q / N))) (15 + j) = nI (if j = q / N then p (q % N) else if j = q % N then p (q / N) else p j)
        by_cases c1 : j = q / N
        · rw [if_pos c1, c1, pk_un (by omega), pk_us]
        · rw [if_neg c1]
          by_cases c2 : j = q % N
          · rw [if_pos c2, c2, pk_us]
          · rw [if_neg c2, pk_un (by omega), pk_un (by omega)]
            exact hA j hj
      · show (if j = q / N then p (q % N) else if j = q % N then p (q / N) else p j) < 128
        by_cases c1 : j = q / N
        · rw [if_pos c1]
          exact q2
        · rw [if_neg c1]
          by_cases c2 : j = q % N
          · rw [if_pos c2]
            exact q1
          · rw [if_neg c2]
            exact hp j hj
      · have hK : ∀ j, j < 10 → upd (upd a (15 + q / N) (nI (p (q % N)))) (15 + q % N) (nI (p (q / N))) j = a1 j := fun j hj => by
          rw [pk_un (by omega), pk_un (by omega), hB j (by omega)]
          exact hs j hj
        refine pk_eq (ro_iv N (ro_sw p (q / N) (q % N))) (ro_iv N p + 1) (fun w => nm_e (nm_r (nI_1 q) (hw' _ _ ?_ hK))) (fun w => nm_r (nI_1 q) (hw' _ _ ?_ hK)) rfl (nI_1 _)
        · rw [hc]
          exact ro_s1 (if_pos ⟨g1, g2, w⟩)
        · exact hc.trans (ro_s0 (if_neg (fun t => w t.2.2)))
    refine pk_le (N * N) q (fun z => absurd z (by omega)) (fun _ => ⟨hN0, nm_r (pk_div (by omega) (by omega) (by omega)) ⟨hN0, nm_r (pk_rem (by omega) (by omega) (by omega)) ?_⟩⟩) (pk_mul N N)
    refine pk_le (q % N) (q / N) (fun z => nm_r (nI_1 q) (hw' _ _ ?_ hs)) (fun z => ?_)
    · exact hc.trans (ro_s0 (if_neg (fun t => absurd t.1 (by omega))))
    · refine pk_eq o 0 (fun w => G z (Or.inl w)) (fun w => pk_eq (q % N) (q / N + 1) (fun v => G z (Or.inr v)) (fun v => nm_r (nI_1 q) (hw' _ _ ?_ hs)) rfl (nI_1 _))
      exact hc.trans (ro_s0 (if_neg (fun t => t.2.1.elim w v)))
theorem ro_z0 (i : Nat) : (5 : Int32) * 0 + nI i = nI i := by
  rw [show (5 : Int32) * 0 = nI 0 from rfl, nI_add, Nat.zero_add]
theorem ro_exchange {post : Int32 → St2 → Prop} {ft : Int32} {a1 a2 a3 a4 : Nat → Int32} (N x y : Nat) (p : Nat → Nat) (h2 : 2 ≤ N) (h5 : N ≤ 5) (hx : x < N) (hy : y < N) (ha : ∀ j, j < N → a1 j = nI (p j)) (hp : ∀ j, j < N → p j < 128)
    (H : ∀ a, (∀ j, j < N → a j = nI (ro_sw p x y j)) → (∀ j, 5 ≤ j → j < 10 → a j = a1 j) → post (nI (ro_iv N (ro_sw p x y))) (nI N, ft, a, a2, a3, a4)) : wpX_exchange post (nI N, ft, a1, a2, a3, a4) 0 (nI x) (nI y) := by
  have q1 := hp _ hx
  have q2 := hp _ hy
  unfold wpX_exchange
  dsimp only
  refine ro_badE 0 (by decide) rfl (br_t rfl (ro_badP N x h5 hx (br_t rfl (ro_badP N y h5 hy (br_t rfl ?_)))))
  have hA : ∀ j, j < N → upd (upd a1 x (nI (p y))) y (nI (p x)) j = nI (ro_sw p x y j) := by
    intro j hj
    show upd (upd a1 x (nI (p y))) y (nI (p x)) j = nI (if j = x then p y else if j = y then p x else p j)
    by_cases c2 : j = y
    · by_cases c1 : j = x
      · rw [if_pos c1, c2, pk_us, ← c1, c2]
      · rw [if_neg c1, if_pos c2, c2, pk_us]
    · rw [pk_un c2]
      by_cases c1 : j = x
      · rw [if_pos c1, c1, pk_us]
      · rw [if_neg c1, if_neg c2, pk_un c1]
        exact ha j hj
  refine ⟨pk_in x 20 (by omega) (ro_z0 x), nm_r (ro_rd x (ro_z0 x) (ha x hx)) ⟨pk_in y 20 (by omega) (ro_z0 y), pk_in x 20 (by omega) (ro_z0 x), nm_r (e' := upd a1 x (nI (p y))) ?_ ⟨pk_in y 20 (by omega) (ro_z0 y), nm_r (e' := upd (upd a1 x (nI (p y))) y (nI (p x))) (ro_wr y (ro_z0 y) (ro_nar q1)) (ro_inversionsAt N 0 (ro_sw p x y) h2 h5 (by omega) (fun j hj => by rw [Nat.zero_add]; exact hA j hj) (fun j hj => ?_) rfl (H _ hA (fun j j1 j2 => ?_)))⟩⟩⟩
  · refine ro_wr x (ro_z0 x) ?_
    rw [ro_rd y (ro_z0 y) (ha y hy)]
    exact ro_nar q2
  · show (if j = x then p y else if j = y then p x else p j) < 128
    by_cases c1 : j = x
    · rw [if_pos c1]
      exact q2
    · rw [if_neg c1]
      by_cases c2 : j = y
      · rw [if_pos c2]
        exact q1
      · rw [if_neg c2]
        exact hp j hj
  · rw [pk_un (by omega), pk_un (by omega)]
theorem ro_multiply {post : Int32 → St2 → Prop} {ft : Int32} {a1 a2 a3 a4 : Nat → Int32} (N : Nat) (p q : Nat → Nat) (h2 : 2 ≤ N) (h5 : N ≤ 5) (ha : ∀ j, j < N → a1 j = nI (p j)) (hb : ∀ j, j < N → a1 (5 + j) = nI (q j)) (hp : ∀ j, j < N → p j < 128) (hq : ∀ j, j < N → 1 ≤ q j ∧ q j ≤ N)
    (H : ∀ a, (∀ j, j < N → a j = nI (p (q j - 1))) → (∀ j, 5 ≤ j → j < 10 → a j = a1 j) → post (nI (ro_iv N (fun j => p (q j - 1)))) (nI N, ft, a, a2, a3, a4)) : wpX_multiply post (nI N, ft, a1, a2, a3, a4) := by
  have hr : ∀ j, j < N → p (q j - 1) < 128 := fun j hj => hp _ (by have := hq j hj; omega)
  refine pk_loop (fun n i s => wX_multiply_2 post (nI N) ft n (nI i) s a2 a3 a4) (fun i s => (∀ j, j < i → s (10 + j) = nI (p (q j - 1))) ∧ ∀ j, j < 10 → s j = a1 j) N 0 a1 (by omega) ⟨fun j hj => absurd hj (by omega), fun j _ => rfl⟩ ?_ ?_
  · intro n s h
    refine pk_le N N (fun _ => ?_) (fun z => absurd z (by omega))
    refine ro_copy N 10 0 (fun j => p (q j - 1)) h5 (by omega) (by omega) (by omega) h.1 hr rfl rfl (fun a hA hB => ?_)
    exact ro_inversionsAt N 0 (fun j => p (q j - 1)) h2 h5 (by omega) hA hr rfl (H a (fun j hj => by have := hA j hj; rw [Nat.zero_add] at this; exact this) (fun j j1 j2 => (hB j (by omega)).trans (h.2 j (by omega))))
  · intro n i s hi h hw
    have hqi := hq i hi
    have e1 : s ((5 : Int32) + nI i).toNatClampNeg = nI (q i) := ro_rd (5 + i) (nI_add 5 i) ((h.2 (5 + i) (by omega)).trans (hb i hi))
    refine pk_le N i (fun z => absurd z (by omega)) (fun _ => ⟨pk_in (5 + i) 20 (by omega) (nI_add 5 i), ?_⟩)
    rw [e1]
    have e2 : nI (q i) - 1 = nI (q i - 1) := pk_sub (b := 1) (by omega)
    refine ⟨pk_in (q i - 1) 20 (by omega) e2, pk_in (10 + i) 20 (by omega) (nI_add 10 i), nm_r (e' := upd s (10 + i) (nI (p (q i - 1)))) ?_ (nm_r (nI_1 i) (hw _ ⟨ro_fill (f := fun j => nI (p (q j - 1))) h.1 rfl, fun j hj => ?_⟩))⟩
    · refine ro_wr (10 + i) (nI_add 10 i) ?_
      rw [ro_rd (q i - 1) e2 ((h.2 (q i - 1) (by omega)).trans (ha _ (by omega)))]
      exact ro_nar (hr i hi)
    · rw [pk_un (by omega)]
      exact h.2 j hj
theorem ro_reverse {post : Int32 → St2 → Prop} {ft : Int32} {a1 a2 a3 a4 : Nat → Int32} (N : Nat) (p : Nat → Nat) (h2 : 2 ≤ N) (h5 : N ≤ 5) (ha : ∀ j, j < N → a1 j = nI (p j)) (hp : ∀ j, j < N → p j < 128)
    (H : ∀ a, (∀ j, j < N → a j = nI (p (N - 1 - j))) → (∀ j, 5 ≤ j → j < 10 → a j = a1 j) → post (nI (ro_iv N (fun j => p (N - 1 - j)))) (nI N, ft, a, a2, a3, a4)) : wpX_reverse post (nI N, ft, a1, a2, a3, a4) 0 := by
  have hr : ∀ j, j < N → p (N - 1 - j) < 128 := fun j hj => hp _ (by omega)
  unfold wpX_reverse
  dsimp only
  refine ro_badE 0 (by decide) rfl (br_t rfl ?_)
  refine pk_loop (fun n i s => wX_reverse_14 post 0 (nI N) ft n (nI i) s a2 a3 a4) (fun i s => (∀ j, j < i → s (10 + j) = nI (p (N - 1 - j))) ∧ ∀ j, j < 10 → s j = a1 j) N 0 a1 (by omega) ⟨fun j hj => absurd hj (by omega), fun j _ => rfl⟩ ?_ ?_
  · intro n s h
    refine pk_le N N (fun _ => ?_) (fun z => absurd z (by omega))
    refine ro_copy N 10 0 (fun j => p (N - 1 - j)) h5 (by omega) (by omega) (by omega) h.1 hr rfl rfl (fun a hA hB => ?_)
    exact ro_inversionsAt N 0 (fun j => p (N - 1 - j)) h2 h5 (by omega) hA hr rfl (H a (fun j hj => by have := hA j hj; rw [Nat.zero_add] at this; exact this) (fun j j1 j2 => (hB j (by omega)).trans (h.2 j (by omega))))
  · intro n i s hi h hw
    have e1 : (5 : Int32) * 0 + nI N - 1 - nI i = nI (N - 1 - i) := by
      rw [ro_z0, show nI N - 1 = nI (N - 1) from pk_sub (b := 1) (by omega)]
      exact pk_sub (by omega)
    refine pk_le N i (fun z => absurd z (by omega)) (fun _ => ⟨pk_in (N - 1 - i) 20 (by omega) e1, pk_in (10 + i) 20 (by omega) (nI_add 10 i), nm_r (e' := upd s (10 + i) (nI (p (N - 1 - i)))) ?_ (nm_r (nI_1 i) (hw _ ⟨ro_fill (f := fun j => nI (p (N - 1 - j))) h.1 rfl, fun j hj => ?_⟩))⟩)
    · refine ro_wr (10 + i) (nI_add 10 i) ?_
      rw [ro_rd (N - 1 - i) e1 ((h.2 (N - 1 - i) (by omega)).trans (ha _ (by omega)))]
      exact ro_nar (hr i hi)
    · rw [pk_un (by omega)]
      exact h.2 j hj
theorem ro_invert {post : Int32 → St2 → Prop} {ft : Int32} {a1 a2 a3 a4 : Nat → Int32} (N : Nat) (p : Nat → Nat) (h2 : 2 ≤ N) (h5 : N ≤ 5) (ha : ∀ j, j < N → a1 j = nI (p j)) (hp : ∀ j, j < N → 1 ≤ p j ∧ p j ≤ N) (inj : ∀ i, i < N → ∀ j, j < N → p i = p j → i = j) (sur : ∀ v, v < N → ∃ m, m < N ∧ p m = v + 1)
    (H : ∀ a, (∀ j, j < N → a j = nI (ro_in p j N)) → (∀ j, 5 ≤ j → j < 10 → a j = a1 j) → post (nI (ro_iv N (fun j => ro_in p j N))) (nI N, ft, a, a2, a3, a4)) : wpX_invert post (nI N, ft, a1, a2, a3, a4) 0 := by
  have key : ∀ m v, m < N → p m = v + 1 → ro_in p v N = m + 1 := fun m v hm e => ro_in1 (fun i j hi hj e => inj i hi j hj e) hm e N (Nat.le_refl N) hm
  have hr : ∀ j, j < N → ro_in p j N < 128 := fun j hj => by
    obtain ⟨m, hm, e⟩ := sur j hj
    rw [key m j hm e]
    omega
  unfold wpX_invert
  dsimp only
  refine ro_badE 0 (by decide) rfl (br_t rfl ?_)
  refine pk_loop (fun n i s => wX_invert_14 post 0 (nI N) ft n (nI i) s a2 a3 a4) (fun i s => (∀ j, j < i → s (10 + p j - 1) = nI (j + 1)) ∧ ∀ j, j < 10 → s j = a1 j) N 0 a1 (by omega) ⟨fun j hj => absurd hj (by omega), fun j _ => rfl⟩ ?_ ?_
  · intro n s h
    refine pk_le N N (fun _ => ?_) (fun z => absurd z (by omega))
    refine ro_copy N 10 0 (fun j => ro_in p j N) h5 (by omega) (by omega) (by omega) (fun j hj => ?_) hr rfl rfl (fun a hA hB => ?_)
    · obtain ⟨m, hm, e⟩ := sur j hj
      have g := h.1 m hm
      rw [e] at g
      rw [key m j hm e]
      exact g
    · exact ro_inversionsAt N 0 (fun j => ro_in p j N) h2 h5 (by omega) hA hr rfl (H a (fun j hj => by have := hA j hj; rw [Nat.zero_add] at this; exact this) (fun j j1 j2 => (hB j (by omega)).trans (h.2 j (by omega))))
  · intro n i s hi h hw
    have hpi := hp i hi
    have e1 : s ((5 : Int32) * 0 + nI i).toNatClampNeg = nI (p i) := ro_rd i (ro_z0 i) ((h.2 i (by omega)).trans (ha i hi))
    have e2 : (10 : Int32) + nI (p i) - 1 = nI (10 + p i - 1) := by
      rw [show (10 : Int32) + nI (p i) = nI (10 + p i) from nI_add 10 (p i)]
      exact pk_sub (b := 1) (by omega)
    refine pk_le N i (fun z => absurd z (by omega)) (fun _ => ⟨pk_in i 20 (by omega) (ro_z0 i), ?_⟩)
    rw [e1]
    refine ⟨pk_in (10 + p i - 1) 20 (by omega) e2, nm_r (e' := upd s (10 + p i - 1) (nI (i + 1))) (ro_wr (10 + p i - 1) e2 ?_) (nm_r (nI_1 i) (hw _ ⟨fun j hj => ?_, fun j hj => ?_⟩))⟩
    · rw [nI_1]
      exact ro_b8 (i + 1) (by omega)
    · by_cases c : j = i
      · rw [c, pk_us]
      · have hpj := hp j (by omega)
        rw [pk_un (fun z => c (inj j (by omega) i hi (by omega)))]
        exact h.1 j (by omega)
    · rw [pk_un (by omega)]
      exact h.2 j hj
end
section
theorem ro_L336 {post : Int32 → St0 → Prop} {mc ms : Nat} {J : Int32 → Int32 → Int32 → Prop} {x10 x11 x12 x13 x14 x18 : Int32} {kc ks : Nat} {fn ft : Int32} {b1 b2 b3 b4 : Nat → Int32} (N k u v c2 : Nat) (p : Nat → Nat) (h5 : N ≤ 5) (hu : u < N) (hv : v < N) (hp : ∀ j, j < N → p j < 10)
    (H : J x14 (nI (c2 + ro_p2 p u v)) (nI (k + 1))) : wL_lawOf_336 post mc ms J (nI N) x10 x11 x12 x13 x14 (nI c2) (nI (ro_cd p N)) x18 (nI k) (nI u) (nI v) kc ks fn ft b1 b2 b3 b4 := by
  have q1 := hp u hu
  have q2 := hp v hv
  unfold wL_lawOf_336
  refine pk_eq v (u + 1) (fun z => ro_digit p N u h5 hu hp rfl (ro_digit p N v h5 hv hp rfl (pk_le (p v) (p u) (fun w => nm_r (nI_1 k) ?_) (fun w => nm_r (nI_1 c2) (nm_r (nI_1 k) ?_))))) (fun z => nm_r (nI_1 k) ?_) rfl (nI_1 u)
  · rw [show ro_p2 p u v = 0 from if_neg (fun t => absurd t.2 (by omega))] at H
    exact H
  · rw [show ro_p2 p u v = 1 from if_pos ⟨z, w⟩] at H
    exact H
  · rw [show ro_p2 p u v = 0 from if_neg (fun t => z t.1)] at H
    exact H
theorem ro_L235 {post : Int32 → St0 → Prop} {mc ms : Nat} {J : Int32 → Int32 → Int32 → Prop} {x10 x11 x12 x13 x18 : Int32} {kc ks : Nat} {fn ft : Int32} {b1 b2 b3 b4 : Nat → Int32} (N k u v c1 c2 : Nat) (p : Nat → Nat) (h5 : N ≤ 5) (hu : u < N) (hv : v < N) (hp : ∀ j, j < N → p j < 10)
    (H : J (nI (c1 + ro_p1 p u v)) (nI (c2 + ro_p2 p u v)) (nI (k + 1))) : ∃ n, wL_lawOf_235 post mc ms J (nI N) x10 x11 x12 x13 (nI c1) (nI c2) (nI (ro_cd p N)) x18 (nI k) (nI u) (nI v) kc ks fn ft b1 b2 b3 b4 n 0 (nI (u + 1)) := by
  have q1 := hp u hu
  have q2 := hp v hv
  have H0 : ro_p1 p u v = 0 → wL_lawOf_336 post mc ms J (nI N) x10 x11 x12 x13 (nI c1) (nI c2) (nI (ro_cd p N)) x18 (nI k) (nI u) (nI v) kc ks fn ft b1 b2 b3 b4 := by
    intro e
    rw [e] at H
    exact ro_L336 N k u v c2 p h5 hu hv hp H
  refine pk_loop (fun n m s => wL_lawOf_235 post mc ms J (nI N) x10 x11 x12 x13 (nI c1) (nI c2) (nI (ro_cd p N)) x18 (nI k) (nI u) (nI v) kc ks fn ft b1 b2 b3 b4 n s (nI m)) (fun m s => u < m ∧ s = nI (ro_sm (ro_bt p u v) m)) (max v (u + 1)) (u + 1) 0 (by omega) ⟨by omega, ?_⟩ ?_ ?_
  · rw [ro_sm0 (f := ro_bt p u v) (u + 1) (fun j hj => if_neg (fun t => absurd t.1 (by omega)))]
    rfl
  · intro n s h
    refine pk_le v (max v (u + 1)) (fun _ => ?_) (fun z => absurd z (by omega))
    refine pk_le v u (fun z => H0 (if_neg (fun t => absurd t.1 (by omega)))) (fun z => ?_)
    have hs : s = nI (ro_sm (ro_bt p u v) v) := by
      rw [h.2, show max v (u + 1) = v by omega]
    have hle : ro_sm (ro_bt p u v) v ≤ v := ro_smle (fun j => by unfold ro_bt; split <;> omega) v
    refine ro_digit p N u h5 hu hp rfl (ro_digit p N v h5 hv hp rfl (pk_le (p v) (p u) (fun w => H0 (if_neg (fun t => absurd t.2.1 (by omega)))) (fun w => ?_)))
    refine pk_eq (ro_sm (ro_bt p u v) v) 0 (fun y => nm_r (nI_1 c1) (ro_L336 N k u v c2 p h5 hu hv hp ?_)) (fun y => H0 (if_neg (fun t => y t.2.2))) hs
    rw [show ro_p1 p u v = 1 from if_pos ⟨z, w, y⟩] at H
    exact H
  · intro n m s hm h hw
    have q3 := hp m (by omega)
    refine pk_le v m (fun z => absurd z (by omega)) (fun z => ?_)
    refine ro_digit p N m h5 (by omega) hp rfl (ro_digit p N u h5 hu hp rfl (pk_le (p m) (p u) (fun w => nm_r (Int32.add_zero s) (nm_r (nI_1 m) (hw _ ⟨by omega, ?_⟩))) (fun w => ?_)))
    · exact h.2.trans (ro_s0 (if_neg (fun t => absurd t.2.1 (by omega))))
    · refine ro_digit p N m h5 (by omega) hp rfl (ro_digit p N v h5 hv hp rfl (pk_le (p v) (p m) (fun y => nm_r (Int32.add_zero s) (nm_r (nI_1 m) (hw _ ⟨by omega, ?_⟩))) (fun y => nm_e (nm_r (nI_1 m) (hw _ ⟨by omega, ?_⟩)))))
      · exact h.2.trans (ro_s0 (if_neg (fun t => absurd t.2.2 (by omega))))
      · rw [h.2]
        exact ro_s1 (if_pos ⟨h.1, w, y⟩)
theorem ro_L202 {post : Int32 → St0 → Prop} {mc ms : Nat} {x10 x11 x12 x13 x18 : Int32} {kc ks : Nat} {ft : Int32} {b1 b2 b3 b4 : Nat → Int32} (N : Nat) (p : Nat → Nat) (h2 : 2 ≤ N) (h5 : N ≤ 5) (hp : ∀ j, j < N → p j < 10) (ha : ∀ j, j < N → b1 j = nI (p j))
    (hs0 : ro_st N p 0 = ro_sm (ro_o1 N p) (N * N)) (hs1 : ro_st N p 1 = ro_sm (ro_o2 N p) (N * N))
    (H : ∀ a, (∀ j, j < 10 → a j = b1 j) → ∃ n, wL_lawOf_404 post mc ms (nI N) x10 x11 x12 (nI (ro_cd p N)) x18 kc ks (nI N) ft a b2 b3 b4 n x13 0) :
    ∃ n, wL_lawOf_202 post mc ms (nI N) x10 x11 x12 x13 (nI (ro_cd p N)) x18 kc ks (nI N) ft b1 b2 b3 b4 n 0 0 0 := by
  have hNN : N * N ≤ 25 := Nat.mul_le_mul h5 h5
  have hp' : ∀ j, j < N → p j < 128 := fun j hj => by have := hp j hj; omega
  refine pk_loop (σ := Int32 × Int32) (fun n k s => wL_lawOf_202 post mc ms (nI N) x10 x11 x12 x13 (nI (ro_cd p N)) x18 kc ks (nI N) ft b1 b2 b3 b4 n s.1 s.2 (nI k)) (fun k s => s.1 = nI (ro_sm (ro_o1 N p) k) ∧ s.2 = nI (ro_sm (ro_o2 N p) k)) (N * N) 0 (0, 0) (by omega) ⟨rfl, rfl⟩ ?_ ?_
  · intro n s h
    obtain ⟨c1, c2⟩ := s
    have e1 : c1 = nI (ro_sm (ro_o1 N p) (N * N)) := h.1
    have e2 : c2 = nI (ro_sm (ro_o2 N p) (N * N)) := h.2
    refine pk_le (N * N) (N * N) (fun _ => ?_) (fun z => absurd z (by omega)) (pk_mul N N)
    refine ro_steps N 0 p h2 h5 (by decide) ha hp' rfl (fun a hA => br_t ?_ (ro_steps N 1 p h2 h5 (by decide) (fun j hj => (hA j (by omega)).trans (ha j hj)) hp' rfl (fun a' hA' => br_t ?_ (H a' (fun j hj => (hA' j hj).trans (hA j hj))))))
    · rw [hs0]
      exact e1.symm
    · rw [hs1]
      exact e2.symm
  · intro n k s hk h hw
    obtain ⟨c1, c2⟩ := s
    have e1 : c1 = nI (ro_sm (ro_o1 N p) k) := h.1
    have e2 : c2 = nI (ro_sm (ro_o2 N p) k) := h.2
    subst e1
    subst e2
    have hd : k / N < N := Nat.div_lt_of_lt_mul hk
    have hm : k % N < N := Nat.mod_lt _ (by omega)
    have hN0 : ¬ nI N = 0 := nI_ne0 (by omega) (by omega)
    refine pk_le (N * N) k (fun z => absurd z (by omega)) (fun _ => ⟨hN0, nm_r (pk_rem (by omega) (by omega) (by omega)) ⟨hN0, nm_r (pk_div (by omega) (by omega) (by omega)) (nm_r (nI_1 _) ?_)⟩⟩) (pk_mul N N)
    exact ro_L235 N k (k % N) (k / N) _ _ p h5 hm hd hp (hw (nI (ro_sm (ro_o1 N p) (k + 1)), nI (ro_sm (ro_o2 N p) (k + 1))) ⟨rfl, rfl⟩)
theorem ro_L565 {post : Int32 → St0 → Prop} {mc ms : Nat} {J : Int32 → Int32 → Prop} {x6 x10 x11 x12 x17 x18 : Int32} {kc ks : Nat} {fn ft : Int32} {b1 b2 b3 b4 : Nat → Int32} (k c d : Nat) (H : J (nI (10 * c + d)) (nI (k + 1))) : wL_lawOf_565 post mc ms J x6 x10 x11 x12 (nI c) x17 x18 (nI k) (nI d) kc ks fn ft b1 b2 b3 b4 := by
  unfold wL_lawOf_565
  refine nm_r (e' := nI (10 * c + d)) ?_ (nm_r (nI_1 k) H)
  rw [show (10 : Int32) * nI c = nI (10 * c) from pk_mul 10 c, nI_add]
theorem ro_L526 {post : Int32 → St0 → Prop} {mc ms : Nat} {J : Int32 → Int32 → Prop} {x10 x11 x18 : Int32} {kc ks : Nat} {fn ft : Int32} {b1 b2 b3 b4 : Nat → Int32} (N k c d t w : Nat) (p : Nat → Nat) (h5 : N ≤ 5) (hk : k < N) (ht : t < N) (hw : w < 4) (hp : ∀ j, j < N → p j < 10)
    (H : J (nI (10 * c + (if w = 2 then p (N - 1 - k) else if w = 3 then p t else d))) (nI (k + 1))) : wL_lawOf_526 post mc ms J (nI N) x10 x11 (nI w) (nI c) (nI (ro_cd p N)) x18 (nI k) (nI d) (nI t) kc ks fn ft b1 b2 b3 b4 := by
  have G : ∀ d', J (nI (10 * c + (if w = 3 then p t else d'))) (nI (k + 1)) → wL_lawOf_548 post mc ms J (nI N) x10 x11 (nI w) (nI c) (nI (ro_cd p N)) x18 (nI k) (nI d') (nI t) kc ks fn ft b1 b2 b3 b4 := by
    intro d' H'
    unfold wL_lawOf_548
    refine pk_eq w 3 (fun z => ro_digit p N t h5 ht hp rfl (ro_L565 k c (p t) ?_)) (fun z => ro_L565 k c d' ?_)
    · rw [if_pos z] at H'
      exact H'
    · rw [if_neg z] at H'
      exact H'
  unfold wL_lawOf_526
  have e1 : nI N - 1 - nI k = nI (N - 1 - k) := by
    rw [show nI N - 1 = nI (N - 1) from pk_sub (b := 1) (by omega)]
    exact pk_sub (by omega)
  refine pk_eq w 2 (fun z => ro_digit p N (N - 1 - k) h5 (by omega) hp e1 (G _ ?_)) (fun z => G d ?_)
  · rw [if_pos z] at H
    rw [if_neg (by omega)]
    exact H
  · rw [if_neg z] at H
    exact H
theorem ro_L485 {post : Int32 → St0 → Prop} {mc ms : Nat} {J : Int32 → Int32 → Prop} {x10 x11 x18 : Int32} {kc ks : Nat} {fn ft : Int32} {b1 b2 b3 b4 : Nat → Int32} (N k c d t w : Nat) (p : Nat → Nat) (h5 : N ≤ 5) (hk : k < N) (ht : t < N) (hw : w < 4) (hp : ∀ j, j < N → p j < 10) (hd : w = 1 → d = p k)
    (H : J (nI (10 * c + (if w = 0 then d else if w = 1 then ro_in p k N else if w = 2 then p (N - 1 - k) else p t))) (nI (k + 1))) : ∃ n, wL_lawOf_485 post mc ms J (nI N) x10 x11 (nI w) (nI c) (nI (ro_cd p N)) x18 (nI k) (nI t) kc ks fn ft b1 b2 b3 b4 n (nI d) 0 := by
  by_cases hw1 : w = 1
  · subst hw1
    rw [hd rfl]
    refine pk_loop (fun n m s => wL_lawOf_485 post mc ms J (nI N) x10 x11 (nI 1) (nI c) (nI (ro_cd p N)) x18 (nI k) (nI t) kc ks fn ft b1 b2 b3 b4 n s (nI m)) (fun m s => s = nI (ro_in p k m)) N 0 (nI (p k)) (by omega) rfl ?_ ?_
    · intro n s h
      subst h
      exact pk_le N N (fun _ => ro_L526 N k c (ro_in p k N) t 1 p h5 hk ht hw hp H) (fun z => absurd z (by omega))
    · intro n m s hm h hw2
      have q := hp m hm
      refine pk_le N m (fun z => absurd z (by omega)) (fun _ => br_t rfl (ro_digit p N m h5 hm hp rfl (pk_eq (p m) (k + 1) (fun z => nm_r (nI_1 m) (nm_r (nI_1 m) (hw2 _ ?_))) (fun z => nm_r (nI_1 m) (hw2 _ ?_)) rfl (nI_1 k))))
      · show nI (m + 1) = nI (if p m = k + 1 then m + 1 else ro_in p k m)
        rw [if_pos z]
      · show s = nI (if p m = k + 1 then m + 1 else ro_in p k m)
        rw [if_neg z]
        exact h
  · refine ⟨1, pk_le N 0 (fun z => absurd z (by omega)) (fun _ => pk_eq w 1 (fun z => absurd z hw1) (fun _ => ro_L526 N k c d t w p h5 hk ht hw hp ?_))⟩
    have e : (if w = 0 then d else if w = 1 then ro_in p k N else if w = 2 then p (N - 1 - k) else p t) = (if w = 2 then p (N - 1 - k) else if w = 3 then p t else d) := by
      have hc : w = 0 ∨ w = 2 ∨ w = 3 := by omega
      rcases hc with rfl | rfl | rfl <;> rfl
    rw [e] at H
    exact H
theorem ro_L634 {post : Int32 → St0 → Prop} {mc ms kc ks : Nat} {ft : Int32} {a b2 b3 b4 : Nat → Int32} (N : Nat) (D q : Nat → Nat) (h2 : 2 ≤ N) (h5 : N ≤ 5) (ha : ∀ j, j < N → a j = nI (D j)) (hb : ∀ j, j < N → a (5 + j) = nI (q j)) (hD : ∀ j, j < N → D j < 10) (H : post 1 ()) :
    wL_lawOf_634 post mc ms (nI N) (nI (ro_cd D N)) (nI (ro_cd q N)) (nI (ro_iv N D)) kc ks (nI N) ft a b2 b3 b4 := by
  have ha' : ∀ j, j < N → a (5 * 0 + j) = nI (D j) := fun j hj => by
    rw [Nat.mul_zero, Nat.zero_add]
    exact ha j hj
  unfold wL_lawOf_634
  exact ro_inversions N 0 D h2 h5 (by decide) ha' (fun j hj => by have := hD j hj; omega) rfl (br_t rfl (ro_code N 0 D h5 (by decide) ha' rfl (br_t rfl (ro_inversionsL D N h2 h5 hD (br_t (congrArg nI (ro_ivw N D h5)) (ro_code N 1 q h5 (by decide) hb rfl (br_t rfl H)))))))
theorem ro_L404 {post : Int32 → St0 → Prop} {mc ms kc ks : Nat} {ft : Int32} {a b2 b3 b4 : Nat → Int32} (N x y w : Nat) (p q : Nat → Nat) (h2 : 2 ≤ N) (h5 : N ≤ 5) (hx : x < N) (hy : y < N) (hw : w < 4) (ha : ∀ j, j < N → a j = nI (p j)) (hb : ∀ j, j < N → a (5 + j) = nI (q j))
    (hp : ∀ j, j < N → 1 ≤ p j ∧ p j ≤ N) (hq : ∀ j, j < N → 1 ≤ q j ∧ q j ≤ N) (inj : ∀ i, i < N → ∀ j, j < N → p i = p j → i = j) (sur : ∀ v, v < N → ∃ m, m < N ∧ p m = v + 1) (H : post 1 ()) :
    ∃ n, wL_lawOf_404 post mc ms (nI N) (nI x) (nI y) (nI w) (nI (ro_cd p N)) (nI (ro_cd q N)) kc ks (nI N) ft a b2 b3 b4 n 0 0 := by
  have hp10 : ∀ j, j < N → p j < 10 := fun j hj => by have := hp j hj; omega
  have hq10 : ∀ j, j < N → q j < 10 := fun j hj => by have := hq j hj; omega
  have hp128 : ∀ j, j < N → p j < 128 := fun j hj => by have := hp j hj; omega
  refine pk_loop (fun n k s => wL_lawOf_404 post mc ms (nI N) (nI x) (nI y) (nI w) (nI (ro_cd p N)) (nI (ro_cd q N)) kc ks (nI N) ft a b2 b3 b4 n s (nI k)) (fun k s => s = nI (ro_cd (ro_D N x y w p q) k)) N 0 0 (by omega) rfl ?_ ?_
  · intro n s h
    subst h
    refine pk_le N N (fun _ => ?_) (fun z => absurd z (by omega))
    refine pk_eq w 0 (fun z => ?_) (fun z0 => pk_eq w 1 (fun z => ?_) (fun z1 => pk_eq w 2 (fun z => ?_) (fun z2 => ?_)))
    · subst z
      refine ro_exchange N x y p h2 h5 hx hy ha hp128 (fun a' hA hB => ?_)
      refine ro_L634 N (ro_sw p x y) q h2 h5 hA (fun j hj => (hB (5 + j) (by omega) (by omega)).trans (hb j hj)) (fun j hj => ?_) H
      show (if j = x then p y else if j = y then p x else p j) < 10
      by_cases c1 : j = x
      · rw [if_pos c1]
        exact hp10 y hy
      · rw [if_neg c1]
        by_cases c2 : j = y
        · rw [if_pos c2]
          exact hp10 x hx
        · rw [if_neg c2]
          exact hp10 j hj
    · subst z
      refine ro_invert N p h2 h5 ha hp inj sur (fun a' hA hB => ?_)
      refine ro_L634 N (fun j => ro_in p j N) q h2 h5 hA (fun j hj => (hB (5 + j) (by omega) (by omega)).trans (hb j hj)) (fun j hj => ?_) H
      obtain ⟨m, hm, e⟩ := sur j hj
      show ro_in p j N < 10
      rw [ro_in1 (fun i j hi hj e => inj i hi j hj e) hm e N (Nat.le_refl N) hm]
      omega
    · subst z
      refine ro_reverse N p h2 h5 ha hp128 (fun a' hA hB => ?_)
      exact ro_L634 N (fun j => p (N - 1 - j)) q h2 h5 hA (fun j hj => (hB (5 + j) (by omega) (by omega)).trans (hb j hj)) (fun j hj => hp10 _ (by omega)) H
    · have z : w = 3 := by omega
      subst z
      refine ro_multiply N p q h2 h5 ha hb hp128 hq (fun a' hA hB => ?_)
      exact ro_L634 N (fun j => p (q j - 1)) q h2 h5 hA (fun j hj => (hB (5 + j) (by omega) (by omega)).trans (hb j hj)) (fun j hj => hp10 _ (by have := hq j hj; omega)) H
  · intro n k s hk h hw2
    subst h
    have hqk := hq k hk
    have E : ∀ d, (w = 0 → d = ro_sw p x y k) → (if w = 0 then d else if w = 1 then ro_in p k N else if w = 2 then p (N - 1 - k) else p (q k - 1)) = ro_D N x y w p q k := by
      intro d hd
      show _ = if w = 0 then ro_sw p x y k else if w = 1 then ro_in p k N else if w = 2 then p (N - 1 - k) else p (q k - 1)
      by_cases c : w = 0
      · rw [if_pos c, if_pos c]
        exact hd c
      · rw [if_neg c, if_neg c]
    have G : ∀ d, (w = 0 → d = ro_sw p x y k) → (w = 1 → d = p k) → ∃ m, wL_lawOf_485 post mc ms (wL_lawOf_404 post mc ms (nI N) (nI x) (nI y) (nI w) (nI (ro_cd p N)) (nI (ro_cd q N)) kc ks (nI N) ft a b2 b3 b4 n) (nI N) (nI x) (nI y) (nI w) (nI (ro_cd (ro_D N x y w p q) k)) (nI (ro_cd p N)) (nI (ro_cd q N)) (nI k) (nI (q k - 1)) kc ks (nI N) ft a b2 b3 b4 m (nI d) 0 := by
      intro d hd hd1
      refine ro_L485 N k _ d (q k - 1) w p h5 hk (by omega) hw hp10 hd1 ?_
      rw [E d hd]
      exact hw2 _ rfl
    refine pk_le N k (fun z => absurd z (by omega)) (fun _ => ?_)
    refine ro_digit p N k h5 hk hp10 rfl (ro_digit q N k h5 hk hq10 rfl (nm_r (pk_sub (b := 1) (by omega)) ?_))
    refine pk_eq w 0 (fun z => pk_eq k x (fun c1 => ro_digit p N y h5 hy hp10 rfl (G _ (fun _ => ?_) (fun e => absurd e (by omega)))) (fun c1 => pk_eq k y (fun c2 => ro_digit p N x h5 hx hp10 rfl (G _ (fun _ => ?_) (fun e => absurd e (by omega)))) (fun c2 => G _ (fun _ => ?_) (fun _ => rfl)))) (fun z => G _ (fun e => absurd e z) (fun _ => rfl))
    · exact (if_pos c1).symm
    · show p x = if k = x then p y else if k = y then p x else p k
      rw [if_neg c1, if_pos c2]
    · show p k = if k = x then p y else if k = y then p x else p k
      rw [if_neg c1, if_neg c2]
theorem ro_L41 {post : Int32 → St0 → Prop} {x1 x2 x3 x4 x5 z : Int32} (N : Nat) (h2 : 2 ≤ N) (h5 : N ≤ 5) (hz : z = nI (ro_fc N)) (H : post 1 ()) : wL_lawOf_41 post 5 866 x1 x2 x3 x4 x5 (nI N) z 0 0 := by
  subst hz
  have hf0 := ro_fc0 N
  have hfb := ro_fcb N (by omega)
  obtain ⟨j1, g1, e1⟩ := pk_andE x1 (m := 1023) 10 rfl
  obtain ⟨j2, g2, e2⟩ := pk_andE x2 (m := 1023) 10 rfl
  obtain ⟨j3, g3, e3⟩ := pk_andE x3 (m := 127) 7 rfl
  obtain ⟨j4, g4, e4⟩ := pk_andE x4 (m := 127) 7 rfl
  obtain ⟨w, hw, e5⟩ := pk_andE x5 (m := 3) 2 rfl
  have hN0 : ¬ nI N = 0 := nI_ne0 (by omega) (by omega)
  have hz0 : ¬ nI (ro_fc N) = 0 := nI_ne0 (by omega) (by omega)
  have hA : j1 % ro_fc N < ro_fc N := Nat.mod_lt _ hf0
  have hB : j2 % ro_fc N < ro_fc N := Nat.mod_lt _ hf0
  have hX : j3 % N < N := Nat.mod_lt _ (by omega)
  have hY : j4 % N < N := Nat.mod_lt _ (by omega)
  have P1 := ro_Pr h2 h5 hA
  have P2 := ro_Pr h2 h5 hB
  have P1' : ∀ j, j < N → ro_P N (j1 % ro_fc N) j < 10 := fun j hj => by have := P1 j hj; omega
  have P1'' : ∀ j, j < N → ro_P N (j1 % ro_fc N) j < 128 := fun j hj => by have := P1 j hj; omega
  have P2'' : ∀ j, j < N → ro_P N (j2 % ro_fc N) j < 128 := fun j hj => by have := P2 j hj; omega
  unfold wL_lawOf_41
  rw [e1, e2, e3, e4, e5]
  refine ⟨hz0, nm_r (pk_rem (by omega) hf0 (by omega)) ⟨hz0, nm_r (pk_rem (by omega) hf0 (by omega)) ⟨hN0, nm_r (pk_rem (by omega) (by omega) (by omega)) ⟨hN0, nm_r (pk_rem (by omega) (by omega) (by omega)) (nm_e ⟨by decide, by decide, 4, 860, by decide, by decide, ?_⟩)⟩⟩⟩⟩
  refine ro_init N h2 h5 (fun b1 b2 b3 b4 => ?_)
  refine ro_permutation N (j1 % ro_fc N) h2 h5 hA rfl (fun c1 hc1 => ?_)
  refine ro_permutation N (j2 % ro_fc N) h2 h5 hB rfl (fun c2 hc2 => ?_)
  refine ro_put N 0 (ro_P N (j1 % ro_fc N)) h2 h5 (by decide) P1 (ro_Pi h2 h5 hA) rfl (fun c3 hc3 hd3 => br_t rfl ?_)
  refine ro_put N 1 (ro_P N (j2 % ro_fc N)) h2 h5 (by decide) P2 (ro_Pi h2 h5 hB) rfl (fun c4 hc4 hd4 => br_t rfl ?_)
  have K0 : ∀ j, j < N → c4 j = nI (ro_P N (j1 % ro_fc N) j) := fun j hj => by
    rw [hd4 j (by omega) (by omega)]
    have := hc3 j hj
    rw [Nat.mul_zero, Nat.zero_add] at this
    exact this
  have K0' : ∀ j, j < N → c4 (5 * 0 + j) = nI (ro_P N (j1 % ro_fc N) j) := fun j hj => by
    rw [Nat.mul_zero, Nat.zero_add]
    exact K0 j hj
  have K1 : ∀ j, j < N → c4 (5 * 1 + j) = nI (ro_P N (j2 % ro_fc N) j) := hc4
  refine ro_rank N 0 _ h2 h5 (by decide) K0' P1'' rfl (br_t (congrArg nI (ro_Pk h2 h5 hA)) ?_)
  refine ro_rank N 1 _ h2 h5 (by decide) K1 P2'' rfl (br_t (congrArg nI (ro_Pk h2 h5 hB)) ?_)
  refine ro_code N 0 _ h5 (by decide) K0' rfl (br_t rfl ?_)
  refine ro_inversions N 0 _ h2 h5 (by decide) K0' P1'' rfl ?_
  refine ro_inversionsL _ N h2 h5 P1' (br_t (congrArg nI (ro_ivw N _ h5)) ?_)
  refine ro_L202 N _ h2 h5 P1' K0 (ro_Pa h2 h5 hA) (ro_Pc h2 h5 hA) (fun c5 hc5 => ?_)
  exact ro_L404 N (j3 % N) (j4 % N) w _ _ h2 h5 hX hY hw (fun j hj => (hc5 j (by omega)).trans (K0 j hj)) (fun j hj => (hc5 (5 + j) (by omega)).trans (K1 j hj)) P1 P2 (ro_Pi h2 h5 hA) (ro_Pq h2 h5 hA) H
end
section
theorem ro_lawOf {post : Int32 → St0 → Prop} {u : St0} {p0 p1 p2 p3 p4 p5 : Int32} (H : post 1 ()) : wpL_lawOf post 5 866 u p0 p1 p2 p3 p4 p5 := by
  obtain ⟨j, g, e⟩ := pk_andE p0 (m := 3) 2 rfl
  have g' : j < 4 := g
  unfold wpL_lawOf
  rw [e]
  refine nm_r (e' := nI (2 + j)) (nI_add 2 j) ?_
  refine pk_eq (2 + j) 2 (fun z => ro_L41 (2 + j) (by omega) (by omega) (by rw [z]; rfl) H) (fun z => pk_eq (2 + j) 3 (fun z => ro_L41 (2 + j) (by omega) (by omega) (by rw [z]; rfl) H) (fun z => pk_eq (2 + j) 4 (fun z => ro_L41 (2 + j) (by omega) (by omega) (by rw [z]; rfl) H) (fun z => ro_L41 (2 + j) (by omega) (by omega) (by rw [show 2 + j = 5 by omega]; rfl) H)))
theorem ro_cellAt {post : Int32 → Prop} {L : Nat} {xs : Nat → Int32} {u : St0} (i : Nat) (hL : L ≤ 6) (hi : i < 6) {x : Int32} (hx : x = nI i) (H : ∀ r, post r) : wpL_cellAt post L xs u x :=
  pk_le L i (fun _ => H _) (fun z => ⟨pk_in i L z hx, H _⟩) rfl hx
theorem i_vc (xs : Nat → Int32) (L : Nat) (hL : L ≤ 6) : wpL_law (fun r => r = 1) L xs := by
  unfold wpL_law
  refine ro_cellAt 0 hL (by decide) rfl (fun r1 => ro_cellAt 1 hL (by decide) rfl (fun r2 => ro_cellAt 2 hL (by decide) rfl (fun r3 => ro_cellAt 3 hL (by decide) rfl (fun r4 => ro_cellAt 4 hL (by decide) rfl (fun r5 => ro_cellAt 5 hL (by decide) rfl (fun r6 => ?_))))))
  exact ⟨5, 866, by decide, by decide, ro_lawOf rfl⟩
end
