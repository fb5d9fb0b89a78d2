section
/-! sums over Nat ranges, pairing, pigeonhole (pure) -/
def dm_sm (f : Nat → Int) : Nat → Int
  | 0 => 0
  | n + 1 => dm_sm f n + f n
theorem dm_sm_congr {f g : Nat → Int} : ∀ n, (∀ i, i < n → f i = g i) → dm_sm f n = dm_sm g n
  | 0, _ => rfl
  | n + 1, h => by
    show dm_sm f n + f n = dm_sm g n + g n
    rw [dm_sm_congr n (fun i hi => h i (by omega)), h n (by omega)]
theorem dm_sm_0 : ∀ n, dm_sm (fun _ => 0) n = 0
  | 0 => rfl
  | n + 1 => by
    show dm_sm (fun _ => 0) n + 0 = 0
    rw [dm_sm_0 n]; rfl
theorem dm_sm_1 : ∀ n : Nat, dm_sm (fun _ => 1) n = n
  | 0 => rfl
  | n + 1 => by
    show dm_sm (fun _ => 1) n + 1 = _
    rw [dm_sm_1 n]; omega
theorem dm_sm_add (f g : Nat → Int) : ∀ n, dm_sm (fun i => f i + g i) n = dm_sm f n + dm_sm g n
  | 0 => rfl
  | n + 1 => by
    show dm_sm (fun i => f i + g i) n + (f n + g n) = (dm_sm f n + f n) + (dm_sm g n + g n)
    rw [dm_sm_add f g n]; omega
theorem dm_sm_neg (f : Nat → Int) : ∀ n, dm_sm (fun i => - f i) n = - dm_sm f n
  | 0 => rfl
  | n + 1 => by
    show dm_sm (fun i => - f i) n + - f n = - (dm_sm f n + f n)
    rw [dm_sm_neg f n]; omega
theorem dm_sm_le {f g : Nat → Int} : ∀ n, (∀ i, i < n → f i ≤ g i) → dm_sm f n ≤ dm_sm g n
  | 0, _ => Int.le_refl _
  | n + 1, h => by
    show dm_sm f n + f n ≤ dm_sm g n + g n
    have h1 := dm_sm_le n (fun i hi => h i (by omega))
    have h2 := h n (by omega)
    omega
theorem dm_sm_nn {f : Nat → Int} (n : Nat) (h : ∀ i, i < n → 0 ≤ f i) : 0 ≤ dm_sm f n := by
  have := dm_sm_le (f := fun _ => 0) (g := f) n h
  rw [dm_sm_0] at this
  exact this
theorem dm_sm_ge {f : Nat → Int} : ∀ n, (∀ i, i < n → 0 ≤ f i) → ∀ k, k < n → f k ≤ dm_sm f n
  | 0, _, k, hk => absurd hk (by omega)
  | n + 1, h, k, hk => by
    show f k ≤ dm_sm f n + f n
    have hn := h n (by omega)
    by_cases e : k = n
    · subst e
      have := dm_sm_nn (f := f) k (fun i hi => h i (by omega))
      omega
    · have := dm_sm_ge n (fun i hi => h i (by omega)) k (by omega)
      omega
/-- a sum of non-negatives that is 0: every term is 0 -/
theorem dm_sm_z {f : Nat → Int} (n : Nat) (h : ∀ i, i < n → 0 ≤ f i) (hs : dm_sm f n = 0) (k : Nat) (hk : k < n) : f k = 0 := by
  have h1 := dm_sm_ge n h k hk
  have h2 := h k hk
  omega
theorem dm_sm_ge2 {f : Nat → Int} : ∀ n, (∀ i, i < n → 0 ≤ f i) → ∀ k l, k < n → l < n → k ≠ l → f k + f l ≤ dm_sm f n
  | 0, _, k, _, hk, _, _ => absurd hk (by omega)
  | n + 1, h, k, l, hk, hl, hkl => by
    show f k + f l ≤ dm_sm f n + f n
    have hn := h n (by omega)
    have hh : ∀ i, i < n → 0 ≤ f i := fun i hi => h i (by omega)
    by_cases e : k = n
    · subst e
      have := dm_sm_ge (f := f) k hh l (by omega)
      omega
    · by_cases e2 : l = n
      · subst e2
        have := dm_sm_ge (f := f) l hh k (by omega)
        omega
      · have := dm_sm_ge2 n hh k l (by omega) (by omega) hkl
        omega
theorem dm_sm_pos {f : Nat → Int} : ∀ n, 0 < dm_sm f n → ∃ k, k < n ∧ 0 < f k
  | 0, h => absurd h (by show ¬ (0 : Int) < 0; omega)
  | n + 1, h => by
    have h' : 0 < dm_sm f n + f n := h
    by_cases e : 0 < f n
    · exact ⟨n, by omega, e⟩
    · obtain ⟨k, hk, hf⟩ := dm_sm_pos (f := f) n (by omega)
      exact ⟨k, by omega, hf⟩
theorem dm_sm_swap (f : Nat → Nat → Int) (m : Nat) : ∀ n, dm_sm (fun i => dm_sm (fun j => f i j) m) n = dm_sm (fun j => dm_sm (fun i => f i j) n) m
  | 0 => by
    show 0 = dm_sm (fun j => 0) m
    rw [dm_sm_0]
  | n + 1 => by
    show dm_sm (fun i => dm_sm (fun j => f i j) m) n + dm_sm (fun j => f n j) m = dm_sm (fun j => dm_sm (fun i => f i j) n + f n j) m
    rw [dm_sm_swap f m n, dm_sm_add]
theorem dm_sm_one {c : Int} {Q : Nat → Bool} : ∀ n, (∃ k, k < n ∧ Q k = true ∧ ∀ j, j < n → Q j = true → j = k) → dm_sm (fun j => if Q j = true then c else 0) n = c
  | 0, h => by obtain ⟨k, hk, _⟩ := h; exact absurd hk (by omega)
  | n + 1, h => by
    obtain ⟨k, hk, hQ, hu⟩ := h
    show dm_sm (fun j => if Q j = true then c else 0) n + (if Q n = true then c else 0) = c
    by_cases e : k = n
    · subst e
      rw [if_pos hQ]
      have : dm_sm (fun j => if Q j = true then c else 0) k = dm_sm (fun _ => 0) k := dm_sm_congr k (fun i hi => by
        by_cases q : Q i = true
        · have := hu i (by omega) q; omega
        · rw [if_neg q])
      rw [this, dm_sm_0]; omega
    · have hn : ¬ Q n = true := fun q => e (hu n (by omega) q).symm
      rw [if_neg hn, dm_sm_one n ⟨k, by omega, hQ, fun j hj => hu j (by omega)⟩]; omega
theorem dm_sm_lone {Q : Nat → Bool} : ∀ n, (∀ i j, i < n → j < n → Q i = true → Q j = true → i = j) → dm_sm (fun j => if Q j = true then 1 else 0) n ≤ 1
  | 0, _ => by show (0 : Int) ≤ 1; omega
  | n + 1, h => by
    show dm_sm (fun j => if Q j = true then 1 else 0) n + (if Q n = true then 1 else 0) ≤ 1
    by_cases q : Q n = true
    · have : dm_sm (fun j => if Q j = true then (1 : Int) else 0) n = dm_sm (fun _ => 0) n := dm_sm_congr n (fun i hi => by
        by_cases q' : Q i = true
        · have := h i n (by omega) (by omega) q' q; omega
        · rw [if_neg q'])
      rw [this, dm_sm_0, if_pos q]; omega
    · rw [if_neg q]
      have := dm_sm_lone n (fun i j hi hj => h i j (by omega) (by omega))
      omega
/-- pairing: an antisymmetric function over a set closed under a one-to-one symmetric relation sums to 0 -/
theorem dm_pair (N : Nat) (P : Nat → Bool) (R : Nat → Nat → Bool) (g : Nat → Int)
    (hex : ∀ e, e < N → P e = true → ∃ f, f < N ∧ P f = true ∧ R e f = true)
    (hu : ∀ e f f', e < N → f < N → f' < N → P e = true → P f = true → P f' = true → R e f = true → R e f' = true → f = f')
    (hs : ∀ e f, R e f = true → R f e = true)
    (hn : ∀ e f, e < N → f < N → P e = true → P f = true → R e f = true → g f = - g e) :
    dm_sm (fun e => if P e = true then g e else 0) N = 0 := by
  have h1 : ∀ e, e < N → (if P e = true then g e else 0) = dm_sm (fun f => if (P e && P f && R e f) = true then g e else 0) N := by
    intro e he
    by_cases p : P e = true
    · rw [if_pos p]
      obtain ⟨f, hf, pf, rf⟩ := hex e he p
      refine (dm_sm_one (Q := fun f => P e && P f && R e f) N ⟨f, hf, by simp [p, pf, rf], fun j hj q => ?_⟩).symm
      have q' : P j = true ∧ R e j = true := by simpa [p] using q
      exact hu e j f he hj hf p q'.1 pf q'.2 rf
    · rw [if_neg p]
      refine Eq.trans (dm_sm_0 N).symm (dm_sm_congr N (fun i hi => ?_))
      have : ¬ (P e && P i && R e i) = true := by simp [p]
      rw [if_neg this]
  have h2 : dm_sm (fun e => if P e = true then g e else 0) N = - dm_sm (fun e => if P e = true then g e else 0) N := by
    have a1 := dm_sm_congr N h1
    have a2 := dm_sm_swap (fun e f => if (P e && P f && R e f) = true then g e else 0) N N
    have a3 : dm_sm (fun f => dm_sm (fun e => if (P e && P f && R e f) = true then g e else 0) N) N = dm_sm (fun f => - (if P f = true then g f else 0)) N := by
      refine dm_sm_congr N (fun f hf => ?_)
      rw [h1 f hf, ← dm_sm_neg]
      refine dm_sm_congr N (fun e he => ?_)
      by_cases q : (P e && P f && R e f) = true
      · have q' : (P e = true ∧ P f = true) ∧ R e f = true := by simpa using q
        have q2 : (P f && P e && R f e) = true := by simp [q'.1.1, q'.1.2, hs e f q'.2]
        rw [if_pos q, if_pos q2, hn e f he hf q'.1.1 q'.1.2 q'.2]; omega
      · have q2 : ¬ (P f && P e && R f e) = true := by
          intro z
          have z' : (P f = true ∧ P e = true) ∧ R f e = true := by simpa using z
          exact q (by simp [z'.1.1, z'.1.2, hs f e z'.2])
        rw [if_neg q, if_neg q2]; rfl
    rw [dm_sm_neg] at a3
    exact a1.trans (a2.trans a3)
  omega
/-- pigeonhole -/
theorem dm_pig (N K : Nat) (P : Nat → Bool) (key : Nat → Nat) (hk : ∀ e, e < N → P e = true → key e < K)
    (hi : ∀ e f, e < N → f < N → P e = true → P f = true → key e = key f → e = f) :
    dm_sm (fun e => if P e = true then 1 else 0) N ≤ K := by
  have h1 : ∀ e, e < N → (if P e = true then (1 : Int) else 0) = dm_sm (fun k => if (P e && (key e == k)) = true then 1 else 0) K := by
    intro e he
    by_cases p : P e = true
    · rw [if_pos p]
      refine (dm_sm_one (Q := fun k => P e && (key e == k)) K ⟨key e, hk e he p, by simp [p], fun j hj q => ?_⟩).symm
      have q' : key e = j := by simpa [p] using q
      exact q'.symm
    · rw [if_neg p]
      refine Eq.trans (dm_sm_0 K).symm (dm_sm_congr K (fun i hi => ?_))
      have : ¬ (P e && (key e == i)) = true := by simp [p]
      rw [if_neg this]
  rw [dm_sm_congr N h1, dm_sm_swap]
  have h2 : ∀ k, k < K → dm_sm (fun e => if (P e && (key e == k)) = true then 1 else 0) N ≤ 1 := by
    intro k hk'
    refine dm_sm_lone (Q := fun e => P e && (key e == k)) N (fun i j hi' hj qi qj => ?_)
    have qi' : P i = true ∧ key i = k := by simpa using qi
    have qj' : P j = true ∧ key j = k := by simpa using qj
    exact hi i j hi' hj qi'.1 qj'.1 (by rw [qi'.2, qj'.2])
  have h3 := dm_sm_le K h2
  rw [dm_sm_1] at h3
  exact h3
/-- a sum over cells, by blocks of three -/
theorem dm_sm3 (f : Nat → Int) : ∀ T, dm_sm f (3 * T) = dm_sm (fun t => f (3 * t) + f (3 * t + 1) + f (3 * t + 2)) T
  | 0 => rfl
  | T + 1 => by
    show dm_sm f (3 * T + 1 + 1 + 1) = dm_sm (fun t => f (3 * t) + f (3 * t + 1) + f (3 * t + 2)) T + (f (3 * T) + f (3 * T + 1) + f (3 * T + 2))
    rw [← dm_sm3 f T]
    show dm_sm f (3 * T) + f (3 * T) + f (3 * T + 1) + f (3 * T + 2) = _
    omega
end
section
/-! plane geometry over Int (pure) -/
def dm_tn (X Y : Nat → Int) (a b c : Nat) : Int := (X b - X a) * (Y c - Y a) - (Y b - Y a) * (X c - X a)
def dm_dt (X Y : Nat → Int) (a b c : Nat) : Int := (X a - X c) * (X b - X c) + (Y a - Y c) * (Y b - Y c)
def dm_ic (X Y : Nat → Int) (a b c d : Nat) : Int :=
  ((X a - X d) * (X a - X d) + (Y a - Y d) * (Y a - Y d)) * ((X b - X d) * (Y c - Y d) - (Y b - Y d) * (X c - X d))
  - ((X b - X d) * (X b - X d) + (Y b - Y d) * (Y b - Y d)) * ((X a - X d) * (Y c - Y d) - (Y a - Y d) * (X c - X d))
  + ((X c - X d) * (X c - X d) + (Y c - Y d) * (Y c - Y d)) * ((X a - X d) * (Y b - Y d) - (Y a - Y d) * (X b - X d))
def dm_by (X Y : Nat → Int) (a b p : Nat) : Prop := 0 < dm_tn X Y a b p ∨ (dm_tn X Y a b p = 0 ∧ dm_dt X Y a b p < 0)
def dm_cf (X Y : Nat → Int) (a b c p : Nat) : Prop :=
  if a = 24 then dm_by X Y b c p else if b = 24 then dm_by X Y c a p else if c = 24 then dm_by X Y a b p else 0 < dm_ic X Y a b c p
theorem dm_ic_td (X Y : Nat → Int) (a b c d : Nat) : dm_ic X Y a b c d = dm_tn X Y a b d * dm_dt X Y a b c - dm_tn X Y a b c * dm_dt X Y a b d := by
  unfold dm_ic dm_tn dm_dt
  grind
theorem dm_ic_rot (X Y : Nat → Int) (a b c d : Nat) : dm_ic X Y b c a d = dm_ic X Y a b c d := by
  unfold dm_ic
  grind
theorem dm_tn_rot (X Y : Nat → Int) (a b c : Nat) : dm_tn X Y b c a = dm_tn X Y a b c := by
  unfold dm_tn
  grind
theorem dm_tn_sw (X Y : Nat → Int) (a b c : Nat) : dm_tn X Y b a c = - dm_tn X Y a b c := by
  unfold dm_tn
  grind
theorem dm_dt_sw (X Y : Nat → Int) (a b c : Nat) : dm_dt X Y b a c = dm_dt X Y a b c := by
  unfold dm_dt
  grind
theorem dm_ic_v (X Y : Nat → Int) (u v p w : Nat) : dm_ic X Y u w p v = - dm_ic X Y u v p w := by
  unfold dm_ic
  grind
theorem dm_tn_sum (X Y : Nat → Int) (a b c p : Nat) : dm_tn X Y a b p + dm_tn X Y b c p + dm_tn X Y c a p = dm_tn X Y a b c := by
  unfold dm_tn
  grind
/-! signs of products -/
theorem dm_pp {a b : Int} (ha : 0 < a) (hb : 0 < b) : 0 < a * b := Int.mul_pos ha hb
theorem dm_gg {a b : Int} (ha : 0 ≤ a) (hb : 0 ≤ b) : 0 ≤ a * b := Int.mul_nonneg ha hb
theorem dm_ll {a b : Int} (ha : a ≤ 0) (hb : b ≤ 0) : 0 ≤ a * b := by
  have := dm_gg (a := -a) (b := -b) (by omega) (by omega)
  rwa [Int.neg_mul_neg] at this
theorem dm_gl {a b : Int} (ha : 0 ≤ a) (hb : b ≤ 0) : a * b ≤ 0 := by
  have := dm_gg (a := a) (b := -b) ha (by omega)
  rw [Int.mul_neg] at this
  omega
theorem dm_lg {a b : Int} (ha : a ≤ 0) (hb : 0 ≤ b) : a * b ≤ 0 := by
  rw [Int.mul_comm]; exact dm_gl hb ha
theorem dm_pn {a b : Int} (ha : 0 < a) (hb : b < 0) : a * b < 0 := by
  have := dm_pp (a := a) (b := -b) ha (by omega)
  rw [Int.mul_neg] at this
  omega
theorem dm_np {a b : Int} (ha : a < 0) (hb : 0 < b) : a * b < 0 := by
  rw [Int.mul_comm]; exact dm_pn hb ha
theorem dm_nn {a b : Int} (ha : a < 0) (hb : b < 0) : 0 < a * b := by
  have := dm_pp (a := -a) (b := -b) (by omega) (by omega)
  rwa [Int.neg_mul_neg] at this
/-- what a positive factor lets through -/
theorem dm_dp {k z : Int} (hk : 0 < k) (h : 0 < k * z) : 0 < z := by
  rcases Int.lt_or_le 0 z with h1 | h1
  · exact h1
  · have := dm_gl (Int.le_of_lt hk) h1; omega
theorem dm_dg {k z : Int} (hk : 0 < k) (h : 0 ≤ k * z) : 0 ≤ z := by
  rcases Int.lt_or_le z 0 with h1 | h1
  · have := dm_pn hk h1; omega
  · exact h1
theorem dm_dl {k z : Int} (hk : 0 < k) (h : k * z ≤ 0) : z ≤ 0 := by
  rcases Int.lt_or_le 0 z with h1 | h1
  · have := dm_pp hk h1; omega
  · exact h1
theorem dm_dn {k z : Int} (hk : 0 < k) (h : k * z < 0) : z < 0 := by
  rcases Int.lt_or_le z 0 with h1 | h1
  · exact h1
  · have := dm_gg (Int.le_of_lt hk) h1; omega
theorem dm_dgN {k z : Int} (hk : k < 0) (h : 0 ≤ k * z) : z ≤ 0 := by
  rcases Int.lt_or_le 0 z with h1 | h1
  · have := dm_np hk h1; omega
  · exact h1
theorem dm_dlN {k z : Int} (hk : k < 0) (h : k * z ≤ 0) : 0 ≤ z := by
  rcases Int.lt_or_le z 0 with h1 | h1
  · have := dm_nn hk h1; omega
  · exact h1
theorem dm_sq0 (a : Int) : 0 ≤ a * a := by
  rcases Int.lt_or_le a 0 with h | h
  · exact dm_ll (Int.le_of_lt h) (Int.le_of_lt h)
  · exact dm_gg h h
theorem dm_sqz {a b : Int} (h : a * a + b * b = 0) : a = 0 ∧ b = 0 := by
  have h1 := dm_sq0 a
  have h2 := dm_sq0 b
  constructor
  · exact (Int.mul_eq_zero.mp (by omega)).elim id id
  · exact (Int.mul_eq_zero.mp (by omega)).elim id id
theorem dm_sqp {a b : Int} (h : ¬ (a = 0 ∧ b = 0)) : 0 < a * a + b * b := by
  have h1 := dm_sq0 a
  have h2 := dm_sq0 b
  rcases Int.lt_or_le 0 (a * a + b * b) with h3 | h3
  · exact h3
  · exact absurd (dm_sqz (by omega)) h
/-! the pencil of an edge: a point z is the pair (T z, D z) -/
theorem dm_pc1 {Ty Dy Tx Dx Tp Dp : Int} (hy : 0 < Ty) (hx : Tx < 0) (h1 : 0 < Tp * Dy - Ty * Dp) (h2 : Tx * Dp - Tp * Dx ≤ 0) (h3 : Tx * Dy - Ty * Dx ≤ 0) : 0 < Tp := by
  have id : Tx * (Tp * Dy - Ty * Dp) + Ty * (Tx * Dp - Tp * Dx) = Tp * (Tx * Dy - Ty * Dx) := by grind
  have a := dm_np hx h1
  have b := dm_gl (Int.le_of_lt hy) h2
  rcases Int.lt_or_le 0 Tp with h | h
  · exact h
  · have := dm_ll h h3; omega
theorem dm_pc2a {Ty Dy Tp Dp Tq Dq : Int} (hy : 0 < Ty) (hp : 0 < Tp) (h1 : 0 < Tp * Dy - Ty * Dp) (h2 : Tq * Dy - Ty * Dq ≤ 0) (hq : 0 ≤ Tq) : Tq * Dp - Tp * Dq ≤ 0 := by
  have id : Ty * (Tq * Dp - Tp * Dq) = Tp * (Tq * Dy - Ty * Dq) - Tq * (Tp * Dy - Ty * Dp) := by grind
  have a := dm_gl (Int.le_of_lt hp) h2
  have b := dm_gg hq (Int.le_of_lt h1)
  exact dm_dl hy (by omega)
theorem dm_pc2s {Ty Dy Tp Dp Tq Dq : Int} (hy : 0 < Ty) (hp : 0 < Tp) (h1 : 0 < Tp * Dy - Ty * Dp) (h2 : Tq * Dy - Ty * Dq ≤ 0) (hq : 0 < Tq) : Tq * Dp - Tp * Dq < 0 := by
  have id : Ty * (Tq * Dp - Tp * Dq) = Tp * (Tq * Dy - Ty * Dq) - Tq * (Tp * Dy - Ty * Dp) := by grind
  have a := dm_gl (Int.le_of_lt hp) h2
  have b := dm_pp hq h1
  exact dm_dn hy (by omega)
theorem dm_pc2b {Tx Dx Tp Dp Tq Dq : Int} (hx : Tx < 0) (hp : 0 < Tp) (h1 : Tx * Dp - Tp * Dx ≤ 0) (h2 : Tx * Dq - Tq * Dx ≤ 0) (hq : Tq ≤ 0) : Tq * Dp - Tp * Dq ≤ 0 := by
  have id : Tx * (Tq * Dp - Tp * Dq) = Tq * (Tx * Dp - Tp * Dx) - Tp * (Tx * Dq - Tq * Dx) := by grind
  have a := dm_ll hq h1
  have b := dm_gl (Int.le_of_lt hp) h2
  exact dm_dgN hx (by omega)
/-! conflicts, turned -/
theorem dm_cf_1 {X Y : Nat → Int} {b c p : Nat} : dm_cf X Y 24 b c p = dm_by X Y b c p := by
  unfold dm_cf; rw [if_pos rfl]
theorem dm_cf_2 {X Y : Nat → Int} {a c p : Nat} (ha : a ≠ 24) : dm_cf X Y a 24 c p = dm_by X Y c a p := by
  unfold dm_cf; rw [if_neg ha, if_pos rfl]
theorem dm_cf_3 {X Y : Nat → Int} {a b p : Nat} (ha : a ≠ 24) (hb : b ≠ 24) : dm_cf X Y a b 24 p = dm_by X Y a b p := by
  unfold dm_cf; rw [if_neg ha, if_neg hb, if_pos rfl]
theorem dm_cf_4 {X Y : Nat → Int} {a b c p : Nat} (ha : a ≠ 24) (hb : b ≠ 24) (hc : c ≠ 24) : dm_cf X Y a b c p = (0 < dm_ic X Y a b c p) := by
  unfold dm_cf; rw [if_neg ha, if_neg hb, if_neg hc]
theorem dm_cf_rot {X Y : Nat → Int} {a b c p : Nat} (h1 : a ≠ b) (h2 : b ≠ c) (h3 : c ≠ a) : dm_cf X Y b c a p = dm_cf X Y a b c p := by
  by_cases ha : a = 24
  · subst ha
    rw [dm_cf_1, dm_cf_3 (fun e => h1 e.symm) h3]
  · by_cases hb : b = 24
    · subst hb
      rw [dm_cf_1, dm_cf_2 ha]
    · by_cases hc : c = 24
      · subst hc
        rw [dm_cf_2 hb, dm_cf_3 ha hb]
      · rw [dm_cf_4 hb hc ha, dm_cf_4 ha hb hc, dm_ic_rot]

/-- the new triangle over a real rim edge: ccw, and no point in its circle -/
theorem dm_g1a {X Y : Nat → Int} {S : Nat → Prop} {u v y x p : Nat} (hu : u ≠ 24) (hv : v ≠ 24)
    (ty : y ≠ 24 → 0 < dm_tn X Y u v y) (tx : x ≠ 24 → 0 < dm_tn X Y v u x) (hxy : ¬ (y = 24 ∧ x = 24))
    (hb : dm_cf X Y u v y p) (hg : ¬ dm_cf X Y v u x p)
    (dy : ∀ q, S q → ¬ dm_cf X Y u v y q) (dx : ∀ q, S q → ¬ dm_cf X Y v u x q) (sx : x ≠ 24 → S x) :
    0 < dm_tn X Y u v p ∧ ∀ q, S q → ¬ 0 < dm_ic X Y u v p q := by
  have icx : ∀ q, dm_ic X Y v u x q = dm_tn X Y u v x * dm_dt X Y u v q - dm_tn X Y u v q * dm_dt X Y u v x := by
    intro q
    rw [dm_ic_td, dm_tn_sw X Y u v q, dm_tn_sw X Y u v x, dm_dt_sw X Y u v x, dm_dt_sw X Y u v q]
    grind
  by_cases ey : y = 24
  · have ex : x ≠ 24 := fun e => hxy ⟨ey, e⟩
    have tx' : dm_tn X Y u v x < 0 := by have := tx ex; rw [dm_tn_sw] at this; omega
    subst ey
    rw [dm_cf_3 hu hv] at hb
    rw [dm_cf_4 hv hu ex, icx] at hg
    have hp : 0 < dm_tn X Y u v p := by
      rcases hb with h | ⟨h1, h2⟩
      · exact h
      · rw [h1] at hg
        have := dm_nn tx' h2
        omega
    refine ⟨hp, fun q sq => ?_⟩
    have d1 := dy q sq
    have d2 := dx q sq
    rw [dm_cf_3 hu hv] at d1
    rw [dm_cf_4 hv hu ex, icx] at d2
    have tq : dm_tn X Y u v q ≤ 0 := by
      rcases Int.lt_or_le 0 (dm_tn X Y u v q) with h | h
      · exact absurd (Or.inl h) d1
      · exact h
    rw [dm_ic_td]
    have := dm_pc2b tx' hp (Int.not_lt.mp hg) (Int.not_lt.mp d2) tq
    omega
  · have ty' := ty ey
    rw [dm_cf_4 hu hv ey, dm_ic_td] at hb
    by_cases ex : x = 24
    · subst ex
      rw [dm_cf_3 hv hu] at hg
      have hp : 0 < dm_tn X Y u v p := by
        rcases Int.lt_or_le 0 (dm_tn X Y u v p) with h | h
        · exact h
        · rcases Int.lt_or_le (dm_tn X Y u v p) 0 with h' | h'
          · exact absurd (Or.inl (by rw [dm_tn_sw]; omega)) hg
          · have e0 : dm_tn X Y u v p = 0 := by omega
            rw [e0] at hb
            have : dm_dt X Y u v p < 0 := by
              rcases Int.lt_or_le (dm_dt X Y u v p) 0 with h2 | h2
              · exact h2
              · have := dm_gg (Int.le_of_lt ty') h2; omega
            exact absurd (Or.inr ⟨by rw [dm_tn_sw]; omega, by rw [dm_dt_sw]; exact this⟩) hg
      refine ⟨hp, fun q sq => ?_⟩
      have d1 := dy q sq
      have d2 := dx q sq
      rw [dm_cf_4 hu hv ey, dm_ic_td] at d1
      rw [dm_cf_3 hv hu] at d2
      have tq : 0 ≤ dm_tn X Y u v q := by
        rcases Int.lt_or_le (dm_tn X Y u v q) 0 with h | h
        · exact absurd (Or.inl (by rw [dm_tn_sw]; omega)) d2
        · exact h
      rw [dm_ic_td]
      have := dm_pc2a ty' hp hb (Int.not_lt.mp d1) tq
      omega
    · have tx' : dm_tn X Y u v x < 0 := by have := tx ex; rw [dm_tn_sw] at this; omega
      rw [dm_cf_4 hv hu ex, icx] at hg
      have d0 := dy x (sx ex)
      rw [dm_cf_4 hu hv ey, dm_ic_td] at d0
      have hp : 0 < dm_tn X Y u v p := dm_pc1 ty' tx' hb (Int.not_lt.mp hg) (Int.not_lt.mp d0)
      refine ⟨hp, fun q sq => ?_⟩
      have d1 := dy q sq
      have d2 := dx q sq
      rw [dm_cf_4 hu hv ey, dm_ic_td] at d1
      rw [dm_cf_4 hv hu ex, icx] at d2
      rw [dm_ic_td]
      rcases Int.lt_or_le (dm_tn X Y u v q) 0 with h | h
      · have := dm_pc2b tx' hp (Int.not_lt.mp hg) (Int.not_lt.mp d2) (Int.le_of_lt h)
        omega
      · have := dm_pc2a ty' hp hb (Int.not_lt.mp d1) h
        omega
/-! vectors at a corner of the hull: W, X the hull's neighbours, P the new point, Q any point -/
theorem dm_v1 {w1 w2 x1 x2 p1 p2 q1 q2 : Int}
    (hb : w1 * p2 - w2 * p1 < 0 ∨ (w1 * p2 - w2 * p1 = 0 ∧ p1 * p1 + p2 * p2 < w1 * p1 + w2 * p2))
    (hg : x1 * p2 - x2 * p1 ≤ 0)
    (hx : 0 < w1 * x2 - w2 * x1 ∨ (w1 * x2 - w2 * x1 = 0 ∧ w1 * x1 + w2 * x2 < 0))
    (hq1 : 0 ≤ w1 * q2 - w2 * q1) (hq1' : w1 * q2 - w2 * q1 = 0 → w1 * q1 + w2 * q2 ≤ q1 * q1 + q2 * q2)
    (hq2 : x1 * q2 - x2 * q1 ≤ 0) :
    0 ≤ p1 * q2 - p2 * q1 ∧ (p1 * q2 - p2 * q1 = 0 → p1 * q1 + p2 * q2 ≤ q1 * q1 + q2 * q2) := by
  rcases hb with hb | ⟨hb, hb2⟩
  · have hw : 0 < w1 * w1 + w2 * w2 := dm_sqp (fun e => by rw [e.1, e.2] at hb; omega)
    have hP : 0 < p1 * p1 + p2 * p2 := dm_sqp (fun e => by rw [e.1, e.2] at hb; omega)
    have main : 0 ≤ p1 * q2 - p2 * q1 := by
      rcases hx with hx | ⟨hx, hx2⟩
      · have id : (w1 * x2 - w2 * x1) * (p1 * q2 - p2 * q1) = - ((x1 * p2 - x2 * p1) * (w1 * q2 - w2 * q1)) + (w1 * p2 - w2 * p1) * (x1 * q2 - x2 * q1) := by grind
        have a := dm_lg hg hq1
        have b := dm_ll (Int.le_of_lt hb) hq2
        exact dm_dg hx (by omega)
      · have id : (w1 * w1 + w2 * w2) * (x1 * p2 - x2 * p1) = (w1 * x1 + w2 * x2) * (w1 * p2 - w2 * p1) + (w1 * x2 - w2 * x1) * (w1 * p1 + w2 * p2) := by grind
        rw [hx] at id
        have a := dm_nn hx2 hb
        have b := dm_dp hw (z := x1 * p2 - x2 * p1) (by omega)
        omega
    refine ⟨main, fun e => ?_⟩
    have id : (w1 * p2 - w2 * p1) * (p1 * q1 + p2 * q2) = (w1 * q2 - w2 * q1) * (p1 * p1 + p2 * p2) - (p1 * q2 - p2 * q1) * (w1 * p1 + w2 * p2) := by grind
    rw [e] at id
    have a := dm_gg hq1 (Int.le_of_lt hP)
    have b := dm_dgN hb (z := p1 * q1 + p2 * q2) (by omega)
    have c1 := dm_sq0 q1
    have c2 := dm_sq0 q2
    omega
  · have hP0 := dm_sq0 p1
    have hP1 := dm_sq0 p2
    have hWP : 0 < w1 * p1 + w2 * p2 := by omega
    have hw : 0 < w1 * w1 + w2 * w2 := dm_sqp (fun e => by rw [e.1, e.2] at hWP; omega)
    have id : (w1 * w1 + w2 * w2) * (p1 * q2 - p2 * q1) = (w1 * p1 + w2 * p2) * (w1 * q2 - w2 * q1) - (w1 * p2 - w2 * p1) * (w1 * q1 + w2 * q2) := by grind
    rw [hb] at id
    have a := dm_gg (Int.le_of_lt hWP) hq1
    refine ⟨dm_dg hw (by omega), fun e => ?_⟩
    rw [e] at id
    have e2 : w1 * q2 - w2 * q1 = 0 := by
      rcases Int.lt_or_le 0 (w1 * q2 - w2 * q1) with h | h
      · have := dm_pp hWP h; omega
      · omega
    have k := hq1' e2
    have id2 : (w1 * w1 + w2 * w2) * (p1 * q1 + p2 * q2) = (w1 * p1 + w2 * p2) * (w1 * q1 + w2 * q2) + (w1 * p2 - w2 * p1) * (w1 * q2 - w2 * q1) := by grind
    rw [e2] at id2
    have id3 : (w1 * w1 + w2 * w2) * (p1 * p1 + p2 * p2) = (w1 * p1 + w2 * p2) * (w1 * p1 + w2 * p2) + (w1 * p2 - w2 * p1) * (w1 * p2 - w2 * p1) := by grind
    rw [hb] at id3
    have c1 := dm_sq0 q1
    have c2 := dm_sq0 q2
    rcases Int.lt_or_le 0 (w1 * q1 + w2 * q2) with h | h
    · have l1 : w1 * p1 + w2 * p2 < w1 * w1 + w2 * w2 := by
        have t := dm_pp (a := w1 * w1 + w2 * w2) (b := (w1 * p1 + w2 * p2) - (p1 * p1 + p2 * p2)) hw (by omega)
        have t2 : (w1 * p1 + w2 * p2) * ((w1 * w1 + w2 * w2) - (w1 * p1 + w2 * p2)) = (w1 * w1 + w2 * w2) * ((w1 * p1 + w2 * p2) - (p1 * p1 + p2 * p2)) := by grind
        have := dm_dp hWP (z := (w1 * w1 + w2 * w2) - (w1 * p1 + w2 * p2)) (by omega)
        omega
      have t3 := dm_pp (a := (w1 * w1 + w2 * w2) - (w1 * p1 + w2 * p2)) (b := w1 * q1 + w2 * q2) (by omega) h
      have t4 : (w1 * w1 + w2 * w2) * ((w1 * q1 + w2 * q2) - (p1 * q1 + p2 * q2)) = ((w1 * w1 + w2 * w2) - (w1 * p1 + w2 * p2)) * (w1 * q1 + w2 * q2) := by grind
      have := dm_dp hw (z := (w1 * q1 + w2 * q2) - (p1 * q1 + p2 * q2)) (by omega)
      omega
    · have t := dm_gl (Int.le_of_lt hWP) h
      have := dm_dl hw (z := p1 * q1 + p2 * q2) (by omega)
      omega
theorem dm_g1b {X Y : Nat → Int} {S : Nat → Prop} {u y x p r : Nat}
    (hb : dm_by X Y y u p) (hg : ¬ dm_by X Y u x p)
    (dy : ∀ q, S q → ¬ dm_by X Y y u q) (dx : ∀ q, S q → ¬ dm_by X Y u x q) (sx : S x)
    (ny : ¬ (X y = X u ∧ Y y = Y u)) (nx : ¬ (X x = X u ∧ Y x = Y u)) (sr : S r) (hr : dm_tn X Y y u r ≠ 0) :
    ∀ q, S q → ¬ dm_by X Y p u q := by
  intro q sq
  have t1 : ∀ w z, dm_tn X Y w u z = - ((X w - X u) * (Y z - Y u) - (Y w - Y u) * (X z - X u)) := by
    intro w z; unfold dm_tn; grind
  have t2 : ∀ z, dm_tn X Y u x z = (X x - X u) * (Y z - Y u) - (Y x - Y u) * (X z - X u) := by
    intro z; rfl
  have t3 : ∀ w z, dm_dt X Y w u z = ((X z - X u) * (X z - X u) + (Y z - Y u) * (Y z - Y u)) - ((X w - X u) * (X z - X u) + (Y w - Y u) * (Y z - Y u)) := by
    intro w z; unfold dm_dt; grind
  have ly : ∀ z, S z → 0 ≤ (X y - X u) * (Y z - Y u) - (Y y - Y u) * (X z - X u) ∧ ((X y - X u) * (Y z - Y u) - (Y y - Y u) * (X z - X u) = 0 → (X y - X u) * (X z - X u) + (Y y - Y u) * (Y z - Y u) ≤ (X z - X u) * (X z - X u) + (Y z - Y u) * (Y z - Y u)) := by
    intro z sz
    have h := dy z sz
    unfold dm_by at h
    rw [t1, t3] at h
    exact ⟨by omega, fun e => by omega⟩
  have lx : ∀ z, S z → (X x - X u) * (Y z - Y u) - (Y x - Y u) * (X z - X u) ≤ 0 := by
    intro z sz
    have h := dx z sz
    unfold dm_by at h
    rw [t2] at h
    omega
  have bad : (X y - X u) * (Y p - Y u) - (Y y - Y u) * (X p - X u) < 0 ∨ ((X y - X u) * (Y p - Y u) - (Y y - Y u) * (X p - X u) = 0 ∧ (X p - X u) * (X p - X u) + (Y p - Y u) * (Y p - Y u) < (X y - X u) * (X p - X u) + (Y y - Y u) * (Y p - Y u)) := by
    have h := hb
    unfold dm_by at h
    rw [t1, t3] at h
    omega
  have good : (X x - X u) * (Y p - Y u) - (Y x - Y u) * (X p - X u) ≤ 0 := by
    have h := hg
    unfold dm_by at h
    rw [t2] at h
    omega
  have R := ly r sr
  have R2 := lx r sr
  have hr' : 0 < (X y - X u) * (Y r - Y u) - (Y y - Y u) * (X r - X u) := by
    rw [t1] at hr
    omega
  have WX := ly x sx
  have pw : 0 < (X y - X u) * (X y - X u) + (Y y - Y u) * (Y y - Y u) := dm_sqp (fun e => ny ⟨by omega, by omega⟩)
  have px : 0 < (X x - X u) * (X x - X u) + (Y x - Y u) * (Y x - Y u) := dm_sqp (fun e => nx ⟨by omega, by omega⟩)
  have hx : 0 < (X y - X u) * (Y x - Y u) - (Y y - Y u) * (X x - X u) ∨ ((X y - X u) * (Y x - Y u) - (Y y - Y u) * (X x - X u) = 0 ∧ (X y - X u) * (X x - X u) + (Y y - Y u) * (Y x - Y u) < 0) := by
    rcases Int.lt_or_le 0 ((X y - X u) * (Y x - Y u) - (Y y - Y u) * (X x - X u)) with h | h
    · exact Or.inl h
    · have e : (X y - X u) * (Y x - Y u) - (Y y - Y u) * (X x - X u) = 0 := by omega
      refine Or.inr ⟨e, ?_⟩
      generalize X y - X u = w1 at *
      generalize Y y - Y u = w2 at *
      generalize X x - X u = x1 at *
      generalize Y x - Y u = x2 at *
      generalize X r - X u = r1 at *
      generalize Y r - Y u = r2 at *
      have id1 : (w1 * w1 + w2 * w2) * (x1 * r2 - x2 * r1) = (w1 * x1 + w2 * x2) * (w1 * r2 - w2 * r1) + (w1 * x2 - w2 * x1) * (w1 * r1 + w2 * r2) := by grind
      have id2 : (w1 * w1 + w2 * w2) * (x1 * x1 + x2 * x2) = (w1 * x1 + w2 * x2) * (w1 * x1 + w2 * x2) + (w1 * x2 - w2 * x1) * (w1 * x2 - w2 * x1) := by grind
      rw [e] at id1 id2
      have a1 := dm_pp pw px
      have a2 := dm_gl (Int.le_of_lt pw) R2
      rcases Int.lt_or_le (w1 * x1 + w2 * x2) 0 with h3 | h3
      · exact h3
      · rcases Int.lt_or_le 0 (w1 * x1 + w2 * x2) with h4 | h4
        · have := dm_pp h4 hr'
          omega
        · have e0 : w1 * x1 + w2 * x2 = 0 := by omega
          rw [e0] at id2
          omega
  have Q := ly q sq
  have fin := dm_v1 bad good hx Q.1 Q.2 (lx q sq)
  intro h
  unfold dm_by at h
  rw [t1, t3] at h
  rcases h with h | ⟨h1, h2⟩
  · omega
  · have := fin.2 (by omega)
    omega
theorem dm_by_mir (X Y : Nat → Int) (a b p : Nat) : dm_by (fun i => - X i) Y a b p = dm_by X Y b a p := by
  have h1 : dm_tn (fun i => - X i) Y a b p = dm_tn X Y b a p := by unfold dm_tn; grind
  have h2 : dm_dt (fun i => - X i) Y a b p = dm_dt X Y b a p := by unfold dm_dt; grind
  unfold dm_by
  rw [h1, h2]
theorem dm_g1c {X Y : Nat → Int} {S : Nat → Prop} {v y x p r : Nat}
    (hb : dm_by X Y v y p) (hg : ¬ dm_by X Y x v p)
    (dy : ∀ q, S q → ¬ dm_by X Y v y q) (dx : ∀ q, S q → ¬ dm_by X Y x v q) (sx : S x)
    (ny : ¬ (X y = X v ∧ Y y = Y v)) (nx : ¬ (X x = X v ∧ Y x = Y v)) (sr : S r) (hr : dm_tn X Y y v r ≠ 0) :
    ∀ q, S q → ¬ dm_by X Y v p q := by
  intro q sq
  have := dm_g1b (X := fun i => - X i) (Y := Y) (S := S) (u := v) (y := y) (x := x) (p := p) (r := r)
    (by rw [dm_by_mir]; exact hb) (by rw [dm_by_mir]; exact hg) (fun q sq => by rw [dm_by_mir]; exact dy q sq) (fun q sq => by rw [dm_by_mir]; exact dx q sq) sx
    (fun e => ny ⟨by have := e.1; omega, e.2⟩) (fun e => nx ⟨by have := e.1; omega, e.2⟩) sr
    (by
      have : dm_tn (fun i => - X i) Y y v r = - dm_tn X Y y v r := by unfold dm_tn; grind
      rw [this]; omega) q sq
  rw [dm_by_mir] at this
  exact this
/-- three points off a line: off any line -/
theorem dm_nc {X Y : Nat → Int} {S : Nat → Prop} {a b c u v : Nat} (sa : S a) (sb : S b) (sc : S c) (h : dm_tn X Y a b c ≠ 0) (huv : ¬ (X u = X v ∧ Y u = Y v)) : ∃ r, S r ∧ dm_tn X Y u v r ≠ 0 := by
  by_cases h1 : dm_tn X Y u v a = 0
  · by_cases h2 : dm_tn X Y u v b = 0
    · by_cases h3 : dm_tn X Y u v c = 0
      · exfalso
        have i1 : (X v - X u) * dm_tn X Y a b c = (X b - X a) * (dm_tn X Y u v c - dm_tn X Y u v a) - (X c - X a) * (dm_tn X Y u v b - dm_tn X Y u v a) := by unfold dm_tn; grind
        have i2 : (Y v - Y u) * dm_tn X Y a b c = (Y b - Y a) * (dm_tn X Y u v c - dm_tn X Y u v a) - (Y c - Y a) * (dm_tn X Y u v b - dm_tn X Y u v a) := by unfold dm_tn; grind
        rw [h1, h2, h3] at i1 i2
        have j1 : (X v - X u) * dm_tn X Y a b c = 0 := by rw [i1]; omega
        have j2 : (Y v - Y u) * dm_tn X Y a b c = 0 := by rw [i2]; omega
        rcases Int.mul_eq_zero.mp j1 with k1 | k1
        · rcases Int.mul_eq_zero.mp j2 with k2 | k2
          · exact huv ⟨by omega, by omega⟩
          · exact h k2
        · exact h k1
      · exact ⟨c, sc, h3⟩
    · exact ⟨b, sb, h2⟩
  · exact ⟨a, sa, h1⟩
end
section
/-! plane geometry, second part -/
theorem dm_par {a1 a2 b1 b2 : Int} (h1 : a1 * b2 - a2 * b1 = 0) (h2 : a1 * b1 + a2 * b2 = 0) : (a1 = 0 ∧ a2 = 0) ∨ (b1 = 0 ∧ b2 = 0) := by
  have id : (a1 * a1 + a2 * a2) * (b1 * b1 + b2 * b2) = (a1 * b1 + a2 * b2) * (a1 * b1 + a2 * b2) + (a1 * b2 - a2 * b1) * (a1 * b2 - a2 * b1) := by grind
  rw [h1, h2] at id
  rcases Int.mul_eq_zero.mp (show (a1 * a1 + a2 * a2) * (b1 * b1 + b2 * b2) = 0 by rw [id]; rfl) with h | h
  · exact Or.inl (dm_sqz h)
  · exact Or.inr (dm_sqz h)
theorem dm_g2h {X Y : Nat → Int} {u v1 v2 y1 p : Nat} (hu : u ≠ 24) (hv : v1 ≠ 24)
    (ty : y1 ≠ 24 → 0 < dm_tn X Y u v1 y1) (hb : dm_cf X Y u v1 y1 p) (hd : ¬ dm_cf X Y u v1 y1 v2)
    (hp : 0 < dm_tn X Y u v1 p) (he : dm_ic X Y u v1 p v2 = 0) (hn : ¬ (X v1 = X v2 ∧ Y v1 = Y v2)) (hn2 : ¬ (X u = X v2 ∧ Y u = Y v2))
    (ht : 0 ≤ dm_tn X Y u v1 v2) : False := by
  rw [dm_ic_td] at he
  by_cases e0 : dm_tn X Y u v1 v2 = 0
  · rw [e0] at he
    have d0 : dm_dt X Y u v1 v2 = 0 := by
      rcases Int.mul_eq_zero.mp (show dm_tn X Y u v1 p * dm_dt X Y u v1 v2 = 0 by omega) with h | h
      · omega
      · exact h
    have c0 : (X u - X v2) * (Y v1 - Y v2) - (Y u - Y v2) * (X v1 - X v2) = 0 := by
      rw [← e0]; unfold dm_tn; grind
    rcases dm_par c0 d0 with h | h
    · exact hn2 ⟨by omega, by omega⟩
    · exact hn ⟨by omega, by omega⟩
  · by_cases ey : y1 = 24
    · subst ey
      rw [dm_cf_3 hu hv] at hd
      exact hd (Or.inl (by omega))
    · rw [dm_cf_4 hu hv ey, dm_ic_td] at hb hd
      have := dm_pc2s (ty ey) hp hb (Int.not_lt.mp hd) (by omega)
      omega
/-- two real rim edges out of one corner are one -/
theorem dm_g2a {X Y : Nat → Int} {S : Nat → Prop} {u v1 v2 y1 y2 p : Nat} (hu : u ≠ 24) (hv1 : v1 ≠ 24) (hv2 : v2 ≠ 24)
    (ty1 : y1 ≠ 24 → 0 < dm_tn X Y u v1 y1) (ty2 : y2 ≠ 24 → 0 < dm_tn X Y u v2 y2)
    (hb1 : dm_cf X Y u v1 y1 p) (hb2 : dm_cf X Y u v2 y2 p) (d1 : ∀ q, S q → ¬ dm_cf X Y u v1 y1 q) (d2 : ∀ q, S q → ¬ dm_cf X Y u v2 y2 q)
    (s1 : S v1) (s2 : S v2) (hp1 : 0 < dm_tn X Y u v1 p) (hp2 : 0 < dm_tn X Y u v2 p)
    (n1 : ∀ q, S q → ¬ 0 < dm_ic X Y u v1 p q) (n2 : ∀ q, S q → ¬ 0 < dm_ic X Y u v2 p q)
    (hn : ¬ (X v1 = X v2 ∧ Y v1 = Y v2)) (hn1 : ¬ (X u = X v1 ∧ Y u = Y v1)) (hn2 : ¬ (X u = X v2 ∧ Y u = Y v2)) : False := by
  have a1 := n1 v2 s2
  have a2 := n2 v1 s1
  have a3 := dm_ic_v X Y u v1 p v2
  rcases Int.lt_or_le (dm_tn X Y u v1 v2) 0 with h | h
  · refine dm_g2h hu hv2 ty2 hb2 (d2 v1 s1) hp2 (by omega) (fun e => hn ⟨e.1.symm, e.2.symm⟩) hn1 ?_
    have : dm_tn X Y u v2 v1 = - dm_tn X Y u v1 v2 := by unfold dm_tn; grind
    omega
  · exact dm_g2h hu hv1 ty1 hb1 (d1 v2 s2) hp1 (by omega) hn hn2 h
/-- two rim edges out of the ghost are one -/
theorem dm_g2c {X Y : Nat → Int} {S : Nat → Prop} {v1 v2 y1 y2 p r : Nat}
    (hb1 : dm_by X Y v1 y1 p) (hb2 : dm_by X Y v2 y2 p) (d1 : ∀ q, S q → ¬ dm_by X Y v1 y1 q) (d2 : ∀ q, S q → ¬ dm_by X Y v2 y2 q)
    (n1 : ∀ q, S q → ¬ dm_by X Y v1 p q) (n2 : ∀ q, S q → ¬ dm_by X Y v2 p q) (s1 : S v1) (s2 : S v2)
    (hn : ¬ (X v1 = X v2 ∧ Y v1 = Y v2)) (hp1 : ¬ (X v1 = X p ∧ Y v1 = Y p)) (hp2 : ¬ (X v2 = X p ∧ Y v2 = Y p))
    (sr : S r) (hr : dm_tn X Y v1 v2 r ≠ 0) : False := by
  have t1 : ∀ v y z, dm_tn X Y v y z = ((X y - X p) - (X v - X p)) * ((Y z - Y p) - (Y v - Y p)) - ((Y y - Y p) - (Y v - Y p)) * ((X z - X p) - (X v - X p)) := by
    intro v y z; unfold dm_tn; grind
  have b1 := n1 v2 s2
  have b2 := n2 v1 s1
  have c1 := d1 v2 s2
  have c2 := d2 v1 s1
  have r1 := d1 r sr
  have r2 := d2 r sr
  unfold dm_by at b1 b2 c1 c2 r1 r2 hb1 hb2
  have e1 : dm_tn X Y v1 p v2 = (X v1 - X p) * (Y v2 - Y p) - (Y v1 - Y p) * (X v2 - X p) := by unfold dm_tn; grind
  have e2 : dm_tn X Y v2 p v1 = - ((X v1 - X p) * (Y v2 - Y p) - (Y v1 - Y p) * (X v2 - X p)) := by unfold dm_tn; grind
  have e3 : dm_dt X Y v1 p v2 = ((X v2 - X p) * (X v2 - X p) + (Y v2 - Y p) * (Y v2 - Y p)) - ((X v1 - X p) * (X v2 - X p) + (Y v1 - Y p) * (Y v2 - Y p)) := by unfold dm_dt; grind
  have e4 : dm_dt X Y v2 p v1 = ((X v1 - X p) * (X v1 - X p) + (Y v1 - Y p) * (Y v1 - Y p)) - ((X v1 - X p) * (X v2 - X p) + (Y v1 - Y p) * (Y v2 - Y p)) := by unfold dm_dt; grind
  have f1 : dm_tn X Y v1 y1 p = (X v1 - X p) * (Y y1 - Y p) - (Y v1 - Y p) * (X y1 - X p) := by unfold dm_tn; grind
  have f2 : dm_tn X Y v2 y2 p = (X v2 - X p) * (Y y2 - Y p) - (Y v2 - Y p) * (X y2 - X p) := by unfold dm_tn; grind
  have f3 : dm_dt X Y v1 y1 p = (X v1 - X p) * (X y1 - X p) + (Y v1 - Y p) * (Y y1 - Y p) := rfl
  have f4 : dm_dt X Y v2 y2 p = (X v2 - X p) * (X y2 - X p) + (Y v2 - Y p) * (Y y2 - Y p) := rfl
  rw [e1, e3] at b1
  rw [e2, e4] at b2
  rw [f1, f3] at hb1
  rw [f2, f4] at hb2
  rw [t1 v1 y1 v2] at c1
  rw [t1 v2 y2 v1] at c2
  rw [t1 v1 y1 r] at r1
  rw [t1 v2 y2 r] at r2
  rw [t1 v1 v2 r] at hr
  have hn' : ¬ (X v1 - X p = X v2 - X p ∧ Y v1 - Y p = Y v2 - Y p) := fun e => hn ⟨by omega, by omega⟩
  have hp1' : ¬ (X v1 - X p = 0 ∧ Y v1 - Y p = 0) := fun e => hp1 ⟨by omega, by omega⟩
  have hp2' : ¬ (X v2 - X p = 0 ∧ Y v2 - Y p = 0) := fun e => hp2 ⟨by omega, by omega⟩
  clear e1 e2 e3 e4 f1 f2 f3 f4 t1 hn hp1 hp2 n1 n2 d1 d2
  generalize X v1 - X p = a1 at *
  generalize Y v1 - Y p = a2 at *
  generalize X v2 - X p = b1' at *
  generalize Y v2 - Y p = b2' at *
  generalize X y1 - X p = y11 at *
  generalize Y y1 - Y p = y12 at *
  generalize X y2 - X p = y21 at *
  generalize Y y2 - Y p = y22 at *
  generalize X r - X p = z1 at *
  generalize Y r - Y p = z2 at *
  have k0 : a1 * b2' - a2 * b1' = 0 := by omega
  have pa := dm_sqp hp1'
  have pb := dm_sqp hp2'
  have k1 : a1 * b1' + a2 * b2' ≤ b1' * b1' + b2' * b2' := by omega
  have k2 : a1 * b1' + a2 * b2' ≤ a1 * a1 + a2 * a2 := by omega
  have id : (a1 * a1 + a2 * a2) * (b1' * b1' + b2' * b2') = (a1 * b1' + a2 * b2') * (a1 * b1' + a2 * b2') + (a1 * b2' - a2 * b1') * (a1 * b2' - a2 * b1') := by grind
  rw [k0] at id
  have k3 : a1 * b1' + a2 * b2' < 0 := by
    rcases Int.lt_or_le (a1 * b1' + a2 * b2') 0 with h | h
    · exact h
    · exfalso
      have l1 := dm_gg (a := a1 * a1 + a2 * a2) (b := (b1' * b1' + b2' * b2') - (a1 * b1' + a2 * b2')) (Int.le_of_lt pa) (by omega)
      have l2 := dm_gg (a := a1 * b1' + a2 * b2') (b := (a1 * a1 + a2 * a2) - (a1 * b1' + a2 * b2')) h (by omega)
      have l3 := dm_pp pa pb
      have hpos : 0 < a1 * b1' + a2 * b2' := by
        rcases Int.lt_or_le 0 (a1 * b1' + a2 * b2') with h' | h'
        · exact h'
        · have e0 : a1 * b1' + a2 * b2' = 0 := by omega
          rw [e0] at id; omega
      have id2 : (a1 * a1 + a2 * a2) * ((b1' * b1' + b2' * b2') - (a1 * b1' + a2 * b2')) + (a1 * b1' + a2 * b2') * ((a1 * a1 + a2 * a2) - (a1 * b1' + a2 * b2')) = 0 := by grind
      have m1 : (b1' * b1' + b2' * b2') - (a1 * b1' + a2 * b2') ≤ 0 := dm_dl pa (by omega)
      have m2 : (a1 * a1 + a2 * a2) - (a1 * b1' + a2 * b2') ≤ 0 := dm_dl hpos (by omega)
      have m3 : (a1 - b1') * (a1 - b1') + (a2 - b2') * (a2 - b2') = 0 := by
        have : (a1 - b1') * (a1 - b1') + (a2 - b2') * (a2 - b2') = (a1 * a1 + a2 * a2) + (b1' * b1' + b2' * b2') - 2 * (a1 * b1' + a2 * b2') := by grind
        omega
      have m4 := dm_sqz m3
      exact hn' ⟨by omega, by omega⟩
  -- each of the two outer edges lies on the line, in opposite directions
  have g1 : a1 * y12 - a2 * y11 = 0 ∧ a1 * y11 + a2 * y12 < 0 := by
    have i1 : (a1 * a1 + a2 * a2) * ((y11 - a1) * (b2' - a2) - (y12 - a2) * (b1' - a1)) = ((a1 * a1 + a2 * a2) - (a1 * b1' + a2 * b2')) * (a1 * y12 - a2 * y11) + (a1 * b2' - a2 * b1') * ((a1 * y11 + a2 * y12) - (a1 * a1 + a2 * a2)) := by grind
    rw [k0] at i1
    have i2 := dm_gl (a := a1 * a1 + a2 * a2) (b := (y11 - a1) * (b2' - a2) - (y12 - a2) * (b1' - a1)) (Int.le_of_lt pa) (by omega)
    have i3 : a1 * y12 - a2 * y11 ≤ 0 := dm_dl (k := (a1 * a1 + a2 * a2) - (a1 * b1' + a2 * b2')) (by omega) (by omega)
    omega
  have g2 : b1' * y22 - b2' * y21 = 0 ∧ b1' * y21 + b2' * y22 < 0 := by
    have i1 : (b1' * b1' + b2' * b2') * ((y21 - b1') * (a2 - b2') - (y22 - b2') * (a1 - b1')) = ((b1' * b1' + b2' * b2') - (a1 * b1' + a2 * b2')) * (b1' * y22 - b2' * y21) - (a1 * b2' - a2 * b1') * ((b1' * y21 + b2' * y22) - (b1' * b1' + b2' * b2')) := by grind
    rw [k0] at i1
    have i2 := dm_gl (a := b1' * b1' + b2' * b2') (b := (y21 - b1') * (a2 - b2') - (y22 - b2') * (a1 - b1')) (Int.le_of_lt pb) (by omega)
    have i3 : b1' * y22 - b2' * y21 ≤ 0 := dm_dl (k := (b1' * b1' + b2' * b2') - (a1 * b1' + a2 * b2')) (by omega) (by omega)
    omega
  have h1 : 0 ≤ a1 * z2 - a2 * z1 := by
    have i1 : (a1 * a1 + a2 * a2) * ((y11 - a1) * (z2 - a2) - (y12 - a2) * (z1 - a1)) = ((a1 * y11 + a2 * y12) - (a1 * a1 + a2 * a2)) * (a1 * z2 - a2 * z1) - (a1 * y12 - a2 * y11) * ((a1 * z1 + a2 * z2) - (a1 * a1 + a2 * a2)) := by grind
    rw [g1.1] at i1
    have i2 := dm_gl (a := a1 * a1 + a2 * a2) (b := (y11 - a1) * (z2 - a2) - (y12 - a2) * (z1 - a1)) (Int.le_of_lt pa) (by omega)
    exact dm_dlN (k := (a1 * y11 + a2 * y12) - (a1 * a1 + a2 * a2)) (by omega) (by omega)
  have h2 : 0 ≤ b1' * z2 - b2' * z1 := by
    have i1 : (b1' * b1' + b2' * b2') * ((y21 - b1') * (z2 - b2') - (y22 - b2') * (z1 - b1')) = ((b1' * y21 + b2' * y22) - (b1' * b1' + b2' * b2')) * (b1' * z2 - b2' * z1) - (b1' * y22 - b2' * y21) * ((b1' * z1 + b2' * z2) - (b1' * b1' + b2' * b2')) := by grind
    rw [g2.1] at i1
    have i2 := dm_gl (a := b1' * b1' + b2' * b2') (b := (y21 - b1') * (z2 - b2') - (y22 - b2') * (z1 - b1')) (Int.le_of_lt pb) (by omega)
    exact dm_dlN (k := (b1' * y21 + b2' * y22) - (b1' * b1' + b2' * b2')) (by omega) (by omega)
  have i3 : (a1 * a1 + a2 * a2) * (b1' * z2 - b2' * z1) = (a1 * b1' + a2 * b2') * (a1 * z2 - a2 * z1) + (a1 * b2' - a2 * b1') * (a1 * z1 + a2 * z2) := by grind
  rw [k0] at i3
  have i4 := dm_gg (Int.le_of_lt pa) h2
  have h3 : a1 * z2 - a2 * z1 ≤ 0 := by
    exact dm_dgN (k := a1 * b1' + a2 * b2') k3 (by omega)
  have h4 : a1 * z2 - a2 * z1 = 0 := by omega
  apply hr
  have i5 : (a1 * a1 + a2 * a2) * ((b1' - a1) * (z2 - a2) - (b2' - a2) * (z1 - a1)) = ((a1 * b1' + a2 * b2') - (a1 * a1 + a2 * a2)) * (a1 * z2 - a2 * z1) - (a1 * b2' - a2 * b1') * ((a1 * z1 + a2 * z2) - (a1 * a1 + a2 * a2)) := by grind
  rw [k0, h4] at i5
  rcases Int.mul_eq_zero.mp (show (a1 * a1 + a2 * a2) * ((b1' - a1) * (z2 - a2) - (b2' - a2) * (z1 - a1)) = 0 by omega) with h | h
  · omega
  · exact h
end
section
/-! plane geometry, third part: the point in a triangle, crossings, the star of a corner -/
/-- a point of the closed triangle that is no corner lies inside the circle -/
theorem dm_pt {X Y : Nat → Int} {a b c p : Nat} (h : 0 < dm_tn X Y a b c) (h1 : 0 ≤ dm_tn X Y a b p) (h2 : 0 ≤ dm_tn X Y b c p) (h3 : 0 ≤ dm_tn X Y c a p)
    (na : ¬ (X a = X p ∧ Y a = Y p)) (nb : ¬ (X b = X p ∧ Y b = Y p)) (nc : ¬ (X c = X p ∧ Y c = Y p)) : 0 < dm_ic X Y a b c p := by
  have e1 : dm_tn X Y a b p = (X a - X p) * (Y b - Y p) - (Y a - Y p) * (X b - X p) := by unfold dm_tn; grind
  have e2 : dm_tn X Y b c p = (X b - X p) * (Y c - Y p) - (Y b - Y p) * (X c - X p) := by unfold dm_tn; grind
  have e3 : dm_tn X Y c a p = (X c - X p) * (Y a - Y p) - (Y c - Y p) * (X a - X p) := by unfold dm_tn; grind
  have es := dm_tn_sum X Y a b c p
  rw [← es, e1, e2, e3] at h
  rw [e1] at h1
  rw [e2] at h2
  rw [e3] at h3
  have na' : ¬ (X a - X p = 0 ∧ Y a - Y p = 0) := fun e => na ⟨by omega, by omega⟩
  have nb' : ¬ (X b - X p = 0 ∧ Y b - Y p = 0) := fun e => nb ⟨by omega, by omega⟩
  have nc' : ¬ (X c - X p = 0 ∧ Y c - Y p = 0) := fun e => nc ⟨by omega, by omega⟩
  unfold dm_ic
  clear e1 e2 e3 es na nb nc
  generalize X a - X p = a1 at *
  generalize Y a - Y p = a2 at *
  generalize X b - X p = b1 at *
  generalize Y b - Y p = b2 at *
  generalize X c - X p = c1 at *
  generalize Y c - Y p = c2 at *
  refine dm_dp h ?_
  have id : (a1 * b2 - a2 * b1 + (b1 * c2 - b2 * c1) + (c1 * a2 - c2 * a1)) * ((a1 * a1 + a2 * a2) * (b1 * c2 - b2 * c1) - (b1 * b1 + b2 * b2) * (a1 * c2 - a2 * c1) + (c1 * c1 + c2 * c2) * (a1 * b2 - a2 * b1))
     = (b1 * c2 - b2 * c1) * (c1 * a2 - c2 * a1) * ((a1 - b1) * (a1 - b1) + (a2 - b2) * (a2 - b2)) + (c1 * a2 - c2 * a1) * (a1 * b2 - a2 * b1) * ((b1 - c1) * (b1 - c1) + (b2 - c2) * (b2 - c2)) + (a1 * b2 - a2 * b1) * (b1 * c2 - b2 * c1) * ((c1 - a1) * (c1 - a1) + (c2 - a2) * (c2 - a2)) := by grind
  rw [id]
  have sab : 0 < (a1 - b1) * (a1 - b1) + (a2 - b2) * (a2 - b2) := dm_sqp (fun e => by
    have z1 : b1 = a1 := by omega
    have z2 : b2 = a2 := by omega
    subst z1; subst z2
    have : b1 * b2 - b2 * b1 + (b1 * c2 - b2 * c1) + (c1 * b2 - c2 * b1) = 0 := by grind
    omega)
  have sbc : 0 < (b1 - c1) * (b1 - c1) + (b2 - c2) * (b2 - c2) := dm_sqp (fun e => by
    have z1 : c1 = b1 := by omega
    have z2 : c2 = b2 := by omega
    subst z1; subst z2
    have : a1 * c2 - a2 * c1 + (c1 * c2 - c2 * c1) + (c1 * a2 - c2 * a1) = 0 := by grind
    omega)
  have sca : 0 < (c1 - a1) * (c1 - a1) + (c2 - a2) * (c2 - a2) := dm_sqp (fun e => by
    have z1 : c1 = a1 := by omega
    have z2 : c2 = a2 := by omega
    subst z1; subst z2
    have : c1 * b2 - c2 * b1 + (b1 * c2 - b2 * c1) + (c1 * c2 - c2 * c1) = 0 := by grind
    omega)
  have g1 := dm_gg (dm_gg h2 h3) (Int.le_of_lt sab)
  have g2 := dm_gg (dm_gg h3 h1) (Int.le_of_lt sbc)
  have g3 := dm_gg (dm_gg h1 h2) (Int.le_of_lt sca)
  -- two of the three are positive
  by_cases p1 : 0 < a1 * b2 - a2 * b1
  · by_cases p2 : 0 < b1 * c2 - b2 * c1
    · have := dm_pp (dm_pp p1 p2) sca; omega
    · by_cases p3 : 0 < c1 * a2 - c2 * a1
      · have := dm_pp (dm_pp p3 p1) sbc; omega
      · exfalso
        -- p = c
        have q2 : b1 * c2 - b2 * c1 = 0 := by omega
        have q3 : c1 * a2 - c2 * a1 = 0 := by omega
        have i1 : (a1 * b2 - a2 * b1) * c1 = - ((b1 * c2 - b2 * c1) * a1) - (c1 * a2 - c2 * a1) * b1 := by grind
        have i2 : (a1 * b2 - a2 * b1) * c2 = - ((b1 * c2 - b2 * c1) * a2) - (c1 * a2 - c2 * a1) * b2 := by grind
        rw [q2, q3] at i1 i2
        rcases Int.mul_eq_zero.mp (show (a1 * b2 - a2 * b1) * c1 = 0 by omega) with k | k
        · omega
        · rcases Int.mul_eq_zero.mp (show (a1 * b2 - a2 * b1) * c2 = 0 by omega) with l | l
          · omega
          · exact nc' ⟨k, l⟩
  · have q1 : a1 * b2 - a2 * b1 = 0 := by omega
    by_cases p2 : 0 < b1 * c2 - b2 * c1
    · by_cases p3 : 0 < c1 * a2 - c2 * a1
      · have := dm_pp (dm_pp p2 p3) sab; omega
      · exfalso
        have q3 : c1 * a2 - c2 * a1 = 0 := by omega
        have i1 : (b1 * c2 - b2 * c1) * a1 = - ((c1 * a2 - c2 * a1) * b1) - (a1 * b2 - a2 * b1) * c1 := by grind
        have i2 : (b1 * c2 - b2 * c1) * a2 = - ((c1 * a2 - c2 * a1) * b2) - (a1 * b2 - a2 * b1) * c2 := by grind
        rw [q1, q3] at i1 i2
        rcases Int.mul_eq_zero.mp (show (b1 * c2 - b2 * c1) * a1 = 0 by omega) with k | k
        · omega
        · rcases Int.mul_eq_zero.mp (show (b1 * c2 - b2 * c1) * a2 = 0 by omega) with l | l
          · omega
          · exact na' ⟨k, l⟩
    · exfalso
      have q2 : b1 * c2 - b2 * c1 = 0 := by omega
      have i1 : (c1 * a2 - c2 * a1) * b1 = - ((b1 * c2 - b2 * c1) * a1) - (a1 * b2 - a2 * b1) * c1 := by grind
      have i2 : (c1 * a2 - c2 * a1) * b2 = - ((b1 * c2 - b2 * c1) * a2) - (a1 * b2 - a2 * b1) * c2 := by grind
      rw [q1, q2] at i1 i2
      rcases Int.mul_eq_zero.mp (show (c1 * a2 - c2 * a1) * b1 = 0 by omega) with k | k
      · omega
      · rcases Int.mul_eq_zero.mp (show (c1 * a2 - c2 * a1) * b2 = 0 by omega) with l | l
        · omega
        · exact nb' ⟨k, l⟩
/-! crossings of the ray from p along (k1, k2) -/
def dm_xs (X Y : Nat → Int) (p : Nat) (k1 k2 : Int) (z : Nat) : Int := k1 * (Y z - Y p) - k2 * (X z - X p)
def dm_xF (s s' t : Int) : Int := (if s ≤ 0 ∧ 0 < s' ∧ 0 < t then 1 else 0) - (if 0 < s ∧ s' ≤ 0 ∧ t < 0 then 1 else 0)
theorem dm_xF_0 {s s' t : Int} (h : ¬ (s ≤ 0 ∧ 0 < s')) (h' : ¬ (0 < s ∧ s' ≤ 0)) : dm_xF s s' t = 0 := by
  unfold dm_xF
  rw [if_neg (fun z => h ⟨z.1, z.2.1⟩), if_neg (fun z => h' ⟨z.1, z.2.1⟩)]; rfl
theorem dm_xF_u {s s' t : Int} (h : 0 < dm_xF s s' t) : s ≤ 0 ∧ 0 < s' ∧ 0 < t := by
  unfold dm_xF at h
  by_cases c : s ≤ 0 ∧ 0 < s' ∧ 0 < t
  · exact c
  · rw [if_neg c] at h
    split at h <;> omega
theorem dm_xF_d {s s' t : Int} (h1 : 0 < s) (h2 : s' ≤ 0) (h3 : 0 ≤ dm_xF s s' t) : 0 ≤ t := by
  unfold dm_xF at h3
  by_cases c : t < 0
  · rw [if_neg (by omega), if_pos ⟨h1, h2, c⟩] at h3
    omega
  · omega
theorem dm_xF_le {s s' t : Int} : dm_xF s s' t ≤ 1 := by
  unfold dm_xF
  split <;> split <;> omega
theorem dm_xF_n {s s' t : Int} (h : t ≤ 0) : dm_xF s s' t ≤ 0 := by
  unfold dm_xF
  rw [if_neg (by omega)]
  split <;> omega
/-- the pattern: the edge from a to b crosses upward -/
theorem dm_xc {sa sb sc ta tb tc : Int} (id : ta * sa + tb * sb + tc * sc = 0) (hs : 0 < dm_xF sa sb tc + dm_xF sb sc ta + dm_xF sc sa tb) (h : 0 < dm_xF sa sb tc) : 0 ≤ tc ∧ 0 ≤ ta ∧ 0 ≤ tb := by
  obtain ⟨u1, u2, u3⟩ := dm_xF_u h
  have l := dm_xF_le (s := sa) (s' := sb) (t := tc)
  by_cases hc : 0 < sc
  · have e1 : dm_xF sb sc ta = 0 := dm_xF_0 (by omega) (by omega)
    have tb0 := dm_xF_d hc u1 (t := tb) (by omega)
    have p1 := dm_gg tb0 (Int.le_of_lt u2)
    have p2 := dm_pp u3 hc
    refine ⟨by omega, ?_, tb0⟩
    rcases Int.lt_or_le ta 0 with h' | h'
    · have := dm_ll (Int.le_of_lt h') u1; omega
    · exact h'
  · have e1 : dm_xF sc sa tb = 0 := dm_xF_0 (by omega) (by omega)
    have ta0 := dm_xF_d u2 (Int.not_lt.mp hc) (t := ta) (by omega)
    have p1 := dm_gl ta0 u1
    have p2 := dm_gl (Int.le_of_lt u3) (Int.not_lt.mp hc)
    refine ⟨by omega, ta0, ?_⟩
    rcases Int.lt_or_le tb 0 with h' | h'
    · have := dm_np h' u2; omega
    · exact h'
theorem dm_xt {X Y : Nat → Int} {p a b c : Nat} {k1 k2 : Int}
    (hs : 0 < dm_xF (dm_xs X Y p k1 k2 a) (dm_xs X Y p k1 k2 b) (dm_tn X Y a b p) + dm_xF (dm_xs X Y p k1 k2 b) (dm_xs X Y p k1 k2 c) (dm_tn X Y b c p) + dm_xF (dm_xs X Y p k1 k2 c) (dm_xs X Y p k1 k2 a) (dm_tn X Y c a p)) :
    0 ≤ dm_tn X Y a b p ∧ 0 ≤ dm_tn X Y b c p ∧ 0 ≤ dm_tn X Y c a p := by
  have id : dm_tn X Y b c p * dm_xs X Y p k1 k2 a + dm_tn X Y c a p * dm_xs X Y p k1 k2 b + dm_tn X Y a b p * dm_xs X Y p k1 k2 c = 0 := by
    unfold dm_tn dm_xs; grind
  by_cases h1 : 0 < dm_xF (dm_xs X Y p k1 k2 a) (dm_xs X Y p k1 k2 b) (dm_tn X Y a b p)
  · exact dm_xc id hs h1
  · by_cases h2 : 0 < dm_xF (dm_xs X Y p k1 k2 b) (dm_xs X Y p k1 k2 c) (dm_tn X Y b c p)
    · have := dm_xc (by omega) (by omega) h2 (sc := dm_xs X Y p k1 k2 a) (ta := dm_tn X Y c a p) (tb := dm_tn X Y a b p)
      omega
    · have := dm_xc (by omega) (by omega) (show 0 < dm_xF (dm_xs X Y p k1 k2 c) (dm_xs X Y p k1 k2 a) (dm_tn X Y c a p) by omega) (sc := dm_xs X Y p k1 k2 b) (ta := dm_tn X Y a b p) (tb := dm_tn X Y b c p)
      omega
theorem dm_xF_as (s s' t : Int) : dm_xF s' s (- t) = - dm_xF s s' t := by
  unfold dm_xF
  by_cases h1 : s ≤ 0 ∧ 0 < s' ∧ 0 < t
  · rw [if_pos h1, if_neg (by omega), if_pos (by omega), if_neg (by omega)]; rfl
  · by_cases h2 : 0 < s ∧ s' ≤ 0 ∧ t < 0
    · rw [if_neg h1, if_pos h2, if_pos (by omega), if_neg (by omega)]; rfl
    · rw [if_neg h1, if_neg h2, if_neg (by omega), if_neg (by omega)]; rfl
/-! the star of a corner a, turned inside out -/
theorem dm_iv {X Y : Nat → Int} {a u v p : Nat} {K ku kv : Int} (hK : 0 < K) (hku : 0 < ku) (hkv : 0 < kv)
    (eu : ku * ((X u - X a) * (X u - X a) + (Y u - Y a) * (Y u - Y a)) = K) (ev : kv * ((X v - X a) * (X v - X a) + (Y v - Y a) * (Y v - Y a)) = K)
    (ht : 0 < dm_tn X Y a u v) (hc : 0 < dm_ic X Y a u v p) :
    ku * ((X p - X a) * (Y u - Y a) - (Y p - Y a) * (X u - X a)) < kv * ((X p - X a) * (Y v - Y a) - (Y p - Y a) * (X v - X a)) := by
  have e1 : dm_tn X Y a u v = (X u - X a) * (Y v - Y a) - (Y u - Y a) * (X v - X a) := rfl
  have e2 : dm_ic X Y a u v p = ((X v - X a) * (X v - X a) + (Y v - Y a) * (Y v - Y a)) * ((X u - X a) * (Y p - Y a) - (Y u - Y a) * (X p - X a)) - ((X u - X a) * (X u - X a) + (Y u - Y a) * (Y u - Y a)) * ((X v - X a) * (Y p - Y a) - (Y v - Y a) * (X p - X a)) - ((X p - X a) * (X p - X a) + (Y p - Y a) * (Y p - Y a)) * ((X u - X a) * (Y v - Y a) - (Y u - Y a) * (X v - X a)) := by
    unfold dm_ic; grind
  rw [e1] at ht
  rw [e2] at hc
  clear e1 e2
  generalize X u - X a = u1 at *
  generalize Y u - Y a = u2 at *
  generalize X v - X a = v1 at *
  generalize Y v - Y a = v2 at *
  generalize X p - X a = p1 at *
  generalize Y p - Y a = p2 at *
  have s1 := dm_sq0 p1
  have s2 := dm_sq0 p2
  have t1 := dm_gg (a := p1 * p1 + p2 * p2) (by omega) (Int.le_of_lt ht)
  have t2 : 0 < (v1 * v1 + v2 * v2) * (u1 * p2 - u2 * p1) - (u1 * u1 + u2 * u2) * (v1 * p2 - v2 * p1) := by omega
  have t3 := dm_pp (dm_pp hku hkv) t2
  have id : ku * kv * ((v1 * v1 + v2 * v2) * (u1 * p2 - u2 * p1) - (u1 * u1 + u2 * u2) * (v1 * p2 - v2 * p1)) = K * (kv * (p1 * v2 - p2 * v1) - ku * (p1 * u2 - p2 * u1)) := by grind
  rw [id] at t3
  have := dm_dp hK t3
  omega
/-! what the law asks of an edge -/
theorem dm_L1 {X Y : Nat → Int} {a b c d : Nat} (h1 : 0 < dm_tn X Y a b c) (h2 : 0 < dm_tn X Y b a d) (h3 : 0 < dm_dt X Y a b c) (h4 : 0 < dm_dt X Y a b d) : dm_ic X Y a b c d < 0 := by
  rw [dm_ic_td]
  rw [dm_tn_sw] at h2
  have t1 := dm_np (a := dm_tn X Y a b d) (by omega) h3
  have t2 := dm_pp h1 h4
  omega
/-- c not nearer to a than b is, off the line ab: outside the circle over ab -/
theorem dm_L2 {X Y : Nat → Int} {a b c : Nat} (h1 : dm_tn X Y a b c ≠ 0)
    (h2 : (X a - X b) * (X a - X b) + (Y a - Y b) * (Y a - Y b) ≤ (X a - X c) * (X a - X c) + (Y a - Y c) * (Y a - Y c)) : 0 < dm_dt X Y a b c := by
  have e1 : dm_dt X Y a b c = ((X a - X c) * (X a - X c) + (Y a - Y c) * (Y a - Y c)) - ((X a - X b) * (X a - X c) + (Y a - Y b) * (Y a - Y c)) := by unfold dm_dt; grind
  have e2 : dm_tn X Y a b c = (X a - X b) * (Y a - Y c) - (Y a - Y b) * (X a - X c) := by unfold dm_tn; grind
  rw [e1]
  rw [e2] at h1
  generalize X a - X b = b1 at *
  generalize Y a - Y b = b2 at *
  generalize X a - X c = c1 at *
  generalize Y a - Y c = c2 at *
  have pc : 0 < c1 * c1 + c2 * c2 := dm_sqp (fun e => h1 (by rw [e.1, e.2]; omega))
  have id : (c1 * c1 + c2 * c2) * (b1 * b1 + b2 * b2) = (b1 * c1 + b2 * c2) * (b1 * c1 + b2 * c2) + (b1 * c2 - b2 * c1) * (b1 * c2 - b2 * c1) := by grind
  have p1 : 0 < (b1 * c2 - b2 * c1) * (b1 * c2 - b2 * c1) := by
    have := dm_sqp (a := b1 * c2 - b2 * c1) (b := 0) (fun e => h1 e.1)
    omega
  rcases Int.lt_or_le (b1 * c1 + b2 * c2) (c1 * c1 + c2 * c2) with h | h
  · omega
  · exfalso
    have p2 := dm_gg (a := (b1 * c1 + b2 * c2) - (c1 * c1 + c2 * c2)) (b := (b1 * c1 + b2 * c2) + (c1 * c1 + c2 * c2)) (by omega) (by omega)
    have p3 := dm_gg (a := c1 * c1 + c2 * c2) (b := (c1 * c1 + c2 * c2) - (b1 * b1 + b2 * b2)) (by omega) (by omega)
    have i2 : ((b1 * c1 + b2 * c2) - (c1 * c1 + c2 * c2)) * ((b1 * c1 + b2 * c2) + (c1 * c1 + c2 * c2)) = (b1 * c1 + b2 * c2) * (b1 * c1 + b2 * c2) - (c1 * c1 + c2 * c2) * (c1 * c1 + c2 * c2) := by grind
    have i3 : (c1 * c1 + c2 * c2) * ((c1 * c1 + c2 * c2) - (b1 * b1 + b2 * b2)) = (c1 * c1 + c2 * c2) * (c1 * c1 + c2 * c2) - (c1 * c1 + c2 * c2) * (b1 * b1 + b2 * b2) := by grind
    omega
end
section
/-! the triangulation: half-edges e < 216, triangle e / 3, ghost corner 24 (pure) -/
def dm_nx (e : Nat) : Nat := if e % 3 = 2 then e - 2 else e + 1
theorem dm_nx_0 (t : Nat) : dm_nx (3 * t) = 3 * t + 1 := by unfold dm_nx; rw [if_neg (by omega)]
theorem dm_nx_1 (t : Nat) : dm_nx (3 * t + 1) = 3 * t + 2 := by unfold dm_nx; rw [if_neg (by omega)]
theorem dm_nx_2 (t : Nat) : dm_nx (3 * t + 2) = 3 * t := by unfold dm_nx; rw [if_pos (by omega)]; omega
theorem dm_nx_div (e : Nat) : dm_nx e / 3 = e / 3 := by unfold dm_nx; split <;> omega
theorem dm_nx_lt {e : Nat} (h : e < 216) : dm_nx e < 216 := by unfold dm_nx; split <;> omega
theorem dm_nx_3 (e : Nat) : dm_nx (dm_nx (dm_nx e)) = e := by
  have h : e = 3 * (e / 3) ∨ e = 3 * (e / 3) + 1 ∨ e = 3 * (e / 3) + 2 := by omega
  rcases h with h | h | h <;> rw [h] <;> simp only [dm_nx_0, dm_nx_1, dm_nx_2]
def dm_bt (X Y : Nat → Int) (C : Nat → Nat) (t p : Nat) : Prop := dm_cf X Y (C (3 * t)) (C (3 * t + 1)) (C (3 * t + 2)) p
/-- the points in: few, at different places, not on one line -/
def dm_SB (X Y : Nat → Int) (S : Nat → Prop) : Prop :=
  (∀ i, S i → i < 10) ∧ (∀ i j, S i → S j → X i = X j → Y i = Y j → i = j) ∧ (∃ a b c, S a ∧ S b ∧ S c ∧ dm_tn X Y a b c ≠ 0)
def dm_V (S : Nat → Prop) (al : Nat → Bool) (C : Nat → Nat) : Prop := ∀ e, e < 216 → al (e / 3) = true → (S (C e) ∨ C e = 24) ∧ C e ≠ C (dm_nx e)
def dm_U (al : Nat → Bool) (C : Nat → Nat) : Prop := ∀ e f, e < 216 → f < 216 → al (e / 3) = true → al (f / 3) = true → C e = C f → C (dm_nx e) = C (dm_nx f) → e = f
def dm_X (al : Nat → Bool) (C A : Nat → Nat) : Prop := ∀ e, e < 216 → al (e / 3) = true → ∃ f, f < 216 ∧ al (f / 3) = true ∧ A e = f / 3 ∧ C f = C (dm_nx e) ∧ C (dm_nx f) = C e
def dm_T (X Y : Nat → Int) (al : Nat → Bool) (C : Nat → Nat) : Prop := ∀ t, t < 72 → al t = true → C (3 * t) ≠ 24 → C (3 * t + 1) ≠ 24 → C (3 * t + 2) ≠ 24 → 0 < dm_tn X Y (C (3 * t)) (C (3 * t + 1)) (C (3 * t + 2))
def dm_D (X Y : Nat → Int) (S : Nat → Prop) (al : Nat → Bool) (C : Nat → Nat) : Prop := ∀ t, t < 72 → al t = true → ∀ q, S q → ¬ dm_bt X Y C t q
def dm_K (S : Nat → Prop) (al : Nat → Bool) (C : Nat → Nat) : Prop := ∀ k : Nat → Nat, (∀ e, e < 216 → al (e / 3) = true → C e ≠ 24 → C (dm_nx e) ≠ 24 → k (C e) = k (C (dm_nx e))) → ∀ i j, S i → S j → k i = k j
def dm_TI (X Y : Nat → Int) (S : Nat → Prop) (al : Nat → Bool) (C A : Nat → Nat) : Prop :=
  dm_V S al C ∧ dm_U al C ∧ dm_X al C A ∧ dm_T X Y al C ∧ dm_D X Y S al C ∧ dm_K S al C
section
variable {X Y : Nat → Int} {S : Nat → Prop} {al : Nat → Bool} {C A : Nat → Nat}
theorem dm_al_nx {e : Nat} (h : al (e / 3) = true) : al (dm_nx e / 3) = true := by rw [dm_nx_div]; exact h
/-- the three corners are different -/
theorem dm_d3 (hV : dm_V S al C) {e : Nat} (he : e < 216) (ha : al (e / 3) = true) : C e ≠ C (dm_nx e) ∧ C (dm_nx e) ≠ C (dm_nx (dm_nx e)) ∧ C (dm_nx (dm_nx e)) ≠ C e := by
  refine ⟨(hV e he ha).2, (hV _ (dm_nx_lt he) (dm_al_nx ha)).2, ?_⟩
  have := (hV _ (dm_nx_lt (dm_nx_lt he)) (dm_al_nx (dm_al_nx ha))).2
  rwa [dm_nx_3] at this
theorem dm_cfe (hV : dm_V S al C) {e : Nat} (he : e < 216) (ha : al (e / 3) = true) (p : Nat) : dm_cf X Y (C e) (C (dm_nx e)) (C (dm_nx (dm_nx e))) p = dm_bt X Y C (e / 3) p := by
  have hb : 3 * (e / 3) < 216 := by omega
  have ha0 : al (3 * (e / 3) / 3) = true := by rw [show 3 * (e / 3) / 3 = e / 3 by omega]; exact ha
  obtain ⟨d1, d2, d3⟩ := dm_d3 hV hb ha0
  simp only [dm_nx_0, dm_nx_1] at d1 d2 d3
  unfold dm_bt
  have h : e = 3 * (e / 3) ∨ e = 3 * (e / 3) + 1 ∨ e = 3 * (e / 3) + 2 := by omega
  generalize e / 3 = t at *
  rcases h with h | h | h
  · subst h
    simp only [dm_nx_0, dm_nx_1]
  · subst h
    simp only [dm_nx_1, dm_nx_2, dm_nx_0]
    exact dm_cf_rot d1 d2 d3
  · subst h
    simp only [dm_nx_1, dm_nx_2, dm_nx_0]
    rw [← dm_cf_rot d3 d1 d2]
theorem dm_Te (hT : dm_T X Y al C) {e : Nat} (he : e < 216) (ha : al (e / 3) = true) (h1 : C e ≠ 24) (h2 : C (dm_nx e) ≠ 24) (h3 : C (dm_nx (dm_nx e)) ≠ 24) : 0 < dm_tn X Y (C e) (C (dm_nx e)) (C (dm_nx (dm_nx e))) := by
  have t := hT (e / 3) (by omega) ha
  have h : e = 3 * (e / 3) ∨ e = 3 * (e / 3) + 1 ∨ e = 3 * (e / 3) + 2 := by omega
  generalize e / 3 = s at *
  rcases h with h | h | h
  · subst h
    simp only [dm_nx_0, dm_nx_1] at h1 h2 h3 ⊢
    exact t h1 h2 h3
  · subst h
    simp only [dm_nx_1, dm_nx_2, dm_nx_0] at h1 h2 h3 ⊢
    rw [dm_tn_rot]
    exact t h3 h1 h2
  · subst h
    simp only [dm_nx_1, dm_nx_2, dm_nx_0] at h1 h2 h3 ⊢
    rw [← dm_tn_rot]
    exact t h2 h3 h1
theorem dm_De (hV : dm_V S al C) (hD : dm_D X Y S al C) {e : Nat} (he : e < 216) (ha : al (e / 3) = true) {q : Nat} (hq : S q) : ¬ dm_cf X Y (C e) (C (dm_nx e)) (C (dm_nx (dm_nx e))) q := by
  rw [dm_cfe hV he ha]
  exact hD (e / 3) (by omega) ha q hq
/-- a real corner is a point -/
theorem dm_VS (hV : dm_V S al C) {e : Nat} (he : e < 216) (ha : al (e / 3) = true) (h : C e ≠ 24) : S (C e) := by
  rcases (hV e he ha).1 with z | z
  · exact z
  · exact absurd z h
theorem dm_npos (hB : dm_SB X Y S) {i j : Nat} (hi : S i) (hj : S j) (h : i ≠ j) : ¬ (X i = X j ∧ Y i = Y j) := fun e => h (hB.2.1 i j hi hj e.1 e.2)
theorem dm_off (hB : dm_SB X Y S) {i j : Nat} (hi : S i) (hj : S j) (h : i ≠ j) : ∃ r, S r ∧ dm_tn X Y i j r ≠ 0 := by
  obtain ⟨a, b, c, sa, sb, sc, hn⟩ := hB.2.2
  exact dm_nc sa sb sc hn (dm_npos hB hi hj h)
/-- no two ghosts over one edge -/
theorem dm_GG (hB : dm_SB X Y S) (hV : dm_V S al C) (hD : dm_D X Y S al C) {e f : Nat} (he : e < 216) (hf : f < 216) (ha : al (e / 3) = true) (hb : al (f / 3) = true)
    (h1 : C f = C (dm_nx e)) (h2 : C (dm_nx f) = C e) : ¬ (C (dm_nx (dm_nx e)) = 24 ∧ C (dm_nx (dm_nx f)) = 24) := by
  rintro ⟨g1, g2⟩
  obtain ⟨d1, d2, d3⟩ := dm_d3 hV he ha
  have r1 : C e ≠ 24 := by rw [← g1]; exact fun z => d3 z.symm
  have r2 : C (dm_nx e) ≠ 24 := by rw [← g1]; exact d2
  have s1 := dm_VS hV he ha r1
  have s2 := dm_VS hV (dm_nx_lt he) (dm_al_nx ha) r2
  obtain ⟨r, sr, hr⟩ := dm_off hB s1 s2 d1
  have k1 := dm_De hV hD he ha sr
  have k2 := dm_De hV hD hf hb sr
  rw [g1, dm_cf_3 r1 r2] at k1
  rw [g2, h1, h2, dm_cf_3 r2 r1] at k2
  have e1 := dm_tn_sw X Y (C e) (C (dm_nx e)) r
  unfold dm_by at k1 k2
  omega
/-- over a closed set of half-edges an antisymmetric function sums to 0 -/
theorem dm_tsum (hU : dm_U al C) (hX : dm_X al C A) (P : Nat → Bool) (g : Nat → Nat → Int) (hg : ∀ u v, g v u = - g u v)
    (hP : ∀ e, e < 216 → P e = true → al (e / 3) = true)
    (hc : ∀ e f, e < 216 → f < 216 → P e = true → al (f / 3) = true → A e = f / 3 → C f = C (dm_nx e) → C (dm_nx f) = C e → P f = true) :
    dm_sm (fun e => if P e = true then g (C e) (C (dm_nx e)) else 0) 216 = 0 := by
  refine dm_pair 216 P (fun e f => (C f == C (dm_nx e)) && (C (dm_nx f) == C e)) (fun e => g (C e) (C (dm_nx e))) ?_ ?_ ?_ ?_
  · intro e he pe
    obtain ⟨f, hf, af, a1, c1, c2⟩ := hX e he (hP e he pe)
    exact ⟨f, hf, hc e f he hf pe af a1 c1 c2, by simp [c1, c2]⟩
  · intro e f f' he hf hf' pe pf pf' r r'
    simp only [Bool.and_eq_true, beq_iff_eq] at r r'
    exact hU f f' hf hf' (hP f hf pf) (hP f' hf' pf') (by rw [r.1, r'.1]) (by rw [r.2, r'.2])
  · intro e f r
    simp only [Bool.and_eq_true, beq_iff_eq] at r ⊢
    exact ⟨r.2.symm, r.1.symm⟩
  · intro e f he hf pe pf r
    simp only [Bool.and_eq_true, beq_iff_eq] at r
    show g (C f) (C (dm_nx f)) = - g (C e) (C (dm_nx e))
    rw [r.1, r.2]
    exact hg _ _
theorem dm_tsumB (hU : dm_U al C) (hX : dm_X al C A) (B : Nat → Bool) (g : Nat → Nat → Int) (hg : ∀ u v, g v u = - g u v)
    (hB : ∀ t, t < 72 → B t = true → al t = true) (hc : ∀ e, e < 216 → B (e / 3) = true → B (A e) = true) :
    dm_sm (fun t => if B t = true then g (C (3 * t)) (C (3 * t + 1)) + g (C (3 * t + 1)) (C (3 * t + 2)) + g (C (3 * t + 2)) (C (3 * t)) else 0) 72 = 0 := by
  have h := dm_tsum hU hX (fun e => B (e / 3)) g hg (fun e he b => hB (e / 3) (by omega) b) (fun e f he hf b af a1 _ _ => by
    have := hc e he b
    rw [a1] at this
    exact this)
  rw [show (216 : Nat) = 3 * 72 by rfl, dm_sm3] at h
  refine Eq.trans (dm_sm_congr 72 (fun t ht => ?_)) h
  rw [show (3 * t) / 3 = t by omega, show (3 * t + 1) / 3 = t by omega, show (3 * t + 2) / 3 = t by omega, dm_nx_0, dm_nx_1, dm_nx_2]
  by_cases b : B t = true
  · simp only [if_pos b]
  · simp only [if_neg b]; rfl
end
end
section
/-! the triangles in conflict with a new point p, and the rim (pure) -/
section
variable {X Y : Nat → Int} {S : Nat → Prop} {al : Nat → Bool} {C A : Nat → Nat} {p : Nat}
/-- area: f u v = turn(u, v, p), 0 at the ghost -/
def dm_ar (X Y : Nat → Int) (p u v : Nat) : Int := if u = 24 ∨ v = 24 then 0 else dm_tn X Y u v p
theorem dm_ar_as (X Y : Nat → Int) (p u v : Nat) : dm_ar X Y p v u = - dm_ar X Y p u v := by
  unfold dm_ar
  by_cases h : u = 24 ∨ v = 24
  · rw [if_pos h, if_pos (Or.symm h)]; rfl
  · rw [if_neg h, if_neg (fun z => h (Or.symm z))]
    exact dm_tn_sw X Y u v p
/-- the three corners of a live triangle: all real, or just one ghost -/
theorem dm_three (hV : dm_V S al C) {t : Nat} (ht : t < 72) (ha : al t = true) : C (3 * t) ≠ C (3 * t + 1) ∧ C (3 * t + 1) ≠ C (3 * t + 2) ∧ C (3 * t + 2) ≠ C (3 * t) := by
  have := dm_d3 hV (e := 3 * t) (by omega) (by rw [show 3 * t / 3 = t by omega]; exact ha)
  simp only [dm_nx_0, dm_nx_1] at this
  exact this
/-- the area sum of one triangle -/
theorem dm_ar3 (a b c : Nat) (h1 : a ≠ b) (h2 : b ≠ c) (h3 : c ≠ a) :
    (a ≠ 24 ∧ b ≠ 24 ∧ c ≠ 24 ∧ dm_ar X Y p a b + dm_ar X Y p b c + dm_ar X Y p c a = dm_tn X Y a b c ∧ dm_cf X Y a b c p = (0 < dm_ic X Y a b c p)) ∨
    (∃ u v, u ≠ 24 ∧ v ≠ 24 ∧ dm_ar X Y p a b + dm_ar X Y p b c + dm_ar X Y p c a = dm_tn X Y u v p ∧ dm_cf X Y a b c p = dm_by X Y u v p ∧ ((a = 24 ∧ b = u ∧ c = v) ∨ (b = 24 ∧ c = u ∧ a = v) ∨ (c = 24 ∧ a = u ∧ b = v))) := by
  unfold dm_ar
  by_cases ha : a = 24
  · right
    have hb : b ≠ 24 := fun z => h1 (by rw [ha, z])
    have hc : c ≠ 24 := fun z => h3 (by rw [ha, z])
    refine ⟨b, c, hb, hc, ?_, ?_, Or.inl ⟨ha, rfl, rfl⟩⟩
    · rw [if_pos (Or.inl ha), if_neg (by omega), if_pos (Or.inr ha)]; omega
    · rw [ha]; exact dm_cf_1
  · by_cases hb : b = 24
    · right
      have hc : c ≠ 24 := fun z => h2 (by rw [hb, z])
      refine ⟨c, a, hc, ha, ?_, ?_, Or.inr (Or.inl ⟨hb, rfl, rfl⟩)⟩
      · rw [if_pos (Or.inr hb), if_pos (Or.inl hb), if_neg (by omega)]; omega
      · rw [hb]; exact dm_cf_2 ha
    · by_cases hc : c = 24
      · right
        refine ⟨a, b, ha, hb, ?_, ?_, Or.inr (Or.inr ⟨hc, rfl, rfl⟩)⟩
        · rw [if_neg (by omega), if_pos (Or.inr hc), if_pos (Or.inl hc)]; omega
        · rw [hc]; exact dm_cf_3 ha hb
      · left
        refine ⟨ha, hb, hc, ?_, dm_cf_4 ha hb hc⟩
        rw [if_neg (by omega), if_neg (by omega), if_neg (by omega)]
        exact dm_tn_sum X Y a b c p
/-- a live triangle has a real neighbour, or is real -/
theorem dm_real (hB : dm_SB X Y S) (hV : dm_V S al C) (hX : dm_X al C A) (hD : dm_D X Y S al C) {t : Nat} (ht : t < 72) (ha : al t = true) :
    (C (3 * t) ≠ 24 ∧ C (3 * t + 1) ≠ 24 ∧ C (3 * t + 2) ≠ 24) ∨ ∃ e, e < 216 ∧ e / 3 = t ∧ A e < 72 ∧ al (A e) = true ∧ C (3 * A e) ≠ 24 ∧ C (3 * A e + 1) ≠ 24 ∧ C (3 * A e + 2) ≠ 24 := by
  have key : ∀ e, e < 216 → e / 3 = t → C (dm_nx (dm_nx e)) = 24 → ∃ e, e < 216 ∧ e / 3 = t ∧ A e < 72 ∧ al (A e) = true ∧ C (3 * A e) ≠ 24 ∧ C (3 * A e + 1) ≠ 24 ∧ C (3 * A e + 2) ≠ 24 := by
    intro e he et eg
    have ha' : al (e / 3) = true := by rw [et]; exact ha
    obtain ⟨f, hf, af, a1, c1, c2⟩ := hX e he ha'
    obtain ⟨d1, d2, d3⟩ := dm_d3 hV he ha'
    have g := dm_GG hB hV hD he hf ha' af c1 c2
    have r1 : C (dm_nx (dm_nx f)) ≠ 24 := fun z => g ⟨eg, z⟩
    have r2 : C f ≠ 24 := by rw [c1, ← eg]; exact d2
    have r3 : C (dm_nx f) ≠ 24 := by rw [c2, ← eg]; exact fun z => d3 z.symm
    refine ⟨e, he, et, by omega, by rw [a1]; exact af, ?_⟩
    rw [a1]
    have h : f = 3 * (f / 3) ∨ f = 3 * (f / 3) + 1 ∨ f = 3 * (f / 3) + 2 := by omega
    generalize f / 3 = s at *
    rcases h with h | h | h
    · subst h
      simp only [dm_nx_0, dm_nx_1] at r1 r2 r3
      exact ⟨r2, r3, r1⟩
    · subst h
      simp only [dm_nx_1, dm_nx_2] at r1 r2 r3
      exact ⟨r1, r2, r3⟩
    · subst h
      simp only [dm_nx_2, dm_nx_0] at r1 r2 r3
      exact ⟨r3, r1, r2⟩
  by_cases h0 : C (3 * t) = 24
  · exact Or.inr (key (3 * t + 1) (by omega) (by omega) (by simp only [dm_nx_1, dm_nx_2]; exact h0))
  · by_cases h1 : C (3 * t + 1) = 24
    · exact Or.inr (key (3 * t + 2) (by omega) (by omega) (by simp only [dm_nx_0, dm_nx_2]; exact h1))
    · by_cases h2 : C (3 * t + 2) = 24
      · exact Or.inr (key (3 * t) (by omega) (by omega) (by simp only [dm_nx_0, dm_nx_1]; exact h2))
      · exact Or.inl ⟨h0, h1, h2⟩
/-- some triangle is alive -/
theorem dm_exal (hB : dm_SB X Y S) (hK : dm_K S al C) : ∃ t, t < 72 ∧ al t = true := by
  by_cases h : ∃ t, t < 72 ∧ al t = true
  · exact h
  · exfalso
    obtain ⟨a, b, c, sa, sb, sc, hn⟩ := hB.2.2
    have := hK (fun i => i) (fun e he ha => absurd ⟨e / 3, by omega, ha⟩ h) a b sa sb
    have e : a = b := this
    subst e
    apply hn
    unfold dm_tn
    grind
/-- a set of triangles closed under 'across', each of non-negative area about p: empty -/
theorem dm_area (hB : dm_SB X Y S) (hV : dm_V S al C) (hU : dm_U al C) (hX : dm_X al C A) (hT : dm_T X Y al C) (hD : dm_D X Y S al C) (B : Nat → Bool)
    (hBa : ∀ t, t < 72 → B t = true → al t = true) (hc : ∀ e, e < 216 → B (e / 3) = true → B (A e) = true)
    (hg : ∀ t, t < 72 → B t = true → ∀ u v, u ≠ 24 → v ≠ 24 → dm_bt X Y C t p = dm_by X Y u v p → (C (3 * t) = 24 ∧ C (3 * t + 1) = u ∧ C (3 * t + 2) = v ∨ C (3 * t + 1) = 24 ∧ C (3 * t + 2) = u ∧ C (3 * t) = v ∨ C (3 * t + 2) = 24 ∧ C (3 * t) = u ∧ C (3 * t + 1) = v) → 0 ≤ dm_tn X Y u v p) :
    ∀ t, t < 72 → ¬ B t = true := by
  have hs := dm_tsumB hU hX B (dm_ar X Y p) (dm_ar_as X Y p) hBa hc
  have tm : ∀ t, t < 72 → 0 ≤ (if B t = true then dm_ar X Y p (C (3 * t)) (C (3 * t + 1)) + dm_ar X Y p (C (3 * t + 1)) (C (3 * t + 2)) + dm_ar X Y p (C (3 * t + 2)) (C (3 * t)) else 0) := by
    intro t ht
    by_cases b : B t = true
    · rw [if_pos b]
      obtain ⟨d1, d2, d3⟩ := dm_three hV ht (hBa t ht b)
      rcases dm_ar3 (X := X) (Y := Y) (p := p) _ _ _ d1 d2 d3 with ⟨r1, r2, r3, e, _⟩ | ⟨u, v, hu, hv, e, ec, w⟩
      · rw [e]; exact Int.le_of_lt (hT t ht (hBa t ht b) r1 r2 r3)
      · rw [e]; exact hg t ht b u v hu hv ec w
    · rw [if_neg b]; exact Int.le_refl _
  have noreal : ∀ t, t < 72 → B t = true → ¬ (C (3 * t) ≠ 24 ∧ C (3 * t + 1) ≠ 24 ∧ C (3 * t + 2) ≠ 24) := by
    intro t ht b r
    have z := dm_sm_z 72 tm hs t ht
    simp only [if_pos b] at z
    obtain ⟨d1, d2, d3⟩ := dm_three hV ht (hBa t ht b)
    rcases dm_ar3 (X := X) (Y := Y) (p := p) _ _ _ d1 d2 d3 with ⟨r1, r2, r3, e, _⟩ | ⟨u, v, hu, hv, e, ec, w⟩
    · have := hT t ht (hBa t ht b) r1 r2 r3
      omega
    · rcases w with w | w | w
      · exact r.1 w.1
      · exact r.2.1 w.1
      · exact r.2.2 w.1
  intro t ht b
  rcases dm_real hB hV hX hD ht (hBa t ht b) with r | ⟨e, he, et, a1, a2, r⟩
  · exact noreal t ht b r
  · exact noreal (A e) a1 (hc e he (by rw [et]; exact b)) r
/-- crossings of a ray -/
def dm_xr (X Y : Nat → Int) (p : Nat) (k1 k2 : Int) (u v : Nat) : Int := if u = 24 ∨ v = 24 then 0 else dm_xF (dm_xs X Y p k1 k2 u) (dm_xs X Y p k1 k2 v) (dm_tn X Y u v p)
theorem dm_xr_as (X Y : Nat → Int) (p : Nat) (k1 k2 : Int) (u v : Nat) : dm_xr X Y p k1 k2 v u = - dm_xr X Y p k1 k2 u v := by
  unfold dm_xr
  by_cases h : u = 24 ∨ v = 24
  · rw [if_pos h, if_pos (Or.symm h)]; rfl
  · rw [if_neg h, if_neg (fun z => h (Or.symm z)), dm_tn_sw X Y u v p]
    exact dm_xF_as _ _ _
theorem dm_xr3 (k1 k2 : Int) (a b c : Nat) :
    (a ≠ 24 → b ≠ 24 → c ≠ 24 → dm_xr X Y p k1 k2 a b + dm_xr X Y p k1 k2 b c + dm_xr X Y p k1 k2 c a = dm_xF (dm_xs X Y p k1 k2 a) (dm_xs X Y p k1 k2 b) (dm_tn X Y a b p) + dm_xF (dm_xs X Y p k1 k2 b) (dm_xs X Y p k1 k2 c) (dm_tn X Y b c p) + dm_xF (dm_xs X Y p k1 k2 c) (dm_xs X Y p k1 k2 a) (dm_tn X Y c a p)) ∧
    (∀ u v, u ≠ 24 → v ≠ 24 → ((a = 24 ∧ b = u ∧ c = v) ∨ (b = 24 ∧ c = u ∧ a = v) ∨ (c = 24 ∧ a = u ∧ b = v)) → dm_xr X Y p k1 k2 a b + dm_xr X Y p k1 k2 b c + dm_xr X Y p k1 k2 c a = dm_xF (dm_xs X Y p k1 k2 u) (dm_xs X Y p k1 k2 v) (dm_tn X Y u v p)) := by
  unfold dm_xr
  constructor
  · intro ha hb hc
    rw [if_neg (by omega), if_neg (by omega), if_neg (by omega)]
  · intro u v hu hv w
    rcases w with ⟨w1, w2, w3⟩ | ⟨w1, w2, w3⟩ | ⟨w1, w2, w3⟩
    · rw [if_pos (Or.inl w1), if_neg (by omega), if_pos (Or.inr w1), w2, w3]; omega
    · rw [if_pos (Or.inr w1), if_pos (Or.inl w1), if_neg (by omega), w2, w3]; omega
    · rw [if_neg (by omega), if_pos (Or.inr w1), if_pos (Or.inl w1), w2, w3]; omega
/-- a new place is in conflict with some triangle -/
theorem dm_exbad (hB : dm_SB X Y S) (hV : dm_V S al C) (hU : dm_U al C) (hX : dm_X al C A) (hT : dm_T X Y al C) (hD : dm_D X Y S al C) (hK : dm_K S al C)
    (hp : ∀ i, S i → ¬ (X i = X p ∧ Y i = Y p)) : ∃ t, t < 72 ∧ al t = true ∧ dm_bt X Y C t p := by
  by_cases hh : ∃ t, t < 72 ∧ al t = true ∧ dm_bt X Y C t p
  · exact hh
  exfalso
  have no : ∀ t, t < 72 → al t = true → ¬ dm_bt X Y C t p := fun t ht ha hc => hh ⟨t, ht, ha, hc⟩
  have clos : ∀ e, e < 216 → al (e / 3) = true → al (A e) = true := by
    intro e he ha
    obtain ⟨f, hf, af, a1, _⟩ := hX e he ha
    rw [a1]; exact af
  -- an outer edge that p lies inside of
  have ex : ∃ t u v, t < 72 ∧ al t = true ∧ u ≠ 24 ∧ v ≠ 24 ∧ dm_tn X Y u v p < 0 ∧ (C (3 * t) = 24 ∧ C (3 * t + 1) = u ∧ C (3 * t + 2) = v ∨ C (3 * t + 1) = 24 ∧ C (3 * t + 2) = u ∧ C (3 * t) = v ∨ C (3 * t + 2) = 24 ∧ C (3 * t) = u ∧ C (3 * t + 1) = v) := by
    by_cases h : ∃ t u v, t < 72 ∧ al t = true ∧ u ≠ 24 ∧ v ≠ 24 ∧ dm_tn X Y u v p < 0 ∧ (C (3 * t) = 24 ∧ C (3 * t + 1) = u ∧ C (3 * t + 2) = v ∨ C (3 * t + 1) = 24 ∧ C (3 * t + 2) = u ∧ C (3 * t) = v ∨ C (3 * t + 2) = 24 ∧ C (3 * t) = u ∧ C (3 * t + 1) = v)
    · exact h
    · exfalso
      obtain ⟨t, ht, ha⟩ := dm_exal hB hK
      refine dm_area (p := p) hB hV hU hX hT hD al (fun t ht b => b) clos (fun t ht b u v hu hv _ w => ?_) t ht ha
      rcases Int.lt_or_le (dm_tn X Y u v p) 0 with h' | h'
      · exact absurd ⟨t, u, v, ht, b, hu, hv, h', w⟩ h
      · exact h'
  obtain ⟨t0, u0, v0, ht0, ha0, hu0, hv0, hn0, w0⟩ := ex
  let k1 := (X u0 - X p) + (X v0 - X p)
  let k2 := (Y u0 - Y p) + (Y v0 - Y p)
  have hs := dm_tsumB hU hX al (dm_xr X Y p k1 k2) (dm_xr_as X Y p k1 k2) (fun t ht b => b) clos
  have tm : ∀ t, t < 72 → (if al t = true then dm_xr X Y p k1 k2 (C (3 * t)) (C (3 * t + 1)) + dm_xr X Y p k1 k2 (C (3 * t + 1)) (C (3 * t + 2)) + dm_xr X Y p k1 k2 (C (3 * t + 2)) (C (3 * t)) else 0) ≤ 0 := by
    intro t ht
    by_cases b : al t = true
    · rw [if_pos b]
      obtain ⟨d1, d2, d3⟩ := dm_three hV ht b
      have nb := no t ht b
      unfold dm_bt at nb
      rcases dm_ar3 (X := X) (Y := Y) (p := p) _ _ _ d1 d2 d3 with ⟨r1, r2, r3, e, ec⟩ | ⟨u, v, hu, hv, e, ec, w⟩
      · rw [(dm_xr3 k1 k2 _ _ _).1 r1 r2 r3]
        rcases Int.lt_or_le 0 (dm_xF (dm_xs X Y p k1 k2 (C (3 * t))) (dm_xs X Y p k1 k2 (C (3 * t + 1))) (dm_tn X Y (C (3 * t)) (C (3 * t + 1)) p) + dm_xF (dm_xs X Y p k1 k2 (C (3 * t + 1))) (dm_xs X Y p k1 k2 (C (3 * t + 2))) (dm_tn X Y (C (3 * t + 1)) (C (3 * t + 2)) p) + dm_xF (dm_xs X Y p k1 k2 (C (3 * t + 2))) (dm_xs X Y p k1 k2 (C (3 * t))) (dm_tn X Y (C (3 * t + 2)) (C (3 * t)) p)) with h | h
        · exfalso
          obtain ⟨q1, q2, q3⟩ := dm_xt h
          apply nb
          rw [ec]
          have vs : ∀ i, i < 3 → C (3 * t + i) ≠ 24 → S (C (3 * t + i)) := fun i hi hne => dm_VS hV (by omega) (by rw [show (3 * t + i) / 3 = t by omega]; exact b) hne
          exact dm_pt (hT t ht b r1 r2 r3) q1 q2 q3 (hp _ (vs 0 (by omega) r1)) (hp _ (vs 1 (by omega) r2)) (hp _ (vs 2 (by omega) r3))
        · exact h
      · rw [(dm_xr3 k1 k2 _ _ _).2 u v hu hv w]
        rw [ec] at nb
        unfold dm_by at nb
        exact dm_xF_n (by omega)
    · rw [if_neg b]; exact Int.le_refl _
  have hneg : dm_sm (fun t => - (if al t = true then dm_xr X Y p k1 k2 (C (3 * t)) (C (3 * t + 1)) + dm_xr X Y p k1 k2 (C (3 * t + 1)) (C (3 * t + 2)) + dm_xr X Y p k1 k2 (C (3 * t + 2)) (C (3 * t)) else 0)) 72 = 0 := by
    rw [dm_sm_neg, hs]; rfl
  have z := dm_sm_z 72 (fun t ht => by have := tm t ht; omega) hneg t0 ht0
  simp only [if_pos ha0] at z
  rw [(dm_xr3 k1 k2 _ _ _).2 u0 v0 hu0 hv0 w0] at z
  have x1 : dm_xs X Y p k1 k2 u0 = - dm_tn X Y u0 v0 p := by
    show ((X u0 - X p) + (X v0 - X p)) * (Y u0 - Y p) - ((Y u0 - Y p) + (Y v0 - Y p)) * (X u0 - X p) = _
    unfold dm_tn; grind
  have x2 : dm_xs X Y p k1 k2 v0 = dm_tn X Y u0 v0 p := by
    show ((X u0 - X p) + (X v0 - X p)) * (Y v0 - Y p) - ((Y u0 - Y p) + (Y v0 - Y p)) * (X v0 - X p) = _
    unfold dm_tn; grind
  have := dm_xF_d (s := dm_xs X Y p k1 k2 u0) (s' := dm_xs X Y p k1 k2 v0) (t := dm_tn X Y u0 v0 p) (by omega) (by omega) (by omega)
  omega
end
end
section
/-! the rim of the hole, continued (pure) -/
def dm_rm (bd : Nat → Bool) (A : Nat → Nat) (e : Nat) : Bool := bd (e / 3) && !(bd (A e))
section
variable {X Y : Nat → Int} {S : Nat → Prop} {al bd : Nat → Bool} {C A : Nat → Nat} {p : Nat}
/-- the twin of a half-edge, and back -/
theorem dm_tw (hU : dm_U al C) (hX : dm_X al C A) {e f : Nat} (he : e < 216) (hf : f < 216) (ha : al (e / 3) = true) (hb : al (f / 3) = true) (h1 : C f = C (dm_nx e)) (h2 : C (dm_nx f) = C e) : A e = f / 3 ∧ A f = e / 3 := by
  constructor
  · obtain ⟨g, hg, ag, a1, c1, c2⟩ := hX e he ha
    have : g = f := hU g f hg hf ag hb (by rw [c1, h1]) (by rw [c2, h2])
    rw [a1, this]
  · obtain ⟨g, hg, ag, a1, c1, c2⟩ := hX f hf hb
    have : g = e := hU g e hg he ag ha (by rw [c1, h2]) (by rw [c2, h1])
    rw [a1, this]
theorem dm_exrim (hB : dm_SB X Y S) (hV : dm_V S al C) (hU : dm_U al C) (hX : dm_X al C A) (hT : dm_T X Y al C) (hD : dm_D X Y S al C) (hK : dm_K S al C)
    (hp : ∀ i, S i → ¬ (X i = X p ∧ Y i = Y p)) (hbd : ∀ t, t < 72 → (bd t = true ↔ al t = true ∧ dm_bt X Y C t p)) : ∃ e, e < 216 ∧ dm_rm bd A e = true := by
  by_cases h : ∃ e, e < 216 ∧ dm_rm bd A e = true
  · exact h
  · exfalso
    obtain ⟨t, ht, ha, hc⟩ := dm_exbad hB hV hU hX hT hD hK hp
    refine dm_area (p := p) hB hV hU hX hT hD bd (fun t ht b => ((hbd t ht).mp b).1) (fun e he b => ?_) (fun t ht b u v hu hv ec _ => ?_) t ht ((hbd t ht).mpr ⟨ha, hc⟩)
    · by_cases q : bd (A e) = true
      · exact q
      · exact absurd ⟨e, he, by unfold dm_rm; simp [b, q]⟩ h
    · have := ((hbd t ht).mp b).2
      rw [ec] at this
      unfold dm_by at this
      omega
/-- what stands at a rim half-edge -/
theorem dm_rimE (hV : dm_V S al C) (hX : dm_X al C A) (hbd : ∀ t, t < 72 → (bd t = true ↔ al t = true ∧ dm_bt X Y C t p)) {e : Nat} (he : e < 216) (hr : dm_rm bd A e = true) :
    al (e / 3) = true ∧ dm_cf X Y (C e) (C (dm_nx e)) (C (dm_nx (dm_nx e))) p ∧ ∃ f, f < 216 ∧ al (f / 3) = true ∧ bd (f / 3) = false ∧ A e = f / 3 ∧ C f = C (dm_nx e) ∧ C (dm_nx f) = C e ∧ ¬ dm_cf X Y (C (dm_nx e)) (C e) (C (dm_nx (dm_nx f))) p := by
  have hr' : bd (e / 3) = true ∧ bd (A e) = false := by simpa [dm_rm] using hr
  obtain ⟨h1, h2⟩ := (hbd _ (by omega)).mp hr'.1
  obtain ⟨f, hf, af, a1, c1, c2⟩ := hX e he h1
  refine ⟨h1, by rw [dm_cfe hV he h1]; exact h2, f, hf, af, by rw [← a1]; exact hr'.2, a1, c1, c2, ?_⟩
  rw [← c1, ← c2, dm_cfe hV hf af]
  intro z
  have := (hbd _ (by omega)).mpr ⟨af, z⟩
  rw [← a1, hr'.2] at this
  exact absurd this (by decide)
/-- the new triangle over a rim edge: no point in conflict, and ccw if real -/
theorem dm_rimD (hB : dm_SB X Y S) (hV : dm_V S al C) (hX : dm_X al C A) (hT : dm_T X Y al C) (hD : dm_D X Y S al C)
    (hp24 : p ≠ 24) (hbd : ∀ t, t < 72 → (bd t = true ↔ al t = true ∧ dm_bt X Y C t p)) {e : Nat} (he : e < 216) (hr : dm_rm bd A e = true) :
    (C e ≠ 24 → C (dm_nx e) ≠ 24 → 0 < dm_tn X Y (C e) (C (dm_nx e)) p) ∧ ∀ q, S q → ¬ dm_cf X Y (C e) (C (dm_nx e)) p q := by
  obtain ⟨ha, hb, f, hf, af, _, a1, c1, c2, hg⟩ := dm_rimE hV hX hbd he hr
  obtain ⟨d1, d2, d3⟩ := dm_d3 hV he ha
  have dy : ∀ q, S q → ¬ dm_cf X Y (C e) (C (dm_nx e)) (C (dm_nx (dm_nx e))) q := fun q sq => dm_De hV hD he ha sq
  have dx : ∀ q, S q → ¬ dm_cf X Y (C (dm_nx e)) (C e) (C (dm_nx (dm_nx f))) q := fun q sq => by
    rw [← c1, ← c2]; exact dm_De hV hD hf af sq
  obtain ⟨f1, f2, f3⟩ := dm_d3 hV hf af
  rw [c1, c2] at f1
  rw [c2] at f2
  rw [c1] at f3
  have sx : C (dm_nx (dm_nx f)) ≠ 24 → S (C (dm_nx (dm_nx f))) := fun h => dm_VS hV (dm_nx_lt (dm_nx_lt hf)) (dm_al_nx (dm_al_nx af)) h
  have sy : C (dm_nx (dm_nx e)) ≠ 24 → S (C (dm_nx (dm_nx e))) := fun h => dm_VS hV (dm_nx_lt (dm_nx_lt he)) (dm_al_nx (dm_al_nx ha)) h
  have gg := dm_GG hB hV hD he hf ha af c1 c2
  by_cases eu : C e = 24
  · have hv : C (dm_nx e) ≠ 24 := fun z => d1 (by rw [eu, z])
    have hy : C (dm_nx (dm_nx e)) ≠ 24 := fun z => d3 (by rw [eu, z])
    have hx : C (dm_nx (dm_nx f)) ≠ 24 := fun z => f2 (by rw [eu, z])
    have sv := dm_VS hV (dm_nx_lt he) (dm_al_nx ha) hv
    rw [eu] at hb hg dy dx
    rw [dm_cf_1] at hb
    rw [dm_cf_2 hv] at hg
    refine ⟨fun z => absurd eu z, fun q sq => ?_⟩
    rw [eu, dm_cf_1]
    obtain ⟨r, sr, hr'⟩ := dm_off hB (sy hy) sv (fun z => d2 z.symm)
    refine dm_g1c (S := S) hb hg (fun q sq => ?_) (fun q sq => ?_) (sx hx) (dm_npos hB (sy hy) sv (fun z => d2 z.symm)) (dm_npos hB (sx hx) sv f3) sr hr' q sq
    · have := dy q sq
      rwa [dm_cf_1] at this
    · have := dx q sq
      rwa [dm_cf_2 hv] at this
  · have su := dm_VS hV he ha eu
    by_cases ev : C (dm_nx e) = 24
    · have hy : C (dm_nx (dm_nx e)) ≠ 24 := fun z => d2 (by rw [ev, z])
      have hx : C (dm_nx (dm_nx f)) ≠ 24 := fun z => f3 (by rw [ev, z])
      rw [ev] at hb hg dy dx
      rw [dm_cf_2 eu] at hb
      rw [dm_cf_1] at hg
      refine ⟨fun _ z => absurd ev z, fun q sq => ?_⟩
      rw [ev, dm_cf_2 eu]
      obtain ⟨r, sr, hr'⟩ := dm_off hB (sy hy) su d3
      refine dm_g1b (S := S) hb hg (fun q sq => ?_) (fun q sq => ?_) (sx hx) (dm_npos hB (sy hy) su d3) (dm_npos hB (sx hx) su (fun z => f2 z.symm)) sr hr' q sq
      · have := dy q sq
        rwa [dm_cf_2 eu] at this
      · have := dx q sq
        rwa [dm_cf_1] at this
    · have k := dm_g1a (S := S) eu ev (fun hy => dm_Te hT he ha eu ev hy) (fun hx => by
        have := dm_Te hT hf af (by rw [c1]; exact ev) (by rw [c2]; exact eu) hx
        rwa [c1, c2] at this) gg hb hg dy dx sx
      refine ⟨fun _ _ => k.1, fun q sq => ?_⟩
      rw [dm_cf_4 eu ev hp24]
      exact k.2 q sq
/-- starts of rim edges are unique -/
theorem dm_us (hB : dm_SB X Y S) (hV : dm_V S al C) (hU : dm_U al C) (hX : dm_X al C A) (hT : dm_T X Y al C) (hD : dm_D X Y S al C)
    (hp24 : p ≠ 24) (hp : ∀ i, S i → ¬ (X i = X p ∧ Y i = Y p)) (hbd : ∀ t, t < 72 → (bd t = true ↔ al t = true ∧ dm_bt X Y C t p))
    {e f : Nat} (he : e < 216) (hf : f < 216) (hr : dm_rm bd A e = true) (hr' : dm_rm bd A f = true) (hs : C e = C f) : e = f := by
  obtain ⟨ha, hb, _⟩ := dm_rimE hV hX hbd he hr
  obtain ⟨ha', hb', _⟩ := dm_rimE hV hX hbd hf hr'
  refine hU e f he hf ha ha' hs ?_
  by_cases hne : C (dm_nx e) = C (dm_nx f)
  · exact hne
  exfalso
  obtain ⟨t1, n1⟩ := dm_rimD hB hV hX hT hD hp24 hbd he hr
  obtain ⟨t2, n2⟩ := dm_rimD hB hV hX hT hD hp24 hbd hf hr'
  have dy : ∀ q, S q → ¬ dm_cf X Y (C e) (C (dm_nx e)) (C (dm_nx (dm_nx e))) q := fun q sq => dm_De hV hD he ha sq
  have dy' : ∀ q, S q → ¬ dm_cf X Y (C f) (C (dm_nx f)) (C (dm_nx (dm_nx f))) q := fun q sq => dm_De hV hD hf ha' sq
  obtain ⟨d1, d2, d3⟩ := dm_d3 hV he ha
  obtain ⟨f1, f2, f3⟩ := dm_d3 hV hf ha'
  rw [← hs] at hb' n2 dy' f1 f3 t2
  have sv : C (dm_nx e) ≠ 24 → S (C (dm_nx e)) := fun h => dm_VS hV (dm_nx_lt he) (dm_al_nx ha) h
  have sv' : C (dm_nx f) ≠ 24 → S (C (dm_nx f)) := fun h => dm_VS hV (dm_nx_lt hf) (dm_al_nx ha') h
  by_cases eu : C e = 24
  · have hv : C (dm_nx e) ≠ 24 := fun z => d1 (by rw [eu, z])
    have hv' : C (dm_nx f) ≠ 24 := fun z => f1 (by rw [eu, z])
    rw [eu] at hb hb' dy dy' n1 n2
    rw [dm_cf_1] at hb hb'
    obtain ⟨r, sr, hr0⟩ := dm_off hB (sv hv) (sv' hv') hne
    exact dm_g2c (S := S) hb hb' (fun q sq => by have := dy q sq; rwa [dm_cf_1] at this) (fun q sq => by have := dy' q sq; rwa [dm_cf_1] at this)
      (fun q sq => by have := n1 q sq; rwa [dm_cf_1] at this) (fun q sq => by have := n2 q sq; rwa [dm_cf_1] at this) (sv hv) (sv' hv')
      (dm_npos hB (sv hv) (sv' hv') hne) (hp _ (sv hv)) (hp _ (sv' hv')) sr hr0
  · have su := dm_VS hV he ha eu
    by_cases ev : C (dm_nx e) = 24
    · have hv' : C (dm_nx f) ≠ 24 := fun z => hne (by rw [ev, z])
      have k1 := n1 _ (sv' hv')
      have k2 := t2 eu hv'
      rw [ev, dm_cf_2 eu] at k1
      unfold dm_by at k1
      rw [← dm_tn_rot X Y p (C e) (C (dm_nx f))] at k1
      omega
    · by_cases ev' : C (dm_nx f) = 24
      · have k1 := n2 _ (sv ev)
        have k2 := t1 eu ev
        rw [ev', dm_cf_2 eu] at k1
        unfold dm_by at k1
        rw [← dm_tn_rot X Y p (C e) (C (dm_nx e))] at k1
        omega
      · exact dm_g2a (S := S) eu ev ev' (fun hy => dm_Te hT he ha eu ev hy) (fun hy => by
            have := dm_Te hT hf ha' (by rw [← hs]; exact eu) ev' hy
            rwa [← hs] at this) hb hb' dy dy' (sv ev) (sv' ev') (t1 eu ev) (t2 eu ev')
          (fun q sq => by have := n1 q sq; rwa [dm_cf_4 eu ev hp24] at this) (fun q sq => by have := n2 q sq; rwa [dm_cf_4 eu ev' hp24] at this)
          (dm_npos hB (sv ev) (sv' ev') hne) (dm_npos hB su (sv ev) d1) (dm_npos hB su (sv' ev') f1)
/-- at each corner as many rim edges start as end -/
def dm_ct (a u v : Nat) : Int := (if u = a then 1 else 0) - (if v = a then 1 else 0)
theorem dm_cnt (hU : dm_U al C) (hX : dm_X al C A) (hba : ∀ t, t < 72 → bd t = true → al t = true) (a : Nat) :
    dm_sm (fun e => if (dm_rm bd A e && (C e == a)) = true then 1 else 0) 216 = dm_sm (fun e => if (dm_rm bd A e && (C (dm_nx e) == a)) = true then 1 else 0) 216 := by
  have h1 : dm_sm (fun e => if (bd (e / 3) && bd (A e)) = true then dm_ct a (C e) (C (dm_nx e)) else 0) 216 = 0 := by
    refine dm_tsum hU hX (fun e => bd (e / 3) && bd (A e)) (dm_ct a) (fun u v => by unfold dm_ct; omega) (fun e he b => ?_) (fun e f he hf b af a1 c1 c2 => ?_)
    · have b' : bd (e / 3) = true ∧ bd (A e) = true := by simpa using b
      exact hba _ (by omega) b'.1
    · have b' : bd (e / 3) = true ∧ bd (A e) = true := by simpa using b
      have := (dm_tw hU hX he hf (hba _ (by omega) b'.1) af c1 c2).2
      rw [this, ← a1, b'.1, b'.2]; rfl
  have h2 : dm_sm (fun e => if bd (e / 3) = true then dm_ct a (C e) (C (dm_nx e)) else 0) 216 = 0 := by
    rw [show (216 : Nat) = 3 * 72 by rfl, dm_sm3]
    refine Eq.trans (dm_sm_congr 72 (fun t ht => ?_)) (dm_sm_0 72)
    rw [show (3 * t) / 3 = t by omega, show (3 * t + 1) / 3 = t by omega, show (3 * t + 2) / 3 = t by omega, dm_nx_0, dm_nx_1, dm_nx_2]
    by_cases b : bd t = true
    · simp only [if_pos b]; unfold dm_ct; omega
    · simp only [if_neg b]; rfl
  have h3 : dm_sm (fun e => if (dm_rm bd A e && (C e == a)) = true then 1 else 0) 216 + - dm_sm (fun e => if (dm_rm bd A e && (C (dm_nx e) == a)) = true then 1 else 0) 216 + dm_sm (fun e => if (bd (e / 3) && bd (A e)) = true then dm_ct a (C e) (C (dm_nx e)) else 0) 216 = dm_sm (fun e => if bd (e / 3) = true then dm_ct a (C e) (C (dm_nx e)) else 0) 216 := by
    rw [← dm_sm_neg, ← dm_sm_add, ← dm_sm_add]
    refine dm_sm_congr 216 (fun e he => ?_)
    unfold dm_rm dm_ct
    cases bd (e / 3) <;> cases bd (A e) <;> simp <;> omega
  omega
end
end
section
/-! rim: ends, and every real corner of a bad triangle is on the rim (pure) -/
section
variable {X Y : Nat → Int} {S : Nat → Prop} {al bd : Nat → Bool} {C A : Nat → Nat} {p : Nat}
theorem dm_01 {Q : Nat → Bool} : ∀ e, e < 216 → (0 : Int) ≤ (if Q e = true then 1 else 0) := by
  intro e _
  split <;> omega
/-- with unique starts: start iff end, and unique ends -/
theorem dm_ends (hU : dm_U al C) (hX : dm_X al C A) (hba : ∀ t, t < 72 → bd t = true → al t = true)
    (us : ∀ e f, e < 216 → f < 216 → dm_rm bd A e = true → dm_rm bd A f = true → C e = C f → e = f) :
    (∀ e, e < 216 → dm_rm bd A e = true → ∃ f, f < 216 ∧ dm_rm bd A f = true ∧ C (dm_nx f) = C e) ∧
    (∀ e, e < 216 → dm_rm bd A e = true → ∃ f, f < 216 ∧ dm_rm bd A f = true ∧ C f = C (dm_nx e)) ∧
    (∀ e f, e < 216 → f < 216 → dm_rm bd A e = true → dm_rm bd A f = true → C (dm_nx e) = C (dm_nx f) → e = f) := by
  refine ⟨fun e he hr => ?_, fun e he hr => ?_, fun e f he hf hr hr' hs => ?_⟩
  · have c := dm_cnt (bd := bd) hU hX hba (C e)
    have g := dm_sm_ge 216 (dm_01 (Q := fun i => dm_rm bd A i && (C i == C e))) e he
    simp only [hr, beq_self_eq_true, Bool.and_self, if_true] at g
    obtain ⟨f, hf, h⟩ := dm_sm_pos (f := fun i => if (dm_rm bd A i && (C (dm_nx i) == C e)) = true then 1 else 0) 216 (by omega)
    by_cases q : (dm_rm bd A f && (C (dm_nx f) == C e)) = true
    · have q' : dm_rm bd A f = true ∧ C (dm_nx f) = C e := by simpa using q
      exact ⟨f, hf, q'.1, q'.2⟩
    · simp only [if_neg q] at h; omega
  · have c := dm_cnt (bd := bd) hU hX hba (C (dm_nx e))
    have g := dm_sm_ge 216 (dm_01 (Q := fun i => dm_rm bd A i && (C (dm_nx i) == C (dm_nx e)))) e he
    simp only [hr, beq_self_eq_true, Bool.and_self, if_true] at g
    obtain ⟨f, hf, h⟩ := dm_sm_pos (f := fun i => if (dm_rm bd A i && (C i == C (dm_nx e))) = true then 1 else 0) 216 (by omega)
    by_cases q : (dm_rm bd A f && (C f == C (dm_nx e))) = true
    · have q' : dm_rm bd A f = true ∧ C f = C (dm_nx e) := by simpa using q
      exact ⟨f, hf, q'.1, q'.2⟩
    · simp only [if_neg q] at h; omega
  · by_cases hef : e = f
    · exact hef
    exfalso
    have c := dm_cnt (bd := bd) hU hX hba (C (dm_nx e))
    have g := dm_sm_ge2 216 (dm_01 (Q := fun i => dm_rm bd A i && (C (dm_nx i) == C (dm_nx e)))) e f he hf hef
    have l := dm_sm_lone (Q := fun i => dm_rm bd A i && (C i == C (dm_nx e))) 216 (fun i j hi hj qi qj => by
      have qi' : dm_rm bd A i = true ∧ C i = C (dm_nx e) := by simpa using qi
      have qj' : dm_rm bd A j = true ∧ C j = C (dm_nx e) := by simpa using qj
      exact us i j hi hj qi'.1 qj'.1 (by rw [qi'.2, qj'.2]))
    simp only [hr, hr', hs, beq_self_eq_true, Bool.and_self, if_true] at g
    simp only [hs] at c l
    omega
/-- weights that make all squares equal -/
theorem dm_kap (τ : Nat → Int) (Q : Nat → Prop) (hτ : ∀ z, Q z → 0 < τ z) : ∀ N, ∃ (K : Int) (κ : Nat → Int), 0 < K ∧ ∀ z, z < N → Q z → 0 < κ z ∧ κ z * τ z = K
  | 0 => ⟨1, fun _ => 1, by omega, fun z hz => absurd hz (by omega)⟩
  | N + 1 => by
    obtain ⟨K, κ, hK, h⟩ := dm_kap τ Q hτ N
    by_cases q : Q N
    · refine ⟨K * τ N, fun z => if z = N then K else κ z * τ N, dm_pp hK (hτ N q), fun z hz qz => ?_⟩
      by_cases e : z = N
      · subst e
        simp only [if_true]
        exact ⟨hK, by trivial⟩
      · simp only [if_neg e]
        obtain ⟨h1, h2⟩ := h z (by omega) qz
        refine ⟨dm_pp h1 (hτ N q), ?_⟩
        rw [← h2]; grind
    · refine ⟨K, κ, hK, fun z hz qz => ?_⟩
      by_cases e : z = N
      · subst e; exact absurd qz q
      · exact h z (by omega) qz
theorem dm_rs (g : Nat → Nat → Int) (e : Nat) :
    g (C (3 * (e / 3))) (C (3 * (e / 3) + 1)) + g (C (3 * (e / 3) + 1)) (C (3 * (e / 3) + 2)) + g (C (3 * (e / 3) + 2)) (C (3 * (e / 3))) = g (C e) (C (dm_nx e)) + g (C (dm_nx e)) (C (dm_nx (dm_nx e))) + g (C (dm_nx (dm_nx e))) (C e) := by
  have h : e = 3 * (e / 3) ∨ e = 3 * (e / 3) + 1 ∨ e = 3 * (e / 3) + 2 := by omega
  generalize e / 3 = t at *
  rcases h with h | h | h <;> subst h <;> simp only [dm_nx_0, dm_nx_1, dm_nx_2] <;> omega
def dm_wf (W : Nat → Int) (a u v : Nat) : Int := (if u = a then W v else 0) - (if v = a then W u else 0)
theorem dm_vr (hB : dm_SB X Y S) (hV : dm_V S al C) (hU : dm_U al C) (hX : dm_X al C A) (hT : dm_T X Y al C) (hD : dm_D X Y S al C)
    (hbd : ∀ t, t < 72 → (bd t = true ↔ al t = true ∧ dm_bt X Y C t p)) {e0 : Nat} (he0 : e0 < 216) (hb0 : bd (e0 / 3) = true) (ha : C e0 ≠ 24) :
    ∃ f, f < 216 ∧ dm_rm bd A f = true ∧ (C f = C e0 ∨ C (dm_nx f) = C e0) := by
  by_cases hh : ∃ f, f < 216 ∧ dm_rm bd A f = true ∧ (C f = C e0 ∨ C (dm_nx f) = C e0)
  · exact hh
  exfalso
  have hba : ∀ t, t < 72 → bd t = true → al t = true := fun t ht b => ((hbd t ht).mp b).1
  have sa : S (C e0) := dm_VS hV he0 (hba _ (by omega) hb0) ha
  generalize hae : C e0 = a at *
  have nr : ∀ f, f < 216 → bd (f / 3) = true → (C f = a ∨ C (dm_nx f) = a) → bd (A f) = true := by
    intro f hf b h
    by_cases q : bd (A f) = true
    · exact q
    · exact absurd ⟨f, hf, by unfold dm_rm; simp [b, q], h⟩ hh
  obtain ⟨K, κ, hK, hκ⟩ := dm_kap (fun z => (X z - X a) * (X z - X a) + (Y z - Y a) * (Y z - Y a)) (fun z => S z ∧ z ≠ a)
    (fun z hz => dm_sqp (fun e => dm_npos hB hz.1 sa hz.2 ⟨by omega, by omega⟩)) 24
  let W : Nat → Int := fun z => if z = 24 then 0 else κ z * ((X p - X a) * (Y z - Y a) - (Y p - Y a) * (X z - X a))
  -- each bad triangle at a
  have loc : ∀ e, e < 216 → bd (e / 3) = true → C e = a → W (C (dm_nx e)) ≤ W (C (dm_nx (dm_nx e))) ∧ (C (dm_nx e) ≠ 24 → C (dm_nx (dm_nx e)) ≠ 24 → W (C (dm_nx e)) < W (C (dm_nx (dm_nx e)))) := by
    intro e he b ea
    have hae' := hba _ (by omega) b
    obtain ⟨d1, d2, d3⟩ := dm_d3 hV he hae'
    have hc : dm_cf X Y (C e) (C (dm_nx e)) (C (dm_nx (dm_nx e))) p := by
      rw [dm_cfe hV he hae']; exact ((hbd _ (by omega)).mp b).2
    have su : C (dm_nx e) ≠ 24 → S (C (dm_nx e)) := fun h => dm_VS hV (dm_nx_lt he) (dm_al_nx hae') h
    have sv : C (dm_nx (dm_nx e)) ≠ 24 → S (C (dm_nx (dm_nx e))) := fun h => dm_VS hV (dm_nx_lt (dm_nx_lt he)) (dm_al_nx (dm_al_nx hae')) h
    have tte := dm_Te hT he hae'
    rw [ea] at hc d1 d3 tte
    by_cases hu : C (dm_nx e) = 24
    · have hv : C (dm_nx (dm_nx e)) ≠ 24 := fun z => d2 (by rw [hu, z])
      refine ⟨?_, fun z => absurd hu z⟩
      show (if C (dm_nx e) = 24 then 0 else _) ≤ (if C (dm_nx (dm_nx e)) = 24 then 0 else _)
      rw [if_pos hu, if_neg hv]
      rw [hu, dm_cf_2 ha] at hc
      have k := (hκ _ (by have := hB.1 _ (sv hv); omega) ⟨sv hv, d3⟩).1
      refine dm_gg (Int.le_of_lt k) ?_
      have e1 : dm_tn X Y (C (dm_nx (dm_nx e))) a p = (X p - X a) * (Y (C (dm_nx (dm_nx e))) - Y a) - (Y p - Y a) * (X (C (dm_nx (dm_nx e))) - X a) := by unfold dm_tn; grind
      rw [← e1]
      unfold dm_by at hc
      omega
    · by_cases hv : C (dm_nx (dm_nx e)) = 24
      · refine ⟨?_, fun _ z => absurd hv z⟩
        show (if C (dm_nx e) = 24 then 0 else _) ≤ (if C (dm_nx (dm_nx e)) = 24 then 0 else _)
        rw [if_neg hu, if_pos hv]
        rw [hv, dm_cf_3 ha hu] at hc
        have k := (hκ _ (by have := hB.1 _ (su hu); omega) ⟨su hu, fun z => d1 z.symm⟩).1
        refine dm_gl (Int.le_of_lt k) ?_
        have e1 : dm_tn X Y a (C (dm_nx e)) p = - ((X p - X a) * (Y (C (dm_nx e)) - Y a) - (Y p - Y a) * (X (C (dm_nx e)) - X a)) := by unfold dm_tn; grind
        unfold dm_by at hc
        omega
      · have lt : W (C (dm_nx e)) < W (C (dm_nx (dm_nx e))) := by
          show (if C (dm_nx e) = 24 then 0 else _) < (if C (dm_nx (dm_nx e)) = 24 then 0 else _)
          rw [if_neg hu, if_neg hv]
          rw [dm_cf_4 ha hu hv] at hc
          have k1 := hκ _ (by have := hB.1 _ (su hu); omega) ⟨su hu, fun z => d1 z.symm⟩
          have k2 := hκ _ (by have := hB.1 _ (sv hv); omega) ⟨sv hv, d3⟩
          exact dm_iv hK k1.1 k2.1 k1.2 k2.2 (tte ha hu hv) hc
        exact ⟨Int.le_of_lt lt, fun _ _ => lt⟩
  -- the sum round a
  have h1 : dm_sm (fun e => if (bd (e / 3) && (C e == a || C (dm_nx e) == a)) = true then dm_wf W a (C e) (C (dm_nx e)) else 0) 216 = 0 := by
    refine dm_tsum hU hX (fun e => bd (e / 3) && (C e == a || C (dm_nx e) == a)) (dm_wf W a) (fun u v => by unfold dm_wf; omega) (fun e he b => ?_) (fun e f he hf b af a1 c1 c2 => ?_)
    · have b' : bd (e / 3) = true ∧ (C e = a ∨ C (dm_nx e) = a) := by simpa using b
      exact hba _ (by omega) b'.1
    · have b' : bd (e / 3) = true ∧ (C e = a ∨ C (dm_nx e) = a) := by simpa using b
      have := nr e he b'.1 b'.2
      rw [a1] at this
      have c : C f = a ∨ C (dm_nx f) = a := by rw [c1, c2]; exact Or.symm b'.2
      simp [this, c]
  have h2 : dm_sm (fun t => if bd t = true then dm_wf W a (C (3 * t)) (C (3 * t + 1)) + dm_wf W a (C (3 * t + 1)) (C (3 * t + 2)) + dm_wf W a (C (3 * t + 2)) (C (3 * t)) else 0) 72 = 0 := by
    have h3 : dm_sm (fun e => if bd (e / 3) = true then dm_wf W a (C e) (C (dm_nx e)) else 0) 216 = 0 := by
      refine Eq.trans (dm_sm_congr 216 (fun e he => ?_)) h1
      by_cases b : bd (e / 3) = true
      · by_cases c : C e = a ∨ C (dm_nx e) = a
        · have : (bd (e / 3) && (C e == a || C (dm_nx e) == a)) = true := by simp [b, c]
          rw [if_pos b, if_pos this]
        · have : ¬ (bd (e / 3) && (C e == a || C (dm_nx e) == a)) = true := by simp only [b]; simp only [not_or] at c; simp [c]
          rw [if_pos b, if_neg this]
          unfold dm_wf
          rw [if_neg (fun z => c (Or.inl z)), if_neg (fun z => c (Or.inr z))]; rfl
      · have : ¬ (bd (e / 3) && (C e == a || C (dm_nx e) == a)) = true := by simp [b]
        rw [if_neg b, if_neg this]
    rw [show (216 : Nat) = 3 * 72 by rfl, dm_sm3] at h3
    refine Eq.trans (dm_sm_congr 72 (fun t ht => ?_)) h3
    rw [show (3 * t) / 3 = t by omega, show (3 * t + 1) / 3 = t by omega, show (3 * t + 2) / 3 = t by omega, dm_nx_0, dm_nx_1, dm_nx_2]
    by_cases b : bd t = true
    · simp only [if_pos b]
    · simp only [if_neg b]; rfl
  have rot : ∀ e, e < 216 → bd (e / 3) = true → C e = a → dm_wf W a (C (3 * (e / 3))) (C (3 * (e / 3) + 1)) + dm_wf W a (C (3 * (e / 3) + 1)) (C (3 * (e / 3) + 2)) + dm_wf W a (C (3 * (e / 3) + 2)) (C (3 * (e / 3))) = W (C (dm_nx e)) - W (C (dm_nx (dm_nx e))) := by
    intro e he b ea
    rw [dm_rs (C := C) (dm_wf W a) e]
    obtain ⟨d1, d2, d3⟩ := dm_d3 hV he (hba _ (by omega) b)
    rw [ea] at d1 d3 ⊢
    unfold dm_wf
    rw [if_pos rfl, if_neg (fun z => d1 z.symm), if_neg (fun z => d1 z.symm), if_neg d3, if_neg d3, if_pos rfl]
    omega
  have tm : ∀ t, t < 72 → (if bd t = true then dm_wf W a (C (3 * t)) (C (3 * t + 1)) + dm_wf W a (C (3 * t + 1)) (C (3 * t + 2)) + dm_wf W a (C (3 * t + 2)) (C (3 * t)) else 0) ≤ 0 := by
    intro t ht
    by_cases b : bd t = true
    · rw [if_pos b]
      have go : ∀ i, i < 3 → C (3 * t + i) = a → dm_wf W a (C (3 * t)) (C (3 * t + 1)) + dm_wf W a (C (3 * t + 1)) (C (3 * t + 2)) + dm_wf W a (C (3 * t + 2)) (C (3 * t)) ≤ 0 := by
        intro i hi ea
        have q : (3 * t + i) / 3 = t := by omega
        have r := rot (3 * t + i) (by omega) (by rw [q]; exact b) ea
        have l := (loc (3 * t + i) (by omega) (by rw [q]; exact b) ea).1
        rw [q] at r
        omega
      by_cases c0 : C (3 * t) = a
      · exact go 0 (by omega) c0
      · by_cases c1 : C (3 * t + 1) = a
        · exact go 1 (by omega) c1
        · by_cases c2 : C (3 * t + 2) = a
          · exact go 2 (by omega) c2
          · unfold dm_wf
            rw [if_neg c0, if_neg c1, if_neg c1, if_neg c2, if_neg c2, if_neg c0]; omega
    · rw [if_neg b]; exact Int.le_refl _
  have hneg : dm_sm (fun t => - (if bd t = true then dm_wf W a (C (3 * t)) (C (3 * t + 1)) + dm_wf W a (C (3 * t + 1)) (C (3 * t + 2)) + dm_wf W a (C (3 * t + 2)) (C (3 * t)) else 0)) 72 = 0 := by
    rw [dm_sm_neg, h2]; rfl
  have noreal : ∀ e, e < 216 → bd (e / 3) = true → C e = a → C (dm_nx e) ≠ 24 → C (dm_nx (dm_nx e)) ≠ 24 → False := by
    intro e he b ea hu hv
    have z := dm_sm_z 72 (fun t ht => by have := tm t ht; omega) hneg (e / 3) (by omega)
    simp only [if_pos b] at z
    rw [rot e he b ea] at z
    have := (loc e he b ea).2 hu hv
    omega
  have ha0 := hba _ (by omega) hb0
  obtain ⟨d1, d2, d3⟩ := dm_d3 hV he0 ha0
  by_cases hu : C (dm_nx e0) = 24
  · -- the half-edge into a
    have hv : C (dm_nx (dm_nx e0)) ≠ 24 := fun z => d2 (by rw [hu, z])
    have hl := dm_nx_lt (dm_nx_lt he0)
    have hal : al (dm_nx (dm_nx e0) / 3) = true := dm_al_nx (dm_al_nx ha0)
    have hbl : bd (dm_nx (dm_nx e0) / 3) = true := by rw [dm_nx_div, dm_nx_div]; exact hb0
    obtain ⟨f, hf, af, a1, c1, c2⟩ := hX _ hl hal
    have bf := nr _ hl hbl (Or.inr (by rw [dm_nx_3]; exact hae))
    rw [a1] at bf
    have gg := dm_GG hB hV hD hl hf hal af c1 c2
    rw [dm_nx_3] at c1 gg
    rw [hae] at c1
    exact noreal f hf bf c1 (by rw [c2]; exact hv) (fun z => gg ⟨hu, z⟩)
  · by_cases hv : C (dm_nx (dm_nx e0)) = 24
    · obtain ⟨f, hf, af, a1, c1, c2⟩ := hX _ he0 ha0
      have bf := nr _ he0 hb0 (Or.inl hae)
      rw [a1] at bf
      have gg := dm_GG hB hV hD he0 hf ha0 af c1 c2
      rw [hae] at c2
      refine noreal (dm_nx f) (dm_nx_lt hf) (by rw [dm_nx_div]; exact bf) c2 (fun z => gg ⟨hv, z⟩) ?_
      rw [dm_nx_3, c1]; exact hu
    · exact noreal e0 he0 hb0 hae hu hv
end
end
section
/-! one insertion keeps the triangulation (pure) -/
theorem dm_cf_self {X Y : Nat → Int} {u v p : Nat} (hp : p ≠ 24) (huv : u ≠ v) : ¬ dm_cf X Y u v p p := by
  have b1 : ∀ w, ¬ dm_by X Y w p p := by
    intro w h
    have e1 : dm_tn X Y w p p = 0 := by unfold dm_tn; grind
    have e2 : dm_dt X Y w p p = 0 := by unfold dm_dt; grind
    unfold dm_by at h
    omega
  have b2 : ∀ w, ¬ dm_by X Y p w p := by
    intro w h
    have e1 : dm_tn X Y p w p = 0 := by unfold dm_tn; grind
    have e2 : dm_dt X Y p w p = 0 := by unfold dm_dt; grind
    unfold dm_by at h
    omega
  by_cases hu : u = 24
  · rw [hu, dm_cf_1]; exact b1 v
  · by_cases hv : v = 24
    · rw [hv, dm_cf_2 hu]; exact b2 u
    · rw [dm_cf_4 hu hv hp]
      have e1 : dm_ic X Y u v p p = 0 := by unfold dm_ic; grind
      omega
section
variable {X Y : Nat → Int} {S : Nat → Prop} {al bd al' : Nat → Bool} {C A C' A' s : Nat → Nat} {p : Nat}
theorem dm_ins (hB : dm_SB X Y S) (hI : dm_TI X Y S al C A) (hp10 : p < 10) (hpS : ¬ S p) (hp : ∀ i, S i → ¬ (X i = X p ∧ Y i = Y p))
    (hbd : ∀ t, t < 72 → (bd t = true ↔ al t = true ∧ dm_bt X Y C t p))
    (n1 : ∀ e, e < 216 → dm_rm bd A e = true → s e < 72)
    (n3 : ∀ t, t < 72 → (al' t = true ↔ (al t = true ∧ bd t = false) ∨ ∃ e, e < 216 ∧ dm_rm bd A e = true ∧ s e = t))
    (n4 : ∀ i, i < 216 → al (i / 3) = true → bd (i / 3) = false → C' i = C i)
    (n5 : ∀ i, i < 216 → al (i / 3) = true → bd (i / 3) = false → bd (A i) = false → A' i = A i)
    (n6 : ∀ e, e < 216 → dm_rm bd A e = true → ∀ i, i < 216 → al (i / 3) = true → C i = C (dm_nx e) → C (dm_nx i) = C e → A' i = s e)
    (n7 : ∀ e, e < 216 → dm_rm bd A e = true → C' (3 * s e) = C e ∧ C' (3 * s e + 1) = C (dm_nx e) ∧ C' (3 * s e + 2) = p ∧ A' (3 * s e) = A e)
    (n8 : ∀ e f, e < 216 → f < 216 → dm_rm bd A e = true → dm_rm bd A f = true → C f = C (dm_nx e) → A' (3 * s e + 1) = s f ∧ A' (3 * s f + 2) = s e) :
    dm_TI X Y (fun i => S i ∨ i = p) al' C' A' := by
  obtain ⟨hV, hU, hX, hT, hD, hK⟩ := hI
  have hp24 : p ≠ 24 := by omega
  have us : ∀ e f, e < 216 → f < 216 → dm_rm bd A e = true → dm_rm bd A f = true → C e = C f → e = f := fun e f he hf hr hr' h => dm_us hB hV hU hX hT hD hp24 hp hbd he hf hr hr' h
  have hba : ∀ t, t < 72 → bd t = true → al t = true := fun t ht b => ((hbd t ht).mp b).1
  obtain ⟨se, es, ue⟩ := dm_ends hU hX hba us
  have ral : ∀ e, e < 216 → dm_rm bd A e = true → al (e / 3) = true ∧ bd (e / 3) = true ∧ bd (A e) = false := by
    intro e he hr
    have hr' : bd (e / 3) = true ∧ bd (A e) = false := by simpa [dm_rm] using hr
    exact ⟨hba _ (by omega) hr'.1, hr'.1, hr'.2⟩
  have np : ∀ e, e < 216 → al (e / 3) = true → C e ≠ p := by
    intro e he ha z
    rcases (hV e he ha).1 with h | h
    · rw [z] at h; exact hpS h
    · omega
  have np' : ∀ e, e < 216 → al (e / 3) = true → C (dm_nx e) ≠ p := fun e he ha => np _ (dm_nx_lt he) (dm_al_nx ha)
  -- the half-edges of the new triangulation
  have cls : ∀ i, i < 216 → al' (i / 3) = true →
      (al (i / 3) = true ∧ bd (i / 3) = false ∧ C' i = C i ∧ C' (dm_nx i) = C (dm_nx i)) ∨
      (∃ e, e < 216 ∧ dm_rm bd A e = true ∧ ((i = 3 * s e ∧ C' i = C e ∧ C' (dm_nx i) = C (dm_nx e)) ∨ (i = 3 * s e + 1 ∧ C' i = C (dm_nx e) ∧ C' (dm_nx i) = p) ∨ (i = 3 * s e + 2 ∧ C' i = p ∧ C' (dm_nx i) = C e))) := by
    intro i hi ha
    rcases (n3 _ (by omega)).mp ha with ⟨h1, h2⟩ | ⟨e, he, hr, hs⟩
    · exact Or.inl ⟨h1, h2, n4 i hi h1 h2, n4 _ (dm_nx_lt hi) (dm_al_nx h1) (by rw [dm_nx_div]; exact h2)⟩
    · refine Or.inr ⟨e, he, hr, ?_⟩
      obtain ⟨k1, k2, k3, _⟩ := n7 e he hr
      have h : i = 3 * s e ∨ i = 3 * s e + 1 ∨ i = 3 * s e + 2 := by omega
      rcases h with h | h | h
      · refine Or.inl ⟨h, by rw [h, k1], by rw [h, dm_nx_0, k2]⟩
      · refine Or.inr (Or.inl ⟨h, by rw [h, k2], by rw [h, dm_nx_1, k3]⟩)
      · refine Or.inr (Or.inr ⟨h, by rw [h, k3], by rw [h, dm_nx_2, k1]⟩)
  have nal : ∀ e, e < 216 → dm_rm bd A e = true → al' (s e) = true := fun e he hr => (n3 _ (n1 e he hr)).mpr (Or.inr ⟨e, he, hr, rfl⟩)
  have oal : ∀ t, t < 72 → al t = true → bd t = false → al' t = true := fun t ht h1 h2 => (n3 t ht).mpr (Or.inl ⟨h1, h2⟩)
  have V' : dm_V (fun i => S i ∨ i = p) al' C' := by
    intro i hi ha
    have old : ∀ e, e < 216 → al (e / 3) = true → (S (C e) ∨ C e = p) ∨ C e = 24 := by
      intro e he ha
      rcases (hV e he ha).1 with h | h
      · exact Or.inl (Or.inl h)
      · exact Or.inr h
    rcases cls i hi ha with ⟨h1, h2, c1, c2⟩ | ⟨e, he, hr, h⟩
    · rw [c1, c2]
      exact ⟨old i hi h1, (hV i hi h1).2⟩
    · have hae := (ral e he hr).1
      rcases h with ⟨_, c1, c2⟩ | ⟨_, c1, c2⟩ | ⟨_, c1, c2⟩
      · rw [c1, c2]; exact ⟨old e he hae, (hV e he hae).2⟩
      · rw [c1, c2]; exact ⟨old _ (dm_nx_lt he) (dm_al_nx hae), np' e he hae⟩
      · rw [c1, c2]; exact ⟨Or.inl (Or.inr rfl), fun z => np e he hae z.symm⟩
  have U' : dm_U al' C' := by
    intro i j hi hj hai haj h1 h2
    rcases cls i hi hai with ⟨a1, a2, c1, c2⟩ | ⟨e, he, hr, h⟩
    · rw [c1] at h1
      rw [c2] at h2
      rcases cls j hj haj with ⟨b1, b2, d1, d2⟩ | ⟨f, hf, hr', g⟩
      · rw [d1] at h1
        rw [d2] at h2
        exact hU i j hi hj a1 b1 h1 h2
      · rcases g with ⟨_, d1, d2⟩ | ⟨_, d1, d2⟩ | ⟨_, d1, d2⟩
        · rw [d1] at h1
          rw [d2] at h2
          have := hU i f hi hf a1 (ral f hf hr').1 h1 h2
          rw [this, (ral f hf hr').2.1] at a2
          exact absurd a2 (by decide)
        · rw [d2] at h2; exact absurd h2 (np' i hi a1)
        · rw [d1] at h1; exact absurd h1 (np i hi a1)
    · have hae := (ral e he hr).1
      rcases cls j hj haj with ⟨b1, b2, d1, d2⟩ | ⟨f, hf, hr', g⟩
      · rw [d1] at h1
        rw [d2] at h2
        rcases h with ⟨_, c1, c2⟩ | ⟨_, c1, c2⟩ | ⟨_, c1, c2⟩
        · rw [c1] at h1
          rw [c2] at h2
          have := hU e j he hj hae b1 h1 h2
          rw [← this, (ral e he hr).2.1] at b2
          exact absurd b2 (by decide)
        · rw [c2] at h2; exact absurd h2.symm (np' j hj b1)
        · rw [c1] at h1; exact absurd h1.symm (np j hj b1)
      · have haf := (ral f hf hr').1
        rcases h with ⟨ei, c1, c2⟩ | ⟨ei, c1, c2⟩ | ⟨ei, c1, c2⟩
        · rcases g with ⟨ej, d1, d2⟩ | ⟨ej, d1, d2⟩ | ⟨ej, d1, d2⟩
          · rw [c1, d1] at h1
            rw [ei, ej, us e f he hf hr hr' h1]
          · rw [c2, d2] at h2; exact absurd h2 (np' e he hae)
          · rw [c1, d1] at h1; exact absurd h1 (np e he hae)
        · rcases g with ⟨ej, d1, d2⟩ | ⟨ej, d1, d2⟩ | ⟨ej, d1, d2⟩
          · rw [c2, d2] at h2; exact absurd h2.symm (np' f hf haf)
          · rw [c1, d1] at h1
            rw [ei, ej, ue e f he hf hr hr' h1]
          · rw [c1, d1] at h1; exact absurd h1 (np' e he hae)
        · rcases g with ⟨ej, d1, d2⟩ | ⟨ej, d1, d2⟩ | ⟨ej, d1, d2⟩
          · rw [c1, d1] at h1; exact absurd h1.symm (np f hf haf)
          · rw [c1, d1] at h1; exact absurd h1.symm (np' f hf haf)
          · rw [c2, d2] at h2
            rw [ei, ej, us e f he hf hr hr' h2]
  have X' : dm_X al' C' A' := by
    intro i hi ha
    rcases cls i hi ha with ⟨a1, a2, c1, c2⟩ | ⟨e, he, hr, h⟩
    · obtain ⟨f, hf, af, ef, g1, g2⟩ := hX i hi a1
      by_cases b : bd (A i) = true
      · -- f is a rim half-edge
        have hrf : dm_rm bd A f = true := by
          have tw := (dm_tw hU hX hi hf a1 af g1 g2).2
          unfold dm_rm
          rw [tw, a2, ← ef, b]; rfl
        have hs := n1 f hf hrf
        obtain ⟨k1, k2, _, _⟩ := n7 f hf hrf
        refine ⟨3 * s f, by omega, by rw [show 3 * s f / 3 = s f by omega]; exact nal f hf hrf, ?_, ?_, ?_⟩
        · rw [show 3 * s f / 3 = s f by omega]
          exact n6 f hf hrf i hi a1 g2.symm g1.symm
        · rw [k1, c2, g1]
        · rw [dm_nx_0, k2, c1, g2]
      · have b' : bd (A i) = false := by simpa using b
        have b2 : bd (f / 3) = false := by rw [← ef]; exact b'
        refine ⟨f, hf, oal _ (by omega) af b2, ?_, ?_, ?_⟩
        · rw [n5 i hi a1 a2 b', ef]
        · rw [n4 f hf af b2, c2, g1]
        · rw [n4 _ (dm_nx_lt hf) (dm_al_nx af) (by rw [dm_nx_div]; exact b2), c1, g2]
    · obtain ⟨k1, k2, k3, k4⟩ := n7 e he hr
      have r := ral e he hr
      rcases h with ⟨ei, c1, c2⟩ | ⟨ei, c1, c2⟩ | ⟨ei, c1, c2⟩
      · obtain ⟨f, hf, af, ef, g1, g2⟩ := hX e he r.1
        have b2 : bd (f / 3) = false := by rw [← ef]; exact r.2.2
        refine ⟨f, hf, oal _ (by omega) af b2, ?_, ?_, ?_⟩
        · rw [ei, k4, ef]
        · rw [n4 f hf af b2, c2, g1]
        · rw [n4 _ (dm_nx_lt hf) (dm_al_nx af) (by rw [dm_nx_div]; exact b2), c1, g2]
      · obtain ⟨f, hf, hr', g⟩ := es e he hr
        have hs := n1 f hf hr'
        obtain ⟨l1, l2, l3, l4⟩ := n7 f hf hr'
        refine ⟨3 * s f + 2, by omega, by rw [show (3 * s f + 2) / 3 = s f by omega]; exact nal f hf hr', ?_, ?_, ?_⟩
        · rw [show (3 * s f + 2) / 3 = s f by omega, ei]
          exact (n8 e f he hf hr hr' g).1
        · rw [l3, c2]
        · rw [dm_nx_2, l1, c1, g]
      · obtain ⟨f, hf, hr', g⟩ := se e he hr
        have hs := n1 f hf hr'
        obtain ⟨l1, l2, l3, l4⟩ := n7 f hf hr'
        refine ⟨3 * s f + 1, by omega, by rw [show (3 * s f + 1) / 3 = s f by omega]; exact nal f hf hr', ?_, ?_, ?_⟩
        · rw [show (3 * s f + 1) / 3 = s f by omega, ei]
          exact (n8 f e hf he hr' hr g.symm).2
        · rw [l2, c2, g]
        · rw [dm_nx_1, l3, c1]
  have old3 : ∀ t, t < 72 → al t = true → bd t = false → C' (3 * t) = C (3 * t) ∧ C' (3 * t + 1) = C (3 * t + 1) ∧ C' (3 * t + 2) = C (3 * t + 2) := by
    intro t ht h1 h2
    have q : ∀ i, i < 3 → (3 * t + i) / 3 = t := fun i hi => by omega
    exact ⟨n4 _ (by omega) (by rw [show 3 * t / 3 = t by omega]; exact h1) (by rw [show 3 * t / 3 = t by omega]; exact h2), n4 _ (by omega) (by rw [q 1 (by omega)]; exact h1) (by rw [q 1 (by omega)]; exact h2), n4 _ (by omega) (by rw [q 2 (by omega)]; exact h1) (by rw [q 2 (by omega)]; exact h2)⟩
  have T' : dm_T X Y al' C' := by
    intro t ht ha r1 r2 r3
    rcases (n3 t ht).mp ha with ⟨h1, h2⟩ | ⟨e, he, hr, hs⟩
    · obtain ⟨o1, o2, o3⟩ := old3 t ht h1 h2
      rw [o1] at r1 ⊢
      rw [o2] at r2 ⊢
      rw [o3] at r3 ⊢
      exact hT t ht h1 r1 r2 r3
    · obtain ⟨k1, k2, k3, k4⟩ := n7 e he hr
      rw [hs] at k1 k2 k3
      rw [k1] at r1 ⊢
      rw [k2] at r2 ⊢
      rw [k3] at r3 ⊢
      exact (dm_rimD hB hV hX hT hD hp24 hbd he hr).1 r1 r2
  have D' : dm_D X Y (fun i => S i ∨ i = p) al' C' := by
    intro t ht ha q hq
    unfold dm_bt
    rcases (n3 t ht).mp ha with ⟨h1, h2⟩ | ⟨e, he, hr, hs⟩
    · obtain ⟨o1, o2, o3⟩ := old3 t ht h1 h2
      rw [o1, o2, o3]
      rcases hq with hq | hq
      · exact hD t ht h1 q hq
      · intro z
        rw [hq] at z
        have := (hbd t ht).mpr ⟨h1, z⟩
        rw [h2] at this
        exact absurd this (by decide)
    · obtain ⟨k1, k2, k3, k4⟩ := n7 e he hr
      rw [hs] at k1 k2 k3
      rw [k1, k2, k3]
      rcases hq with hq | hq
      · exact (dm_rimD hB hV hX hT hD hp24 hbd he hr).2 q hq
      · rw [hq]; exact dm_cf_self hp24 (hV e he (ral e he hr).1).2
  refine ⟨V', U', X', T', D', ?_⟩
  intro k hk
  have onR : ∀ e, e < 216 → bd (e / 3) = true → C e ≠ 24 → k (C e) = k p := by
    intro e he b h24
    obtain ⟨f, hf, hr, hc⟩ := dm_vr hB hV hU hX hT hD hbd he b h24
    have hs := n1 f hf hr
    obtain ⟨k1, k2, k3, _⟩ := n7 f hf hr
    rcases hc with hc | hc
    · have := hk (3 * s f + 2) (by omega) (by rw [show (3 * s f + 2) / 3 = s f by omega]; exact nal f hf hr) (by rw [k3]; exact hp24) (by rw [dm_nx_2, k1, hc]; exact h24)
      rw [dm_nx_2, k1, k3, hc] at this
      exact this.symm
    · have := hk (3 * s f + 1) (by omega) (by rw [show (3 * s f + 1) / 3 = s f by omega]; exact nal f hf hr) (by rw [k2, hc]; exact h24) (by rw [dm_nx_1, k3]; exact hp24)
      rw [dm_nx_1, k2, k3, hc] at this
      exact this
  have oldE : ∀ e, e < 216 → al (e / 3) = true → C e ≠ 24 → C (dm_nx e) ≠ 24 → k (C e) = k (C (dm_nx e)) := by
    intro e he ha h1 h2
    by_cases b : bd (e / 3) = true
    · rw [onR e he b h1, onR _ (dm_nx_lt he) (by rw [dm_nx_div]; exact b) h2]
    · have b' : bd (e / 3) = false := by simpa using b
      have q1 := n4 e he ha b'
      have q2 := n4 _ (dm_nx_lt he) (dm_al_nx ha) (by rw [dm_nx_div]; exact b')
      have := hk e he (oal _ (by omega) ha b') (by rw [q1]; exact h1) (by rw [q2]; exact h2)
      rwa [q1, q2] at this
  have cS := hK k oldE
  have cp : ∀ i, S i → k i = k p := by
    intro i si
    obtain ⟨e, he, hr⟩ := dm_exrim hB hV hU hX hT hD hK hp hbd
    have r := ral e he hr
    by_cases h1 : C e = 24
    · have h2 : C (dm_nx e) ≠ 24 := fun z => (hV e he r.1).2 (by rw [h1, z])
      rw [← onR _ (dm_nx_lt he) (by rw [dm_nx_div]; exact r.2.1) h2]
      exact cS _ _ si (dm_VS hV (dm_nx_lt he) (dm_al_nx r.1) h2)
    · rw [← onR e he r.2.1 h1]
      exact cS _ _ si (dm_VS hV he r.1 h1)
  intro i j hi hj
  rcases hi with hi | hi
  · rcases hj with hj | hj
    · exact cS i j hi hj
    · rw [hj]; exact cp i hi
  · rcases hj with hj | hj
    · rw [hi]; exact (cp j hj).symm
    · rw [hi, hj]
end
end
section
/-! Int32 and Int64 values of small polynomials -/
theorem dm_sub32 {a b : Int32} (h1 : -2147483648 ≤ a.toInt - b.toInt) (h2 : a.toInt - b.toInt < 2147483648) : (a - b).toInt = a.toInt - b.toInt := by
  rw [Int32.toInt_sub]; exact Int.bmod_eq_of_le (by omega) (by omega)
theorem dm_add32 {a b : Int32} (h1 : -2147483648 ≤ a.toInt + b.toInt) (h2 : a.toInt + b.toInt < 2147483648) : (a + b).toInt = a.toInt + b.toInt := by
  rw [Int32.toInt_add]; exact Int.bmod_eq_of_le (by omega) (by omega)
theorem dm_mul32 {a b : Int32} (h1 : -2147483648 ≤ a.toInt * b.toInt) (h2 : a.toInt * b.toInt < 2147483648) : (a * b).toInt = a.toInt * b.toInt := by
  rw [Int32.toInt_mul]; exact Int.bmod_eq_of_le (by omega) (by omega)
theorem dm_sub64 {a b : Int64} (h1 : -9223372036854775808 ≤ a.toInt - b.toInt) (h2 : a.toInt - b.toInt < 9223372036854775808) : (a - b).toInt = a.toInt - b.toInt := by
  rw [Int64.toInt_sub]; exact Int.bmod_eq_of_le (by omega) (by omega)
theorem dm_add64 {a b : Int64} (h1 : -9223372036854775808 ≤ a.toInt + b.toInt) (h2 : a.toInt + b.toInt < 9223372036854775808) : (a + b).toInt = a.toInt + b.toInt := by
  rw [Int64.toInt_add]; exact Int.bmod_eq_of_le (by omega) (by omega)
theorem dm_mul64 {a b : Int64} (h1 : -9223372036854775808 ≤ a.toInt * b.toInt) (h2 : a.toInt * b.toInt < 9223372036854775808) : (a * b).toInt = a.toInt * b.toInt := by
  rw [Int64.toInt_mul]; exact Int.bmod_eq_of_le (by omega) (by omega)
theorem dm_mb {a b m k : Int} (h1 : -m ≤ a) (h2 : a ≤ m) (h3 : -k ≤ b) (h4 : b ≤ k) : -(m * k) ≤ a * b ∧ a * b ≤ m * k := by
  have p1 := dm_gg (a := m - a) (b := k + b) (by omega) (by omega)
  have p2 := dm_gg (a := m + a) (b := k - b) (by omega) (by omega)
  have p3 := dm_gg (a := m - a) (b := k - b) (by omega) (by omega)
  have p4 := dm_gg (a := m + a) (b := k + b) (by omega) (by omega)
  have i1 : (m - a) * (k + b) + (m + a) * (k - b) = 2 * (m * k) - 2 * (a * b) := by grind
  have i2 : (m - a) * (k - b) + (m + a) * (k + b) = 2 * (m * k) + 2 * (a * b) := by grind
  omega
/-- a difference of two coordinates -/
def dm_df (d : Int32) (x : Int) : Prop := d.toInt = x ∧ -127 ≤ x ∧ x ≤ 127
theorem dm_df_mk {a b : Int32} (h1 : 0 ≤ a.toInt ∧ a.toInt ≤ 127) (h2 : 0 ≤ b.toInt ∧ b.toInt ≤ 127) : dm_df (a - b) (a.toInt - b.toInt) :=
  ⟨dm_sub32 (by omega) (by omega), by omega, by omega⟩
theorem dm_df_mul {a b : Int32} {x y : Int} (h1 : dm_df a x) (h2 : dm_df b y) : (a * b).toInt = x * y ∧ -16129 ≤ x * y ∧ x * y ≤ 16129 := by
  obtain ⟨e1, l1, u1⟩ := h1
  obtain ⟨e2, l2, u2⟩ := h2
  have m := dm_mb (m := 127) (k := 127) l1 u1 l2 u2
  refine ⟨?_, by omega, by omega⟩
  rw [← e1, ← e2] at m ⊢
  exact dm_mul32 (by omega) (by omega)
theorem dm_cr32 {a b c d : Int32} {x y z w : Int} (h1 : dm_df a x) (h2 : dm_df b y) (h3 : dm_df c z) (h4 : dm_df d w) : (a * b - c * d).toInt = x * y - z * w := by
  obtain ⟨e1, l1, u1⟩ := dm_df_mul h1 h2
  obtain ⟨e2, l2, u2⟩ := dm_df_mul h3 h4
  rw [dm_sub32 (by omega) (by omega), e1, e2]
theorem dm_do32 {a b c d : Int32} {x y z w : Int} (h1 : dm_df a x) (h2 : dm_df b y) (h3 : dm_df c z) (h4 : dm_df d w) : (a * b + c * d).toInt = x * y + z * w := by
  obtain ⟨e1, l1, u1⟩ := dm_df_mul h1 h2
  obtain ⟨e2, l2, u2⟩ := dm_df_mul h3 h4
  rw [dm_add32 (by omega) (by omega), e1, e2]
theorem dm_df_mul64 {a b : Int32} {x y : Int} (h1 : dm_df a x) (h2 : dm_df b y) : (a.toInt64 * b.toInt64).toInt = x * y ∧ -16129 ≤ x * y ∧ x * y ≤ 16129 := by
  obtain ⟨e1, l1, u1⟩ := h1
  obtain ⟨e2, l2, u2⟩ := h2
  have m := dm_mb (m := 127) (k := 127) l1 u1 l2 u2
  refine ⟨?_, by omega, by omega⟩
  have := dm_mul64 (a := a.toInt64) (b := b.toInt64) (by rw [Int32.toInt_toInt64, Int32.toInt_toInt64, e1, e2]; omega) (by rw [Int32.toInt_toInt64, Int32.toInt_toInt64, e1, e2]; omega)
  rw [this, Int32.toInt_toInt64, Int32.toInt_toInt64, e1, e2]
theorem dm_cr64 {a b c d : Int32} {x y z w : Int} (h1 : dm_df a x) (h2 : dm_df b y) (h3 : dm_df c z) (h4 : dm_df d w) : (a.toInt64 * b.toInt64 - c.toInt64 * d.toInt64).toInt = x * y - z * w ∧ -32258 ≤ x * y - z * w ∧ x * y - z * w ≤ 32258 := by
  obtain ⟨e1, l1, u1⟩ := dm_df_mul64 h1 h2
  obtain ⟨e2, l2, u2⟩ := dm_df_mul64 h3 h4
  rw [dm_sub64 (by omega) (by omega), e1, e2]
  omega
theorem dm_do64 {a b c d : Int32} {x y z w : Int} (h1 : dm_df a x) (h2 : dm_df b y) (h3 : dm_df c z) (h4 : dm_df d w) : (a.toInt64 * b.toInt64 + c.toInt64 * d.toInt64).toInt = x * y + z * w ∧ -32258 ≤ x * y + z * w ∧ x * y + z * w ≤ 32258 := by
  obtain ⟨e1, l1, u1⟩ := dm_df_mul64 h1 h2
  obtain ⟨e2, l2, u2⟩ := dm_df_mul64 h3 h4
  rw [dm_add64 (by omega) (by omega), e1, e2]
  omega
theorem dm_pr64 {a b : Int64} {x y : Int} (h1 : a.toInt = x ∧ -32258 ≤ x ∧ x ≤ 32258) (h2 : b.toInt = y ∧ -32258 ≤ y ∧ y ≤ 32258) : (a * b).toInt = x * y ∧ -1040578564 ≤ x * y ∧ x * y ≤ 1040578564 := by
  obtain ⟨e1, l1, u1⟩ := h1
  obtain ⟨e2, l2, u2⟩ := h2
  have m := dm_mb (m := 32258) (k := 32258) l1 u1 l2 u2
  refine ⟨?_, by omega, by omega⟩
  rw [← e1, ← e2] at m ⊢
  exact dm_mul64 (by omega) (by omega)
theorem dm_fi64 {a b c : Int64} {x y z : Int} (h1 : a.toInt = x ∧ -1040578564 ≤ x ∧ x ≤ 1040578564) (h2 : b.toInt = y ∧ -1040578564 ≤ y ∧ y ≤ 1040578564) (h3 : c.toInt = z ∧ -1040578564 ≤ z ∧ z ≤ 1040578564) : (a - b + c).toInt = x - y + z := by
  have s := dm_sub64 (a := a) (b := b) (by omega) (by omega)
  rw [dm_add64 (by omega) (by omega), s, h1.1, h2.1, h3.1]
/-! the state's coordinates -/
def dm_co (a : Nat → Int32) (i : Nat) : Int := (a i).toInt
def dm_XB (a : Nat → Int32) : Prop := ∀ i, i < 24 → 0 ≤ (a i).toInt ∧ (a i).toInt ≤ 127
section
variable {sz so ed te : Int32} {a1 a2 a3 a4 a5 a6 a7 a8 a9 a10 a11 a12 a13 a14 a15 a16 a17 a18 : Nat → Int32}
theorem dm_w_turn {post : Int32 → Prop} (hx : dm_XB a2) (hy : dm_XB a3) {i j k : Nat} (hi : i < 24) (hj : j < 24) (hk : k < 24)
    (H : ∀ r : Int32, r.toInt = dm_tn (dm_co a2) (dm_co a3) i j k → post r) : wpX_turn post (sz, so, ed, te, a1, a2, a3, a4, a5, a6, a7, a8, a9, a10, a11, a12, a13, a14, a15, a16, a17, a18) (nI i) (nI j) (nI k) := by
  have vi := vp_in_nI (N := 24) hi (by decide)
  have vj := vp_in_nI (N := 24) hj (by decide)
  have vk := vp_in_nI (N := 24) hk (by decide)
  refine ⟨vj, vi, vk, vi, vj, vi, vk, vi, H _ ?_⟩
  rw [nI_clamp (show i < 2 ^ 31 by omega), nI_clamp (show j < 2 ^ 31 by omega), nI_clamp (show k < 2 ^ 31 by omega)]
  exact dm_cr32 (dm_df_mk (hx j hj) (hx i hi)) (dm_df_mk (hy k hk) (hy i hi)) (dm_df_mk (hy j hj) (hy i hi)) (dm_df_mk (hx k hk) (hx i hi))
theorem dm_w_dist {post : Int32 → Prop} (hx : dm_XB a2) (hy : dm_XB a3) {i j : Nat} (hi : i < 24) (hj : j < 24)
    (H : ∀ r : Int32, r.toInt = (dm_co a2 i - dm_co a2 j) * (dm_co a2 i - dm_co a2 j) + (dm_co a3 i - dm_co a3 j) * (dm_co a3 i - dm_co a3 j) → post r) : wpX_dist post (sz, so, ed, te, a1, a2, a3, a4, a5, a6, a7, a8, a9, a10, a11, a12, a13, a14, a15, a16, a17, a18) (nI i) (nI j) := by
  have vi := vp_in_nI (N := 24) hi (by decide)
  have vj := vp_in_nI (N := 24) hj (by decide)
  refine ⟨vi, vj, nm_e ⟨vi, vj, nm_e (H _ ?_)⟩⟩
  rw [nI_clamp (show i < 2 ^ 31 by omega), nI_clamp (show j < 2 ^ 31 by omega)]
  exact dm_do32 (dm_df_mk (hx i hi) (hx j hj)) (dm_df_mk (hx i hi) (hx j hj)) (dm_df_mk (hy i hi) (hy j hj)) (dm_df_mk (hy i hi) (hy j hj))
theorem dm_w_between {post : Int32 → Prop} (hx : dm_XB a2) (hy : dm_XB a3) {i j k : Nat} (hi : i < 24) (hj : j < 24) (hk : k < 24)
    (H1 : dm_dt (dm_co a2) (dm_co a3) i j k < 0 → post 1) (H0 : ¬ dm_dt (dm_co a2) (dm_co a3) i j k < 0 → post 0) : wpX_between post (sz, so, ed, te, a1, a2, a3, a4, a5, a6, a7, a8, a9, a10, a11, a12, a13, a14, a15, a16, a17, a18) (nI i) (nI j) (nI k) := by
  have vi := vp_in_nI (N := 24) hi (by decide)
  have vj := vp_in_nI (N := 24) hj (by decide)
  have vk := vp_in_nI (N := 24) hk (by decide)
  refine ⟨vi, vk, vj, vk, vi, vk, vj, vk, fun x ex => ?_⟩
  rw [nI_clamp (show i < 2 ^ 31 by omega), nI_clamp (show j < 2 ^ 31 by omega), nI_clamp (show k < 2 ^ 31 by omega)] at ex
  have hv : x.toInt = dm_dt (dm_co a2) (dm_co a3) i j k := by
    rw [ex]
    exact dm_do32 (dm_df_mk (hx i hi) (hx k hk)) (dm_df_mk (hx j hj) (hx k hk)) (dm_df_mk (hy i hi) (hy k hk)) (dm_df_mk (hy j hj) (hy k hk))
  refine br_c (fun h => H0 ?_) (fun h => H1 ?_)
  · rw [Int32.le_iff_toInt_le, hv] at h
    have e0 : (0 : Int32).toInt = 0 := by decide
    omega
  · rw [Int32.le_iff_toInt_le, hv] at h
    have e0 : (0 : Int32).toInt = 0 := by decide
    omega
theorem dm_w_inCircle {post : Int64 → Prop} (hx : dm_XB a2) (hy : dm_XB a3) {i j k l : Nat} (hi : i < 24) (hj : j < 24) (hk : k < 24) (hl : l < 24)
    (H : ∀ r : Int64, r.toInt = dm_ic (dm_co a2) (dm_co a3) i j k l → post r) : wpX_inCircle post (sz, so, ed, te, a1, a2, a3, a4, a5, a6, a7, a8, a9, a10, a11, a12, a13, a14, a15, a16, a17, a18) (nI i) (nI j) (nI k) (nI l) := by
  have vi := vp_in_nI (N := 24) hi (by decide)
  have vj := vp_in_nI (N := 24) hj (by decide)
  have vk := vp_in_nI (N := 24) hk (by decide)
  have vl := vp_in_nI (N := 24) hl (by decide)
  refine ⟨vi, vl, nm_e ⟨vi, vl, nm_e ⟨vj, vl, nm_e ⟨vj, vl, nm_e ⟨vk, vl, nm_e ⟨vk, vl, nm_e (nm_e (nm_e (nm_e (H _ ?_))))⟩⟩⟩⟩⟩⟩
  rw [nI_clamp (show i < 2 ^ 31 by omega), nI_clamp (show j < 2 ^ 31 by omega), nI_clamp (show k < 2 ^ 31 by omega), nI_clamp (show l < 2 ^ 31 by omega)]
  have ax := dm_df_mk (hx i hi) (hx l hl)
  have ay := dm_df_mk (hy i hi) (hy l hl)
  have bx := dm_df_mk (hx j hj) (hx l hl)
  have by' := dm_df_mk (hy j hj) (hy l hl)
  have cx := dm_df_mk (hx k hk) (hx l hl)
  have cy := dm_df_mk (hy k hk) (hy l hl)
  have p1 := dm_pr64 (dm_do64 ax ax ay ay) (dm_cr64 bx cy by' cx)
  have p2 := dm_pr64 (dm_do64 bx bx by' by') (dm_cr64 ax cy ay cx)
  have p3 := dm_pr64 (dm_do64 cx cx cy cy) (dm_cr64 ax by' ay bx)
  exact dm_fi64 p1 p2 p3
end
end
section
/-! arrays read as naturals; small methods -/
def dm_c (a : Nat → Int32) (i : Nat) : Nat := (a i).toNatClampNeg
def dm_rg (a : Nat → Int32) (N M : Nat) : Prop := ∀ i, i < N → a i = nI (dm_c a i) ∧ dm_c a i < M
def dm_b (a : Nat → Int32) (t : Nat) : Bool := !(a t == 0)
theorem dm_b_t {a : Nat → Int32} {t : Nat} : dm_b a t = true ↔ ¬ a t = 0 := by unfold dm_b; simp
theorem dm_b_f {a : Nat → Int32} {t : Nat} : dm_b a t = false ↔ a t = 0 := by unfold dm_b; simp
theorem dm_c_of {a : Nat → Int32} {i v : Nat} (h : a i = nI v) (hv : v < 2 ^ 31) : dm_c a i = v := by unfold dm_c; rw [h, nI_clamp hv]
theorem dm_rg_mk {a : Nat → Int32} {N M : Nat} (hM : M < 2 ^ 31) (h : ∀ i, i < N → ∃ v, v < M ∧ a i = nI v) : dm_rg a N M := by
  intro i hi
  obtain ⟨v, hv, e⟩ := h i hi
  rw [dm_c_of e (by omega)]
  exact ⟨e, hv⟩
theorem dm_rg_up {a : Nat → Int32} {N M k v : Nat} (hM : M < 2 ^ 31) (h : dm_rg a N M) (hv : v < M) : dm_rg (upd a k (nI v)) N M := by
  refine dm_rg_mk hM (fun i hi => ?_)
  by_cases e : i = k
  · rw [e, pk_us]; exact ⟨v, hv, rfl⟩
  · rw [pk_un e]; exact ⟨dm_c a i, (h i hi).2, (h i hi).1⟩
theorem dm_i3 (t : Nat) : (3 : Int32) * nI t = nI (3 * t) := pk_mul 3 t
theorem dm_i31 (t : Nat) : (3 : Int32) * nI t + 1 = nI (3 * t + 1) := by rw [dm_i3, nI_1]
theorem dm_i32 (t : Nat) : (3 : Int32) * nI t + 2 = nI (3 * t + 2) := by rw [dm_i3]; exact nI_add _ 2
theorem dm_i33 (t : Nat) : (3 : Int32) * nI t + 3 = nI (3 * t + 3) := by rw [dm_i3]; exact nI_add _ 3
theorem dm_d3' {e : Nat} (he : e < 2 ^ 31) : nI e / 3 = nI (e / 3) := pk_div (d := 3) he (by decide) (by decide)
theorem dm_nar1 : narrow .boolean (.int 1) = .int 1 := by decide
theorem dm_nar0 : narrow .boolean (.int 0) = .int 0 := by decide
theorem dm_w_next {post : Int32 → Prop} {e : Nat} (he : e < 2 ^ 30) (H : post (nI (dm_nx e))) : wpX_next post () (nI e) := by
  refine ⟨by decide, ?_⟩
  have hr : nI e - nI e / 3 * 3 = nI (e % 3) := pk_rem (d := 3) (by omega) (by decide) (by decide)
  rw [hr]
  refine pk_eq (e % 3) 2 (fun h => ?_) (fun h => ?_) rfl rfl
  · have : nI e - 2 = nI (e - 2) := pk_sub (a := e) (b := 2) (by omega)
    rw [this]
    unfold dm_nx at H
    rwa [if_pos h] at H
  · rw [nI_1]
    unfold dm_nx at H
    rwa [if_neg h] at H
section
variable {sz so ed te : Int32} {a1 a2 a3 a4 a5 a6 a7 a8 a9 a10 a11 a12 a13 a14 a15 a16 a17 a18 : Nat → Int32}
theorem dm_w_beyond {post : Int32 → Prop} (hx : dm_XB a2) (hy : dm_XB a3) {i j k : Nat} (hi : i < 24) (hj : j < 24) (hk : k < 24)
    (H1 : dm_by (dm_co a2) (dm_co a3) i j k → post 1) (H0 : ¬ dm_by (dm_co a2) (dm_co a3) i j k → post 0) : wpX_beyond post (sz, so, ed, te, a1, a2, a3, a4, a5, a6, a7, a8, a9, a10, a11, a12, a13, a14, a15, a16, a17, a18) (nI i) (nI j) (nI k) := by
  unfold wpX_beyond
  refine dm_w_turn hx hy hi hj hk (fun r hr => ?_)
  have e0 : (0 : Int32).toInt = 0 := by decide
  refine br_c (fun h => ?_) (fun h => ?_)
  · have hz : dm_tn (dm_co a2) (dm_co a3) i j k = 0 := by rw [← hr, h]; exact e0
    refine dm_w_between hx hy hi hj hk (fun z => ⟨dm_nar1, H1 (Or.inr ⟨hz, z⟩)⟩) (fun z => ⟨dm_nar0, H0 (fun w => ?_)⟩)
    rcases w with w | w
    · omega
    · exact z w.2
  · have hz : dm_tn (dm_co a2) (dm_co a3) i j k ≠ 0 := by
      rw [← hr]
      intro z
      exact h (Int32.toInt_inj.mp (by rw [z, e0]))
    refine br_c (fun g => H0 (fun w => ?_)) (fun g => H1 (Or.inl ?_))
    · rw [Int32.le_iff_toInt_le, hr, e0] at g
      rcases w with w | w
      · omega
      · exact hz w.1
    · rw [Int32.le_iff_toInt_le, hr, e0] at g
      omega
theorem dm_w_conflicts {post : Int32 → Prop} (hx : dm_XB a2) (hy : dm_XB a3) (hc : dm_rg a5 216 25) {t p : Nat} (ht : t < 72) (hp : p < 24)
    (d1 : dm_c a5 (3 * t) ≠ dm_c a5 (3 * t + 1)) (d2 : dm_c a5 (3 * t + 1) ≠ dm_c a5 (3 * t + 2)) (d3 : dm_c a5 (3 * t + 2) ≠ dm_c a5 (3 * t))
    (H1 : dm_bt (dm_co a2) (dm_co a3) (dm_c a5) t p → post 1) (H0 : ¬ dm_bt (dm_co a2) (dm_co a3) (dm_c a5) t p → post 0) : wpX_conflicts post (sz, so, ed, te, a1, a2, a3, a4, a5, a6, a7, a8, a9, a10, a11, a12, a13, a14, a15, a16, a17, a18) (nI t) (nI p) := by
  unfold dm_bt at H1 H0
  have v0 := hc (3 * t) (by omega)
  have v1 := hc (3 * t + 1) (by omega)
  have v2 := hc (3 * t + 2) (by omega)
  refine ⟨by rw [dm_i3]; exact vp_in_nI (by omega) (by decide), nm_r (e' := nI (dm_c a5 (3 * t))) (by rw [dm_i3, nI_clamp (by omega)]; exact v0.1) ⟨by rw [dm_i31]; exact vp_in_nI (by omega) (by decide), nm_r (e' := nI (dm_c a5 (3 * t + 1))) (by rw [dm_i31, nI_clamp (by omega)]; exact v1.1) ⟨by rw [dm_i32]; exact vp_in_nI (by omega) (by decide), nm_r (e' := nI (dm_c a5 (3 * t + 2))) (by rw [dm_i32, nI_clamp (by omega)]; exact v2.1) ?_⟩⟩⟩
  generalize dm_c a5 (3 * t) = a at *
  generalize dm_c a5 (3 * t + 1) = b at *
  generalize dm_c a5 (3 * t + 2) = c at *
  refine pk_eq a 24 (fun h => ?_) (fun ha => ?_) rfl rfl
  · rw [h, dm_cf_1] at H1 H0
    exact dm_w_beyond hx hy (by omega) (by omega) hp (fun z => ⟨dm_nar1, H1 z⟩) (fun z => ⟨dm_nar0, H0 z⟩)
  · refine pk_eq b 24 (fun h => ?_) (fun hb => ?_) rfl rfl
    · rw [h, dm_cf_2 ha] at H1 H0
      exact dm_w_beyond hx hy (by omega) (by omega) hp (fun z => ⟨dm_nar1, H1 z⟩) (fun z => ⟨dm_nar0, H0 z⟩)
    · refine pk_eq c 24 (fun h => ?_) (fun hcc => ?_) rfl rfl
      · rw [h, dm_cf_3 ha hb] at H1 H0
        exact dm_w_beyond hx hy (by omega) (by omega) hp (fun z => ⟨dm_nar1, H1 z⟩) (fun z => ⟨dm_nar0, H0 z⟩)
      · rw [dm_cf_4 ha hb hcc] at H1 H0
        refine dm_w_inCircle hx hy (by omega) (by omega) (by omega) hp (fun r hr => ?_)
        have e0 : (0 : Int64).toInt = 0 := by decide
        refine br_c (fun g => H0 ?_) (fun g => H1 ?_)
        · rw [Int64.le_iff_toInt_le, hr, e0] at g; omega
        · rw [Int64.le_iff_toInt_le, hr, e0] at g; omega
theorem dm_w_setTri {post : St1 → Prop} {t : Nat} {x y z : Int32} (ht : t < 72)
    (H : post (sz, so, ed, te, a1, a2, a3, upd a4 t 1, upd (upd (upd a5 (3 * t) x) (3 * t + 1) y) (3 * t + 2) z, a6, upd a7 t 0, a8, a9, a10, a11, a12, a13, a14, a15, a16, a17, a18)) : wpX_setTriangle post (sz, so, ed, te, a1, a2, a3, a4, a5, a6, a7, a8, a9, a10, a11, a12, a13, a14, a15, a16, a17, a18) (nI t) x y z := by
  have q := nI_clamp (show t < 2 ^ 31 by omega)
  have v := vp_in_nI (n := t) (N := 72) ht (by decide)
  refine ⟨v, nm_r (by rw [q]) ⟨v, nm_r (by rw [q]) ⟨by rw [dm_i3]; exact vp_in_nI (by omega) (by decide), nm_r (by rw [dm_i3, nI_clamp (by omega)]) ⟨by rw [dm_i31]; exact vp_in_nI (by omega) (by decide), nm_r (by rw [dm_i31, nI_clamp (by omega)]) ⟨by rw [dm_i32]; exact vp_in_nI (by omega) (by decide), nm_r (by rw [dm_i32, nI_clamp (by omega)]) H⟩⟩⟩⟩⟩
theorem dm_w_link {post : St1 → Prop} {t : Nat} {x y z : Int32} (ht : t < 72)
    (H : post (sz, so, ed, te, a1, a2, a3, a4, a5, upd (upd (upd a6 (3 * t) x) (3 * t + 1) y) (3 * t + 2) z, a7, a8, a9, a10, a11, a12, a13, a14, a15, a16, a17, a18)) : wpX_linkAll post (sz, so, ed, te, a1, a2, a3, a4, a5, a6, a7, a8, a9, a10, a11, a12, a13, a14, a15, a16, a17, a18) (nI t) x y z := by
  refine ⟨by rw [dm_i3]; exact vp_in_nI (by omega) (by decide), nm_r (by rw [dm_i3, nI_clamp (by omega)]) ⟨by rw [dm_i31]; exact vp_in_nI (by omega) (by decide), nm_r (by rw [dm_i31, nI_clamp (by omega)]) ⟨by rw [dm_i32]; exact vp_in_nI (by omega) (by decide), nm_r (by rw [dm_i32, nI_clamp (by omega)]) H⟩⟩⟩
theorem dm_w_facing {post : Int32 → Prop} {e : Nat} (he : e < 216) (H : post (a5 (dm_nx (dm_nx e)))) : wpX_facing post (sz, so, ed, te, a1, a2, a3, a4, a5, a6, a7, a8, a9, a10, a11, a12, a13, a14, a15, a16, a17, a18) (nI e) := by
  have h1 := dm_nx_lt he
  have h2 := dm_nx_lt h1
  refine dm_w_next (by omega) (dm_w_next (by omega) ⟨vp_in_nI h2 (by decide), ?_⟩)
  rw [nI_clamp (by omega)]
  exact H
/-- the first point in use from i on -/
theorem dm_w_first {post : Int32 → Prop} {i : Nat} (hi : i ≤ 24)
    (Hn : (∀ k, i ≤ k → k < 24 → a1 k = 0) → post (-1))
    (Hs : ∀ k, i ≤ k → k < 24 → ¬ a1 k = 0 → (∀ j, i ≤ j → j < k → a1 j = 0) → post (nI k)) : wpX_firstFrom post (sz, so, ed, te, a1, a2, a3, a4, a5, a6, a7, a8, a9, a10, a11, a12, a13, a14, a15, a16, a17, a18) (nI i) := by
  have main : ∀ n k, i ≤ k → k ≤ 24 → 24 - k < n → (∀ j, i ≤ j → j < k → a1 j = 0) → wX_firstFrom_2 post sz so ed te a1 a2 a3 a4 a5 a6 a7 a8 a9 a10 a11 a12 a13 a14 a15 a16 a17 a18 n (nI k) := by
    intro n
    induction n with
    | zero => intro k _ _ h; omega
    | succ n ih =>
      intro k hik hk hn hj
      refine pk_le 24 k (fun h => ?_) (fun h => ?_) rfl rfl
      · exact Hn (fun l h1 h2 => hj l h1 (by omega))
      · refine ⟨vp_in_nI h (by decide), ?_⟩
        rw [nI_clamp (by omega)]
        refine br_c (fun z => nm_r (nI_1 k) (ih (k + 1) (by omega) (by omega) (by omega) (fun j h1 h2 => ?_))) (fun z => Hs k hik h z hj)
        by_cases e : j = k
        · rw [e]; exact z
        · exact hj j h1 (by omega)
  exact ⟨25, main 25 i (Nat.le_refl i) hi (by omega) (fun j h1 h2 => absurd h2 (by omega))⟩
end
end
section
/-! the walk of fan -/
section
variable {sz so ed te : Int32} {a1 a2 a3 a4 a5 a6 a7 a8 a9 a10 a11 a12 a13 a14 a15 a16 a17 a18 : Nat → Int32}
theorem dm_w_fan76 {post : St1 → Prop} {t u v o : Nat} (ht : t < 72) (hu : u < 25) (hv : v < 25) (ho : o < 72) (hc : dm_rg a5 216 25)
    (H : ∀ b6 : Nat → Int32, (∀ i, b6 i = if 3 * o ≤ i ∧ i < 3 * o + 3 ∧ dm_c a5 i = v ∧ dm_c a5 (dm_nx i) = u then nI t else a6 i) → post (sz, so, ed, te, a1, a2, a3, a4, a5, b6, a7, upd a8 u (nI t), upd a9 v (nI t), a10, a11, a12, a13, a14, a15, a16, a17, a18)) :
    ∃ n, wX_fan_76 post (nI t) (nI u) (nI v) (nI o) sz so ed te n (nI (3 * o)) a1 a2 a3 a4 a5 a6 a7 a8 a9 a10 a11 a12 a13 a14 a15 a16 a17 a18 := by
  refine pk_loop (fun n i s => wX_fan_76 post (nI t) (nI u) (nI v) (nI o) sz so ed te n (nI i) a1 a2 a3 a4 a5 s a7 a8 a9 a10 a11 a12 a13 a14 a15 a16 a17 a18)
    (fun j s => 3 * o ≤ j ∧ ∀ i, s i = if 3 * o ≤ i ∧ i < j ∧ dm_c a5 i = v ∧ dm_c a5 (dm_nx i) = u then nI t else a6 i)
    (3 * o + 3) (3 * o) a6 (by omega) ⟨Nat.le_refl _, fun i => by rw [if_neg (by omega)]⟩ ?_ ?_
  · intro n s hs
    refine pk_le (3 * o + 3) (3 * o + 3) (fun _ => ?_) (fun z => absurd z (by omega)) (dm_i33 o) rfl
    refine ⟨vp_in_nI hu (by decide), nm_r (by rw [nI_clamp (by omega)]) ⟨vp_in_nI hv (by decide), nm_r (by rw [nI_clamp (by omega)]) (H s hs.2)⟩⟩
  · intro n j s hj hs hw
    obtain ⟨hj0, hs⟩ := hs
    refine pk_le (3 * o + 3) j (fun z => absurd z (by omega)) (fun _ => ?_) (dm_i33 o) rfl
    refine ⟨vp_in_nI (by omega) (by decide), ?_⟩
    rw [nI_clamp (show j < 2 ^ 31 by omega)]
    have vj := hc j (by omega)
    have vn := hc (dm_nx j) (dm_nx_lt (by omega))
    refine pk_eq (dm_c a5 j) v (fun ev => ?_) (fun ev => ?_) vj.1 rfl
    · refine dm_w_next (by omega) ⟨vp_in_nI (dm_nx_lt (by omega)) (by decide), ?_⟩
      rw [nI_clamp (show dm_nx j < 2 ^ 31 by have := dm_nx_lt (e := j) (by omega); omega)]
      refine pk_eq (dm_c a5 (dm_nx j)) u (fun eu => ?_) (fun eu => ?_) vn.1 rfl
      · refine ⟨vp_in_nI (by omega) (by decide), nm_e (nm_r (nI_1 j) (hw _ ⟨by omega, fun i => ?_⟩))⟩
        by_cases e : i = j
        · rw [e, pk_us, if_pos ⟨hj0, by omega, ev, eu⟩]
        · rw [pk_un e, hs i]
          by_cases c : 3 * o ≤ i ∧ i < j ∧ dm_c a5 i = v ∧ dm_c a5 (dm_nx i) = u
          · rw [if_pos c, if_pos ⟨c.1, by omega, c.2.2⟩]
          · rw [if_neg c, if_neg (fun z => c ⟨z.1, by omega, z.2.2⟩)]
      · refine nm_r (nI_1 j) (hw _ ⟨by omega, fun i => ?_⟩)
        rw [hs i]
        by_cases c : 3 * o ≤ i ∧ i < j ∧ dm_c a5 i = v ∧ dm_c a5 (dm_nx i) = u
        · rw [if_pos c, if_pos ⟨c.1, by omega, c.2.2⟩]
        · rw [if_neg c, if_neg (fun z => c ⟨z.1, by have h4 := z.2.2.2; have h2 := z.2.1; by_cases q : i = j; (rw [q] at h4; exact absurd h4 eu); omega, z.2.2⟩)]
    · refine nm_r (nI_1 j) (hw _ ⟨by omega, fun i => ?_⟩)
      rw [hs i]
      by_cases c : 3 * o ≤ i ∧ i < j ∧ dm_c a5 i = v ∧ dm_c a5 (dm_nx i) = u
      · rw [if_pos c, if_pos ⟨c.1, by omega, c.2.2⟩]
      · rw [if_neg c, if_neg (fun z => c ⟨z.1, by have h4 := z.2.2.1; have h2 := z.2.1; by_cases q : i = j; (rw [q] at h4; exact absurd h4 ev); omega, z.2.2⟩)]
theorem dm_w_fan23 {post : St1 → Prop} {e p t : Nat} (he : e < 216) (hp : p < 25) (ht : t < 72) (hc : dm_rg a5 216 25) (h6 : dm_rg a6 216 72)
    (H : ∀ b6 : Nat → Int32, (∀ i, b6 i = if 3 * dm_c a6 e ≤ i ∧ i < 3 * dm_c a6 e + 3 ∧ dm_c (upd (upd (upd a5 (3 * t) (nI (dm_c a5 e))) (3 * t + 1) (nI (dm_c a5 (dm_nx e)))) (3 * t + 2) (nI p)) i = dm_c a5 (dm_nx e) ∧ dm_c (upd (upd (upd a5 (3 * t) (nI (dm_c a5 e))) (3 * t + 1) (nI (dm_c a5 (dm_nx e)))) (3 * t + 2) (nI p)) (dm_nx i) = dm_c a5 e then nI t else upd a6 (3 * t) (nI (dm_c a6 e)) i) →
      post (sz, so, ed, te, a1, a2, a3, upd a4 t 1, upd (upd (upd a5 (3 * t) (nI (dm_c a5 e))) (3 * t + 1) (nI (dm_c a5 (dm_nx e)))) (3 * t + 2) (nI p), b6, upd a7 t 0, upd a8 (dm_c a5 e) (nI t), upd a9 (dm_c a5 (dm_nx e)) (nI t), a10, a11, a12, a13, a14, a15, a16, a17, a18)) :
    wX_fan_23 post (nI e) (nI p) (nI t) sz so ed te a1 a2 a3 a4 a5 a6 a7 a8 a9 a10 a11 a12 a13 a14 a15 a16 a17 a18 := by
  have hn := dm_nx_lt he
  have ve := hc e he
  have vn := hc _ hn
  have v6 := h6 e he
  refine ⟨vp_in_nI he (by decide), nm_r (e' := nI (dm_c a5 e)) (by rw [nI_clamp (by omega)]; exact ve.1) (dm_w_next (by omega) ⟨vp_in_nI hn (by decide), nm_r (e' := nI (dm_c a5 (dm_nx e))) (by rw [nI_clamp (by omega)]; exact vn.1) ⟨vp_in_nI he (by decide), nm_r (e' := nI (dm_c a6 e)) (by rw [nI_clamp (by omega)]; exact v6.1) ?_⟩⟩)⟩
  refine dm_w_setTri ht ⟨by rw [dm_i3]; exact vp_in_nI (by omega) (by decide), nm_r (e' := upd a6 (3 * t) (nI (dm_c a6 e))) (by rw [dm_i3, nI_clamp (by omega)]) (nm_r (dm_i3 _) ?_)⟩
  refine dm_w_fan76 ht ve.2 vn.2 v6.2 ?_ H
  exact dm_rg_up (by decide) (dm_rg_up (by decide) (dm_rg_up (by decide) hc ve.2) vn.2) hp
theorem dm_w_fan {post : St1 → Prop} {e p : Nat} (he : e < 216) (hp : p < 25) (hd : ∃ d, d < 72 ∧ a4 d = 0) (hc : dm_rg a5 216 25) (h6 : dm_rg a6 216 72)
    (H : ∀ (t : Nat) (b6 : Nat → Int32), t < 72 → a4 t = 0 → (∀ i, b6 i = if 3 * dm_c a6 e ≤ i ∧ i < 3 * dm_c a6 e + 3 ∧ dm_c (upd (upd (upd a5 (3 * t) (nI (dm_c a5 e))) (3 * t + 1) (nI (dm_c a5 (dm_nx e)))) (3 * t + 2) (nI p)) i = dm_c a5 (dm_nx e) ∧ dm_c (upd (upd (upd a5 (3 * t) (nI (dm_c a5 e))) (3 * t + 1) (nI (dm_c a5 (dm_nx e)))) (3 * t + 2) (nI p)) (dm_nx i) = dm_c a5 e then nI t else upd a6 (3 * t) (nI (dm_c a6 e)) i) →
      post (sz, so, ed, te, a1, a2, a3, upd a4 t 1, upd (upd (upd a5 (3 * t) (nI (dm_c a5 e))) (3 * t + 1) (nI (dm_c a5 (dm_nx e)))) (3 * t + 2) (nI p), b6, upd a7 t 0, upd a8 (dm_c a5 e) (nI t), upd a9 (dm_c a5 (dm_nx e)) (nI t), a10, a11, a12, a13, a14, a15, a16, a17, a18)) :
    wpX_fan post (sz, so, ed, te, a1, a2, a3, a4, a5, a6, a7, a8, a9, a10, a11, a12, a13, a14, a15, a16, a17, a18) (nI e) (nI p) := by
  obtain ⟨t, ⟨ht, h0⟩, hl⟩ := pk_least (fun d => d < 72 ∧ a4 d = 0) hd
  have F := dm_w_fan23 (post := post) (sz := sz) (so := so) (ed := ed) (te := te) (a1 := a1) (a2 := a2) (a3 := a3) (a4 := a4) (a7 := a7) (a8 := a8) (a9 := a9) (a10 := a10) (a11 := a11) (a12 := a12) (a13 := a13) (a14 := a14) (a15 := a15) (a16 := a16) (a17 := a17) (a18 := a18) he hp ht hc h6 (fun b6 hb => H t b6 ht h0 hb)
  refine pk_loop (σ := Unit) (fun n i _ => wX_fan_2 post (nI e) (nI p) sz so ed te a1 a2 a3 a4 a5 a6 a7 a8 a9 a10 a11 a12 a13 a14 a15 a16 a17 a18 n (nI i)) (fun _ _ => True) t 0 () (by omega) trivial ?_ ?_
  · intro n _ _
    refine pk_le 71 t (fun _ => F) (fun z => ⟨vp_in_nI ht (by decide), ?_⟩) rfl rfl
    rw [nI_clamp (show t < 2 ^ 31 by omega)]
    exact br_t h0 F
  · intro n i _ hi _ hw
    refine pk_le 71 i (fun z => absurd z (by omega)) (fun z => ⟨vp_in_nI (by omega) (by decide), ?_⟩) rfl rfl
    rw [nI_clamp (show i < 2 ^ 31 by omega)]
    exact br_f (fun q => hl i hi ⟨by omega, q⟩) (nm_r (nI_1 i) (hw () trivial))
end
end
section
/-! what the fan loop keeps (pure, over arrays) -/
def dm_FI (b4 b5 b6 : Nat → Int32) (bd : Nat → Bool) (p : Nat) (s : Nat → Nat) (e0 : Nat) (a4 a5 a6 a7 a8 a9 : Nat → Int32) : Prop :=
  (∀ e, e < e0 → dm_rm bd (dm_c b6) e = true → s e < 72 ∧ b4 (s e) = 0 ∧ ¬ a4 (s e) = 0 ∧ a5 (3 * s e) = nI (dm_c b5 e) ∧ a5 (3 * s e + 1) = nI (dm_c b5 (dm_nx e)) ∧ a5 (3 * s e + 2) = nI p ∧ a6 (3 * s e) = nI (dm_c b6 e) ∧ a8 (dm_c b5 e) = nI (s e) ∧ a9 (dm_c b5 (dm_nx e)) = nI (s e)) ∧
  (∀ e f, e < e0 → f < e0 → dm_rm bd (dm_c b6) e = true → dm_rm bd (dm_c b6) f = true → s e = s f → e = f) ∧
  (∀ t, t < 72 → ¬ a4 t = 0 → ¬ b4 t = 0 ∨ ∃ e, e < e0 ∧ dm_rm bd (dm_c b6) e = true ∧ s e = t) ∧
  (∀ t, t < 72 → ¬ b4 t = 0 → ¬ a4 t = 0) ∧
  (∀ i, i < 216 → ¬ b4 (i / 3) = 0 → a5 i = b5 i) ∧
  (∀ e, e < e0 → dm_rm bd (dm_c b6) e = true → ∀ i, i < 216 → ¬ b4 (i / 3) = 0 → dm_c b5 i = dm_c b5 (dm_nx e) → dm_c b5 (dm_nx i) = dm_c b5 e → a6 i = nI (s e)) ∧
  (∀ i, i < 216 → ¬ b4 (i / 3) = 0 → (∀ e, e < e0 → dm_rm bd (dm_c b6) e = true → ¬ (dm_c b5 i = dm_c b5 (dm_nx e) ∧ dm_c b5 (dm_nx i) = dm_c b5 e)) → a6 i = b6 i) ∧
  (∀ v, v < 25 → (∀ e, e < e0 → dm_rm bd (dm_c b6) e = true → dm_c b5 e ≠ v) → a8 v = -1) ∧
  (∀ v, v < 25 → (∀ e, e < e0 → dm_rm bd (dm_c b6) e = true → dm_c b5 (dm_nx e) ≠ v) → a9 v = -1) ∧
  (∀ t, t < 72 → (¬ a7 t = 0 ↔ bd t = true)) ∧
  dm_rg a5 216 25 ∧ dm_rg a6 216 72
section
variable {b4 b5 b6 : Nat → Int32} {bd : Nat → Bool} {p : Nat} {s : Nat → Nat} {e0 : Nat} {a4 a5 a6 a7 a8 a9 : Nat → Int32} {S : Nat → Prop}
theorem dm_FI_0 (h4 : ∀ t, t < 72 → a4 t = b4 t) (h5 : a5 = b5) (h6 : a6 = b6) (h8 : ∀ v, v < 25 → a8 v = -1) (h9 : ∀ v, v < 25 → a9 v = -1)
    (h7 : ∀ t, t < 72 → (¬ a7 t = 0 ↔ bd t = true)) (hc : dm_rg b5 216 25) (h6r : dm_rg b6 216 72) : dm_FI b4 b5 b6 bd p s 0 a4 a5 a6 a7 a8 a9 := by
  refine ⟨fun e he => absurd he (by omega), fun e f he => absurd he (by omega), fun t ht h => Or.inl (by rw [← h4 t ht]; exact h), fun t ht h => by rw [h4 t ht]; exact h, fun i hi _ => by rw [h5], fun e he => absurd he (by omega), fun i _ _ _ => by rw [h6], fun v hv _ => h8 v hv, fun v hv _ => h9 v hv, h7, by rw [h5]; exact hc, by rw [h6]; exact h6r⟩
theorem dm_FI_skip (h : dm_FI b4 b5 b6 bd p s e0 a4 a5 a6 a7 a8 a9) (hn : ¬ dm_rm bd (dm_c b6) e0 = true) : dm_FI b4 b5 b6 bd p s (e0 + 1) a4 a5 a6 a7 a8 a9 := by
  have q : ∀ e, e < e0 + 1 → dm_rm bd (dm_c b6) e = true → e < e0 := fun e he hr => by
    by_cases z : e = e0
    · rw [z] at hr; exact absurd hr hn
    · omega
  obtain ⟨k1, k2, k3, k4, k5, k6, k7, k8, k9, k10, k11, k12⟩ := h
  refine ⟨fun e he hr => k1 e (q e he hr) hr, fun e f he hf hr hr' => k2 e f (q e he hr) (q f hf hr') hr hr', fun t ht h => ?_, k4, k5, fun e he hr => k6 e (q e he hr) hr, fun i hi hb hh => k7 i hi hb (fun e he hr => hh e (by omega) hr), fun v hv hh => k8 v hv (fun e he hr => hh e (by omega) hr), fun v hv hh => k9 v hv (fun e he hr => hh e (by omega) hr), k10, k11, k12⟩
  rcases k3 t ht h with z | ⟨e, he, hr, hs⟩
  · exact Or.inl z
  · exact Or.inr ⟨e, by omega, hr, hs⟩
/-- across of a bad cell is untouched -/
theorem dm_FI_a6 (hU : dm_U (dm_b b4) (dm_c b5)) (hX : dm_X (dm_b b4) (dm_c b5) (dm_c b6)) (hba : ∀ t, t < 72 → bd t = true → dm_b b4 t = true)
    (h : dm_FI b4 b5 b6 bd p s e0 a4 a5 a6 a7 a8 a9) (he0 : e0 ≤ 216) {i : Nat} (hi : i < 216) (hb : bd (i / 3) = true) : a6 i = b6 i ∧ a5 i = b5 i ∧ a5 (dm_nx i) = b5 (dm_nx i) := by
  obtain ⟨k1, k2, k3, k4, k5, k6, k7, k8, k9, k10, k11, k12⟩ := h
  have hal := hba _ (by omega) hb
  refine ⟨k7 i hi (dm_b_t.mp hal) (fun e he hr z => ?_), k5 i hi (dm_b_t.mp hal), k5 _ (dm_nx_lt hi) (by rw [dm_nx_div]; exact dm_b_t.mp hal)⟩
  have hr' : bd (e / 3) = true ∧ bd (dm_c b6 e) = false := by simpa [dm_rm] using hr
  have := (dm_tw hU hX (e := e) (f := i) (by omega) hi (hba _ (by omega) hr'.1) hal z.1 z.2).1
  rw [this, hb] at hr'
  exact absurd hr'.2 (by decide)
theorem dm_FI_step (hV : dm_V S (dm_b b4) (dm_c b5)) (hU : dm_U (dm_b b4) (dm_c b5)) (hX : dm_X (dm_b b4) (dm_c b5) (dm_c b6)) (hba : ∀ t, t < 72 → bd t = true → dm_b b4 t = true)
    (us : ∀ e f, e < 216 → f < 216 → dm_rm bd (dm_c b6) e = true → dm_rm bd (dm_c b6) f = true → dm_c b5 e = dm_c b5 f → e = f)
    (ue : ∀ e f, e < 216 → f < 216 → dm_rm bd (dm_c b6) e = true → dm_rm bd (dm_c b6) f = true → dm_c b5 (dm_nx e) = dm_c b5 (dm_nx f) → e = f)
    (hc : dm_rg b5 216 25) (h6r : dm_rg b6 216 72) (hp : p < 25)
    (h : dm_FI b4 b5 b6 bd p s e0 a4 a5 a6 a7 a8 a9) (he0 : e0 < 216) (hr0 : dm_rm bd (dm_c b6) e0 = true) {t : Nat} (ht : t < 72) (h0 : a4 t = 0) {c6 : Nat → Int32}
    (h6 : ∀ i, c6 i = if 3 * dm_c a6 e0 ≤ i ∧ i < 3 * dm_c a6 e0 + 3 ∧ dm_c (upd (upd (upd a5 (3 * t) (nI (dm_c a5 e0))) (3 * t + 1) (nI (dm_c a5 (dm_nx e0)))) (3 * t + 2) (nI p)) i = dm_c a5 (dm_nx e0) ∧ dm_c (upd (upd (upd a5 (3 * t) (nI (dm_c a5 e0))) (3 * t + 1) (nI (dm_c a5 (dm_nx e0)))) (3 * t + 2) (nI p)) (dm_nx i) = dm_c a5 e0 then nI t else upd a6 (3 * t) (nI (dm_c a6 e0)) i) :
    ∃ s', dm_FI b4 b5 b6 bd p s' (e0 + 1) (upd a4 t 1) (upd (upd (upd a5 (3 * t) (nI (dm_c a5 e0))) (3 * t + 1) (nI (dm_c a5 (dm_nx e0)))) (3 * t + 2) (nI p)) c6 (upd a7 t 0) (upd a8 (dm_c a5 e0) (nI t)) (upd a9 (dm_c a5 (dm_nx e0)) (nI t)) := by
  have hr0' : bd (e0 / 3) = true ∧ bd (dm_c b6 e0) = false := by simpa [dm_rm] using hr0
  have hal0 := hba _ (by omega) hr0'.1
  obtain ⟨g6, g5, g5n⟩ := dm_FI_a6 hU hX hba h (by omega) he0 hr0'.1
  have q5 : dm_c a5 e0 = dm_c b5 e0 := by unfold dm_c; rw [g5]
  have q5n : dm_c a5 (dm_nx e0) = dm_c b5 (dm_nx e0) := by unfold dm_c; rw [g5n]
  have q6 : dm_c a6 e0 = dm_c b6 e0 := by unfold dm_c; rw [g6]
  rw [q5, q5n, q6] at h6
  rw [q5, q5n]
  obtain ⟨k1, k2, k3, k4, k5, k6, k7, k8, k9, k10, k11, k12⟩ := h
  have hb0 : b4 t = 0 := by
    by_cases z : b4 t = 0
    · exact z
    · exact absurd h0 (k4 t ht z)
  have rl : ∀ e, e < 216 → dm_rm bd (dm_c b6) e = true → dm_b b4 (e / 3) = true := by
    intro e he hr
    have hr' : bd (e / 3) = true ∧ bd (dm_c b6 e) = false := by simpa [dm_rm] using hr
    exact hba _ (by omega) hr'.1
  have hne : ∀ e, e < e0 → dm_rm bd (dm_c b6) e = true → s e ≠ t := fun e he hr z => (k1 e he hr).2.2.1 (by rw [z]; exact h0)
  obtain ⟨f0, hf0, af0, ef0, c1, c2⟩ := hX e0 he0 hal0
  have hot : ∀ i, i < 216 → ¬ b4 (i / 3) = 0 → i / 3 ≠ t := fun i hi hb z => hb (by rw [z]; exact hb0)
  have n5 : ∀ i, i / 3 ≠ t → upd (upd (upd a5 (3 * t) (nI (dm_c b5 e0))) (3 * t + 1) (nI (dm_c b5 (dm_nx e0)))) (3 * t + 2) (nI p) i = a5 i := by
    intro i hi
    rw [pk_un (by omega), pk_un (by omega), pk_un (by omega)]
  have n5b : ∀ i, i < 216 → ¬ b4 (i / 3) = 0 → dm_c (upd (upd (upd a5 (3 * t) (nI (dm_c b5 e0))) (3 * t + 1) (nI (dm_c b5 (dm_nx e0)))) (3 * t + 2) (nI p)) i = dm_c b5 i := by
    intro i hi hb
    exact congrArg Int32.toNatClampNeg ((n5 i (hot i hi hb)).trans (k5 i hi hb))
  have n6 : ∀ i, i < 216 → ¬ b4 (i / 3) = 0 → c6 i = if dm_c b5 i = dm_c b5 (dm_nx e0) ∧ dm_c b5 (dm_nx i) = dm_c b5 e0 then nI t else a6 i := by
    intro i hi hb
    have hbn : ¬ b4 (dm_nx i / 3) = 0 := by rw [dm_nx_div]; exact hb
    rw [h6 i, n5b i hi hb, n5b _ (dm_nx_lt hi) hbn]
    by_cases z : dm_c b5 i = dm_c b5 (dm_nx e0) ∧ dm_c b5 (dm_nx i) = dm_c b5 e0
    · have : i = f0 := hU i f0 hi hf0 (dm_b_t.mpr hb) af0 (by rw [z.1, c1]) (by rw [z.2, c2])
      rw [if_pos z, if_pos ⟨by omega, by omega, z⟩]
    · rw [if_neg z, if_neg (fun w => z w.2.2), pk_un (by have := hot i hi hb; omega)]
  have n6t : ∀ i, i < 216 → i / 3 ≠ t → i / 3 ≠ dm_c b6 e0 → c6 i = a6 i := by
    intro i hi h1 h2
    rw [h6 i, if_neg (by omega), pk_un (by omega)]
  have b4o : ¬ b4 (dm_c b6 e0) = 0 := by
    rw [ef0]; exact dm_b_t.mp af0
  have v1 := (hc e0 he0).2
  have v2 := (hc _ (dm_nx_lt he0)).2
  have v3 := (h6r e0 he0).2
  refine ⟨fun e => if e = e0 then t else s e, ?_, ?_, ?_, ?_, ?_, ?_, ?_, ?_, ?_, ?_, ?_, ?_⟩
  · intro e he hr
    by_cases z : e = e0
    · subst z
      simp only [if_true]
      refine ⟨ht, hb0, by rw [pk_us]; decide, ?_, ?_, by rw [pk_us], ?_, by rw [pk_us], by rw [pk_us]⟩
      · rw [pk_un (by omega), pk_un (by omega), pk_us]
      · rw [pk_un (by omega), pk_us]
      · have : dm_c b6 e ≠ t := fun w => b4o (by rw [w]; exact hb0)
        rw [h6, if_neg (by omega), pk_us]
    · simp only [if_neg z]
      have he' : e < e0 := by omega
      obtain ⟨j1, j2, j3, j4, j5, j6, j7, j8, j9⟩ := k1 e he' hr
      have ne := hne e he' hr
      refine ⟨j1, j2, ?_, ?_, ?_, ?_, ?_, ?_, ?_⟩
      · rw [pk_un ne]; exact j3
      · rw [n5 _ (by omega)]; exact j4
      · rw [n5 _ (by omega)]; exact j5
      · rw [n5 _ (by omega)]; exact j6
      · rw [n6t _ (by omega) (by omega) (fun w => b4o (by rw [← w, show 3 * s e / 3 = s e by omega]; exact j2))]; exact j7
      · rw [pk_un (fun w => z (us e e0 (by omega) he0 hr hr0 w))]; exact j8
      · rw [pk_un (fun w => z (ue e e0 (by omega) he0 hr hr0 w))]; exact j9
  · intro e f he hf hr hr' hs
    by_cases z : e = e0
    · by_cases w : f = e0
      · rw [z, w]
      · simp only [if_pos z, if_neg w] at hs
        exact absurd hs.symm (hne f (by omega) hr')
    · by_cases w : f = e0
      · simp only [if_neg z, if_pos w] at hs
        exact absurd hs (hne e (by omega) hr)
      · simp only [if_neg z, if_neg w] at hs
        exact k2 e f (by omega) (by omega) hr hr' hs
  · intro t' ht' hh
    by_cases z : t' = t
    · exact Or.inr ⟨e0, by omega, hr0, by simp only [if_true]; exact z.symm⟩
    · rw [pk_un z] at hh
      rcases k3 t' ht' hh with w | ⟨e, he, hr, hs⟩
      · exact Or.inl w
      · exact Or.inr ⟨e, by omega, hr, by simp only [if_neg (show ¬ e = e0 by omega)]; exact hs⟩
  · intro t' ht' hh
    by_cases z : t' = t
    · rw [z, pk_us]; decide
    · rw [pk_un z]; exact k4 t' ht' hh
  · intro i hi hb
    rw [n5 i (hot i hi hb)]; exact k5 i hi hb
  · intro e he hr i hi hb m1 m2
    rw [n6 i hi hb]
    by_cases z : e = e0
    · subst z
      rw [if_pos ⟨m1, m2⟩]
      simp only [if_true]
    · simp only [if_neg z]
      have he' : e < e0 := by omega
      rw [if_neg (fun w => z (us e e0 (by omega) he0 hr hr0 (by rw [← m2, w.2])))]
      exact k6 e he' hr i hi hb m1 m2
  · intro i hi hb hh
    rw [n6 i hi hb, if_neg (hh e0 (by omega) hr0)]
    exact k7 i hi hb (fun e he hr => hh e (by omega) hr)
  · intro v hv hh
    rw [pk_un (fun w => hh e0 (by omega) hr0 w.symm)]
    exact k8 v hv (fun e he hr => hh e (by omega) hr)
  · intro v hv hh
    rw [pk_un (fun w => hh e0 (by omega) hr0 w.symm)]
    exact k9 v hv (fun e he hr => hh e (by omega) hr)
  · intro t' ht'
    by_cases z : t' = t
    · rw [z, pk_us]
      have : ¬ bd t = true := fun w => absurd (hba t ht w) (by rw [dm_b_f.mpr hb0]; decide)
      exact ⟨fun w => absurd rfl w, fun w => absurd w this⟩
    · rw [pk_un z]; exact k10 t' ht'
  · exact dm_rg_up (by decide) (dm_rg_up (by decide) (dm_rg_up (by decide) k11 v1) v2) hp
  · refine dm_rg_mk (by decide) (fun i hi => ?_)
    rw [h6 i]
    by_cases z : 3 * dm_c b6 e0 ≤ i ∧ i < 3 * dm_c b6 e0 + 3 ∧ dm_c (upd (upd (upd a5 (3 * t) (nI (dm_c b5 e0))) (3 * t + 1) (nI (dm_c b5 (dm_nx e0)))) (3 * t + 2) (nI p)) i = dm_c b5 (dm_nx e0) ∧ dm_c (upd (upd (upd a5 (3 * t) (nI (dm_c b5 e0))) (3 * t + 1) (nI (dm_c b5 (dm_nx e0)))) (3 * t + 2) (nI p)) (dm_nx i) = dm_c b5 e0
    · rw [if_pos z]; exact ⟨t, ht, rfl⟩
    · rw [if_neg z]
      by_cases w : i = 3 * t
      · rw [w, pk_us]; exact ⟨_, v3, rfl⟩
      · rw [pk_un w]; exact ⟨_, (k12 i hi).2, (k12 i hi).1⟩
/-- there is room for the next triangle -/
def dm_ix (z : Nat) : Nat := if z = 24 then 10 else z
theorem dm_ix_inj {z w : Nat} (hz : z < 10 ∨ z = 24) (hw : w < 10 ∨ w = 24) (h : dm_ix z = dm_ix w) : z = w := by
  unfold dm_ix at h
  split at h <;> split at h <;> omega
theorem dm_ix_lt {z : Nat} (hz : z < 10 ∨ z = 24) : dm_ix z < 11 := by
  unfold dm_ix
  split <;> omega
theorem dm_FI_free (hS : ∀ i, S i → i < 10) (hV : dm_V S (dm_b b4) (dm_c b5)) (hU : dm_U (dm_b b4) (dm_c b5)) (hba : ∀ t, t < 72 → bd t = true → dm_b b4 t = true)
    (us : ∀ e f, e < 216 → f < 216 → dm_rm bd (dm_c b6) e = true → dm_rm bd (dm_c b6) f = true → dm_c b5 e = dm_c b5 f → e = f)
    (h : dm_FI b4 b5 b6 bd p s e0 a4 a5 a6 a7 a8 a9) (he0 : e0 ≤ 216) : ∃ d, d < 72 ∧ a4 d = 0 := by
  by_cases hh : ∃ d, d < 72 ∧ a4 d = 0
  · exact hh
  exfalso
  obtain ⟨k1, k2, k3, _⟩ := h
  have full : ∀ t, t < 72 → ¬ b4 t = 0 ∨ ∃ e, e < e0 ∧ dm_rm bd (dm_c b6) e = true ∧ s e = t := fun t ht => k3 t ht (fun z => hh ⟨t, ht, z⟩)
  have rg : ∀ e, e < 216 → dm_b b4 (e / 3) = true → dm_c b5 e < 10 ∨ dm_c b5 e = 24 := by
    intro e he ha
    rcases (hV e he ha).1 with z | z
    · exact Or.inl (hS _ z)
    · exact Or.inr z
  have rl : ∀ e, e < 216 → dm_rm bd (dm_c b6) e = true → dm_b b4 (e / 3) = true := by
    intro e he hr
    have hr' : bd (e / 3) = true ∧ bd (dm_c b6 e) = false := by simpa [dm_rm] using hr
    exact hba _ (by omega) hr'.1
  have key : ∀ i : Nat, ∃ k : Nat, i < 216 → (¬ b4 (i / 3) = 0 ∧ k = 11 * dm_ix (dm_c b5 i) + dm_ix (dm_c b5 (dm_nx i))) ∨ (∃ e, e < e0 ∧ dm_rm bd (dm_c b6) e = true ∧ s e = i / 3 ∧ k = 121 + 3 * dm_ix (dm_c b5 e) + i % 3) := by
    intro i
    by_cases hi : i < 216
    · rcases full (i / 3) (by omega) with z | ⟨e, he, hr, hs⟩
      · exact ⟨_, fun _ => Or.inl ⟨z, rfl⟩⟩
      · exact ⟨_, fun _ => Or.inr ⟨e, he, hr, hs, rfl⟩⟩
    · exact ⟨0, fun z => absurd z hi⟩
  obtain ⟨kf, hk⟩ := Classical.skolem.mp key
  have := dm_pig 216 154 (fun _ => true) kf (fun i hi _ => ?_) (fun i j hi hj _ _ e => ?_)
  · have e1 : dm_sm (fun e => if (fun _ => true) e = true then (1 : Int) else 0) 216 = dm_sm (fun _ => 1) 216 := dm_sm_congr 216 (fun i hi => by simp)
    rw [e1, dm_sm_1] at this
    omega
  · rcases hk i hi with ⟨z, q⟩ | ⟨e, he, hr, hs, q⟩
    · have a := dm_ix_lt (rg i hi (dm_b_t.mpr z))
      have b := dm_ix_lt (rg _ (dm_nx_lt hi) (dm_al_nx (dm_b_t.mpr z)))
      omega
    · have a := dm_ix_lt (rg e (by omega) (rl e (by omega) hr))
      omega
  · rcases hk i hi with ⟨z, q⟩ | ⟨e', he, hr, hs, q⟩
    · have i1 := rg i hi (dm_b_t.mpr z)
      have i2 := rg _ (dm_nx_lt hi) (dm_al_nx (dm_b_t.mpr z))
      have a := dm_ix_lt i1
      have b := dm_ix_lt i2
      rcases hk j hj with ⟨z', q'⟩ | ⟨e'', he', hr', hs', q'⟩
      · have j1 := rg j hj (dm_b_t.mpr z')
        have j2 := rg _ (dm_nx_lt hj) (dm_al_nx (dm_b_t.mpr z'))
        have a' := dm_ix_lt j1
        have b' := dm_ix_lt j2
        exact hU i j hi hj (dm_b_t.mpr z) (dm_b_t.mpr z') (dm_ix_inj i1 j1 (by omega)) (dm_ix_inj i2 j2 (by omega))
      · omega
    · rcases hk j hj with ⟨z', q'⟩ | ⟨e'', he', hr', hs', q'⟩
      · have j1 := rg j hj (dm_b_t.mpr z')
        have j2 := rg _ (dm_nx_lt hj) (dm_al_nx (dm_b_t.mpr z'))
        have a' := dm_ix_lt j1
        have b' := dm_ix_lt j2
        omega
      · have x1 := rg e' (by omega) (rl e' (by omega) hr)
        have x2 := rg e'' (by omega) (rl e'' (by omega) hr')
        have := us e' e'' (by omega) (by omega) hr hr' (dm_ix_inj x1 x2 (by omega))
        subst this
        omega
end
end
section
/-! closeFan and insert -/
theorem dm_m1 {b : Nat} (hb : b < 2 ^ 31) : (-1 : Int32) ≠ nI b := by
  intro h
  have := nI_pos hb
  rw [← h] at this
  exact this (by decide)
section
variable {sz so ed te : Int32} {a1 a2 a3 a4 a5 a6 a7 a8 a9 a10 a11 a12 a13 a14 a15 a16 a17 a18 : Nat → Int32}
theorem dm_w_closeFan {post : St1 → Prop} (hs : ∀ v, v < 25 → a8 v = -1 ∨ ∃ b, b < 72 ∧ a8 v = nI b) (he : ∀ v, v < 25 → a9 v = -1 ∨ ∃ b, b < 72 ∧ a9 v = nI b)
    (us : ∀ v w b, v < 25 → w < 25 → b < 72 → a8 v = nI b → a8 w = nI b → v = w) (ue : ∀ v w b, v < 25 → w < 25 → b < 72 → a9 v = nI b → a9 w = nI b → v = w) (h6 : dm_rg a6 216 72)
    (H : ∀ b6 : Nat → Int32, dm_rg b6 216 72 → (∀ v a b, v < 25 → a < 72 → b < 72 → a8 v = nI b → a9 v = nI a → b6 (3 * a + 1) = nI b ∧ b6 (3 * b + 2) = nI a) →
      (∀ i, i < 216 → (i % 3 = 0 ∨ ∀ v, v < 25 → a8 v ≠ nI (i / 3) ∧ a9 v ≠ nI (i / 3)) → b6 i = a6 i) → post (sz, so, ed, te, a1, a2, a3, a4, a5, b6, a7, a8, a9, a10, a11, a12, a13, a14, a15, a16, a17, a18)) : wpX_closeFan post (sz, so, ed, te, a1, a2, a3, a4, a5, a6, a7, a8, a9, a10, a11, a12, a13, a14, a15, a16, a17, a18) := by
  refine pk_loop (fun n i s => wX_closeFan_2 post sz so ed te n (nI i) a1 a2 a3 a4 a5 s a7 a8 a9 a10 a11 a12 a13 a14 a15 a16 a17 a18)
    (fun j s => dm_rg s 216 72 ∧ (∀ v a b, v < j → a < 72 → b < 72 → a8 v = nI b → a9 v = nI a → s (3 * a + 1) = nI b ∧ s (3 * b + 2) = nI a) ∧ (∀ i, i < 216 → (i % 3 = 0 ∨ ∀ v, v < 25 → a8 v ≠ nI (i / 3) ∧ a9 v ≠ nI (i / 3)) → s i = a6 i))
    25 0 a6 (by omega) ⟨h6, fun v a b h => absurd h (by omega), fun i _ _ => rfl⟩ ?_ ?_
  · intro n s h
    exact pk_le 25 25 (fun _ => H s h.1 h.2.1 h.2.2) (fun z => absurd z (by omega)) rfl rfl
  · intro n j s hj h hw
    obtain ⟨r6, i1, i2⟩ := h
    have vj := vp_in_nI (n := j) (N := 25) hj (by decide)
    refine pk_le 25 j (fun z => absurd z (by omega)) (fun _ => ⟨vj, ?_⟩) rfl rfl
    rw [nI_clamp (show j < 2 ^ 31 by omega)]
    rcases hs j hj with e8 | ⟨b, hb, e8⟩
    · refine br_t (by rw [e8]; decide) (nm_r (nI_1 j) (hw s ⟨r6, fun v a b hv ha hb h8 h9 => ?_, i2⟩))
      by_cases e : v = j
      · rw [e, e8] at h8; exact absurd h8 (dm_m1 (by omega))
      · exact i1 v a b (by omega) ha hb h8 h9
    · refine br_f (by rw [e8]; exact nI_pos (by omega)) ⟨vj, ?_⟩
      rcases he j hj with e9 | ⟨a, ha, e9⟩
      · refine br_t (by rw [e9]; decide) (nm_r (nI_1 j) (hw s ⟨r6, fun v a b hv ha hb h8 h9 => ?_, i2⟩))
        by_cases e : v = j
        · rw [e, e9] at h9; exact absurd h9 (dm_m1 (by omega))
        · exact i1 v a b (by omega) ha hb h8 h9
      · refine br_f (by rw [e9]; exact nI_pos (by omega)) ⟨vj, nm_r e8 ⟨vj, nm_r e9 ⟨by rw [dm_i31]; exact vp_in_nI (by omega) (by decide), nm_r (e' := upd s (3 * a + 1) (nI b)) (by rw [dm_i31, nI_clamp (by omega)]) ⟨by rw [dm_i32]; exact vp_in_nI (by omega) (by decide), nm_r (e' := upd (upd s (3 * a + 1) (nI b)) (3 * b + 2) (nI a)) (by rw [dm_i32, nI_clamp (by omega)]) (nm_r (nI_1 j) (hw _ ⟨?_, fun v a' b' hv ha' hb' h8 h9 => ?_, fun i hi h => ?_⟩))⟩⟩⟩⟩
        · exact dm_rg_up (by decide) (dm_rg_up (by decide) r6 hb) ha
        · by_cases e : v = j
          · subst e
            rw [e8] at h8
            rw [e9] at h9
            have q1 : b = b' := (nI_eq (by omega) (by omega)).mp h8
            have q2 : a = a' := (nI_eq (by omega) (by omega)).mp h9
            subst q1; subst q2
            exact ⟨by rw [pk_un (by omega), pk_us], by rw [pk_us]⟩
          · have o := i1 v a' b' (by omega) ha' hb' h8 h9
            have n1 : a' ≠ a := fun z => e (ue v j a (by omega) hj ha (by rw [h9, z]) e9)
            have n2 : b' ≠ b := fun z => e (us v j b (by omega) hj hb (by rw [h8, z]) e8)
            exact ⟨by rw [pk_un (by omega), pk_un (by omega)]; exact o.1, by rw [pk_un (by omega), pk_un (by omega)]; exact o.2⟩
        · have o := i2 i hi h
          rcases h with h | h
          · rw [pk_un (by omega), pk_un (by omega)]; exact o
          · have hh := h j hj
            rw [e8, e9] at hh
            have n1 : i / 3 ≠ b := fun z => hh.1 (by rw [z])
            have n2 : i / 3 ≠ a := fun z => hh.2 (by rw [z])
            rw [pk_un (by omega), pk_un (by omega)]; exact o
end
section
variable {X Y : Nat → Int} {S : Nat → Prop} {b4 b5 b6 : Nat → Int32} {bd : Nat → Bool} {p : Nat} {s : Nat → Nat} {a4 a5 a6 a7 a8 a9 : Nat → Int32}
theorem dm_FI_st (h : dm_FI b4 b5 b6 bd p s 216 a4 a5 a6 a7 a8 a9) {v : Nat} (hv : v < 25) : a8 v = -1 ∨ ∃ e, e < 216 ∧ dm_rm bd (dm_c b6) e = true ∧ dm_c b5 e = v ∧ a8 v = nI (s e) := by
  obtain ⟨k1, k2, k3, k4, k5, k6, k7, k8, k9, k10, k11, k12⟩ := h
  by_cases z : ∃ e, e < 216 ∧ dm_rm bd (dm_c b6) e = true ∧ dm_c b5 e = v
  · obtain ⟨e, he, hr, ev⟩ := z
    exact Or.inr ⟨e, he, hr, ev, by rw [← ev]; exact (k1 e he hr).2.2.2.2.2.2.2.1⟩
  · exact Or.inl (k8 v hv (fun e he hr ev => z ⟨e, he, hr, ev⟩))
theorem dm_FI_en (h : dm_FI b4 b5 b6 bd p s 216 a4 a5 a6 a7 a8 a9) {v : Nat} (hv : v < 25) : a9 v = -1 ∨ ∃ e, e < 216 ∧ dm_rm bd (dm_c b6) e = true ∧ dm_c b5 (dm_nx e) = v ∧ a9 v = nI (s e) := by
  obtain ⟨k1, k2, k3, k4, k5, k6, k7, k8, k9, k10, k11, k12⟩ := h
  by_cases z : ∃ e, e < 216 ∧ dm_rm bd (dm_c b6) e = true ∧ dm_c b5 (dm_nx e) = v
  · obtain ⟨e, he, hr, ev⟩ := z
    exact Or.inr ⟨e, he, hr, ev, by rw [← ev]; exact (k1 e he hr).2.2.2.2.2.2.2.2⟩
  · exact Or.inl (k9 v hv (fun e he hr ev => z ⟨e, he, hr, ev⟩))
theorem dm_FI_end (hB : dm_SB X Y S) (hI : dm_TI X Y S (dm_b b4) (dm_c b5) (dm_c b6)) (hc : dm_rg b5 216 25) (h6r : dm_rg b6 216 72) (hp10 : p < 10) (hpS : ¬ S p) (hp : ∀ i, S i → ¬ (X i = X p ∧ Y i = Y p))
    (hbd : ∀ t, t < 72 → (bd t = true ↔ dm_b b4 t = true ∧ dm_bt X Y (dm_c b5) t p))
    (h : dm_FI b4 b5 b6 bd p s 216 a4 a5 a6 a7 a8 a9) {c4 c6 : Nat → Int32} (h4 : ∀ t, t < 72 → c4 t = if bd t = true then 0 else a4 t)
    (f1 : ∀ v a b, v < 25 → a < 72 → b < 72 → a8 v = nI b → a9 v = nI a → c6 (3 * a + 1) = nI b ∧ c6 (3 * b + 2) = nI a)
    (f2 : ∀ i, i < 216 → (i % 3 = 0 ∨ ∀ v, v < 25 → a8 v ≠ nI (i / 3) ∧ a9 v ≠ nI (i / 3)) → c6 i = a6 i) :
    dm_TI X Y (fun i => S i ∨ i = p) (dm_b c4) (dm_c a5) (dm_c c6) := by
  have hst := fun v hv => dm_FI_st h (v := v) hv
  have hen := fun v hv => dm_FI_en h (v := v) hv
  obtain ⟨k1, k2, k3, k4, k5, k6, k7, k8, k9, k10, k11, k12⟩ := h
  have hba : ∀ t, t < 72 → bd t = true → dm_b b4 t = true := fun t ht b => ((hbd t ht).mp b).1
  have keep : ∀ i, i < 216 → dm_b b4 (i / 3) = true → c6 i = a6 i := by
    intro i hi ha
    refine f2 i hi (Or.inr (fun v hv => ⟨?_, ?_⟩))
    · rcases hst v hv with z | ⟨e, he, hr, _, z⟩
      · rw [z]; exact dm_m1 (by omega)
      · rw [z]
        intro w
        have : s e = i / 3 := (nI_eq (by have := (k1 e he hr).1; omega) (by omega)).mp w
        exact dm_b_t.mp ha (by rw [← this]; exact (k1 e he hr).2.1)
    · rcases hen v hv with z | ⟨e, he, hr, _, z⟩
      · rw [z]; exact dm_m1 (by omega)
      · rw [z]
        intro w
        have : s e = i / 3 := (nI_eq (by have := (k1 e he hr).1; omega) (by omega)).mp w
        exact dm_b_t.mp ha (by rw [← this]; exact (k1 e he hr).2.1)
  have nbd : ∀ e, e < 216 → dm_rm bd (dm_c b6) e = true → ¬ bd (s e) = true := by
    intro e he hr z
    have := hba _ (k1 e he hr).1 z
    exact dm_b_t.mp this (k1 e he hr).2.1
  refine dm_ins (s := s) (bd := bd) hB hI hp10 hpS hp hbd (fun e he hr => (k1 e he hr).1) ?_ ?_ ?_ ?_ ?_ ?_
  · intro t ht
    rw [dm_b_t, h4 t ht]
    constructor
    · intro z
      by_cases b : bd t = true
      · rw [if_pos b] at z; exact absurd rfl z
      · rw [if_neg b] at z
        rcases k3 t ht z with w | w
        · exact Or.inl ⟨dm_b_t.mpr w, by simpa using b⟩
        · exact Or.inr w
    · rintro (⟨z1, z2⟩ | ⟨e, he, hr, hs⟩)
      · rw [if_neg (by rw [z2]; decide)]
        exact k4 t ht (dm_b_t.mp z1)
      · rw [← hs, if_neg (nbd e he hr)]
        exact (k1 e he hr).2.2.1
  · intro i hi ha _
    exact congrArg Int32.toNatClampNeg (k5 i hi (dm_b_t.mp ha))
  · intro i hi ha _ hg
    refine congrArg Int32.toNatClampNeg ((keep i hi ha).trans (k7 i hi (dm_b_t.mp ha) (fun e he hr z => ?_)))
    have hr' : bd (e / 3) = true ∧ bd (dm_c b6 e) = false := by simpa [dm_rm] using hr
    have := (dm_tw hI.2.1 hI.2.2.1 (e := e) (f := i) he hi (hba _ (by omega) hr'.1) ha z.1 z.2).2
    rw [this, hr'.1] at hg
    exact absurd hg (by decide)
  · intro e he hr i hi ha m1 m2
    exact dm_c_of ((keep i hi ha).trans (k6 e he hr i hi (dm_b_t.mp ha) m1 m2)) (by have := (k1 e he hr).1; omega)
  · intro e he hr
    obtain ⟨j1, j2, j3, j4, j5, j6, j7, j8, j9⟩ := k1 e he hr
    refine ⟨dm_c_of j4 (by have := (hc e he).2; omega), dm_c_of j5 (by have := (hc _ (dm_nx_lt he)).2; omega), dm_c_of j6 (by omega), ?_⟩
    exact dm_c_of ((f2 (3 * s e) (by omega) (Or.inl (by omega))).trans j7) (by have := (h6r e he).2; omega)
  · intro e f he hf hr hr' hcf
    obtain ⟨j1, j2, j3, j4, j5, j6, j7, j8, j9⟩ := k1 e he hr
    obtain ⟨l1, l2, l3, l4, l5, l6, l7, l8, l9⟩ := k1 f hf hr'
    have := f1 (dm_c b5 f) (s e) (s f) (hc f hf).2 j1 l1 l8 (by rw [hcf]; exact j9)
    exact ⟨dm_c_of this.1 (by omega), dm_c_of this.2 (by omega)⟩
end
section
variable {sz so ed te : Int32} {a1 a2 a3 a4 a5 a6 a7 a8 a9 a10 a11 a12 a13 a14 a15 a16 a17 a18 : Nat → Int32}
theorem dm_w_insert {post : St1 → Prop} {S : Nat → Prop} {p : Nat} (hx : dm_XB a2) (hy : dm_XB a3) (hB : dm_SB (dm_co a2) (dm_co a3) S) (hI : dm_TI (dm_co a2) (dm_co a3) S (dm_b a4) (dm_c a5) (dm_c a6))
    (hc : dm_rg a5 216 25) (h6 : dm_rg a6 216 72) (hp10 : p < 10) (hpS : ¬ S p) (hp : ∀ i, S i → ¬ (dm_co a2 i = dm_co a2 p ∧ dm_co a3 i = dm_co a3 p))
    (H : ∀ b4 b5 b6 b7 b8 b9 : Nat → Int32, dm_TI (dm_co a2) (dm_co a3) (fun i => S i ∨ i = p) (dm_b b4) (dm_c b5) (dm_c b6) → dm_rg b5 216 25 → dm_rg b6 216 72 → post (sz, so, ed, te, a1, a2, a3, b4, b5, b6, b7, b8, b9, a10, a11, a12, a13, a14, a15, a16, a17, a18)) :
    wpX_insert post (sz, so, ed, te, a1, a2, a3, a4, a5, a6, a7, a8, a9, a10, a11, a12, a13, a14, a15, a16, a17, a18) (nI p) := by
  have hI' := hI
  obtain ⟨hV, hU, hX, hT, hD, hK⟩ := hI
  refine pk_loop (fun n i s => wX_insert_2 post (nI p) sz so ed te n (nI i) a1 a2 a3 a4 a5 a6 s a8 a9 a10 a11 a12 a13 a14 a15 a16 a17 a18)
    (fun j s => ∀ t, t < j → (¬ s t = 0 ↔ ¬ a4 t = 0 ∧ dm_bt (dm_co a2) (dm_co a3) (dm_c a5) t p)) 72 0 a7 (by omega) (fun t h => absurd h (by omega)) ?_ ?_
  · intro n c7 h7
    refine pk_le 72 72 (fun _ => ?_) (fun z => absurd z (by omega)) rfl rfl
    have hbd : ∀ t, t < 72 → (dm_b c7 t = true ↔ dm_b a4 t = true ∧ dm_bt (dm_co a2) (dm_co a3) (dm_c a5) t p) := by
      intro t ht
      rw [dm_b_t, dm_b_t]; exact h7 t ht
    have hba : ∀ t, t < 72 → dm_b c7 t = true → dm_b a4 t = true := fun t ht b => ((hbd t ht).mp b).1
    have us : ∀ e f, e < 216 → f < 216 → dm_rm (dm_b c7) (dm_c a6) e = true → dm_rm (dm_b c7) (dm_c a6) f = true → dm_c a5 e = dm_c a5 f → e = f := fun e f he hf hr hr' h => dm_us hB hV hU hX hT hD (by omega) hp hbd he hf hr hr' h
    obtain ⟨se, es, ue⟩ := dm_ends hU hX hba us
    refine pk_loop (fun n i s => wX_insert_45 post (nI p) sz so ed te n (nI i) a1 a2 a3 a4 a5 a6 c7 s.1 s.2 a10 a11 a12 a13 a14 a15 a16 a17 a18)
      (fun j s => ∀ v, v < j → s.1 v = -1 ∧ s.2 v = -1) 25 0 (a8, a9) (by omega) (fun t h => absurd h (by omega)) ?_ ?_
    · intro n c8 h8
      refine pk_le 25 25 (fun _ => ?_) (fun z => absurd z (by omega)) rfl rfl
      refine pk_loop (fun n i s => wX_insert_73 post (nI p) n (nI i) sz so ed te a1 a2 a3 s.1 s.2.1 s.2.2.1 s.2.2.2.1 s.2.2.2.2.1 s.2.2.2.2.2 a10 a11 a12 a13 a14 a15 a16 a17 a18)
        (fun j s => ∃ sl, dm_FI a4 a5 a6 (dm_b c7) p sl j s.1 s.2.1 s.2.2.1 s.2.2.2.1 s.2.2.2.2.1 s.2.2.2.2.2) 216 0 (a4, a5, a6, c7, c8.1, c8.2) (by omega)
        ⟨fun _ => 0, dm_FI_0 (fun _ _ => rfl) rfl rfl (fun v hv => (h8 v hv).1) (fun v hv => (h8 v hv).2) (fun t ht => dm_b_t.symm) hc h6⟩ ?_ ?_
      · rintro n ⟨d4, d5, d6, d7, d8, d9⟩ ⟨sl, hf⟩
        replace hf : dm_FI a4 a5 a6 (dm_b c7) p sl 216 d4 d5 d6 d7 d8 d9 := hf
        refine pk_le 216 216 (fun _ => ?_) (fun z => absurd z (by omega)) rfl rfl
        refine pk_loop (fun n i s => wX_insert_130 post sz so ed te n (nI i) a1 a2 a3 s d5 d6 d7 d8 d9 a10 a11 a12 a13 a14 a15 a16 a17 a18)
          (fun j s => ∀ t, t < 72 → s t = if t < j ∧ dm_b c7 t = true then 0 else d4 t) 72 0 d4 (by omega) (fun t ht => by rw [if_neg (by omega)]) ?_ ?_
        · intro n c4 h4
          refine pk_le 72 72 (fun _ => ?_) (fun z => absurd z (by omega)) rfl rfl
          have hst := fun v hv => dm_FI_st hf (v := v) hv
          have hen := fun v hv => dm_FI_en hf (v := v) hv
          have hf' := hf
          obtain ⟨k1, k2, k3, k4, k5, k6, k7, k8, k9, k10, k11, k12⟩ := hf
          refine dm_w_closeFan (fun v hv => ?_) (fun v hv => ?_) (fun v w b hv hw hb e1 e2 => ?_) (fun v w b hv hw hb e1 e2 => ?_) k12 (fun b6 r6 f1 f2 => ?_)
          · rcases hst v hv with z | ⟨e, he, hr, _, z⟩
            · exact Or.inl z
            · exact Or.inr ⟨_, (k1 e he hr).1, z⟩
          · rcases hen v hv with z | ⟨e, he, hr, _, z⟩
            · exact Or.inl z
            · exact Or.inr ⟨_, (k1 e he hr).1, z⟩
          · rcases hst v hv with z | ⟨e, he, hr, ev, z⟩
            · rw [z] at e1; exact absurd e1 (dm_m1 (by omega))
            · rcases hst w hw with z' | ⟨f, hf, hr', ew, z'⟩
              · rw [z'] at e2; exact absurd e2 (dm_m1 (by omega))
              · rw [z] at e1
                rw [z'] at e2
                have l1 := (k1 e he hr).1
                have l2 := (k1 f hf hr').1
                have q1 : sl e = b := (nI_eq (by omega) (by omega)).mp e1
                have q2 : sl f = b := (nI_eq (by omega) (by omega)).mp e2
                have := k2 e f he hf hr hr' (by rw [q1, q2])
                rw [← ev, ← ew, this]
          · rcases hen v hv with z | ⟨e, he, hr, ev, z⟩
            · rw [z] at e1; exact absurd e1 (dm_m1 (by omega))
            · rcases hen w hw with z' | ⟨f, hf, hr', ew, z'⟩
              · rw [z'] at e2; exact absurd e2 (dm_m1 (by omega))
              · rw [z] at e1
                rw [z'] at e2
                have l1 := (k1 e he hr).1
                have l2 := (k1 f hf hr').1
                have q1 : sl e = b := (nI_eq (by omega) (by omega)).mp e1
                have q2 : sl f = b := (nI_eq (by omega) (by omega)).mp e2
                have := k2 e f he hf hr hr' (by rw [q1, q2])
                rw [← ev, ← ew, this]
          · exact H c4 d5 b6 d7 d8 d9 (dm_FI_end hB hI' hc h6 hp10 hpS hp hbd hf' (fun t ht => by
              rw [h4 t ht]
              by_cases b : dm_b c7 t = true
              · rw [if_pos ⟨ht, b⟩, if_pos b]
              · rw [if_neg (fun z => b z.2), if_neg b]) f1 f2) k11 r6
        · intro n j s hj hs hw
          refine pk_le 72 j (fun z => absurd z (by omega)) (fun _ => ⟨vp_in_nI hj (by decide), ?_⟩) rfl rfl
          rw [nI_clamp (show j < 2 ^ 31 by omega)]
          have k10 := hf.2.2.2.2.2.2.2.2.2.1
          have k10 : ¬ d7 j = 0 ↔ dm_b c7 j = true := k10 j hj
          refine br_c (fun z => nm_r (nI_1 j) (hw s (fun t ht => ?_))) (fun z => ⟨vp_in_nI hj (by decide), nm_e (nm_r (nI_1 j) (hw _ (fun t ht => ?_)))⟩)
          · rw [hs t ht]
            by_cases e : t = j
            · rw [e, if_neg (by omega), if_neg (fun w => k10.mpr w.2 z)]
            · by_cases c : t < j ∧ dm_b c7 t = true
              · rw [if_pos c, if_pos ⟨by omega, c.2⟩]
              · rw [if_neg c, if_neg (fun w => c ⟨by omega, w.2⟩)]
          · by_cases e : t = j
            · rw [e, pk_us, if_pos ⟨by omega, k10.mp z⟩]
            · rw [pk_un e, hs t ht]
              by_cases c : t < j ∧ dm_b c7 t = true
              · rw [if_pos c, if_pos ⟨by omega, c.2⟩]
              · rw [if_neg c, if_neg (fun w => c ⟨by omega, w.2⟩)]
      · rintro n j ⟨d4, d5, d6, d7, d8, d9⟩ hj ⟨sl, hf⟩ hw
        replace hf : dm_FI a4 a5 a6 (dm_b c7) p sl j d4 d5 d6 d7 d8 d9 := hf
        dsimp only
        have skip : ¬ dm_rm (dm_b c7) (dm_c a6) j = true → wX_insert_73 post (nI p) n (nI (j + 1)) sz so ed te a1 a2 a3 d4 d5 d6 d7 d8 d9 a10 a11 a12 a13 a14 a15 a16 a17 a18 := fun hn => hw (d4, d5, d6, d7, d8, d9) ⟨sl, dm_FI_skip hf hn⟩
        have k10 : ∀ t, t < 72 → (¬ d7 t = 0 ↔ dm_b c7 t = true) := hf.2.2.2.2.2.2.2.2.2.1
        have k4 : ∀ t, t < 72 → ¬ a4 t = 0 → ¬ d4 t = 0 := hf.2.2.2.1
        have k11 : dm_rg d5 216 25 := hf.2.2.2.2.2.2.2.2.2.2.1
        have k12 : dm_rg d6 216 72 := hf.2.2.2.2.2.2.2.2.2.2.2
        refine pk_le 216 j (fun z => absurd z (by omega)) (fun _ => ⟨by decide, nm_r (e' := nI (j / 3)) (dm_d3' (by omega)) ⟨vp_in_nI (by omega) (by decide), ?_⟩⟩) rfl rfl
        rw [nI_clamp (show j / 3 < 2 ^ 31 by omega)]
        refine br_c (fun z => nm_r (nI_1 j) (skip (fun hr => ?_))) (fun z => ⟨vp_in_nI (by omega) (by decide), br_c (fun z2 => nm_r (nI_1 j) (skip (fun hr => ?_))) (fun z2 => ?_)⟩)
        · have hr' : dm_b c7 (j / 3) = true ∧ dm_b c7 (dm_c a6 j) = false := by simpa [dm_rm] using hr
          exact k4 _ (by omega) (dm_b_t.mp (hba _ (by omega) hr'.1)) z
        · have hr' : dm_b c7 (j / 3) = true ∧ dm_b c7 (dm_c a6 j) = false := by simpa [dm_rm] using hr
          exact (k10 _ (by omega)).mpr hr'.1 z2
        · have hb := (k10 _ (by omega)).mp z2
          obtain ⟨g6, g5, g5n⟩ := dm_FI_a6 hU hX hba hf (by omega) hj hb
          have v6 := h6 j hj
          have g6' : d6 j = nI (dm_c a6 j) := g6.trans v6.1
          refine ⟨vp_in_nI hj (by decide), ?_⟩
          rw [nI_clamp (show j < 2 ^ 31 by omega)]
          refine ⟨by rw [show d6 j = nI (dm_c a6 j) from g6']; exact vp_in_nI v6.2 (by decide), ?_⟩
          rw [show d6 j = nI (dm_c a6 j) from g6', nI_clamp (show dm_c a6 j < 2 ^ 31 by omega)]
          refine br_c (fun z3 => ?_) (fun z3 => nm_r (nI_1 j) (skip (fun hr => ?_)))
          · have hr : dm_rm (dm_b c7) (dm_c a6) j = true := by
              have : dm_b c7 (dm_c a6 j) = false := by
                by_cases w : dm_b c7 (dm_c a6 j) = true
                · exact absurd z3 ((k10 _ v6.2).mpr w)
                · simpa using w
              unfold dm_rm
              rw [hb, this]; rfl
            refine dm_w_fan hj (by omega) (dm_FI_free hB.1 hV hU hba us hf (by omega)) k11 k12 (fun t b6 ht ht0 hb6 => nm_r (nI_1 j) ?_)
            exact hw (_, _, _, _, _, _) (dm_FI_step hV hU hX hba us ue hc h6 (by omega) hf hj hr ht ht0 hb6)
          · have hr' : dm_b c7 (j / 3) = true ∧ dm_b c7 (dm_c a6 j) = false := by simpa [dm_rm] using hr
            have := (k10 _ v6.2).mp z3
            rw [hr'.2] at this
            exact absurd this (by decide)
    · rintro n j ⟨c8, c9⟩ hj h hw
      have vj := vp_in_nI (n := j) (N := 25) hj (by decide)
      refine pk_le 25 j (fun z => absurd z (by omega)) (fun _ => ⟨vj, nm_r (e' := upd c8 j (-1)) (by rw [nI_clamp (by omega)]) ⟨vj, nm_r (e' := upd c9 j (-1)) (by rw [nI_clamp (by omega)]) (nm_r (nI_1 j) (hw (upd c8 j (-1), upd c9 j (-1)) (fun v hv => ?_)))⟩⟩) rfl rfl
      by_cases e : v = j
      · subst e; exact ⟨pk_us, pk_us⟩
      · have := h v (by omega)
        exact ⟨by show upd c8 j (-1) v = -1; rw [pk_un e]; exact this.1, by show upd c9 j (-1) v = -1; rw [pk_un e]; exact this.2⟩
  · intro n j s hj h hw
    have vj := vp_in_nI (n := j) (N := 72) hj (by decide)
    have up : ∀ x : Int32, (¬ x = 0 ↔ ¬ a4 j = 0 ∧ dm_bt (dm_co a2) (dm_co a3) (dm_c a5) j p) → ∀ t, t < j + 1 → (¬ upd s j x t = 0 ↔ ¬ a4 t = 0 ∧ dm_bt (dm_co a2) (dm_co a3) (dm_c a5) t p) := by
      intro x hx t ht
      by_cases e : t = j
      · rw [e, pk_us]; exact hx
      · rw [pk_un e]; exact h t (by omega)
    refine pk_le 72 j (fun z => absurd z (by omega)) (fun _ => ⟨vj, ?_⟩) rfl rfl
    rw [nI_clamp (show j < 2 ^ 31 by omega)]
    refine br_c (fun z => ⟨vj, nm_e (nm_r (nI_1 j) (hw _ (up 0 ?_)))⟩) (fun z => ?_)
    · exact ⟨fun w => absurd rfl w, fun w => absurd z w.1⟩
    · obtain ⟨d1, d2, d3⟩ := dm_three hV hj (dm_b_t.mpr z)
      refine dm_w_conflicts hx hy hc hj (by omega) d1 d2 d3 (fun w => br_f (by decide) ⟨vj, nm_e (nm_r (nI_1 j) ?_)⟩) (fun w => br_t rfl ⟨vj, nm_e (nm_r (nI_1 j) ?_)⟩)
      · exact hw _ (up 1 ⟨fun _ => ⟨z, w⟩, fun _ => by decide⟩)
      · exact hw _ (up 0 ⟨fun q => absurd rfl q, fun q => absurd q.2 w⟩)
end
end
section
/-! the first triangle (pure), and the walk of seed -/
def dm_sc : Nat → Nat
  | 0 => 0 | 1 => 1 | 2 => 2 | 3 => 1 | 4 => 0 | 5 => 3 | 6 => 2 | 7 => 1 | 8 => 3 | 9 => 0 | 10 => 2 | 11 => 3 | _ => 0
def dm_sa : Nat → Nat
  | 0 => 1 | 1 => 2 | 2 => 3 | 3 => 0 | 4 => 3 | 5 => 2 | 6 => 0 | 7 => 1 | 8 => 3 | 9 => 0 | 10 => 2 | 11 => 1 | _ => 0
def dm_vv (a s t : Nat) : Nat → Nat
  | 0 => a | 1 => s | 2 => t | _ => 24
theorem dm_sc_lt : ∀ e, e < 12 → dm_sc e < 4 := by decide
theorem dm_sc_ne : ∀ e, e < 12 → dm_sc e ≠ dm_sc (dm_nx e) := by decide
theorem dm_sc_U : ∀ e, e < 12 → ∀ f, f < 12 → dm_sc e = dm_sc f → dm_sc (dm_nx e) = dm_sc (dm_nx f) → e = f := by decide
theorem dm_sc_X : ∀ e, e < 12 → ∃ f, f < 12 ∧ dm_sa e = f / 3 ∧ dm_sc f = dm_sc (dm_nx e) ∧ dm_sc (dm_nx f) = dm_sc e := by decide
theorem dm_nx12 : ∀ e, e < 12 → dm_nx e < 12 := by decide
section
variable {X Y : Nat → Int} {al : Nat → Bool} {C A : Nat → Nat} {a s t : Nat}
theorem dm_vv_inj (h1 : a ≠ s) (h2 : s ≠ t) (h3 : t ≠ a) (ha : a ≠ 24) (hs : s ≠ 24) (ht : t ≠ 24) : ∀ i, i < 4 → ∀ j, j < 4 → dm_vv a s t i = dm_vv a s t j → i = j := by
  have e0 : dm_vv a s t 0 = a := rfl
  have e1 : dm_vv a s t 1 = s := rfl
  have e2 : dm_vv a s t 2 = t := rfl
  have e3 : dm_vv a s t 3 = 24 := rfl
  intro i hi j hj h
  have ci : i = 0 ∨ i = 1 ∨ i = 2 ∨ i = 3 := by omega
  have cj : j = 0 ∨ j = 1 ∨ j = 2 ∨ j = 3 := by omega
  rcases ci with c | c | c | c <;> rcases cj with d | d | d | d <;> subst c <;> subst d <;> simp only [e0, e1, e2, e3] at h <;> omega
theorem dm_by_0 (u v : Nat) : ¬ dm_by X Y u v u ∧ ¬ dm_by X Y u v v := by
  have t1 : dm_tn X Y u v u = 0 := by unfold dm_tn; grind
  have t2 : dm_tn X Y u v v = 0 := by unfold dm_tn; grind
  have d1 : dm_dt X Y u v u = 0 := by unfold dm_dt; grind
  have d2 : dm_dt X Y u v v = 0 := by unfold dm_dt; grind
  unfold dm_by
  omega
theorem dm_seedTI (h1 : a ≠ s) (h2 : s ≠ t) (h3 : t ≠ a) (ha : a ≠ 24) (hs : s ≠ 24) (ht : t ≠ 24) (hccw : 0 < dm_tn X Y a s t)
    (hal : ∀ i, i < 72 → (al i = true ↔ i < 4)) (hC : ∀ e, e < 12 → C e = dm_vv a s t (dm_sc e)) (hA : ∀ e, e < 12 → A e = dm_sa e) :
    dm_TI X Y (fun i => i = a ∨ i = s ∨ i = t) al C A := by
  have al12 : ∀ e, e < 216 → al (e / 3) = true → e < 12 := by
    intro e he h
    have := (hal _ (by omega)).mp h
    omega
  have inj := dm_vv_inj h1 h2 h3 ha hs ht
  have ec : ∀ e f, e < 12 → f < 12 → C e = C f → dm_sc e = dm_sc f := by
    intro e f he hf h
    rw [hC e he, hC f hf] at h
    exact inj _ (dm_sc_lt e he) _ (dm_sc_lt f hf) h
  refine ⟨?_, ?_, ?_, ?_, ?_, ?_⟩
  · intro e he h
    have h12 := al12 e he h
    refine ⟨?_, fun z => dm_sc_ne e h12 (ec _ _ h12 (dm_nx12 e h12) z)⟩
    rw [hC e h12]
    have := dm_sc_lt e h12
    have c : dm_sc e = 0 ∨ dm_sc e = 1 ∨ dm_sc e = 2 ∨ dm_sc e = 3 := by omega
    rcases c with c | c | c | c <;> rw [c]
    · exact Or.inl (Or.inl rfl)
    · exact Or.inl (Or.inr (Or.inl rfl))
    · exact Or.inl (Or.inr (Or.inr rfl))
    · exact Or.inr rfl
  · intro e f he hf h h' m1 m2
    have e12 := al12 e he h
    have f12 := al12 f hf h'
    exact dm_sc_U e e12 f f12 (ec _ _ e12 f12 m1) (ec _ _ (dm_nx12 e e12) (dm_nx12 f f12) m2)
  · intro e he h
    have e12 := al12 e he h
    obtain ⟨f, hf, q1, q2, q3⟩ := dm_sc_X e e12
    refine ⟨f, by omega, (hal _ (by omega)).mpr (by omega), by rw [hA e e12, q1], ?_, ?_⟩
    · rw [hC f hf, hC _ (dm_nx12 e e12), q2]
    · rw [hC e e12, hC _ (dm_nx12 f hf), q3]
  · intro i hi h r1 r2 r3
    have := (hal i hi).mp h
    have c : i = 0 ∨ i = 1 ∨ i = 2 ∨ i = 3 := by omega
    rcases c with c | c | c | c <;> subst c
    · rw [hC _ (by decide), hC _ (by decide), hC _ (by decide)]; exact hccw
    · rw [hC _ (by decide)] at r3; exact absurd rfl r3
    · rw [hC _ (by decide)] at r3; exact absurd rfl r3
    · rw [hC _ (by decide)] at r3; exact absurd rfl r3
  · intro i hi h q hq
    have := (hal i hi).mp h
    have c : i = 0 ∨ i = 1 ∨ i = 2 ∨ i = 3 := by omega
    unfold dm_bt
    rcases c with c | c | c | c <;> subst c <;> rw [hC _ (by decide), hC _ (by decide), hC _ (by decide)]
    · show ¬ dm_cf X Y a s t q
      rw [dm_cf_4 ha hs ht]
      have z1 : dm_ic X Y a s t a = 0 := by unfold dm_ic; grind
      have z2 : dm_ic X Y a s t s = 0 := by unfold dm_ic; grind
      have z3 : dm_ic X Y a s t t = 0 := by unfold dm_ic; grind
      rcases hq with z | z | z <;> rw [z] <;> omega
    · show ¬ dm_cf X Y s a 24 q
      rw [dm_cf_3 hs ha]
      have b := dm_by_0 (X := X) (Y := Y) s a
      have k : dm_tn X Y s a t = - dm_tn X Y a s t := dm_tn_sw X Y a s t
      rcases hq with z | z | z <;> rw [z]
      · exact b.2
      · exact b.1
      · unfold dm_by; omega
    · show ¬ dm_cf X Y t s 24 q
      rw [dm_cf_3 ht hs]
      have b := dm_by_0 (X := X) (Y := Y) t s
      have k : dm_tn X Y t s a = - dm_tn X Y a s t := by rw [dm_tn_sw X Y s t a, dm_tn_rot]
      rcases hq with z | z | z <;> rw [z]
      · unfold dm_by; omega
      · exact b.2
      · exact b.1
    · show ¬ dm_cf X Y a t 24 q
      rw [dm_cf_3 ha ht]
      have b := dm_by_0 (X := X) (Y := Y) a t
      have k : dm_tn X Y a t s = - dm_tn X Y a s t := by rw [dm_tn_sw X Y t a s, ← dm_tn_rot X Y t a s]
      rcases hq with z | z | z <;> rw [z]
      · exact b.1
      · unfold dm_by; omega
      · exact b.2
  · intro k hk
    have k0 := hk 0 (by decide) ((hal 0 (by decide)).mpr (by decide)) (by rw [hC 0 (by decide)]; exact ha) (by rw [hC _ (by decide)]; exact hs)
    have k1 := hk 1 (by decide) ((hal 0 (by decide)).mpr (by decide)) (by rw [hC 1 (by decide)]; exact hs) (by rw [hC _ (by decide)]; exact ht)
    rw [hC _ (by decide), hC _ (by decide)] at k0 k1
    have k0' : k a = k s := k0
    have k1' : k s = k t := k1
    intro i j hi hj
    rcases hi with z | z | z <;> rcases hj with w | w | w <;> rw [z, w] <;> omega
end
section
variable {sz so ed te : Int32} {a1 a2 a3 a4 a5 a6 a7 a8 a9 a10 a11 a12 a13 a14 a15 a16 a17 a18 : Nat → Int32}
theorem dm_w_seed22 {post : St1 → Prop} {a s t : Nat}
    (h4 : ∀ i, i < 72 → a4 i = 0) (hc : dm_rg a5 216 25) (h6 : dm_rg a6 216 72) (ha : a < 24) (hs : s < 24) (ht : t < 24)
    (h1 : a ≠ s) (h2 : s ≠ t) (h3 : t ≠ a) (hccw : 0 < dm_tn (dm_co a2) (dm_co a3) a s t)
    (H : ∀ b4 b5 b6 b7 : Nat → Int32, dm_TI (dm_co a2) (dm_co a3) (fun i => i = a ∨ i = s ∨ i = t) (dm_b b4) (dm_c b5) (dm_c b6) → dm_rg b5 216 25 → dm_rg b6 216 72 → post (sz, 1, ed, te, a1, a2, a3, b4, b5, b6, b7, a8, a9, a10, a11, a12, a13, a14, a15, a16, a17, a18)) :
    wX_seed_22 post (nI a) (nI s) (nI t) sz so ed te a1 a2 a3 a4 a5 a6 a7 a8 a9 a10 a11 a12 a13 a14 a15 a16 a17 a18 := by
  refine dm_w_setTri (t := 0) (by decide) (dm_w_setTri (t := 1) (by decide) (dm_w_setTri (t := 2) (by decide) (dm_w_setTri (t := 3) (by decide) (dm_w_link (t := 0) (by decide) (dm_w_link (t := 1) (by decide) (dm_w_link (t := 2) (by decide) (dm_w_link (t := 3) (by decide) (H _ _ _ _ ?_ ?_ ?_))))))))
  · refine dm_seedTI h1 h2 h3 (by omega) (by omega) (by omega) hccw (fun i hi => ?_) (fun e he => ?_) (fun e he => ?_)
    · rw [dm_b_t]
      by_cases c0 : i = 0
      · subst c0; exact ⟨fun _ => by decide, fun _ => by rw [pk_un (by decide), pk_un (by decide), pk_un (by decide), pk_us]; decide⟩
      · by_cases c1 : i = 1
        · subst c1; exact ⟨fun _ => by decide, fun _ => by rw [pk_un (by decide), pk_un (by decide), pk_us]; decide⟩
        · by_cases c2 : i = 2
          · subst c2; exact ⟨fun _ => by decide, fun _ => by rw [pk_un (by decide), pk_us]; decide⟩
          · by_cases c3 : i = 3
            · subst c3; exact ⟨fun _ => by decide, fun _ => by rw [pk_us]; decide⟩
            · rw [pk_un c3, pk_un c2, pk_un c1, pk_un c0, h4 i hi]
              exact ⟨fun z => absurd rfl z, fun z => by omega⟩
    · refine dm_c_of (v := dm_vv a s t (dm_sc e)) ?_ ?_
      · match e, he with
        | 0, _ => rfl
        | 1, _ => rfl
        | 2, _ => rfl
        | 3, _ => rfl
        | 4, _ => rfl
        | 5, _ => rfl
        | 6, _ => rfl
        | 7, _ => rfl
        | 8, _ => rfl
        | 9, _ => rfl
        | 10, _ => rfl
        | 11, _ => rfl
      · have q : ∀ i, dm_vv a s t i < 25 := by
          intro i
          match i with
          | 0 => show a < 25; omega
          | 1 => show s < 25; omega
          | 2 => show t < 25; omega
          | _ + 3 => show 24 < 25; omega
        have := q (dm_sc e)
        omega
    · refine dm_c_of (v := dm_sa e) ?_ ?_
      · match e, he with
        | 0, _ => rfl
        | 1, _ => rfl
        | 2, _ => rfl
        | 3, _ => rfl
        | 4, _ => rfl
        | 5, _ => rfl
        | 6, _ => rfl
        | 7, _ => rfl
        | 8, _ => rfl
        | 9, _ => rfl
        | 10, _ => rfl
        | 11, _ => rfl
      · have q : ∀ e, e < 12 → dm_sa e < 4 := by decide
        have := q e he
        omega
  · repeat (first | exact hc | refine dm_rg_up (by decide) ?_ ?_)
    all_goals first | omega | decide
  · repeat (first | exact h6 | refine dm_rg_up (by decide) ?_ ?_)
    all_goals first | omega | decide
theorem dm_w_seed {post : St1 → Prop} {a b c : Nat} (hx : dm_XB a2) (hy : dm_XB a3)
    (h4 : ∀ i, i < 72 → a4 i = 0) (hc : dm_rg a5 216 25) (h6 : dm_rg a6 216 72) (ha : a < 24) (hb : b < 24) (hcc : c < 24)
    (h1 : a ≠ b) (h2 : b ≠ c) (h3 : c ≠ a) (hn : dm_tn (dm_co a2) (dm_co a3) a b c ≠ 0)
    (H : ∀ b4 b5 b6 b7 : Nat → Int32, dm_TI (dm_co a2) (dm_co a3) (fun i => i = a ∨ i = b ∨ i = c) (dm_b b4) (dm_c b5) (dm_c b6) → dm_rg b5 216 25 → dm_rg b6 216 72 → post (sz, 1, ed, te, a1, a2, a3, b4, b5, b6, b7, a8, a9, a10, a11, a12, a13, a14, a15, a16, a17, a18)) :
    wpX_seed post (sz, so, ed, te, a1, a2, a3, a4, a5, a6, a7, a8, a9, a10, a11, a12, a13, a14, a15, a16, a17, a18) (nI a) (nI b) (nI c) := by
  unfold wpX_seed
  refine dm_w_turn hx hy ha hb hcc (fun r hr => ?_)
  have e0 : (0 : Int32).toInt = 0 := by decide
  refine br_c (fun g => ?_) (fun g => ?_)
  · rw [Int32.le_iff_toInt_le, hr, e0] at g
    exact dm_w_seed22 h4 hc h6 ha hb hcc h1 h2 h3 (by omega) H
  · rw [Int32.le_iff_toInt_le, hr, e0] at g
    refine dm_w_seed22 h4 hc h6 ha hcc hb (fun z => h3 z.symm) (fun z => h2 z.symm) (fun z => h1 z.symm) ?_ ?_
    · have k : dm_tn (dm_co a2) (dm_co a3) a c b = - dm_tn (dm_co a2) (dm_co a3) a b c := by unfold dm_tn; grind
      omega
    · intro b4 b5 b6 b7 hI r5 r6
      have e : (fun i => i = a ∨ i = c ∨ i = b) = (fun i => i = a ∨ i = b ∨ i = c) := funext (fun i => propext (by omega))
      rw [e] at hI
      exact H b4 b5 b6 b7 hI r5 r6
end
end
section
/-! the walk of build -/
/-- the points: ids below n are in use, at different places of the grid -/
def dm_PT (n : Nat) (a1 a2 a3 : Nat → Int32) : Prop :=
  n ≤ 10 ∧ (∀ i, i < 24 → (¬ a1 i = 0 ↔ i < n)) ∧ dm_XB a2 ∧ dm_XB a3 ∧ (∀ i j, i < n → j < n → dm_co a2 i = dm_co a2 j → dm_co a3 i = dm_co a3 j → i = j)
/-- some third point off the line of the first two -/
def dm_NC (X Y : Nat → Int) (n : Nat) : Prop := ∃ k, 2 ≤ k ∧ k < n ∧ dm_tn X Y 0 1 k ≠ 0
section
variable {sz so ed te : Int32} {a1 a2 a3 a4 a5 a6 a7 a8 a9 a10 a11 a12 a13 a14 a15 a16 a17 a18 : Nat → Int32}
theorem dm_w_b111 {post : St1 → Prop} {n k : Nat} (hP : dm_PT n a1 a2 a3) (hk : k < n) (hk2 : 2 ≤ k) (hn0 : dm_tn (dm_co a2) (dm_co a3) 0 1 k ≠ 0)
    (hI : dm_TI (dm_co a2) (dm_co a3) (fun i => i = 0 ∨ i = 1 ∨ i = k) (dm_b a4) (dm_c a5) (dm_c a6)) (hc : dm_rg a5 216 25) (h6 : dm_rg a6 216 72)
    (H : ∀ b4 b5 b6 b7 b8 b9 : Nat → Int32, dm_TI (dm_co a2) (dm_co a3) (fun i => i < n) (dm_b b4) (dm_c b5) (dm_c b6) → dm_rg b5 216 25 → dm_rg b6 216 72 → post (sz, so, ed, te, a1, a2, a3, b4, b5, b6, b7, b8, b9, a10, a11, a12, a13, a14, a15, a16, a17, a18)) :
    ∃ fu, wX_build_111 post (nI 0) (nI 1) (nI k) fu (nI 0) sz so ed te a1 a2 a3 a4 a5 a6 a7 a8 a9 a10 a11 a12 a13 a14 a15 a16 a17 a18 := by
  obtain ⟨hn, hu, hx, hy, hd⟩ := hP
  refine pk_loop (fun m i s => wX_build_111 post (nI 0) (nI 1) (nI k) m (nI i) sz so ed te a1 a2 a3 s.1 s.2.1 s.2.2.1 s.2.2.2.1 s.2.2.2.2.1 s.2.2.2.2.2 a10 a11 a12 a13 a14 a15 a16 a17 a18)
    (fun j s => dm_TI (dm_co a2) (dm_co a3) (fun i => i < n ∧ (i = 0 ∨ i = 1 ∨ i = k ∨ i < j)) (dm_b s.1) (dm_c s.2.1) (dm_c s.2.2.1) ∧ dm_rg s.2.1 216 25 ∧ dm_rg s.2.2.1 216 72)
    24 0 (a4, a5, a6, a7, a8, a9) (by omega) ?_ ?_ ?_
  · have e : (fun i => i = 0 ∨ i = 1 ∨ i = k) = (fun i => i < n ∧ (i = 0 ∨ i = 1 ∨ i = k ∨ i < 0)) := funext (fun i => propext (by omega))
    rw [e] at hI
    exact ⟨hI, hc, h6⟩
  · rintro m ⟨d4, d5, d6, d7, d8, d9⟩ ⟨h1, h2, h3⟩
    have e : (fun i => i < n ∧ (i = 0 ∨ i = 1 ∨ i = k ∨ i < 24)) = (fun i => i < n) := funext (fun i => propext (by omega))
    rw [e] at h1
    exact pk_le 24 24 (fun _ => H d4 d5 d6 d7 d8 d9 h1 h2 h3) (fun z => absurd z (by omega)) rfl rfl
  · rintro m j ⟨d4, d5, d6, d7, d8, d9⟩ hj ⟨h1, h2, h3⟩ hw
    replace h1 : dm_TI (dm_co a2) (dm_co a3) (fun i => i < n ∧ (i = 0 ∨ i = 1 ∨ i = k ∨ i < j)) (dm_b d4) (dm_c d5) (dm_c d6) := h1
    dsimp only
    have skip : (j < n → j = 0 ∨ j = 1 ∨ j = k) → wX_build_111 post (nI 0) (nI 1) (nI k) m (nI (j + 1)) sz so ed te a1 a2 a3 d4 d5 d6 d7 d8 d9 a10 a11 a12 a13 a14 a15 a16 a17 a18 := by
      intro hs
      have e : (fun i => i < n ∧ (i = 0 ∨ i = 1 ∨ i = k ∨ i < j)) = (fun i => i < n ∧ (i = 0 ∨ i = 1 ∨ i = k ∨ i < j + 1)) := funext (fun i => propext (by omega))
      rw [e] at h1
      exact hw (d4, d5, d6, d7, d8, d9) ⟨h1, h2, h3⟩
    refine pk_le 24 j (fun z => absurd z (by omega)) (fun _ => ⟨vp_in_nI hj (by decide), ?_⟩) rfl rfl
    rw [nI_clamp (show j < 2 ^ 31 by omega)]
    refine br_c (fun z => nm_r (nI_1 j) (skip (fun w => absurd z ((hu j hj).mpr w)))) (fun z => ?_)
    have hjn := (hu j hj).mp z
    refine pk_eq j 0 (fun w => nm_r (nI_1 j) (skip (fun _ => Or.inl w))) (fun w0 => ?_) rfl rfl
    refine pk_eq j 1 (fun w => nm_r (nI_1 j) (skip (fun _ => Or.inr (Or.inl w)))) (fun w1 => ?_) rfl rfl
    refine pk_eq j k (fun w => nm_r (nI_1 j) (skip (fun _ => Or.inr (Or.inr w)))) (fun wk => ?_) rfl rfl
    refine dm_w_insert hx hy ⟨fun i hi => by have := hi.1; omega, fun i i' hi hi' => hd i i' hi.1 hi'.1, 0, 1, k, ⟨by omega, Or.inl rfl⟩, ⟨by omega, Or.inr (Or.inl rfl)⟩, ⟨hk, Or.inr (Or.inr (Or.inl rfl))⟩, hn0⟩ h1 h2 h3 (by omega) (fun q => by have := q.2; omega) (fun i hi q => ?_) (fun b4 b5 b6 b7 b8 b9 g1 g2 g3 => nm_r (nI_1 j) ?_)
    · have := hd i j hi.1 hjn q.1 q.2
      have := hi.2
      omega
    · have e : (fun i => (i < n ∧ (i = 0 ∨ i = 1 ∨ i = k ∨ i < j)) ∨ i = j) = (fun i => i < n ∧ (i = 0 ∨ i = 1 ∨ i = k ∨ i < j + 1)) := funext (fun i => propext (by omega))
      rw [e] at g1
      exact hw (b4, b5, b6, b7, b8, b9) ⟨g1, g2, g3⟩
theorem dm_w_b96 {post : St1 → Prop} {n k : Nat} (hP : dm_PT n a1 a2 a3) (hk : k < n) (hk2 : 2 ≤ k) (hn0 : dm_tn (dm_co a2) (dm_co a3) 0 1 k ≠ 0)
    (h4 : ∀ i, i < 72 → a4 i = 0) (hc : dm_rg a5 216 25) (h6 : dm_rg a6 216 72)
    (H : ∀ b4 b5 b6 b7 b8 b9 : Nat → Int32, dm_TI (dm_co a2) (dm_co a3) (fun i => i < n) (dm_b b4) (dm_c b5) (dm_c b6) → dm_rg b5 216 25 → dm_rg b6 216 72 → post (sz, 1, ed, te, a1, a2, a3, b4, b5, b6, b7, b8, b9, a10, a11, a12, a13, a14, a15, a16, a17, a18)) :
    wX_build_96 post (nI 0) (nI 1) (nI k) sz so ed te a1 a2 a3 a4 a5 a6 a7 a8 a9 a10 a11 a12 a13 a14 a15 a16 a17 a18 := by
  have hP' := hP
  obtain ⟨hn, hu, hx, hy, hd⟩ := hP
  refine br_t (nI_pos' (by omega)) (dm_w_seed hx hy h4 hc h6 (by omega) (by omega) (by omega) (by omega) (by omega) (by omega) hn0 (fun b4 b5 b6 b7 g1 g2 g3 => ?_))
  exact dm_w_b111 hP' hk hk2 hn0 g1 g2 g3 H
theorem dm_w_build {post : St1 → Prop} {n : Nat} (hP : dm_PT n a1 a2 a3) (hc : dm_rg a5 216 25) (h6 : dm_rg a6 216 72)
    (H0 : ∀ b4 : Nat → Int32, post (sz, 0, ed, te, a1, a2, a3, b4, a5, a6, a7, a8, a9, a10, a11, a12, a13, a14, a15, a16, a17, a18))
    (H1 : ∀ b4 b5 b6 b7 b8 b9 : Nat → Int32, dm_TI (dm_co a2) (dm_co a3) (fun i => i < n) (dm_b b4) (dm_c b5) (dm_c b6) → dm_rg b5 216 25 → dm_rg b6 216 72 → dm_NC (dm_co a2) (dm_co a3) n → post (sz, 1, ed, te, a1, a2, a3, b4, b5, b6, b7, b8, b9, a10, a11, a12, a13, a14, a15, a16, a17, a18)) :
    wpX_build post (sz, so, ed, te, a1, a2, a3, a4, a5, a6, a7, a8, a9, a10, a11, a12, a13, a14, a15, a16, a17, a18) := by
  have hP' := hP
  obtain ⟨hn, hu, hx, hy, hd⟩ := hP
  have hu0 : ∀ i, i < 24 → (a1 i = 0 ↔ ¬ i < n) := by
    intro i hi
    by_cases q : a1 i = 0
    · exact ⟨fun _ w => (hu i hi).mpr w q, fun _ => q⟩
    · exact ⟨fun w => absurd w q, fun w => absurd ((hu i hi).mp q) w⟩
  refine pk_loop (fun m i s => wX_build_7 post sz 0 ed te m (nI i) a1 a2 a3 s a5 a6 a7 a8 a9 a10 a11 a12 a13 a14 a15 a16 a17 a18) (fun j s => ∀ t, t < j → s t = 0) 72 0 a4 (by omega) (fun t h => absurd h (by omega)) ?_ ?_
  · intro m c4 h4
    refine pk_le 72 72 (fun _ => ?_) (fun z => absurd z (by omega)) rfl rfl
    refine dm_w_first (i := 0) (by omega) (fun _ => br_f (by decide) (H0 c4)) (fun i0 _ hi0 hne hl => br_t (nI_pos' (by omega)) ?_)
    have e0 : i0 = 0 := by
      by_cases z : i0 = 0
      · exact z
      · have := (hu0 0 (by omega)).mp (hl 0 (by omega) (by omega))
        have := (hu i0 hi0).mp hne
        omega
    subst e0
    rw [nI_1]
    refine dm_w_first (by omega) (fun _ => br_f (by decide) (H0 c4)) (fun i1 hi1a hi1 hne1 hl1 => br_t (nI_pos' (by omega)) ?_)
    have hi1n := (hu i1 hi1).mp hne1
    have e1 : i1 = 1 := by
      by_cases z : i1 = 1
      · exact z
      · have := (hu0 1 (by omega)).mp (hl1 1 (by omega) (by omega))
        omega
    subst e1
    rw [nI_1]
    -- the search for a third point off the line
    have srch : ∀ m k, 2 ≤ k → k ≤ n → 24 - k < m → (∀ r : Int32, ((k < n ∧ r = nI k) ∨ (k = n ∧ r = -1)) → wX_build_61 post (nI 0) (nI 1) sz 0 ed te a1 a2 a3 c4 a5 a6 a7 a8 a9 a10 a11 a12 a13 a14 a15 a16 a17 a18 m r (nI (k - 2))) := by
      intro m
      induction m with
      | zero => intro k _ _ h; omega
      | succ m ih =>
        intro k hk2 hkn hm r hr
        refine pk_le 24 (k - 2) (fun z => absurd z (by omega)) (fun _ => ?_) rfl rfl
        rcases hr with ⟨hk, er⟩ | ⟨hk, er⟩
        · subst er
          refine br_f (nI_pos (by omega)) (dm_w_turn hx hy (by omega) (by omega) (by omega) (fun r hr => br_c (fun z => ?_) (fun z => ?_)))
          · rw [nI_1 k]
            refine dm_w_first (by omega) (fun hall => nm_r (e' := nI (k + 1 - 2)) (by rw [nI_1]; congr 1; omega) (ih (k + 1) (by omega) (by omega) (by omega) _ (Or.inr ⟨?_, rfl⟩))) (fun i2 g1 g2 g3 g4 => nm_r (e' := nI (k + 1 - 2)) (by rw [nI_1]; congr 1; omega) (ih (k + 1) (by omega) (by omega) (by omega) _ (Or.inl ?_)))
            · by_cases q : k + 1 < n
              · have := (hu0 (k + 1) (by omega)).mp (hall (k + 1) (by omega) (by omega))
                omega
              · omega
            · have g3' := (hu i2 g2).mp g3
              have : i2 = k + 1 := by
                by_cases q : i2 = k + 1
                · exact q
                · have := (hu0 (k + 1) (by omega)).mp (g4 (k + 1) (by omega) (by omega))
                  omega
              subst this
              exact ⟨g3', rfl⟩
          · have hne : dm_tn (dm_co a2) (dm_co a3) 0 1 k ≠ 0 := by
              rw [← hr]
              intro q
              exact z (Int32.toInt_inj.mp (by rw [q]; decide))
            exact dm_w_b96 hP' hk hk2 hne h4 hc h6 (fun b4 b5 b6 b7 b8 b9 g1 g2 g3 => H1 b4 b5 b6 b7 b8 b9 g1 g2 g3 ⟨k, hk2, hk, hne⟩)
        · subst er
          refine br_t (by decide) (br_f (by decide) (H0 c4))
    refine dm_w_first (by omega) (fun hall => ⟨25, srch 25 2 (by omega) (by omega) (by omega) _ (Or.inr ⟨?_, rfl⟩)⟩) (fun i2 g1 g2 g3 g4 => ⟨25, srch 25 2 (by omega) ?_ (by omega) _ (Or.inl ?_)⟩)
    · by_cases q : 2 < n
      · have := (hu0 2 (by omega)).mp (hall 2 (by omega) (by omega))
        omega
      · omega
    · have g3' := (hu i2 g2).mp g3
      omega
    · have g3' := (hu i2 g2).mp g3
      have : i2 = 2 := by
        by_cases q : i2 = 2
        · exact q
        · have := (hu0 2 (by omega)).mp (g4 2 (by omega) (by omega))
          omega
      subst this
      exact ⟨g3', rfl⟩
  · intro m j s hj h hw
    refine pk_le 72 j (fun z => absurd z (by omega)) (fun _ => ⟨vp_in_nI hj (by decide), nm_r (e' := upd s j 0) (by rw [nI_clamp (by omega)]) (nm_r (nI_1 j) (hw _ (fun t ht => ?_)))⟩) rfl rfl
    by_cases e : t = j
    · rw [e, pk_us]
    · rw [pk_un e]; exact h t (by omega)
end
end
section
/-! the list of edges: addEdge -/
def dm_ln (X Y : Nat → Int) (u v : Nat) : Int := (X u - X v) * (X u - X v) + (Y u - Y v) * (Y u - Y v)
/-- the list holds just the pairs of Q, shortest first -/
def dm_EL (X Y : Nat → Int) (E : Nat) (a10 a11 a12 : Nat → Int32) (Q : Nat → Nat → Prop) : Prop :=
  E ≤ 80 ∧ (∀ i, i < E → ∃ u v, u < 24 ∧ v < 24 ∧ a10 i = nI u ∧ a11 i = nI v ∧ (a12 i).toInt = dm_ln X Y u v ∧ Q u v) ∧
  (∀ u v, Q u v → ∃ i, i < E ∧ a10 i = nI u ∧ a11 i = nI v) ∧ (∀ i j, i < j → j < E → (a12 i).toInt ≤ (a12 j).toInt)
theorem dm_EL_0 {X Y : Nat → Int} {a10 a11 a12 : Nat → Int32} {Q : Nat → Nat → Prop} (h : ∀ u v, ¬ Q u v) : dm_EL X Y 0 a10 a11 a12 Q :=
  ⟨by omega, fun i hi => absurd hi (by omega), fun u v q => absurd q (h u v), fun i j _ hj => absurd hj (by omega)⟩
theorem dm_EL_add {X Y : Nat → Int} {E k u v : Nat} {a10 a11 a12 b10 b11 b12 : Nat → Int32} {Q Q' : Nat → Nat → Prop} {len : Int32} (h : dm_EL X Y E a10 a11 a12 Q) (hE : E < 80) (hu : u < 24) (hv : v < 24) (hl : len.toInt = dm_ln X Y u v)
    (hQ : ∀ x y, Q' x y ↔ Q x y ∨ (x = u ∧ y = v)) (hk : k ≤ E)
    (e1 : ∀ j, j < k → b10 j = a10 j ∧ b11 j = a11 j ∧ b12 j = a12 j) (e2 : b10 k = nI u ∧ b11 k = nI v ∧ b12 k = len)
    (e3 : ∀ j, k ≤ j → j < E → b10 (j + 1) = a10 j ∧ b11 (j + 1) = a11 j ∧ b12 (j + 1) = a12 j)
    (e4 : ∀ j, k ≤ j → j < E → len.toInt < (a12 j).toInt) (e5 : ∀ j, j < k → (a12 j).toInt ≤ len.toInt) : dm_EL X Y (E + 1) b10 b11 b12 Q' := by
  obtain ⟨_, h1, h2, h3⟩ := h
  have cs : ∀ i, i < E + 1 → i < k ∨ i = k ∨ (∃ j, k ≤ j ∧ j < E ∧ i = j + 1) := by
    intro i hi
    rcases Nat.lt_trichotomy i k with z | z | z
    · exact Or.inl z
    · exact Or.inr (Or.inl z)
    · exact Or.inr (Or.inr ⟨i - 1, by omega, by omega, by omega⟩)
  refine ⟨by omega, fun i hi => ?_, fun x y q => ?_, fun i j hij hj => ?_⟩
  · rcases cs i hi with z | z | ⟨j, z1, z2, z3⟩
    · obtain ⟨x, y, g1, g2, g3, g4, g5, g6⟩ := h1 i (by omega)
      obtain ⟨f1, f2, f3⟩ := e1 i z
      exact ⟨x, y, g1, g2, by rw [f1, g3], by rw [f2, g4], by rw [f3, g5], (hQ x y).mpr (Or.inl g6)⟩
    · subst z
      exact ⟨u, v, hu, hv, e2.1, e2.2.1, by rw [e2.2.2, hl], (hQ u v).mpr (Or.inr ⟨rfl, rfl⟩)⟩
    · subst z3
      obtain ⟨x, y, g1, g2, g3, g4, g5, g6⟩ := h1 j z2
      obtain ⟨f1, f2, f3⟩ := e3 j z1 z2
      exact ⟨x, y, g1, g2, by rw [f1, g3], by rw [f2, g4], by rw [f3, g5], (hQ x y).mpr (Or.inl g6)⟩
  · rcases (hQ x y).mp q with z | ⟨z1, z2⟩
    · obtain ⟨i, g1, g2, g3⟩ := h2 x y z
      by_cases c : i < k
      · obtain ⟨f1, f2, _⟩ := e1 i c
        exact ⟨i, by omega, by rw [f1, g2], by rw [f2, g3]⟩
      · obtain ⟨f1, f2, _⟩ := e3 i (by omega) g1
        exact ⟨i + 1, by omega, by rw [f1, g2], by rw [f2, g3]⟩
    · subst z1; subst z2
      exact ⟨k, by omega, e2.1, e2.2.1⟩
  · rcases cs i (by omega) with z | z | ⟨i', z1, z2, z3⟩
    · rw [(e1 i z).2.2]
      rcases cs j hj with w | w | ⟨j', w1, w2, w3⟩
      · rw [(e1 j w).2.2]; exact h3 i j hij (by omega)
      · rw [w, e2.2.2]; exact e5 i z
      · rw [w3, (e3 j' w1 w2).2.2]; exact h3 i j' (by omega) w2
    · rw [z, e2.2.2]
      rcases cs j hj with w | w | ⟨j', w1, w2, w3⟩
      · omega
      · omega
      · rw [w3, (e3 j' w1 w2).2.2]; exact Int.le_of_lt (e4 j' w1 w2)
    · rw [z3, (e3 i' z1 z2).2.2]
      rcases cs j hj with w | w | ⟨j', w1, w2, w3⟩
      · omega
      · omega
      · rw [w3, (e3 j' w1 w2).2.2]; exact h3 i' j' (by omega) w2
section
variable {sz so ed te : Int32} {a1 a2 a3 a4 a5 a6 a7 a8 a9 a10 a11 a12 a13 a14 a15 a16 a17 a18 : Nat → Int32}
theorem dm_w_add23 {post : St1 → Prop} {E : Nat} {u v len : Int32} (hE : E < 80)
    (H : ∀ (k : Nat) (b10 b11 b12 : Nat → Int32), k ≤ E → (∀ j, j < k → b10 j = a10 j ∧ b11 j = a11 j ∧ b12 j = a12 j) → (b10 k = u ∧ b11 k = v ∧ b12 k = len) →
      (∀ j, k ≤ j → j < E → b10 (j + 1) = a10 j ∧ b11 (j + 1) = a11 j ∧ b12 (j + 1) = a12 j) → (∀ j, k ≤ j → j < E → len.toInt < (a12 j).toInt) → (0 < k → (a12 (k - 1)).toInt ≤ len.toInt) →
      post (sz, so, nI (E + 1), te, a1, a2, a3, a4, a5, a6, a7, a8, a9, b10, b11, b12, a13, a14, a15, a16, a17, a18)) :
    ∃ fu, wX_addEdge_23 post u v len sz so (nI E) te fu (nI E) a1 a2 a3 a4 a5 a6 a7 a8 a9 a10 a11 a12 a13 a14 a15 a16 a17 a18 := by
  have fin : ∀ (k : Nat) (c10 c11 c12 : Nat → Int32), k ≤ E → (∀ j, j < k → c10 j = a10 j ∧ c11 j = a11 j ∧ c12 j = a12 j) →
      (∀ j, k ≤ j → j < E → c10 (j + 1) = a10 j ∧ c11 (j + 1) = a11 j ∧ c12 (j + 1) = a12 j) → (∀ j, k ≤ j → j < E → len.toInt < (a12 j).toInt) → (0 < k → (a12 (k - 1)).toInt ≤ len.toInt) →
      wX_addEdge_95 post u v len (nI k) sz so (nI E) te a1 a2 a3 a4 a5 a6 a7 a8 a9 c10 c11 c12 a13 a14 a15 a16 a17 a18 := by
    intro k c10 c11 c12 hk h1 h2 h3 h4
    have vk := vp_in_nI (n := k) (N := 80) (by omega) (by decide)
    have q := nI_clamp (show k < 2 ^ 31 by omega)
    refine ⟨vk, nm_r (e' := upd c10 k u) (by rw [q]) ⟨vk, nm_r (e' := upd c11 k v) (by rw [q]) ⟨vk, nm_r (e' := upd c12 k len) (by rw [q]) (nm_r (nI_1 E) (H k _ _ _ hk (fun j hj => ?_) ⟨pk_us, pk_us, pk_us⟩ (fun j hj hj' => ?_) h3 h4))⟩⟩⟩
    · rw [pk_un (by omega), pk_un (by omega), pk_un (by omega)]; exact h1 j hj
    · rw [pk_un (by omega), pk_un (by omega), pk_un (by omega)]; exact h2 j hj hj'
  have main : ∀ (k : Nat) (c10 c11 c12 : Nat → Int32), k ≤ E → (∀ j, j < k → c10 j = a10 j ∧ c11 j = a11 j ∧ c12 j = a12 j) →
      (∀ j, k ≤ j → j < E → c10 (j + 1) = a10 j ∧ c11 (j + 1) = a11 j ∧ c12 (j + 1) = a12 j) → (∀ j, k ≤ j → j < E → len.toInt < (a12 j).toInt) →
      wX_addEdge_23 post u v len sz so (nI E) te (k + 1) (nI k) a1 a2 a3 a4 a5 a6 a7 a8 a9 c10 c11 c12 a13 a14 a15 a16 a17 a18 := by
    intro k
    induction k with
    | zero =>
      intro c10 c11 c12 hk h1 h2 h3
      exact br_t (by decide) (fin 0 c10 c11 c12 hk h1 h2 h3 (fun z => absurd z (by omega)))
    | succ k ih =>
      intro c10 c11 c12 hk h1 h2 h3
      have e1 : nI (k + 1) - 1 = nI k := nI_pred k
      have vk := vp_in_nI (n := k) (N := 80) (by omega) (by decide)
      have vk1 := vp_in_nI (n := k + 1) (N := 80) (by omega) (by decide)
      refine br_f (nI_nle (by omega) (by omega)) ⟨by rw [e1]; exact vk, ?_⟩
      rw [e1, nI_clamp (show k < 2 ^ 31 by omega), nI_clamp (show k + 1 < 2 ^ 31 by omega)]
      have ok := h1 k (by omega)
      refine br_c (fun z => fin (k + 1) c10 c11 c12 hk h1 h2 h3 (fun _ => ?_)) (fun z => ?_)
      · rw [Int32.le_iff_toInt_le, ok.2.2] at z
        exact z
      · rw [Int32.le_iff_toInt_le, ok.2.2] at z
        refine ⟨vk, vk1, nm_e ⟨vk, vk1, nm_e ⟨vk, vk1, nm_e (nm_r (pk_m1 k) (ih _ _ _ (by omega) (fun j hj => ?_) (fun j hj hj' => ?_) (fun j hj hj' => ?_)))⟩⟩⟩
        · rw [pk_un (by omega), pk_un (by omega), pk_un (by omega)]; exact h1 j (by omega)
        · by_cases e : j = k
          · subst e
            rw [pk_us, pk_us, pk_us]; exact ok
          · rw [pk_un (by omega), pk_un (by omega), pk_un (by omega)]; exact h2 j (by omega) hj'
        · by_cases e : j = k
          · subst e; omega
          · exact h3 j (by omega) hj'
  exact ⟨E + 1, main E a10 a11 a12 (Nat.le_refl E) (fun j _ => ⟨rfl, rfl, rfl⟩) (fun j h1 h2 => absurd h2 (by omega)) (fun j h1 h2 => absurd h2 (by omega))⟩
theorem dm_w_addEdge {post : St1 → Prop} {E u v : Nat} {Q Q' : Nat → Nat → Prop} (hx : dm_XB a2) (hy : dm_XB a3) (hL : dm_EL (dm_co a2) (dm_co a3) E a10 a11 a12 Q) (hE : E < 80) (hu : u < 24) (hv : v < 24)
    (hQ : ∀ x y, Q' x y ↔ Q x y ∨ (x = u ∧ y = v))
    (H : ∀ b10 b11 b12 : Nat → Int32, dm_EL (dm_co a2) (dm_co a3) (E + 1) b10 b11 b12 Q' → post (sz, so, nI (E + 1), te, a1, a2, a3, a4, a5, a6, a7, a8, a9, b10, b11, b12, a13, a14, a15, a16, a17, a18)) :
    wpX_addEdge post (sz, so, nI E, te, a1, a2, a3, a4, a5, a6, a7, a8, a9, a10, a11, a12, a13, a14, a15, a16, a17, a18) (nI u) (nI v) := by
  refine br_t (nI_lt (b := 80) hE (by decide)) (dm_w_dist hx hy hu hv (fun r hr => dm_w_add23 hE (fun k b10 b11 b12 hk h1 h2 h3 h4 h5 => H _ _ _ (dm_EL_add hL hE hu hv hr hQ hk h1 h2 h3 h4 (fun j hj => ?_)))))
  have h5' := h5 (by omega)
  by_cases e : j = k - 1
  · rw [e]; exact h5'
  · exact Int.le_trans (hL.2.2.2 j (k - 1) (by omega) (by omega)) h5'
end
end
section
/-! union-find and the shortest tree -/
def dm_UF (a16 : Nat → Int32) (r : Nat → Nat) : Prop := ∀ x, x < 24 → ∃ l, a16 x = nI l ∧ l ≤ x ∧ r l = r x ∧ (l = x → r x = x) ∧ r x ≤ x
theorem dm_UF_id {a16 : Nat → Int32} {r : Nat → Nat} (h : dm_UF a16 r) : ∀ x, x < 24 → r (r x) = r x := by
  intro x
  induction x using Nat.strongRecOn with
  | ind x ih =>
    intro hx
    obtain ⟨l, _, h2, h3, h4, _⟩ := h x hx
    by_cases e : l = x
    · rw [h4 e]; exact h4 e
    · rw [← h3]; exact ih l (by omega) (by omega)
theorem dm_UF_join {a16 : Nat → Int32} {r r' : Nat → Nat} {m M : Nat} (h : dm_UF a16 r) (hM : M < 24) (hm : m < M) (rm : r m = m) (rM : r M = M) (hr : ∀ z, r' z = if r z = M then m else r z) : dm_UF (upd a16 M (nI m)) r' := by
  intro x hx
  by_cases e : x = M
  · subst e
    refine ⟨m, pk_us, by omega, ?_, fun z => absurd z (by omega), ?_⟩
    · rw [hr m, hr x, rm, rM, if_neg (by omega), if_pos rfl]
    · rw [hr x, rM, if_pos rfl]; omega
  · obtain ⟨l, h1, h2, h3, h4, h5⟩ := h x hx
    refine ⟨l, by rw [pk_un e]; exact h1, h2, by rw [hr l, hr x, h3], fun z => ?_, ?_⟩
    · rw [hr x, h4 z, if_neg e]
    · rw [hr x]
      by_cases c : r x = M
      · rw [if_pos c]; omega
      · rw [if_neg c]; exact h5
/-- the number of groups below n -/
def dm_cr (r : Nat → Nat) (n : Nat) : Int := dm_sm (fun x => if r x = x then 1 else 0) n
theorem dm_cr_0 (n : Nat) : dm_cr (fun x => x) n = n := by
  unfold dm_cr
  rw [← dm_sm_1 n]
  exact dm_sm_congr n (fun i _ => by simp)
theorem dm_cr_join {r r' : Nat → Nat} {m M n : Nat} (hM : M < n) (hm : m < M) (rm : r m = m) (rM : r M = M) (hr : ∀ z, r' z = if r z = M then m else r z) : dm_cr r n = dm_cr r' n + 1 := by
  have h1 : dm_sm (fun j => if (j == M) = true then (1 : Int) else 0) n = 1 := dm_sm_one (Q := fun j => j == M) n ⟨M, hM, by simp, fun j _ hj => by simpa using hj⟩
  unfold dm_cr
  suffices h2 : dm_sm (fun x => if r x = x then (1 : Int) else 0) n = dm_sm (fun x => (if r' x = x then (1 : Int) else 0) + (if (x == M) = true then 1 else 0)) n by
    rw [h2, dm_sm_add, h1]
  refine dm_sm_congr n (fun i _ => ?_)
  by_cases e : i = M
  · subst e
    rw [hr i, rM, if_pos rfl, if_pos rfl, if_neg (show ¬ m = i by omega), if_pos (by simp)]; rfl
  · have eb : ¬ (i == M) = true := by simp [e]
    rw [if_neg eb, hr i]
    by_cases c : r i = M
    · rw [if_pos c, c]
      have : m ≠ i := fun z => by subst z; omega
      rw [if_neg (fun z => e z.symm), if_neg this]; rfl
    · rw [if_neg c]; omega
theorem dm_cr_1 {r : Nat → Nat} {n : Nat} (hn : 0 < n) (h : ∀ x, x < n → r x = 0) : dm_cr r n = 1 := by
  unfold dm_cr
  refine Eq.trans (dm_sm_congr n (fun i hi => ?_)) (dm_sm_one (Q := fun j => j == 0) n ⟨0, hn, by simp, fun j _ hj => by simpa using hj⟩)
  rw [h i hi]
  by_cases e : i = 0
  · subst e; simp
  · simp [e, Ne.symm e]
/-- the tree's rows -/
def dm_TR (T : Nat) (a13 a14 a15 : Nat → Int32) : Prop :=
  (∀ j, j < T → (∃ u, u < 24 ∧ a13 j = nI u) ∧ (∃ v, v < 24 ∧ a14 j = nI v) ∧ 0 ≤ (a15 j).toInt) ∧ (∀ j k, j < k → k < T → (a15 j).toInt ≤ (a15 k).toInt)
/-- the pairs of Q join all points below n -/
def dm_G (n : Nat) (Q : Nat → Nat → Prop) : Prop :=
  (∀ x y, Q x y → x < n ∧ y < n ∧ x ≠ y) ∧ (∀ k : Nat → Nat, (∀ x y, Q x y → k x = k y) → ∀ i j, i < n → j < n → k i = k j)
section
variable {sz so ed te : Int32} {a1 a2 a3 a4 a5 a6 a7 a8 a9 a10 a11 a12 a13 a14 a15 a16 a17 a18 : Nat → Int32}
theorem dm_w_alone {post : St1 → Prop} (H : ∀ b16 : Nat → Int32, dm_UF b16 (fun x => x) → post (sz, so, ed, te, a1, a2, a3, a4, a5, a6, a7, a8, a9, a10, a11, a12, a13, a14, a15, b16, a17, a18)) : wpX_alone post (sz, so, ed, te, a1, a2, a3, a4, a5, a6, a7, a8, a9, a10, a11, a12, a13, a14, a15, a16, a17, a18) := by
  refine pk_loop (fun m i s => wX_alone_2 post sz so ed te m (nI i) a1 a2 a3 a4 a5 a6 a7 a8 a9 a10 a11 a12 a13 a14 a15 s a17 a18) (fun j s => ∀ x, x < j → s x = nI x) 24 0 a16 (by omega) (fun x h => absurd h (by omega)) ?_ ?_
  · intro m s h
    exact pk_le 24 24 (fun _ => H s (fun x hx => ⟨x, h x hx, Nat.le_refl x, rfl, fun _ => rfl, Nat.le_refl x⟩)) (fun z => absurd z (by omega)) rfl rfl
  · intro m j s hj h hw
    refine pk_le 24 j (fun z => absurd z (by omega)) (fun _ => ⟨vp_in_nI hj (by decide), nm_r (e' := upd s j (nI j)) (by rw [nI_clamp (by omega)]) (nm_r (nI_1 j) (hw _ (fun x hx => ?_)))⟩) rfl rfl
    by_cases e : x = j
    · rw [e, pk_us]
    · rw [pk_un e]; exact h x (by omega)
theorem dm_w_find {post : Int32 → St1 → Prop} {r : Nat → Nat} {a : Nat} (h : dm_UF a16 r) (ha : a < 24)
    (H : ∀ b16 : Nat → Int32, dm_UF b16 r → post (nI (r a)) (sz, so, ed, te, a1, a2, a3, a4, a5, a6, a7, a8, a9, a10, a11, a12, a13, a14, a15, b16, a17, a18)) : wpX_find post (sz, so, ed, te, a1, a2, a3, a4, a5, a6, a7, a8, a9, a10, a11, a12, a13, a14, a15, a16, a17, a18) (nI a) := by
  have main : ∀ (m x i : Nat) (c16 : Nat → Int32), dm_UF c16 r → r x = r a → x + i ≤ 23 → 24 - i < m → wX_find_4 post sz so ed te m (nI x) (nI i) a1 a2 a3 a4 a5 a6 a7 a8 a9 a10 a11 a12 a13 a14 a15 c16 a17 a18 := by
    intro m
    induction m with
    | zero => intro x i c16 _ _ _ h; omega
    | succ m ih =>
      intro x i c16 hc hr hxi hm
      refine pk_le 24 i (fun z => absurd z (by omega)) (fun _ => ?_) rfl rfl
      have vx := vp_in_nI (n := x) (N := 24) (by omega) (by decide)
      obtain ⟨l, h1, h2, h3, h4, h5⟩ := hc x (by omega)
      obtain ⟨l2, g1, g2, g3, g4, g5⟩ := hc l (by omega)
      refine ⟨vx, ?_⟩
      rw [nI_clamp (show x < 2 ^ 31 by omega), h1]
      refine pk_eq l x (fun z => ?_) (fun z => ?_) rfl rfl
      · have := H c16 hc
        rw [← hr, h4 z] at this
        exact this
      · refine ⟨vx, vp_in_nI (by omega) (by decide), vx, nm_r (e' := upd c16 x (nI l2)) (by rw [nI_clamp (by omega), g1]) ⟨vx, nm_r (e' := nI l2) pk_us (nm_r (nI_1 i) (ih l2 (i + 1) _ (fun y hy => ?_) (by rw [g3, h3, hr]) (by omega) (by omega)))⟩⟩
        by_cases e : y = x
        · subst e
          exact ⟨l2, pk_us, by omega, by rw [g3, h3], fun w => absurd w (by omega), h5⟩
        · obtain ⟨k, j1, j2⟩ := hc y hy
          exact ⟨k, by rw [pk_un e]; exact j1, j2⟩
  exact ⟨25, main 25 a 0 a16 h rfl (by omega) (by omega)⟩
theorem dm_w_join {post : Int32 → St1 → Prop} {r : Nat → Nat} {a b : Nat} (h : dm_UF a16 r) (ha : a < 24) (hb : b < 24)
    (H0 : r a = r b → ∀ b16 : Nat → Int32, dm_UF b16 r → post 0 (sz, so, ed, te, a1, a2, a3, a4, a5, a6, a7, a8, a9, a10, a11, a12, a13, a14, a15, b16, a17, a18))
    (H1 : ∀ m M : Nat, m < M → M < 24 → (M = r a ∧ m = r b ∨ M = r b ∧ m = r a) → r m = m → r M = M → ∀ (b16 : Nat → Int32) (r' : Nat → Nat), dm_UF b16 r' → (∀ z, r' z = if r z = M then m else r z) → post 1 (sz, so, ed, te, a1, a2, a3, a4, a5, a6, a7, a8, a9, a10, a11, a12, a13, a14, a15, b16, a17, a18)) :
    wpX_join post (sz, so, ed, te, a1, a2, a3, a4, a5, a6, a7, a8, a9, a10, a11, a12, a13, a14, a15, a16, a17, a18) (nI a) (nI b) := by
  unfold wpX_join
  have la : r a ≤ a := by obtain ⟨_, _, _, _, _, z⟩ := h a ha; exact z
  have lb : r b ≤ b := by obtain ⟨_, _, _, _, _, z⟩ := h b hb; exact z
  have ia := dm_UF_id h a ha
  have ib := dm_UF_id h b hb
  refine dm_w_find h ha (fun b16 g => dm_w_find g hb (fun c16 k => ?_))
  refine pk_eq (r a) (r b) (fun z => H0 z c16 k) (fun z => ?_) rfl rfl
  refine pk_le (r b) (r a) (fun w => ?_) (fun w => ?_) rfl rfl
  · refine ⟨vp_in_nI (by omega) (by decide), nm_r (e' := upd c16 (r a) (nI (r b))) (by rw [nI_clamp (by omega)]) ?_⟩
    exact H1 (r b) (r a) (by omega) (by omega) (Or.inl ⟨rfl, rfl⟩) ib ia _ (fun z => if r z = r a then r b else r z) (dm_UF_join k (by omega) (by omega) ib ia (fun _ => rfl)) (fun _ => rfl)
  · refine ⟨vp_in_nI (by omega) (by decide), nm_r (e' := upd c16 (r b) (nI (r a))) (by rw [nI_clamp (by omega)]) ?_⟩
    exact H1 (r a) (r b) (by omega) (by omega) (Or.inr ⟨rfl, rfl⟩) ia ib _ (fun z => if r z = r b then r a else r z) (dm_UF_join k (by omega) (by omega) ia ib (fun _ => rfl)) (fun _ => rfl)
theorem dm_w_pickTree {post : St1 → Prop} {X Y : Nat → Int} {n E : Nat} {Q : Nat → Nat → Prop} (hn : 1 ≤ n) (hn10 : n ≤ 10) (hL : dm_EL X Y E a10 a11 a12 Q) (hG : dm_G n Q)
    (H : ∀ b13 b14 b15 b16 : Nat → Int32, dm_TR (n - 1) b13 b14 b15 → post (sz, so, nI E, nI (n - 1), a1, a2, a3, a4, a5, a6, a7, a8, a9, a10, a11, a12, b13, b14, b15, b16, a17, a18)) : wpX_pickTree post (sz, so, nI E, te, a1, a2, a3, a4, a5, a6, a7, a8, a9, a10, a11, a12, a13, a14, a15, a16, a17, a18) := by
  unfold wpX_pickTree
  obtain ⟨hE, l1, l2, l3⟩ := hL
  refine dm_w_alone (fun b16 h0 => ?_)
  have lnn : ∀ u v, 0 ≤ dm_ln X Y u v := fun u v => by
    unfold dm_ln
    have p1 := dm_sq0 (X u - X v)
    have p2 := dm_sq0 (Y u - Y v)
    omega
  refine pk_loop (fun m i s => wX_pickTree_11 post m (nI i) sz so (nI E) s.1 a1 a2 a3 a4 a5 a6 a7 a8 a9 a10 a11 a12 s.2.1 s.2.2.1 s.2.2.2.1 s.2.2.2.2 a17 a18)
    (fun i s => ∃ (r : Nat → Nat) (T : Nat), dm_UF s.2.2.2.2 r ∧ s.1 = nI T ∧ dm_cr r n + T = n ∧ (∀ j u v, j < i → a10 j = nI u → a11 j = nI v → u < 24 → v < 24 → r u = r v) ∧ dm_TR T s.2.1 s.2.2.1 s.2.2.2.1 ∧ (∀ j k, j < T → i ≤ k → k < E → (s.2.2.2.1 j).toInt ≤ (a12 k).toInt))
    E 0 (0, a13, a14, a15, b16) (by omega) ⟨fun x => x, 0, h0, rfl, by rw [dm_cr_0]; omega, fun j u v h => absurd h (by omega), ⟨fun j h => absurd h (by omega), fun j k _ h => absurd h (by omega)⟩, fun j k h => absurd h (by omega)⟩ ?_ ?_
  · rintro m ⟨t, d13, d14, d15, d16⟩ ⟨r, T, k1, k2, k3, k4, k5, k6⟩
    refine pk_le E E (fun _ => ?_) (fun z => absurd z (by omega)) rfl rfl
    have all : ∀ x y, Q x y → r x = r y := by
      intro x y q
      obtain ⟨i, g1, g2, g3⟩ := l2 x y q
      have := hG.1 x y q
      exact k4 i x y g1 g2 g3 (by omega) (by omega)
    have r0 : r 0 = 0 := by
      obtain ⟨_, _, _, _, _, z⟩ := k1 0 (by omega)
      omega
    have c1 := dm_cr_1 (r := r) (n := n) (by omega) (fun x hx => by rw [hG.2 r all x 0 hx (by omega), r0])
    have eT : T = n - 1 := by omega
    subst eT
    have k2' : t = nI (n - 1) := k2
    subst k2'
    exact H d13 d14 d15 d16 k5
  · rintro m i ⟨t, d13, d14, d15, d16⟩ hi ⟨r, T, k1, k2, k3, k4, k5, k6⟩ hw
    replace k1 : dm_UF d16 r := k1
    replace k2 : t = nI T := k2
    replace k5 : dm_TR T d13 d14 d15 := k5
    replace k6 : ∀ j k, j < T → i ≤ k → k < E → (d15 j).toInt ≤ (a12 k).toInt := k6
    dsimp only
    subst k2
    obtain ⟨u, v, hu, hv, e10, e11, e12, q⟩ := l1 i hi
    have vi := vp_in_nI (n := i) (N := 80) (by omega) (by decide)
    have hq := hG.1 u v q
    have hcr : 0 ≤ dm_cr r n := dm_sm_nn n (fun i _ => by split <;> omega)
    refine pk_le E i (fun z => absurd z (by omega)) (fun _ => ⟨vi, vi, ?_⟩) rfl rfl
    rw [nI_clamp (show i < 2 ^ 31 by omega), e10, e11]
    refine dm_w_join k1 hu hv (fun z c16 g => ?_) (fun mm M hmM hM24 hcase rm rM c16 r' g hr' => ?_)
    · refine br_t rfl (nm_r (nI_1 i) (hw (nI T, d13, d14, d15, c16) ⟨r, T, g, rfl, k3, fun j x y hj ex ey hx hy => ?_, k5, fun j k hj hk hkE => k6 j k hj (by omega) hkE⟩))
      by_cases e : j = i
      · subst e
        rw [e10] at ex
        rw [e11] at ey
        have q1 : u = x := (nI_eq (by omega) (by omega)).mp ex
        have q2 : v = y := (nI_eq (by omega) (by omega)).mp ey
        rw [← q1, ← q2]; exact z
      · exact k4 j x y (by omega) ex ey hx hy
    · have hMn : M < n := by
        have la : r u ≤ u := by obtain ⟨_, _, _, _, _, z⟩ := k1 u hu; exact z
        have lb : r v ≤ v := by obtain ⟨_, _, _, _, _, z⟩ := k1 v hv; exact z
        omega
      have cj := dm_cr_join hMn hmM rm rM hr'
      have hcr' : 0 ≤ dm_cr r' n := dm_sm_nn n (fun i _ => by split <;> omega)
      have hT : T < 24 := by omega
      have vT := vp_in_nI (n := T) (N := 24) hT (by decide)
      have qT := nI_clamp (show T < 2 ^ 31 by omega)
      refine br_f (by decide) (pk_le 24 T (fun z => absurd z (by omega)) (fun _ => ?_) rfl rfl)
      refine ⟨vi, vT, nm_r (e' := upd d13 T (nI u)) (by rw [qT, e10]) ⟨vi, vT, nm_r (e' := upd d14 T (nI v)) (by rw [qT, e11]) ⟨vi, vT, nm_r (e' := upd d15 T (a12 i)) (by rw [qT]) (nm_r (nI_1 T) (nm_r (nI_1 i) (hw (nI (T + 1), upd d13 T (nI u), upd d14 T (nI v), upd d15 T (a12 i), c16) ⟨r', T + 1, g, rfl, by omega, fun j x y hj ex ey hx hy => ?_, ⟨fun j hj => ?_, fun j k hjk hk => ?_⟩, fun j k hj hk hkE => ?_⟩)))⟩⟩⟩
      · rw [hr' x, hr' y]
        by_cases e : j = i
        · subst e
          rw [e10] at ex
          rw [e11] at ey
          have q1 : u = x := (nI_eq (by omega) (by omega)).mp ex
          have q2 : v = y := (nI_eq (by omega) (by omega)).mp ey
          rw [← q1, ← q2]
          rcases hcase with ⟨c1, c2⟩ | ⟨c1, c2⟩
          · rw [← c1, ← c2, if_pos rfl, if_neg (by omega)]
          · rw [← c1, ← c2, if_neg (by omega), if_pos rfl]
        · rw [k4 j x y (by omega) ex ey hx hy]
      · show (∃ u', u' < 24 ∧ upd d13 T (nI u) j = nI u') ∧ (∃ v', v' < 24 ∧ upd d14 T (nI v) j = nI v') ∧ 0 ≤ (upd d15 T (a12 i) j).toInt
        by_cases e : j = T
        · subst e
          rw [pk_us, pk_us, pk_us]
          exact ⟨⟨u, hu, rfl⟩, ⟨v, hv, rfl⟩, by rw [e12]; exact lnn u v⟩
        · rw [pk_un e, pk_un e, pk_un e]; exact k5.1 j (by omega)
      · show (upd d15 T (a12 i) j).toInt ≤ (upd d15 T (a12 i) k).toInt
        by_cases e : k = T
        · subst e
          rw [pk_us, pk_un (by omega)]; exact k6 j i (by omega) (Nat.le_refl i) hi
        · rw [pk_un e, pk_un (by omega)]; exact k5.2 j k hjk (by omega)
      · show (upd d15 T (a12 i) j).toInt ≤ (a12 k).toInt
        by_cases e : j = T
        · subst e
          rw [pk_us]; exact l3 i k (by omega) hkE
        · rw [pk_un e]; exact k6 j k (by omega) (by omega) hkE
end
end
section
/-! collectEdges -/
/-- the real edges of the triangulation, once each -/
def dm_Qs (al : Nat → Bool) (C : Nat → Nat) (x y : Nat) : Prop := ∃ e, e < 216 ∧ al (e / 3) = true ∧ C e = x ∧ C (dm_nx e) = y ∧ x < y ∧ y ≠ 24
theorem dm_tri : ∀ v, v < 10 → ∀ v', v' < 10 → v < v' → v * (v - 1) / 2 + v ≤ v' * (v' - 1) / 2 := by decide +kernel
theorem dm_key {v u v' u' : Nat} (hv : v < 10) (hu : u < v) (hv' : v' < 10) (hu' : u' < v') (h : v * (v - 1) / 2 + u = v' * (v' - 1) / 2 + u') : u = u' ∧ v = v' := by
  rcases Nat.lt_trichotomy v v' with z | z | z
  · have := dm_tri v hv v' hv' z; omega
  · subst z; omega
  · have := dm_tri v' hv' v hv z; omega
theorem dm_key_lt : ∀ v, v < 10 → ∀ u, u < v → v * (v - 1) / 2 + u < 45 := by decide +kernel
section
variable {X Y : Nat → Int} {S : Nat → Prop} {al : Nat → Bool} {C A : Nat → Nat} {n : Nat}
theorem dm_Qs_G (hn : n ≤ 10) (hI : dm_TI X Y (fun i => i < n) al C A) : dm_G n (dm_Qs al C) := by
  obtain ⟨hV, hU, hX, hT, hD, hK⟩ := hI
  constructor
  · rintro x y ⟨e, he, ha, e1, e2, h1, h2⟩
    have hy : y < n := by rw [← e2]; exact dm_VS hV (dm_nx_lt he) (dm_al_nx ha) (by rw [e2]; exact h2)
    have hx : x < n := by rw [← e1]; exact dm_VS hV he ha (by omega)
    exact ⟨hx, hy, by omega⟩
  · intro k hk
    refine hK k (fun e he ha h1 h2 => ?_)
    obtain ⟨f, hf, af, a1, c1, c2⟩ := hX e he ha
    have hne := (hV e he ha).2
    rcases Nat.lt_or_ge (C e) (C (dm_nx e)) with z | z
    · exact hk _ _ ⟨e, he, ha, rfl, rfl, z, h2⟩
    · exact (hk _ _ ⟨f, hf, af, c1, c2, by omega, h1⟩).symm
/-- few edges -/
theorem dm_few (hn : n ≤ 10) (hV : dm_V (fun i => i < n) al C) (hU : dm_U al C) (i : Nat) (hi : i ≤ 216) :
    dm_sm (fun e => if (al (e / 3) && (decide (C e < C (dm_nx e)) && !(C (dm_nx e) == 24))) = true then 1 else 0) i ≤ 45 := by
  have dest : ∀ e, e < i → (al (e / 3) && (decide (C e < C (dm_nx e)) && !(C (dm_nx e) == 24))) = true → al (e / 3) = true ∧ C e < C (dm_nx e) ∧ C (dm_nx e) < 10 := by
    intro e he p
    have p' : al (e / 3) = true ∧ C e < C (dm_nx e) ∧ ¬ C (dm_nx e) = 24 := by simpa using p
    have := dm_VS hV (dm_nx_lt (by omega)) (dm_al_nx p'.1) p'.2.2
    exact ⟨p'.1, p'.2.1, by have : C (dm_nx e) < n := this; omega⟩
  refine dm_pig i 45 (fun e => al (e / 3) && (decide (C e < C (dm_nx e)) && !(C (dm_nx e) == 24))) (fun e => C (dm_nx e) * (C (dm_nx e) - 1) / 2 + C e) (fun e he p => ?_) (fun e f he hf p q h => ?_)
  · obtain ⟨d1, d2, d3⟩ := dest e he p
    exact dm_key_lt _ d3 _ d2
  · obtain ⟨d1, d2, d3⟩ := dest e he p
    obtain ⟨f1, f2, f3⟩ := dest f hf q
    obtain ⟨k1, k2⟩ := dm_key d3 d2 f3 f2 h
    exact hU e f (by omega) (by omega) d1 f1 k1 k2
end
section
variable {sz so ed te : Int32} {a1 a2 a3 a4 a5 a6 a7 a8 a9 a10 a11 a12 a13 a14 a15 a16 a17 a18 : Nat → Int32}
theorem dm_w_collect1 {post : St1 → Prop} {n : Nat} (hP : dm_PT n a1 a2 a3) (hn1 : 1 ≤ n) (hI : dm_TI (dm_co a2) (dm_co a3) (fun i => i < n) (dm_b a4) (dm_c a5) (dm_c a6)) (hc : dm_rg a5 216 25)
    (H : ∀ (E : Nat) (b10 b11 b12 b13 b14 b15 b16 : Nat → Int32), dm_EL (dm_co a2) (dm_co a3) E b10 b11 b12 (dm_Qs (dm_b a4) (dm_c a5)) → dm_TR (n - 1) b13 b14 b15 → post (sz, 1, nI E, nI (n - 1), a1, a2, a3, a4, a5, a6, a7, a8, a9, b10, b11, b12, b13, b14, b15, b16, a17, a18)) :
    wpX_collectEdges post (sz, 1, ed, te, a1, a2, a3, a4, a5, a6, a7, a8, a9, a10, a11, a12, a13, a14, a15, a16, a17, a18) := by
  obtain ⟨hn, hu, hx, hy, hd⟩ := hP
  have hG := dm_Qs_G hn hI
  obtain ⟨hV, hU, _⟩ := hI
  refine br_f (by decide) ?_
  refine pk_loop (fun m i s => wX_collectEdges_14 post m (nI i) sz 1 s.1 te a1 a2 a3 a4 a5 a6 a7 a8 a9 s.2.1 s.2.2.1 s.2.2.2 a13 a14 a15 a16 a17 a18)
    (fun i s => ∃ E : Nat, s.1 = nI E ∧ dm_EL (dm_co a2) (dm_co a3) E s.2.1 s.2.2.1 s.2.2.2 (fun x y => ∃ e, e < i ∧ dm_b a4 (e / 3) = true ∧ dm_c a5 e = x ∧ dm_c a5 (dm_nx e) = y ∧ x < y ∧ y ≠ 24) ∧ (E : Int) = dm_sm (fun e => if (dm_b a4 (e / 3) && (decide (dm_c a5 e < dm_c a5 (dm_nx e)) && !(dm_c a5 (dm_nx e) == 24))) = true then 1 else 0) i)
    216 0 (0, a10, a11, a12) (by omega) ⟨0, rfl, dm_EL_0 (fun u v ⟨e, he, _⟩ => absurd he (by omega)), rfl⟩ ?_ ?_
  · rintro m ⟨t, d10, d11, d12⟩ ⟨E, k1, k2, k3⟩
    refine pk_le 216 216 (fun _ => ?_) (fun z => absurd z (by omega)) rfl rfl
    have k1' : t = nI E := k1
    subst k1'
    exact dm_w_pickTree hn1 hn k2 hG (fun b13 b14 b15 b16 ht => H E d10 d11 d12 b13 b14 b15 b16 k2 ht)
  · rintro m i ⟨t, d10, d11, d12⟩ hi ⟨E, k1, k2, k3⟩ hw
    replace k1 : t = nI E := k1
    replace k2 : dm_EL (dm_co a2) (dm_co a3) E d10 d11 d12 (fun x y => ∃ e, e < i ∧ dm_b a4 (e / 3) = true ∧ dm_c a5 e = x ∧ dm_c a5 (dm_nx e) = y ∧ x < y ∧ y ≠ 24) := k2
    dsimp only
    subst k1
    have hni := dm_nx_lt hi
    have vi := hc i hi
    have vn := hc _ hni
    have few := dm_few hn hV hU i (by omega)
    have skip : ¬ (dm_b a4 (i / 3) = true ∧ dm_c a5 i < dm_c a5 (dm_nx i) ∧ dm_c a5 (dm_nx i) ≠ 24) → wX_collectEdges_14 post m (nI (i + 1)) sz 1 (nI E) te a1 a2 a3 a4 a5 a6 a7 a8 a9 d10 d11 d12 a13 a14 a15 a16 a17 a18 := by
      intro hn
      have e : (fun x y => ∃ e, e < i ∧ dm_b a4 (e / 3) = true ∧ dm_c a5 e = x ∧ dm_c a5 (dm_nx e) = y ∧ x < y ∧ y ≠ 24) = (fun x y => ∃ e, e < i + 1 ∧ dm_b a4 (e / 3) = true ∧ dm_c a5 e = x ∧ dm_c a5 (dm_nx e) = y ∧ x < y ∧ y ≠ 24) := by
        refine funext (fun x => funext (fun y => propext ⟨fun ⟨e, he, h⟩ => ⟨e, by omega, h⟩, fun ⟨e, he, h1, h2, h3, h4, h5⟩ => ?_⟩))
        by_cases z : e = i
        · subst z
          exact absurd ⟨h1, by omega, by omega⟩ hn
        · exact ⟨e, by omega, h1, h2, h3, h4, h5⟩
      rw [e] at k2
      refine hw (nI E, d10, d11, d12) ⟨E, rfl, k2, ?_⟩
      rw [k3]
      show _ = dm_sm (fun e => if (dm_b a4 (e / 3) && (decide (dm_c a5 e < dm_c a5 (dm_nx e)) && !(dm_c a5 (dm_nx e) == 24))) = true then 1 else 0) i + (if (dm_b a4 (i / 3) && (decide (dm_c a5 i < dm_c a5 (dm_nx i)) && !(dm_c a5 (dm_nx i) == 24))) = true then 1 else 0)
      rw [if_neg (by simpa using hn)]; omega
    refine pk_le 216 i (fun z => absurd z (by omega)) (fun _ => ⟨vp_in_nI hi (by decide), nm_r (e' := nI (dm_c a5 i)) (by rw [nI_clamp (by omega)]; exact vi.1) (dm_w_next (by omega) ⟨vp_in_nI hni (by decide), nm_r (e' := nI (dm_c a5 (dm_nx i))) (by rw [nI_clamp (by omega)]; exact vn.1) ⟨by decide, by rw [dm_d3' (by omega)]; exact vp_in_nI (by omega) (by decide), ?_⟩⟩)⟩) rfl rfl
    rw [dm_d3' (show i < 2 ^ 31 by omega), nI_clamp (show i / 3 < 2 ^ 31 by omega)]
    refine br_c (fun z => nm_r (nI_1 i) (skip (fun w => dm_b_t.mp w.1 z))) (fun z => ?_)
    refine pk_le (dm_c a5 (dm_nx i)) (dm_c a5 i) (fun w => nm_r (nI_1 i) (skip (fun q => absurd q.2.1 (by omega)))) (fun w => ?_) rfl rfl
    refine pk_eq (dm_c a5 (dm_nx i)) 24 (fun w2 => nm_r (nI_1 i) (skip (fun q => q.2.2 w2))) (fun w2 => ?_) rfl rfl
    have k3' : (E : Int) ≤ 45 := by rw [k3]; exact few
    refine dm_w_addEdge hx hy k2 (Q' := fun x y => ∃ e, e < i + 1 ∧ dm_b a4 (e / 3) = true ∧ dm_c a5 e = x ∧ dm_c a5 (dm_nx e) = y ∧ x < y ∧ y ≠ 24) (by omega) (by have := vi.2; have := vn.2; omega) (by have := vn.2; omega) (fun x y => ⟨fun ⟨e, he, h1, h2, h3, h4, h5⟩ => ?_, fun h => ?_⟩) (fun b10 b11 b12 hL => nm_r (nI_1 i) (hw (nI (E + 1), b10, b11, b12) ⟨E + 1, rfl, hL, ?_⟩))
    · by_cases q : e = i
      · subst q; exact Or.inr ⟨h2.symm, h3.symm⟩
      · exact Or.inl ⟨e, by omega, h1, h2, h3, h4, h5⟩
    · rcases h with ⟨e, he, h⟩ | ⟨h1, h2⟩
      · exact ⟨e, by omega, h⟩
      · exact ⟨i, by omega, dm_b_t.mpr z, h1.symm, h2.symm, by omega, by omega⟩
    · show _ = dm_sm (fun e => if (dm_b a4 (e / 3) && (decide (dm_c a5 e < dm_c a5 (dm_nx e)) && !(dm_c a5 (dm_nx e) == 24))) = true then 1 else 0) i + (if (dm_b a4 (i / 3) && (decide (dm_c a5 i < dm_c a5 (dm_nx i)) && !(dm_c a5 (dm_nx i) == 24))) = true then 1 else 0)
      rw [if_pos (by simp [dm_b_t.mpr z, w, w2])]
      omega
/-! the line -/
theorem dm_w_before {post : Int32 → Prop} {i j : Nat} (hi : i < 24) (hj : j < 24) (H0 : post 0) (H1 : post 1) : wpX_lineBefore post (sz, so, ed, te, a1, a2, a3, a4, a5, a6, a7, a8, a9, a10, a11, a12, a13, a14, a15, a16, a17, a18) (nI i) (nI j) := by
  have vi := vp_in_nI (N := 24) hi (by decide)
  have vj := vp_in_nI (N := 24) hj (by decide)
  exact ⟨vi, vj, br_c (fun _ => ⟨vi, vj, br_c (fun _ => H0) (fun _ => H1)⟩) (fun _ => ⟨vi, vj, br_c (fun _ => H0) (fun _ => H1)⟩)⟩
def dm_OR (i : Nat) (o : Nat → Int32) : Prop := (∀ k, k < i → ∃ j, j < i ∧ o k = nI j) ∧ (∀ j, j < i → ∃ k, k < i ∧ o k = nI j) ∧ (∀ k k', k < i → k' < i → o k = o k' → k = k')
theorem dm_OR_add {i k : Nat} {o b : Nat → Int32} (hi : i < 24) (h : dm_OR i o) (hk : k ≤ i) (e1 : ∀ j, j < k → b j = o j) (e2 : b k = nI i) (e3 : ∀ j, k ≤ j → j < i → b (j + 1) = o j) : dm_OR (i + 1) b := by
  obtain ⟨h1, h2, h3⟩ := h
  have cs : ∀ j, j < i + 1 → (j = k ∧ b j = nI i) ∨ (j ≠ k ∧ ∃ l, l < i ∧ b j = o l ∧ (j < k → l = j) ∧ (k < j → j = l + 1)) := by
    intro j hj
    rcases Nat.lt_trichotomy j k with z | z | z
    · exact Or.inr ⟨by omega, j, by omega, e1 j z, fun _ => rfl, fun w => absurd w (by omega)⟩
    · exact Or.inl ⟨z, by rw [z]; exact e2⟩
    · refine Or.inr ⟨by omega, j - 1, by omega, ?_, fun w => absurd w (by omega), fun _ => by omega⟩
      have := e3 (j - 1) (by omega) (by omega)
      rwa [show j - 1 + 1 = j by omega] at this
  refine ⟨fun j hj => ?_, fun j hj => ?_, fun j j' hj hj' e => ?_⟩
  · rcases cs j hj with ⟨_, z⟩ | ⟨_, l, hl, z, _⟩
    · exact ⟨i, by omega, z⟩
    · obtain ⟨m, hm, q⟩ := h1 l hl
      exact ⟨m, by omega, by rw [z, q]⟩
  · by_cases z : j = i
    · exact ⟨k, by omega, by rw [e2, z]⟩
    · obtain ⟨l, hl, q⟩ := h2 j (by omega)
      by_cases c : l < k
      · exact ⟨l, by omega, by rw [e1 l c, q]⟩
      · exact ⟨l + 1, by omega, by rw [e3 l (by omega) hl, q]⟩
  · rcases cs j hj with ⟨z1, z2⟩ | ⟨z1, l, hl, z2, z3, z4⟩
    · rcases cs j' hj' with ⟨w1, w2⟩ | ⟨w1, l', hl', w2, w3, w4⟩
      · omega
      · obtain ⟨m, hm, q⟩ := h1 l' hl'
        rw [z2, w2, q] at e
        have := (nI_eq (by omega) (by omega)).mp e
        omega
    · rcases cs j' hj' with ⟨w1, w2⟩ | ⟨w1, l', hl', w2, w3, w4⟩
      · obtain ⟨m, hm, q⟩ := h1 l hl
        rw [z2, w2, q] at e
        have := (nI_eq (by omega) (by omega)).mp e
        omega
      · rw [z2, w2] at e
        have := h3 l l' hl hl' e
        omega
theorem dm_w_line24 {post : St1 → Prop} {J : Int32 → Int32 → (Nat → Int32) → (Nat → Int32) → (Nat → Int32) → (Nat → Int32) → (Nat → Int32) → (Nat → Int32) → (Nat → Int32) → (Nat → Int32) → (Nat → Int32) → (Nat → Int32) → (Nat → Int32) → (Nat → Int32) → (Nat → Int32) → (Nat → Int32) → (Nat → Int32) → (Nat → Int32) → (Nat → Int32) → (Nat → Int32) → Prop} {i : Nat} (hi : i < 24) (ho : dm_OR i a17)
    (HJ : ∀ b17 : Nat → Int32, dm_OR (i + 1) b17 → J (nI (i + 1)) (nI (i + 1)) a1 a2 a3 a4 a5 a6 a7 a8 a9 a10 a11 a12 a13 a14 a15 a16 b17 a18) :
    ∃ fu, wX_lineEdges_24 post J (nI i) (nI i) sz so ed te fu (nI i) a1 a2 a3 a4 a5 a6 a7 a8 a9 a10 a11 a12 a13 a14 a15 a16 a17 a18 := by
  have fin : ∀ (k : Nat) (c : Nat → Int32), k ≤ i → (∀ j, j < k → c j = a17 j) → (∀ j, k ≤ j → j < i → c (j + 1) = a17 j) → wX_lineEdges_64 post J (nI i) (nI i) (nI k) sz so ed te a1 a2 a3 a4 a5 a6 a7 a8 a9 a10 a11 a12 a13 a14 a15 a16 c a18 := by
    intro k c hk h1 h2
    refine ⟨vp_in_nI (by omega) (by decide), nm_r (e' := upd c k (nI i)) (by rw [nI_clamp (by omega)]) (nm_r (nI_1 i) (nm_r (nI_1 i) (HJ _ (dm_OR_add hi ho hk (fun j hj => ?_) pk_us (fun j hj hj' => ?_)))))⟩
    · rw [pk_un (by omega)]; exact h1 j hj
    · rw [pk_un (by omega)]; exact h2 j hj hj'
  have main : ∀ (k : Nat) (c : Nat → Int32), k ≤ i → (∀ j, j < k → c j = a17 j) → (∀ j, k ≤ j → j < i → c (j + 1) = a17 j) → wX_lineEdges_24 post J (nI i) (nI i) sz so ed te (k + 1) (nI k) a1 a2 a3 a4 a5 a6 a7 a8 a9 a10 a11 a12 a13 a14 a15 a16 c a18 := by
    intro k
    induction k with
    | zero =>
      intro c hk h1 h2
      exact br_t (by decide) (fin 0 c hk h1 h2)
    | succ k ih =>
      intro c hk h1 h2
      have e1 : nI (k + 1) - 1 = nI k := nI_pred k
      obtain ⟨m, hm, q⟩ := ho.1 k (by omega)
      have vk := vp_in_nI (n := k) (N := 24) (by omega) (by decide)
      refine br_f (nI_nle (by omega) (by omega)) ⟨by rw [e1]; exact vk, ?_⟩
      rw [e1, nI_clamp (show k < 2 ^ 31 by omega), nI_clamp (show k + 1 < 2 ^ 31 by omega), h1 k (by omega), q]
      refine dm_w_before (by omega) (by omega) (br_t rfl (fin (k + 1) c hk h1 h2)) (br_f (by decide) ⟨vk, vp_in_nI (by omega) (by decide), nm_e (nm_r (pk_m1 k) (ih _ (by omega) (fun j hj => ?_) (fun j hj hj' => ?_)))⟩)
      · rw [pk_un (by omega)]; exact h1 j (by omega)
      · by_cases e : j = k
        · subst e; rw [pk_us, q]
        · rw [pk_un (by omega)]; exact h2 j (by omega) hj'
  exact ⟨i + 1, main i a17 (Nat.le_refl i) (fun j _ => rfl) (fun j h1 h2 => absurd h2 (by omega))⟩
def dm_Ql (n : Nat) (o : Nat → Int32) (x y : Nat) : Prop := ∃ j, j + 1 < n ∧ o j = nI x ∧ o (j + 1) = nI y ∧ x < 24 ∧ y < 24
theorem dm_Ql_G {n : Nat} {o : Nat → Int32} (hn : n ≤ 10) (h : dm_OR n o) : dm_G n (dm_Ql n o) := by
  obtain ⟨h1, h2, h3⟩ := h
  have val : ∀ j x, j < n → o j = nI x → x < 24 → x < n := by
    intro j x hj e hx
    obtain ⟨m, hm, q⟩ := h1 j hj
    rw [e] at q
    have := (nI_eq (by omega) (by omega)).mp q
    omega
  constructor
  · rintro x y ⟨j, hj, e1, e2, hx, hy⟩
    refine ⟨val j x (by omega) e1 hx, val (j + 1) y hj e2 hy, fun z => ?_⟩
    subst z
    have := h3 j (j + 1) (by omega) hj (by rw [e1, e2])
    omega
  · intro k hk
    have step : ∀ j, j < n → ∀ x x0, x < 24 → x0 < 24 → o j = nI x → o 0 = nI x0 → k x = k x0 := by
      intro j
      induction j with
      | zero =>
        intro hj x x0 hx hx0 e e0
        rw [e] at e0
        rw [(nI_eq (by omega) (by omega)).mp e0]
      | succ j ih =>
        intro hj x x0 hx hx0 e e0
        obtain ⟨m, hm, q⟩ := h1 j (by omega)
        rw [← ih (by omega) m x0 (by omega) hx0 q e0]
        exact (hk m x ⟨j, hj, q, e, by omega, hx⟩).symm
    intro i j hi hj
    obtain ⟨ki, hki, qi⟩ := h2 i hi
    obtain ⟨kj, hkj, qj⟩ := h2 j hj
    obtain ⟨m, hm, q⟩ := h1 0 (by omega)
    rw [step ki hki i m (by omega) (by omega) qi q, step kj hkj j m (by omega) (by omega) qj q]
theorem dm_w_lineEdges {post : St1 → Prop} {n : Nat} (hP : dm_PT n a1 a2 a3) (hn1 : 1 ≤ n)
    (H : ∀ (E : Nat) (b10 b11 b12 b17 : Nat → Int32), dm_OR n b17 → dm_EL (dm_co a2) (dm_co a3) E b10 b11 b12 (dm_Ql n b17) → post (sz, so, nI E, te, a1, a2, a3, a4, a5, a6, a7, a8, a9, b10, b11, b12, a13, a14, a15, a16, b17, a18)) :
    wpX_lineEdges post (sz, so, nI 0, te, a1, a2, a3, a4, a5, a6, a7, a8, a9, a10, a11, a12, a13, a14, a15, a16, a17, a18) := by
  obtain ⟨hn, hu, hx, hy, hd⟩ := hP
  have hu0 : ∀ i, i < 24 → (a1 i = 0 ↔ ¬ i < n) := by
    intro i hi
    by_cases q : a1 i = 0
    · exact ⟨fun _ w => (hu i hi).mpr w q, fun _ => q⟩
    · exact ⟨fun w => absurd w q, fun w => absurd ((hu i hi).mp q) w⟩
  have last : ∀ c17 : Nat → Int32, dm_OR n c17 → ∃ fu, wX_lineEdges_82 post (nI n) fu (nI 0) sz so (nI 0) te a1 a2 a3 a4 a5 a6 a7 a8 a9 a10 a11 a12 a13 a14 a15 a16 c17 a18 := by
    intro c17 ho
    refine pk_loop (fun m k s => wX_lineEdges_82 post (nI n) m (nI k) sz so s.1 te a1 a2 a3 a4 a5 a6 a7 a8 a9 s.2.1 s.2.2.1 s.2.2.2 a13 a14 a15 a16 c17 a18)
      (fun k s => s.1 = nI k ∧ dm_EL (dm_co a2) (dm_co a3) k s.2.1 s.2.2.1 s.2.2.2 (fun x y => ∃ j, j < k ∧ c17 j = nI x ∧ c17 (j + 1) = nI y ∧ x < 24 ∧ y < 24))
      (n - 1) 0 (nI 0, a10, a11, a12) (by omega) ⟨rfl, dm_EL_0 (fun u v ⟨e, he, _⟩ => absurd he (by omega))⟩ ?_ ?_
    · rintro m ⟨t, d10, d11, d12⟩ ⟨k1, k2⟩
      replace k1 : t = nI (n - 1) := k1
      subst k1
      refine pk_le n (n - 1 + 1) (fun _ => H (n - 1) d10 d11 d12 c17 ho ?_) (fun z => absurd z (by omega)) rfl (nI_1 _)
      have e : (fun x y => ∃ j, j < n - 1 ∧ c17 j = nI x ∧ c17 (j + 1) = nI y ∧ x < 24 ∧ y < 24) = dm_Ql n c17 := funext (fun x => funext (fun y => propext ⟨fun ⟨j, hj, h⟩ => ⟨j, by omega, h⟩, fun ⟨j, hj, h⟩ => ⟨j, by omega, h⟩⟩))
      rw [← e]; exact k2
    · rintro m k ⟨t, d10, d11, d12⟩ hk ⟨k1, k2⟩ hw
      replace k1 : t = nI k := k1
      replace k2 : dm_EL (dm_co a2) (dm_co a3) k d10 d11 d12 (fun x y => ∃ j, j < k ∧ c17 j = nI x ∧ c17 (j + 1) = nI y ∧ x < 24 ∧ y < 24) := k2
      subst k1
      dsimp only
      obtain ⟨u, hu', eu⟩ := ho.1 k (by omega)
      obtain ⟨v, hv', ev⟩ := ho.1 (k + 1) (by omega)
      refine pk_le n (k + 1) (fun z => absurd z (by omega)) (fun _ => ⟨vp_in_nI (by omega) (by decide), by rw [nI_1]; exact vp_in_nI (by omega) (by decide), ?_⟩) rfl (nI_1 _)
      rw [nI_1 k, nI_clamp (show k < 2 ^ 31 by omega), nI_clamp (show k + 1 < 2 ^ 31 by omega), eu, ev]
      refine dm_w_addEdge hx hy k2 (Q' := fun x y => ∃ j, j < k + 1 ∧ c17 j = nI x ∧ c17 (j + 1) = nI y ∧ x < 24 ∧ y < 24) (by omega) (by omega) (by omega) (fun x y => ⟨fun ⟨j, hj, h1, h2, h3, h4⟩ => ?_, fun h => ?_⟩) (fun b10 b11 b12 hL => nm_e (hw (nI (k + 1), b10, b11, b12) ⟨rfl, hL⟩))
      · by_cases q : j = k
        · subst q
          rw [eu] at h1
          rw [ev] at h2
          exact Or.inr ⟨((nI_eq (by omega) (by omega)).mp h1).symm, ((nI_eq (by omega) (by omega)).mp h2).symm⟩
        · exact Or.inl ⟨j, by omega, h1, h2, h3, h4⟩
      · rcases h with ⟨j, hj, h⟩ | ⟨h1, h2⟩
        · exact ⟨j, by omega, h⟩
        · subst h1; subst h2
          exact ⟨k, by omega, eu, ev, by omega, by omega⟩
  have main : ∀ (m i : Nat) (c17 : Nat → Int32), i ≤ 24 → 24 - i < m → dm_OR (min i n) c17 → wX_lineEdges_4 post sz so (nI 0) te m (nI (min i n)) (nI i) a1 a2 a3 a4 a5 a6 a7 a8 a9 a10 a11 a12 a13 a14 a15 a16 c17 a18 := by
    intro m
    induction m with
    | zero => intro i c17 _ h; omega
    | succ m ih =>
      intro i c17 hi hm ho
      refine pk_le 24 i (fun z => ?_) (fun z => ⟨vp_in_nI z (by decide), ?_⟩) rfl rfl
      · rw [show min i n = n by omega] at ho ⊢
        exact last c17 ho
      · rw [nI_clamp (show i < 2 ^ 31 by omega)]
        refine br_c (fun w => nm_r (nI_1 i) ?_) (fun w => ?_)
        · have := (hu0 i z).mp w
          rw [show min i n = min (i + 1) n by omega] at ho ⊢
          exact ih (i + 1) c17 (by omega) (by omega) ho
        · have := (hu i z).mp w
          rw [show min i n = i by omega] at ho ⊢
          refine dm_w_line24 z ho (fun b17 hb => ?_)
          have k := ih (i + 1) b17 (by omega) (by omega) (by rw [show min (i + 1) n = i + 1 by omega]; exact hb)
          rw [show min (i + 1) n = i + 1 by omega] at k
          exact k
  have k := main 25 0 a17 (by omega) (by omega) (by rw [show min 0 n = 0 by omega]; exact ⟨fun k h => absurd h (by omega), fun k h => absurd h (by omega), fun k k' h => absurd h (by omega)⟩)
  rw [show min 0 n = 0 by omega] at k
  exact ⟨25, k⟩
theorem dm_w_collect0 {post : St1 → Prop} {n : Nat} (hP : dm_PT n a1 a2 a3) (hn1 : 1 ≤ n)
    (H : ∀ (E : Nat) (b10 b11 b12 b13 b14 b15 b16 b17 : Nat → Int32) (Q : Nat → Nat → Prop), dm_EL (dm_co a2) (dm_co a3) E b10 b11 b12 Q → dm_G n Q → dm_TR (n - 1) b13 b14 b15 → post (sz, 0, nI E, nI (n - 1), a1, a2, a3, a4, a5, a6, a7, a8, a9, b10, b11, b12, b13, b14, b15, b16, b17, a18)) :
    wpX_collectEdges post (sz, 0, ed, te, a1, a2, a3, a4, a5, a6, a7, a8, a9, a10, a11, a12, a13, a14, a15, a16, a17, a18) := by
  have hn : n ≤ 10 := hP.1
  refine br_t rfl ?_
  refine dm_w_lineEdges hP hn1 (fun E b10 b11 b12 b17 ho hL => ?_)
  have hG := dm_Ql_G hn ho
  exact dm_w_pickTree hn1 hn hL hG (fun b13 b14 b15 b16 ht => H E b10 b11 b12 b13 b14 b15 b16 b17 _ hL hG ht)
end
end
section
/-! add; what a state holds between calls -/
def dm_RS (n : Nat) (sz so ed te : Int32) (a1 a2 a3 a4 a5 a6 a7 a8 a9 a10 a11 a12 a13 a14 a15 a16 a17 a18 : Nat → Int32) : Prop :=
  sz = nI n ∧ dm_PT n a1 a2 a3 ∧ dm_rg a5 216 25 ∧ dm_rg a6 216 72 ∧
  ((n = 0 ∧ so = 0) ∨ (1 ≤ n ∧ te = nI (n - 1) ∧ dm_TR (n - 1) a13 a14 a15 ∧ ∃ (E : Nat) (Q : Nat → Nat → Prop), ed = nI E ∧ dm_EL (dm_co a2) (dm_co a3) E a10 a11 a12 Q ∧ dm_G n Q ∧
    (so = 0 ∨ (so = 1 ∧ dm_TI (dm_co a2) (dm_co a3) (fun i => i < n) (dm_b a4) (dm_c a5) (dm_c a6) ∧ dm_NC (dm_co a2) (dm_co a3) n ∧ Q = dm_Qs (dm_b a4) (dm_c a5)))))
theorem dm_TI_congr {X Y X' Y' : Nat → Int} {S : Nat → Prop} {al : Nat → Bool} {C A : Nat → Nat} (h : ∀ i, S i → X' i = X i ∧ Y' i = Y i) (hI : dm_TI X Y S al C A) : dm_TI X' Y' S al C A := by
  obtain ⟨hV, hU, hX, hT, hD, hK⟩ := hI
  have tn : ∀ a b c, S a → S b → S c → dm_tn X' Y' a b c = dm_tn X Y a b c := by
    intro a b c ha hb hc
    unfold dm_tn
    rw [(h a ha).1, (h a ha).2, (h b hb).1, (h b hb).2, (h c hc).1, (h c hc).2]
  have by' : ∀ a b c, S a → S b → S c → dm_by X' Y' a b c = dm_by X Y a b c := by
    intro a b c ha hb hc
    unfold dm_by
    rw [tn a b c ha hb hc]
    unfold dm_dt
    rw [(h a ha).1, (h a ha).2, (h b hb).1, (h b hb).2, (h c hc).1, (h c hc).2]
  have ic : ∀ a b c d, S a → S b → S c → S d → dm_ic X' Y' a b c d = dm_ic X Y a b c d := by
    intro a b c d ha hb hc hd
    unfold dm_ic
    rw [(h a ha).1, (h a ha).2, (h b hb).1, (h b hb).2, (h c hc).1, (h c hc).2, (h d hd).1, (h d hd).2]
  have co : ∀ t i, t < 72 → al t = true → i < 3 → C (3 * t + i) ≠ 24 → S (C (3 * t + i)) := fun t i ht ha hi hne => dm_VS hV (by omega) (by rw [show (3 * t + i) / 3 = t by omega]; exact ha) hne
  refine ⟨hV, hU, hX, ?_, ?_, hK⟩
  · intro t ht ha h1 h2 h3
    rw [tn (C (3 * t)) (C (3 * t + 1)) (C (3 * t + 2)) (co t 0 ht ha (by omega) h1) (co t 1 ht ha (by omega) h2) (co t 2 ht ha (by omega) h3)]
    exact hT t ht ha h1 h2 h3
  · intro t ht ha q hq
    have k := hD t ht ha q hq
    obtain ⟨d1, d2, d3⟩ := dm_three hV ht ha
    have c0 := co t 0 ht ha (by omega)
    have c1 := co t 1 ht ha (by omega)
    have c2 := co t 2 ht ha (by omega)
    simp only [Nat.add_zero] at c0
    unfold dm_bt at k ⊢
    generalize C (3 * t) = a at *
    generalize C (3 * t + 1) = b at *
    generalize C (3 * t + 2) = c at *
    by_cases ha' : a = 24
    · subst ha'
      rw [dm_cf_1] at k ⊢
      rw [by' _ _ _ (c1 (fun z => d1 z.symm)) (c2 d3) hq]; exact k
    · by_cases hb : b = 24
      · subst hb
        rw [dm_cf_2 ha'] at k ⊢
        rw [by' _ _ _ (c2 (fun z => d2 z.symm)) (c0 ha') hq]; exact k
      · by_cases hc : c = 24
        · subst hc
          rw [dm_cf_3 ha' hb] at k ⊢
          rw [by' _ _ _ (c0 ha') (c1 hb) hq]; exact k
        · rw [dm_cf_4 ha' hb hc] at k ⊢
          rw [ic _ _ _ _ (c0 ha') (c1 hb) (c2 hc) hq]; exact k
theorem dm_co_up {a : Nat → Int32} {n x : Nat} (hx : x < 128) : dm_co (upd a n (nI x)) n = (x : Int) ∧ ∀ i, i ≠ n → dm_co (upd a n (nI x)) i = dm_co a i := by
  unfold dm_co
  exact ⟨by rw [pk_us, nI_toInt (by omega)], fun i hi => by rw [pk_un hi]⟩
section
variable {sz so ed te : Int32} {a1 a2 a3 a4 a5 a6 a7 a8 a9 a10 a11 a12 a13 a14 a15 a16 a17 a18 : Nat → Int32}
theorem dm_w_offGrid {post : Int32 → Prop} {x : Nat} (hx : x < 128) (H : post 0) : wpX_offGrid post () (nI x) :=
  br_f (nI_pos (by omega)) (br_t (nI_le (b := 127) (by omega) (by decide)) H)
theorem dm_PT_add {n x y : Nat} (hP : dm_PT n a1 a2 a3) (hn : n ≤ 9) (hx : x < 128) (hy : y < 128) (hd : ∀ j, j < n → ¬ (a2 j = nI x ∧ a3 j = nI y)) :
    dm_PT (n + 1) (upd a1 n 1) (upd a2 n (nI x)) (upd a3 n (nI y)) := by
  obtain ⟨_, hu, h2, h3, hdd⟩ := hP
  have bnd : ∀ (a : Nat → Int32) (v : Nat), v < 128 → dm_XB a → dm_XB (upd a n (nI v)) := by
    intro a v hv ha i hi
    by_cases e : i = n
    · rw [e, pk_us, nI_toInt (by omega)]; omega
    · rw [pk_un e]; exact ha i hi
  have ne : ∀ j, j < n → ¬ (dm_co a2 j = (x : Int) ∧ dm_co a3 j = (y : Int)) := by
    intro j hj z
    refine hd j hj ⟨Int32.toInt_inj.mp ?_, Int32.toInt_inj.mp ?_⟩
    · rw [nI_toInt (by omega)]; exact z.1
    · rw [nI_toInt (by omega)]; exact z.2
  obtain ⟨x1, x2⟩ := dm_co_up (a := a2) (n := n) hx
  obtain ⟨y1, y2⟩ := dm_co_up (a := a3) (n := n) hy
  refine ⟨by omega, fun i hi => ?_, bnd _ _ hx h2, bnd _ _ hy h3, fun i j hi hj e1 e2 => ?_⟩
  · by_cases e : i = n
    · rw [e, pk_us]; exact ⟨fun _ => by omega, fun _ => by decide⟩
    · rw [pk_un e]
      have := hu i hi
      exact ⟨fun z => by have := this.mp z; omega, fun z => this.mpr (by omega)⟩
  · by_cases c1 : i = n
    · by_cases c2 : j = n
      · omega
      · rw [c1, x1, x2 j c2] at e1
        rw [c1, y1, y2 j c2] at e2
        exact absurd ⟨e1.symm, e2.symm⟩ (ne j (by omega))
    · by_cases c2 : j = n
      · rw [c2, x1, x2 i c1] at e1
        rw [c2, y1, y2 i c1] at e2
        exact absurd ⟨e1, e2⟩ (ne i (by omega))
      · rw [x2 i c1, x2 j c2] at e1
        rw [y2 i c1, y2 j c2] at e2
        exact hdd i j (by omega) (by omega) e1 e2
theorem dm_w_add {post : Int32 → St1 → Prop} {n x y : Nat} (hn : n ≤ 9) (hR : dm_RS n sz so ed te a1 a2 a3 a4 a5 a6 a7 a8 a9 a10 a11 a12 a13 a14 a15 a16 a17 a18) (hx : x < 128) (hy : y < 128)
    (Hd : 1 ≤ n → post (-2) (sz, so, ed, te, a1, a2, a3, a4, a5, a6, a7, a8, a9, a10, a11, a12, a13, a14, a15, a16, a17, a18))
    (Hs : ∀ (r : Int32) (sz_ so_ ed_ te_ : Int32) (a1_ a2_ a3_ a4_ a5_ a6_ a7_ a8_ a9_ a10_ a11_ a12_ a13_ a14_ a15_ a16_ a17_ a18_ : Nat → Int32), dm_RS (n + 1) sz_ so_ ed_ te_ a1_ a2_ a3_ a4_ a5_ a6_ a7_ a8_ a9_ a10_ a11_ a12_ a13_ a14_ a15_ a16_ a17_ a18_ → post r (sz_, so_, ed_, te_, a1_, a2_, a3_, a4_, a5_, a6_, a7_, a8_, a9_, a10_, a11_, a12_, a13_, a14_, a15_, a16_, a17_, a18_)) : wpX_add post (sz, so, ed, te, a1, a2, a3, a4, a5, a6, a7, a8, a9, a10, a11, a12, a13, a14, a15, a16, a17, a18) (nI x) (nI y) := by
  obtain ⟨esz, hP, r5, r6, hst⟩ := hR
  have hP' := hP
  obtain ⟨hn', hu, h2, h3, hdd⟩ := hP
  subst esz
  unfold wpX_add
  refine dm_w_offGrid hx (br_t rfl ?_)
  refine dm_w_offGrid hy (br_t rfl ?_)
  -- what stands at the end of the search
  have fin : (∀ j, j < n → ¬ (a2 j = nI x ∧ a3 j = nI y)) → ∀ m, wX_add_22 post (nI x) (nI y) (nI n) so ed te a1 a2 a3 a4 a5 a6 a7 a8 a9 a10 a11 a12 a13 a14 a15 a16 a17 a18 (m + 1) (nI n) (-1) := by
    intro hnd m
    have hPn := dm_PT_add hP' hn hx hy hnd
    have vn := vp_in_nI (n := n) (N := 24) (by omega) (by decide)
    have qn := nI_clamp (show n < 2 ^ 31 by omega)
    refine br_t (by decide) (br_t (nI_pos' (by omega)) ⟨vn, nm_r (e' := upd a1 n 1) (by rw [qn]) ⟨vn, nm_r (e' := upd a2 n (nI x)) (by rw [qn]) ⟨vn, nm_r (e' := upd a3 n (nI y)) (by rw [qn]) (nm_r (nI_1 n) ?_)⟩⟩⟩)
    refine br_c (fun z => ?_) (fun z => ?_)
    · refine dm_w_build hPn r5 r6 (fun b4 => ?_) (fun b4 b5 b6 b7 b8 b9 g1 g2 g3 g4 => ?_)
      · refine dm_w_collect0 hPn (by omega) (fun E b10 b11 b12 b13 b14 b15 b16 b17 Q hL hG ht => ?_)
        exact Hs _ _ _ _ _ _ _ _ _ _ _ _ _ _ _ _ _ _ _ _ _ _ _ ⟨rfl, hPn, r5, r6, Or.inr ⟨by omega, rfl, ht, E, Q, rfl, hL, hG, Or.inl rfl⟩⟩
      · refine dm_w_collect1 hPn (by omega) g1 g2 (fun E b10 b11 b12 b13 b14 b15 b16 hL ht => ?_)
        exact Hs _ _ _ _ _ _ _ _ _ _ _ _ _ _ _ _ _ _ _ _ _ _ _ ⟨rfl, hPn, g2, g3, Or.inr ⟨by omega, rfl, ht, E, _, rfl, hL, dm_Qs_G hPn.1 g1, Or.inr ⟨rfl, g1, g4, rfl⟩⟩⟩
    · rcases hst with ⟨_, z2⟩ | ⟨hn1, _, _, E0, Q0, _, _, _, hso⟩
      · exact absurd z2 z
      · rcases hso with hso | ⟨hso, hI, hNC, _⟩
        · exact absurd hso z
        · subst hso
          obtain ⟨x1, x2⟩ := dm_co_up (a := a2) (n := n) hx
          obtain ⟨y1, y2⟩ := dm_co_up (a := a3) (n := n) hy
          have hI' := dm_TI_congr (X' := dm_co (upd a2 n (nI x))) (Y' := dm_co (upd a3 n (nI y))) (fun i hi => ⟨x2 i (by omega), y2 i (by omega)⟩) hI
          obtain ⟨k, hk2, hkn, hne⟩ := hNC
          have hne' : dm_tn (dm_co (upd a2 n (nI x))) (dm_co (upd a3 n (nI y))) 0 1 k ≠ 0 := by
            have e : dm_tn (dm_co (upd a2 n (nI x))) (dm_co (upd a3 n (nI y))) 0 1 k = dm_tn (dm_co a2) (dm_co a3) 0 1 k := by
              unfold dm_tn
              rw [x2 0 (by omega), x2 1 (by omega), x2 k (by omega), y2 0 (by omega), y2 1 (by omega), y2 k (by omega)]
            rw [e]; exact hne
          have hPn' := hPn
          obtain ⟨_, _, p2, p3, pd⟩ := hPn
          refine dm_w_insert (S := fun i => i < n) p2 p3 ⟨fun i hi => by have : i < n := hi; omega, fun i j hi hj => pd i j (by have : i < n := hi; omega) (by have : j < n := hj; omega), 0, 1, k, by show 0 < n; omega, by show 1 < n; omega, hkn, hne'⟩ hI' r5 r6 (by omega) (fun z => by have : n < n := z; omega) (fun i hi q => ?_) (fun b4 b5 b6 b7 b8 b9 g1 g2 g3 => ?_)
          · have hi' : i < n := hi
            have := pd i n (by omega) (by omega) q.1 q.2
            omega
          · have e : (fun i => i < n ∨ i = n) = (fun i => i < n + 1) := funext (fun i => propext (by omega))
            rw [e] at g1
            refine dm_w_collect1 hPn' (by omega) g1 g2 (fun E b10 b11 b12 b13 b14 b15 b16 hL ht => ?_)
            exact Hs _ _ _ _ _ _ _ _ _ _ _ _ _ _ _ _ _ _ _ _ _ _ _ ⟨rfl, hPn', g2, g3, Or.inr ⟨by omega, rfl, ht, E, _, rfl, hL, dm_Qs_G hPn'.1 g1, Or.inr ⟨rfl, g1, ⟨k, hk2, by omega, hne'⟩, rfl⟩⟩⟩
  have main : ∀ (i : Nat) (x3 x4 : Int32), i ≤ 24 → (i = 24 ∧ x3 = -1 ∨ i < 24 ∧ x3 = nI (max i n)) → (i = 0 ∧ x4 = -1 ∨ 0 < i ∧ x4 = nI (i - 1)) → (∀ j, i ≤ j → j < n → ¬ (a2 j = nI x ∧ a3 j = nI y)) → wX_add_22 post (nI x) (nI y) (nI n) so ed te a1 a2 a3 a4 a5 a6 a7 a8 a9 a10 a11 a12 a13 a14 a15 a16 a17 a18 (i + 1) x3 x4 := by
    intro i
    induction i with
    | zero =>
      intro x3 x4 _ h3 h4 hnd
      have e3 : x3 = nI n := by
        rcases h3 with z | z
        · omega
        · rw [z.2, show max 0 n = n by omega]
      have e4 : x4 = -1 := by
        rcases h4 with z | z
        · exact z.2
        · omega
      subst e3; subst e4
      exact fin (fun j hj => hnd j (by omega) hj) 0
    | succ i ih =>
      intro x3 x4 hi h3 h4 hnd
      have e4 : x4 = nI i := by
        rcases h4 with z | z
        · omega
        · exact z.2
      subst e4
      have vi := vp_in_nI (n := i) (N := 24) (by omega) (by decide)
      have qi := nI_clamp (show i < 2 ^ 31 by omega)
      have nx4 : (i = 0 ∧ nI i + (-1) = -1 ∨ 0 < i ∧ nI i + (-1) = nI (i - 1)) := by
        cases i with
        | zero => exact Or.inl ⟨rfl, by decide⟩
        | succ j => exact Or.inr ⟨by omega, by rw [pk_m1]; rfl⟩
      refine br_f (nI_pos (by omega)) ⟨vi, ?_⟩
      rw [qi]
      have used : ¬ a1 i = 0 → ¬ (a2 i = nI x ∧ a3 i = nI y) → wX_add_62 post (wX_add_22 post (nI x) (nI y) (nI n) so ed te a1 a2 a3 a4 a5 a6 a7 a8 a9 a10 a11 a12 a13 a14 a15 a16 a17 a18 (i + 1)) (nI x) (nI y) x3 (nI i) (nI n) so ed te a1 a2 a3 a4 a5 a6 a7 a8 a9 a10 a11 a12 a13 a14 a15 a16 a17 a18 := by
        intro hu1 hne
        have hin := (hu i (by omega)).mp hu1
        refine ⟨vi, ?_⟩
        rw [qi]
        refine br_f hu1 (nm_e (ih x3 _ (by omega) ?_ nx4 (fun j hj hjn => ?_)))
        · rcases h3 with z | z
          · omega
          · exact Or.inr ⟨by omega, by rw [z.2]; congr 1; omega⟩
        · by_cases e : j = i
          · rw [e]; exact hne
          · exact hnd j (by omega) hjn
      refine br_c (fun z => ?_) (fun z => ⟨vi, ?_⟩)
      · have hin : ¬ i < n := fun w => (hu i (by omega)).mpr w z
        refine ⟨vi, ?_⟩
        rw [qi]
        refine br_t z (nm_e (ih (nI i) _ (by omega) (Or.inr ⟨by omega, by congr 1; omega⟩) nx4 (fun j hj hjn => by omega)))
      · refine br_c (fun w => ⟨vi, ?_⟩) (fun w => used z (fun q => w q.1))
        refine br_c (fun w2 => ?_) (fun w2 => used z (fun q => w2 q.2))
        have hin := (hu i (by omega)).mp z
        exact Hd (by omega)
  exact ⟨25, main 24 (-1) 23 (by omega) (Or.inl ⟨rfl, rfl⟩) (Or.inr ⟨by omega, rfl⟩) (fun j hj hjn => by omega)⟩
end
end
section
/-! the questions: linked and close -/
theorem dm_ln_sym (X Y : Nat → Int) (u v : Nat) : dm_ln X Y u v = dm_ln X Y v u := by unfold dm_ln; grind
theorem dm_ln_dt (X Y : Nat → Int) (a b c : Nat) : dm_ln X Y a c + dm_ln X Y b c - dm_ln X Y a b = 2 * dm_dt X Y a b c := by unfold dm_ln dm_dt; grind
theorem dm_ln_b {a2 a3 : Nat → Int32} (hx : dm_XB a2) (hy : dm_XB a3) {i j : Nat} (hi : i < 24) (hj : j < 24) : 0 ≤ dm_ln (dm_co a2) (dm_co a3) i j ∧ dm_ln (dm_co a2) (dm_co a3) i j ≤ 32258 := by
  have x1 := hx i hi
  have x2 := hx j hj
  have y1 := hy i hi
  have y2 := hy j hj
  unfold dm_ln dm_co
  have p1 := dm_mb (a := (a2 i).toInt - (a2 j).toInt) (b := (a2 i).toInt - (a2 j).toInt) (m := 127) (k := 127) (by omega) (by omega) (by omega) (by omega)
  have p2 := dm_mb (a := (a3 i).toInt - (a3 j).toInt) (b := (a3 i).toInt - (a3 j).toInt) (m := 127) (k := 127) (by omega) (by omega) (by omega) (by omega)
  have q1 := dm_sq0 ((a2 i).toInt - (a2 j).toInt)
  have q2 := dm_sq0 ((a3 i).toInt - (a3 j).toInt)
  omega
/-- entry i of the list joins a and b, read from a -/
def dm_oe (a10 a11 : Nat → Int32) (i a b : Nat) : Prop := (a10 i = nI a ∧ a11 i = nI b) ∨ (¬ a10 i = nI a ∧ a11 i = nI a ∧ a10 i = nI b)
theorem dm_ice {X Y : Nat → Int} {C : Nat → Nat} (e d : Nat) : dm_ic X Y (C (3 * (e / 3))) (C (3 * (e / 3) + 1)) (C (3 * (e / 3) + 2)) d = dm_ic X Y (C e) (C (dm_nx e)) (C (dm_nx (dm_nx e))) d := by
  have h : e = 3 * (e / 3) ∨ e = 3 * (e / 3) + 1 ∨ e = 3 * (e / 3) + 2 := by omega
  generalize e / 3 = t at *
  rcases h with h | h | h <;> subst h <;> simp only [dm_nx_0, dm_nx_1, dm_nx_2]
  · exact (dm_ic_rot X Y _ _ _ d).symm
  · exact dm_ic_rot X Y _ _ _ d
section
variable {sz so ed te : Int32} {a1 a2 a3 a4 a5 a6 a7 a8 a9 a10 a11 a12 a13 a14 a15 a16 a17 a18 : Nat → Int32}
theorem dm_w_noPoint {post : Int32 → Prop} {n i : Nat} (hP : dm_PT n a1 a2 a3) (hi : i < n) (H : post 0) : wpX_noPoint post (sz, so, ed, te, a1, a2, a3, a4, a5, a6, a7, a8, a9, a10, a11, a12, a13, a14, a15, a16, a17, a18) (nI i) := by
  have hn := hP.1
  refine br_f (nI_pos (by omega)) (br_f (nI_nlt (a := 23) (b := i) (by omega) (by decide)) ⟨vp_in_nI (by omega) (by decide), ?_⟩)
  · rw [nI_clamp (by omega)]
    exact br_f ((hP.2.1 i (by omega)).mpr hi) H
theorem dm_w_edgeCell {post : Int32 → Prop} {u v : Nat} (hc : dm_rg a5 216 25) (hu : u < 25) (hv : v < 25)
    (Hn : (∀ e, e < 216 → dm_b a4 (e / 3) = true → dm_c a5 e = u → dm_c a5 (dm_nx e) = v → False) → post (-1))
    (Hs : ∀ e, e < 216 → dm_b a4 (e / 3) = true → dm_c a5 e = u → dm_c a5 (dm_nx e) = v → post (nI e)) : wpX_edgeCell post (sz, so, ed, te, a1, a2, a3, a4, a5, a6, a7, a8, a9, a10, a11, a12, a13, a14, a15, a16, a17, a18) (nI u) (nI v) := by
  have main : ∀ m e, e ≤ 216 → 216 - e < m → (∀ f, f < e → dm_b a4 (f / 3) = true → dm_c a5 f = u → dm_c a5 (dm_nx f) = v → False) → wX_edgeCell_2 post (nI u) (nI v) sz so ed te a1 a2 a3 a4 a5 a6 a7 a8 a9 a10 a11 a12 a13 a14 a15 a16 a17 a18 m (nI e) := by
    intro m
    induction m with
    | zero => intro e _ h; omega
    | succ m ih =>
      intro e he hm hno
      refine pk_le 216 e (fun z => Hn (fun f hf => hno f (by omega))) (fun z => ⟨by decide, by rw [dm_d3' (by omega)]; exact vp_in_nI (by omega) (by decide), ?_⟩) rfl rfl
      have next : ¬ (dm_b a4 (e / 3) = true ∧ dm_c a5 e = u ∧ dm_c a5 (dm_nx e) = v) → wX_edgeCell_2 post (nI u) (nI v) sz so ed te a1 a2 a3 a4 a5 a6 a7 a8 a9 a10 a11 a12 a13 a14 a15 a16 a17 a18 m (nI (e + 1)) := by
        intro hh
        refine ih (e + 1) (by omega) (by omega) (fun f hf h1 h2 h3 => ?_)
        by_cases q : f = e
        · subst q; exact hh ⟨h1, h2, h3⟩
        · exact hno f (by omega) h1 h2 h3
      have hne := dm_nx_lt z
      rw [dm_d3' (show e < 2 ^ 31 by omega), nI_clamp (show e / 3 < 2 ^ 31 by omega)]
      refine br_c (fun w => nm_r (nI_1 e) (next (fun q => dm_b_t.mp q.1 w))) (fun w => ⟨vp_in_nI z (by decide), ?_⟩)
      rw [nI_clamp (show e < 2 ^ 31 by omega)]
      have ve := hc e z
      have vn := hc _ hne
      refine pk_eq (dm_c a5 e) u (fun w1 => ?_) (fun w1 => nm_r (nI_1 e) (next (fun q => w1 q.2.1))) ve.1 rfl
      refine dm_w_next (by omega) ⟨vp_in_nI hne (by decide), ?_⟩
      rw [nI_clamp (show dm_nx e < 2 ^ 31 by omega)]
      exact pk_eq (dm_c a5 (dm_nx e)) v (fun w2 => Hs e z (dm_b_t.mpr w) w1 w2) (fun w2 => nm_r (nI_1 e) (next (fun q => w2 q.2.2))) vn.1 rfl
  exact ⟨217, main 217 0 (by omega) (by omega) (fun f hf => absurd hf (by omega))⟩
theorem dm_w_otherEnd {post : Int32 → Prop} {i a : Nat} (hi : i < 80)
    (H1 : a10 i = nI a → post (a11 i)) (H2 : ¬ a10 i = nI a → a11 i = nI a → post (a10 i)) (H3 : ¬ a10 i = nI a → ¬ a11 i = nI a → post (-1)) : wpX_otherEnd post (sz, so, ed, te, a1, a2, a3, a4, a5, a6, a7, a8, a9, a10, a11, a12, a13, a14, a15, a16, a17, a18) (nI i) (nI a) := by
  have vi := vp_in_nI (N := 80) hi (by decide)
  refine ⟨vi, ?_⟩
  rw [nI_clamp (show i < 2 ^ 31 by omega)]
  exact br_c (fun z => ⟨vi, H1 z⟩) (fun z => ⟨vi, br_c (fun w => ⟨vi, H2 z w⟩) (fun w => H3 z w)⟩)
theorem dm_w_joined {post : Int32 → Prop} {E a b : Nat} (hE : E ≤ 80) (hb : b < 24) 
    (H1 : (∃ i, i < E ∧ dm_oe a10 a11 i a b) → post 1) (H0 : ¬ (∃ i, i < E ∧ dm_oe a10 a11 i a b) → post 0) : wpX_joined post (sz, so, nI E, te, a1, a2, a3, a4, a5, a6, a7, a8, a9, a10, a11, a12, a13, a14, a15, a16, a17, a18) (nI a) (nI b) := by
  have main : ∀ m i, i ≤ E → E - i < m → (∀ j, j < i → ¬ dm_oe a10 a11 j a b) → wX_joined_2 post (nI a) (nI b) sz so (nI E) te a1 a2 a3 a4 a5 a6 a7 a8 a9 a10 a11 a12 a13 a14 a15 a16 a17 a18 m (nI i) := by
    intro m
    induction m with
    | zero => intro i _ h; omega
    | succ m ih =>
      intro i hi hm hno
      refine pk_le E i (fun z => H0 (fun ⟨j, hj, q⟩ => hno j (by omega) q)) (fun z => ?_) rfl rfl
      have next : ¬ dm_oe a10 a11 i a b → wX_joined_2 post (nI a) (nI b) sz so (nI E) te a1 a2 a3 a4 a5 a6 a7 a8 a9 a10 a11 a12 a13 a14 a15 a16 a17 a18 m (nI (i + 1)) := by
        intro hh
        refine ih (i + 1) (by omega) (by omega) (fun j hj q => ?_)
        by_cases e : j = i
        · subst e; exact hh q
        · exact hno j (by omega) q
      refine dm_w_otherEnd (by omega) (fun w => ?_) (fun w1 w2 => ?_) (fun w1 w2 => ?_)
      · exact br_c (fun q => H1 ⟨i, z, Or.inl ⟨w, q⟩⟩) (fun q => nm_r (nI_1 i) (next (fun k => k.elim (fun k => q k.2) (fun k => k.1 w))))
      · exact br_c (fun q => H1 ⟨i, z, Or.inr ⟨w1, w2, q⟩⟩) (fun q => nm_r (nI_1 i) (next (fun k => k.elim (fun k => w1 k.1) (fun k => q k.2.2))))
      · exact br_f (dm_m1 (by omega)) (nm_r (nI_1 i) (next (fun k => k.elim (fun k => w1 k.1) (fun k => w2 k.2.1))))
  exact ⟨E + 1, main (E + 1) 0 (by omega) (by omega) (fun j hj => absurd hj (by omega))⟩
theorem dm_w_offD {post : Int32 → Prop} {a b c : Nat} (hx : dm_XB a2) (hy : dm_XB a3) (ha : a < 24) (hb : b < 24) (hc : c < 25)
    (H0 : post 0) (H1 : (c = 24 ∨ 0 < dm_dt (dm_co a2) (dm_co a3) a b c) → post 1) : wpX_offDiameter post (sz, so, ed, te, a1, a2, a3, a4, a5, a6, a7, a8, a9, a10, a11, a12, a13, a14, a15, a16, a17, a18) (nI a) (nI b) (nI c) := by
  refine pk_eq c 24 (fun z => H1 (Or.inl z)) (fun z => ?_) rfl rfl
  refine dm_w_dist hx hy ha (by omega) (fun r1 e1 => ?_)
  refine dm_w_dist hx hy hb (by omega) (fun r2 e2 => ?_)
  refine dm_w_dist hx hy ha hb (fun r3 e3 => ?_)
  have e1' : r1.toInt = dm_ln (dm_co a2) (dm_co a3) a c := e1
  have e2' : r2.toInt = dm_ln (dm_co a2) (dm_co a3) b c := e2
  have e3' : r3.toInt = dm_ln (dm_co a2) (dm_co a3) a b := e3
  have b1 := dm_ln_b hx hy ha (show c < 24 by omega)
  have b2 := dm_ln_b hx hy hb (show c < 24 by omega)
  have id := dm_ln_dt (dm_co a2) (dm_co a3) a b c
  refine br_c (fun _ => H0) (fun w => H1 (Or.inr ?_))
  rw [Int32.le_iff_toInt_le, dm_add32 (by omega) (by omega)] at w
  omega
/-- firmEdge answers true where the point across is outside the circle -/
theorem dm_w_firm {post : Int32 → Prop} {S : Nat → Prop} {e f : Nat} (hx : dm_XB a2) (hy : dm_XB a3) (hS : ∀ i, S i → i < 10) (hc : dm_rg a5 216 25) (h6 : dm_rg a6 216 72)
    (hV : dm_V S (dm_b a4) (dm_c a5)) (hU : dm_U (dm_b a4) (dm_c a5)) (hX : dm_X (dm_b a4) (dm_c a5) (dm_c a6)) (he : e < 216) (hf : f < 216) (hae : dm_b a4 (e / 3) = true) (haf : dm_b a4 (f / 3) = true)
    (r1 : dm_c a5 e ≠ 24) (r2 : dm_c a5 (dm_nx e) ≠ 24)
    (c1 : dm_c a5 f = dm_c a5 (dm_nx e)) (c2 : dm_c a5 (dm_nx f) = dm_c a5 e)
    (hfirm : dm_c a5 (dm_nx (dm_nx e)) = 24 ∨ dm_c a5 (dm_nx (dm_nx f)) = 24 ∨ dm_ic (dm_co a2) (dm_co a3) (dm_c a5 e) (dm_c a5 (dm_nx e)) (dm_c a5 (dm_nx (dm_nx e))) (dm_c a5 (dm_nx (dm_nx f))) < 0)
    (H : post 1) : wpX_firmEdge post (sz, so, ed, te, a1, a2, a3, a4, a5, a6, a7, a8, a9, a10, a11, a12, a13, a14, a15, a16, a17, a18) (nI e) := by
  have tw := (dm_tw hU hX he hf hae haf c1 c2).1
  have h1 := dm_nx_lt he
  have h2 := dm_nx_lt h1
  have g1 := dm_nx_lt hf
  have g2 := dm_nx_lt g1
  have v6 := h6 e he
  have v0 := hc e he
  have v1 := hc _ h1
  have v2 := hc _ h2
  refine ⟨by decide, nm_r (e' := nI (e / 3)) (dm_d3' (by omega)) ⟨vp_in_nI he (by decide), nm_r (e' := nI (f / 3)) (by rw [nI_clamp (by omega), v6.1, tw]) (dm_w_facing he ?_)⟩⟩
  refine pk_eq (dm_c a5 (dm_nx (dm_nx e))) 24 (fun _ => H) (fun z => ⟨vp_in_nI he (by decide), nm_r (e' := nI (dm_c a5 e)) (by rw [nI_clamp (by omega)]; exact v0.1) (dm_w_next (by omega) ⟨vp_in_nI h1 (by decide), nm_r (e' := nI (dm_c a5 (dm_nx e))) (by rw [nI_clamp (by omega)]; exact v1.1) (nm_r (e' := nI (3 * (f / 3))) (dm_i3 _) ?_)⟩)⟩) v2.1 rfl
  have gdiv : dm_nx (dm_nx f) / 3 = f / 3 := by rw [dm_nx_div, dm_nx_div]
  have oth : ∀ i, i / 3 = f / 3 → i ≠ dm_nx (dm_nx f) → i = f ∨ i = dm_nx f := by
    intro i hi hne
    have hff : f = 3 * (f / 3) ∨ f = 3 * (f / 3) + 1 ∨ f = 3 * (f / 3) + 2 := by omega
    generalize f / 3 = t at *
    rcases hff with hff | hff | hff <;> subst hff <;> simp only [dm_nx_0, dm_nx_1, dm_nx_2] at hne ⊢ <;> omega
  refine pk_loop (σ := Unit) (fun m i _ => wX_firmEdge_51 post (nI (e / 3)) (nI (f / 3)) (nI (dm_c a5 e)) (nI (dm_c a5 (dm_nx e))) sz so ed te a1 a2 a3 a4 a5 a6 a7 a8 a9 a10 a11 a12 a13 a14 a15 a16 a17 a18 m (nI i)) (fun i _ => 3 * (f / 3) ≤ i) (dm_nx (dm_nx f)) (3 * (f / 3)) () (by omega) (Nat.le_refl _) ?_ ?_
  · intro m _ hi
    have vg := hc _ g2
    obtain ⟨d1, d2, d3⟩ := dm_d3 hV hf haf
    refine pk_le (3 * (f / 3) + 3) (dm_nx (dm_nx f)) (fun z => absurd z (by omega)) (fun _ => ⟨vp_in_nI g2 (by decide), nm_r (e' := nI (dm_c a5 (dm_nx (dm_nx f)))) (by rw [nI_clamp (by omega)]; exact vg.1) ?_⟩) (dm_i33 _) rfl
    refine pk_eq _ 24 (fun _ => H) (fun w => ?_) rfl rfl
    refine pk_eq _ _ (fun w1 => absurd w1 (by rw [← c2]; exact fun q => d2 q.symm)) (fun w1 => ?_) rfl rfl (by omega) (by omega)
    refine pk_eq _ _ (fun w2 => absurd w2 (by rw [← c1]; exact d3)) (fun w2 => ?_) rfl rfl (by omega) (by omega)
    have u0 := hc (3 * (e / 3)) (by omega)
    have u1 := hc (3 * (e / 3) + 1) (by omega)
    have u2 := hc (3 * (e / 3) + 2) (by omega)
    have lt24 : ∀ i, i < 216 → dm_c a5 i ≠ 24 → dm_c a5 i < 24 := fun i hi hne => by have := (hc i hi).2; omega
    have bnd : ∀ i, i < 3 → dm_c a5 (3 * (e / 3) + i) < 24 := by
      intro i hi
      refine lt24 _ (by omega) ?_
      have hee : e = 3 * (e / 3) ∨ e = 3 * (e / 3) + 1 ∨ e = 3 * (e / 3) + 2 := by omega
      generalize e / 3 = t at *
      have hi3 : i = 0 ∨ i = 1 ∨ i = 2 := by omega
      rcases hee with hee | hee | hee <;> subst hee <;> simp only [dm_nx_0, dm_nx_1, dm_nx_2] at r1 r2 z <;> rcases hi3 with q | q | q <;> subst q <;> assumption
    refine ⟨by rw [dm_i3]; exact vp_in_nI (by omega) (by decide), by rw [dm_i31]; exact vp_in_nI (by omega) (by decide), by rw [dm_i32]; exact vp_in_nI (by omega) (by decide), ?_⟩
    rw [dm_i32, dm_i31, dm_i3, nI_clamp (show 3 * (e / 3) < 2 ^ 31 by omega), nI_clamp (show 3 * (e / 3) + 1 < 2 ^ 31 by omega), nI_clamp (show 3 * (e / 3) + 2 < 2 ^ 31 by omega), u0.1, u1.1, u2.1]
    refine dm_w_inCircle hx hy (bnd 0 (by omega)) (bnd 1 (by omega)) (bnd 2 (by omega)) (by have := vg.2; omega) (fun r hr => ?_)
    rw [dm_ice (C := dm_c a5) e] at hr
    have e0 : (0 : Int64).toInt = 0 := by decide
    refine br_f ?_ H
    rw [Int64.le_iff_toInt_le, hr, e0]
    rcases hfirm with q | q | q
    · exact absurd q z
    · exact absurd q w
    · omega
  · intro m i _ hi h3 hw
    have vi := hc i (by omega)
    have sk : i = f ∨ i = dm_nx f := oth i (by omega) (by omega)
    refine pk_le (3 * (f / 3) + 3) i (fun z => absurd z (by omega)) (fun _ => ⟨vp_in_nI (by omega) (by decide), nm_r (e' := nI (dm_c a5 i)) (by rw [nI_clamp (by omega)]; exact vi.1) ?_⟩) (dm_i33 _) rfl
    have k : dm_c a5 i = dm_c a5 e ∨ dm_c a5 i = dm_c a5 (dm_nx e) := by
      rcases sk with q | q
      · right; rw [q, c1]
      · left; rw [q, c2]
    have nx : wX_firmEdge_51 post (nI (e / 3)) (nI (f / 3)) (nI (dm_c a5 e)) (nI (dm_c a5 (dm_nx e))) sz so ed te a1 a2 a3 a4 a5 a6 a7 a8 a9 a10 a11 a12 a13 a14 a15 a16 a17 a18 m (nI (i + 1)) := hw () (by omega)
    refine pk_eq _ 24 (fun q => ?_) (fun w => ?_) rfl rfl
    · rcases k with k | k
      · exact absurd (k.symm.trans q) r1
      · exact absurd (k.symm.trans q) r2
    · refine pk_eq _ _ (fun w1 => nm_r (nI_1 i) nx) (fun w1 => ?_) rfl rfl (by omega) (by omega)
      exact pk_eq _ _ (fun w2 => nm_r (nI_1 i) nx) (fun w2 => absurd k (fun q => q.elim w1 w2)) rfl rfl (by omega) (by omega)
end
end
section
/-! close and linked together; neighbour; the tree's questions -/
section
variable {sz so ed te : Int32} {a1 a2 a3 a4 a5 a6 a7 a8 a9 a10 a11 a12 a13 a14 a15 a16 a17 a18 : Nat → Int32}
theorem dm_w_linkedS {post : Int32 → Prop} {n a b e f : Nat} (hP : dm_PT n a1 a2 a3) (hc : dm_rg a5 216 25) (h6 : dm_rg a6 216 72) (hI : dm_TI (dm_co a2) (dm_co a3) (fun i => i < n) (dm_b a4) (dm_c a5) (dm_c a6))
    (ha : a < n) (hb : b < n) (hab : a ≠ b) (he : e < 216) (hf : f < 216) (hae : dm_b a4 (e / 3) = true) (haf : dm_b a4 (f / 3) = true)
    (e1 : dm_c a5 e = a) (e2 : dm_c a5 (dm_nx e) = b) (f1 : dm_c a5 f = b) (f2 : dm_c a5 (dm_nx f) = a)
    (hfirm : dm_c a5 (dm_nx (dm_nx e)) = 24 ∨ dm_c a5 (dm_nx (dm_nx f)) = 24 ∨ dm_ic (dm_co a2) (dm_co a3) a b (dm_c a5 (dm_nx (dm_nx e))) (dm_c a5 (dm_nx (dm_nx f))) < 0)
    (H : post 1) : wpX_linked post (sz, 1, ed, te, a1, a2, a3, a4, a5, a6, a7, a8, a9, a10, a11, a12, a13, a14, a15, a16, a17, a18) (nI a) (nI b) := by
  obtain ⟨hV, hU, hX, _⟩ := hI
  have hn := hP.1
  refine br_f (fun z => hab ((nI_eq (by omega) (by omega)).mp z)) (dm_w_noPoint hP ha (br_t rfl (dm_w_noPoint hP hb (br_t rfl (br_f (by decide) (dm_w_edgeCell hc (by omega) (by omega) (fun hno => ?_) (fun e' he' hae' q1 q2 => ?_)))))))
  · exact absurd (hno e he hae e1 e2) (fun z => z)
  · have : e' = e := hU e' e he' he hae' hae (by rw [q1, e1]) (by rw [q2, e2])
    subst this
    refine br_f (nI_pos (by omega)) (dm_w_firm (S := fun i => i < n) hP.2.2.1 hP.2.2.2.1 (fun i hi => by have : i < n := hi; omega) hc h6 hV hU hX he' hf hae' haf (by omega) (by omega) (by rw [f1, e2]) (by rw [f2, e1]) (by rw [e1, e2]; exact hfirm) ?_)
    exact br_f (by decide) H
theorem dm_w_linkedN {post : Int32 → Prop} {n a b E : Nat} (hP : dm_PT n a1 a2 a3) (hE : E ≤ 80) (ha : a < n) (hb : b < n) (hab : a ≠ b) (hJ : ∃ i, i < E ∧ dm_oe a10 a11 i a b) (H : post 1) : wpX_linked post (sz, 0, nI E, te, a1, a2, a3, a4, a5, a6, a7, a8, a9, a10, a11, a12, a13, a14, a15, a16, a17, a18) (nI a) (nI b) := by
  have hn := hP.1
  refine br_f (fun z => hab ((nI_eq (by omega) (by omega)).mp z)) (dm_w_noPoint hP ha (br_t rfl (dm_w_noPoint hP hb (br_t rfl (br_t rfl (dm_w_joined hE (by omega) (fun _ => ⟨dm_nar1, H⟩) (fun z => absurd hJ z)))))))
theorem dm_w_closeN {post : Int32 → Prop} {n a b E : Nat} (hP : dm_PT n a1 a2 a3) (hE : E ≤ 80) (ha : a < n) (hb : b < n) (H0 : post 0) (H1 : a ≠ b → (∃ i, i < E ∧ dm_oe a10 a11 i a b) → post 1) : wpX_close post (sz, 0, nI E, te, a1, a2, a3, a4, a5, a6, a7, a8, a9, a10, a11, a12, a13, a14, a15, a16, a17, a18) (nI a) (nI b) := by
  have hn := hP.1
  refine pk_eq a b (fun _ => H0) (fun hab => dm_w_noPoint hP ha (br_t rfl (dm_w_noPoint hP hb (br_t rfl (br_t rfl (dm_w_joined hE (by omega) (fun q => ⟨dm_nar1, H1 hab q⟩) (fun _ => ⟨dm_nar0, H0⟩))))))) rfl rfl (by omega) (by omega)
theorem dm_w_closeS {post : Int32 → Prop} {n a b : Nat} (hP : dm_PT n a1 a2 a3) (hc : dm_rg a5 216 25) (ha : a < n) (hb : b < n) (H0 : post 0)
    (H1 : a ≠ b → ∀ e f, e < 216 → f < 216 → dm_b a4 (e / 3) = true → dm_b a4 (f / 3) = true → dm_c a5 e = a → dm_c a5 (dm_nx e) = b → dm_c a5 f = b → dm_c a5 (dm_nx f) = a →
      (dm_c a5 (dm_nx (dm_nx e)) = 24 ∨ 0 < dm_dt (dm_co a2) (dm_co a3) a b (dm_c a5 (dm_nx (dm_nx e)))) → (dm_c a5 (dm_nx (dm_nx f)) = 24 ∨ 0 < dm_dt (dm_co a2) (dm_co a3) a b (dm_c a5 (dm_nx (dm_nx f)))) → post 1) :
    wpX_close post (sz, 1, ed, te, a1, a2, a3, a4, a5, a6, a7, a8, a9, a10, a11, a12, a13, a14, a15, a16, a17, a18) (nI a) (nI b) := by
  have hn := hP.1
  refine pk_eq a b (fun _ => H0) (fun hab => dm_w_noPoint hP ha (br_t rfl (dm_w_noPoint hP hb (br_t rfl (br_f (by decide) ?_))))) rfl rfl (by omega) (by omega)
  refine dm_w_edgeCell hc (by omega) (by omega) (fun _ => br_f (by decide) H0) (fun e he hae e1 e2 => br_t (nI_pos' (by omega)) ?_)
  refine dm_w_edgeCell hc (by omega) (by omega) (fun _ => br_f (by decide) H0) (fun f hf haf f1 f2 => br_t (nI_pos' (by omega)) ?_)
  have vc := hc _ (dm_nx_lt (dm_nx_lt he))
  have vd := hc _ (dm_nx_lt (dm_nx_lt hf))
  refine dm_w_facing he (dm_w_facing hf ?_)
  rw [vc.1, vd.1]
  refine dm_w_offD hP.2.2.1 hP.2.2.2.1 (by omega) (by omega) vc.2 (br_t rfl H0) (fun q1 => br_f (by decide) ?_)
  exact dm_w_offD hP.2.2.1 hP.2.2.2.1 (by omega) (by omega) vd.2 (br_t rfl H0) (fun q2 => br_f (by decide) (H1 hab e f he hf hae haf e1 e2 f1 f2 q1 q2))
/-- a close pair is linked -/
theorem dm_w_cl {post N : Int32 → Prop} {n a b : Nat} (hR : dm_RS n sz so ed te a1 a2 a3 a4 a5 a6 a7 a8 a9 a10 a11 a12 a13 a14 a15 a16 a17 a18) (ha : a < n) (hb : b < n) (hN : ∀ x, x = nI b + 1 → N x) :
    wpX_close (fun r4 => ((r4 = 0 → ∀ x, x = nI b + 1 → N x) ∧ (¬ r4 = 0 → wpX_linked (fun r7 => ((r7 = 0 → post 0) ∧ (¬ r7 = 0 → ∀ x, x = nI b + 1 → N x))) (sz, so, ed, te, a1, a2, a3, a4, a5, a6, a7, a8, a9, a10, a11, a12, a13, a14, a15, a16, a17, a18) (nI a) (nI b)))) (sz, so, ed, te, a1, a2, a3, a4, a5, a6, a7, a8, a9, a10, a11, a12, a13, a14, a15, a16, a17, a18) (nI a) (nI b) := by
  obtain ⟨_, hP, r5, r6, hst⟩ := hR
  rcases hst with ⟨z, _⟩ | ⟨hn1, _, _, E, Q, eE, hL, hG, hso⟩
  · omega
  · have hn := hP.1
    rcases hso with hso | ⟨hso, hI, _, _⟩
    · subst hso
      subst eE
      refine dm_w_closeN hP hL.1 ha hb (br_t rfl hN) (fun hab hJ => br_f (by decide) ?_)
      exact dm_w_linkedN hP hL.1 ha hb hab hJ (br_f (by decide) hN)
    · subst hso
      have hI' := hI
      obtain ⟨hV, hU, hX, hT, hD, hK⟩ := hI
      refine dm_w_closeS hP r5 ha hb (br_t rfl hN) (fun hab e f he hf hae haf e1 e2 f1 f2 q1 q2 => br_f (by decide) ?_)
      refine dm_w_linkedS hP r5 r6 hI' ha hb hab he hf hae haf e1 e2 f1 f2 ?_ (br_f (by decide) hN)
      rcases q1 with q1 | q1
      · exact Or.inl q1
      · rcases q2 with q2 | q2
        · exact Or.inr (Or.inl q2)
        · by_cases g1 : dm_c a5 (dm_nx (dm_nx e)) = 24
          · exact Or.inl g1
          · by_cases g2 : dm_c a5 (dm_nx (dm_nx f)) = 24
            · exact Or.inr (Or.inl g2)
            · have t1 := dm_Te hT he hae (by omega) (by omega) g1
              have t2 := dm_Te hT hf haf (by omega) (by omega) g2
              rw [e1, e2] at t1
              rw [f1, f2] at t2
              exact Or.inr (Or.inr (dm_L1 t1 t2 q1 q2))
/-! neighbour -/
theorem dm_inc {n i : Nat} {Q : Nat → Nat → Prop} (hG : dm_G n Q) (hn : 2 ≤ n) (hi : i < n) : ∃ x, Q i x ∨ Q x i := by
  by_cases h : ∃ x, Q i x ∨ Q x i
  · exact h
  · exfalso
    have hk := hG.2 (fun z => if z = i then 1 else 0) (fun x y q => by
      have n1 : x ≠ i := fun z => h ⟨y, Or.inl (by rw [← z]; exact q)⟩
      have n2 : y ≠ i := fun z => h ⟨x, Or.inr (by rw [← z]; exact q)⟩
      simp only [if_neg n1, if_neg n2])
    have hj : ∃ j, j < n ∧ j ≠ i := by
      by_cases c : i = 0
      · exact ⟨1, by omega, by omega⟩
      · exact ⟨0, by omega, by omega⟩
    obtain ⟨j, hj, hne⟩ := hj
    have := hk i j hi hj
    simp only [if_true, if_neg hne] at this
    omega
theorem dm_w_nb {post : Int32 → Prop} {n i E : Nat} {Q : Nat → Nat → Prop} (hP : dm_PT n a1 a2 a3) (hL : dm_EL (dm_co a2) (dm_co a3) E a10 a11 a12 Q) (hG : dm_G n Q) (hn2 : 2 ≤ n) (hi : i < n)
    (H : ∀ j, j < n → j ≠ i → (Q i j ∨ Q j i) → (∀ x, (Q i x ∨ Q x i) → dm_ln (dm_co a2) (dm_co a3) i j ≤ dm_ln (dm_co a2) (dm_co a3) i x) → (∃ s, s < E ∧ dm_oe a10 a11 s i j) → post (nI j)) :
    wpX_neighbour post (sz, so, nI E, te, a1, a2, a3, a4, a5, a6, a7, a8, a9, a10, a11, a12, a13, a14, a15, a16, a17, a18) (nI i) := by
  have hn := hP.1
  obtain ⟨hE, l1, l2, l3⟩ := hL
  unfold wpX_neighbour
  refine dm_w_noPoint hP hi (br_t rfl ?_)
  -- what an entry says
  have ent : ∀ s, s < E → ∀ x, x < 24 → dm_oe a10 a11 s i x → (Q i x ∨ Q x i) ∧ (a12 s).toInt = dm_ln (dm_co a2) (dm_co a3) i x := by
    intro s hs x hx h
    obtain ⟨u, v, hu, hv, e1, e2, e3, q⟩ := l1 s hs
    rcases h with ⟨h1, h2⟩ | ⟨_, h2, h3⟩
    · rw [e1] at h1
      rw [e2] at h2
      have q1 : u = i := (nI_eq (by omega) (by omega)).mp h1
      have q2 : v = x := (nI_eq (by omega) (by omega)).mp h2
      subst q1; subst q2
      exact ⟨Or.inl q, e3⟩
    · rw [e2] at h2
      rw [e1] at h3
      have q1 : v = i := (nI_eq (by omega) (by omega)).mp h2
      have q2 : u = x := (nI_eq (by omega) (by omega)).mp h3
      subst q1; subst q2
      exact ⟨Or.inr q, by rw [e3, dm_ln_sym]⟩
  have ent2 : ∀ x, (Q i x ∨ Q x i) → ∃ s, s < E ∧ dm_oe a10 a11 s i x := by
    intro x hx
    rcases hx with q | q
    · obtain ⟨s, hs, h1, h2⟩ := l2 i x q
      exact ⟨s, hs, Or.inl ⟨h1, h2⟩⟩
    · obtain ⟨s, hs, h1, h2⟩ := l2 x i q
      have := hG.1 x i q
      exact ⟨s, hs, Or.inr ⟨fun z => by rw [h1] at z; have := (nI_eq (by omega) (by omega)).mp z; omega, h2, h1⟩⟩
  have main : ∀ (m t : Nat) (x2 x3 : Int32), t ≤ E → E - t < m →
      ((x2 = -4 ∧ ∀ s, s < t → ∀ x, x < 24 → ¬ dm_oe a10 a11 s i x) ∨ (∃ j, j < 24 ∧ x2 = nI j ∧ x3.toInt = dm_ln (dm_co a2) (dm_co a3) i j ∧ (∃ s, s < t ∧ dm_oe a10 a11 s i j) ∧ ∀ s, s < t → ∀ x, x < 24 → dm_oe a10 a11 s i x → dm_ln (dm_co a2) (dm_co a3) i j ≤ dm_ln (dm_co a2) (dm_co a3) i x)) →
      wX_neighbour_19 post (nI i) sz so (nI E) te a1 a2 a3 a4 a5 a6 a7 a8 a9 a10 a11 a12 a13 a14 a15 a16 a17 a18 m x2 x3 (nI t) := by
    intro m
    induction m with
    | zero => intro t x2 x3 _ h; omega
    | succ m ih =>
      intro t x2 x3 ht hm hI
      refine pk_le E t (fun z => ?_) (fun z => ?_) rfl rfl
      · have et : t = E := by omega
        subst et
        rcases hI with ⟨_, hno⟩ | ⟨j, hj, ej, _, ⟨s, hs, hoe⟩, hmin⟩
        · obtain ⟨x, hx⟩ := dm_inc hG hn2 hi
          obtain ⟨s, hs, hoe⟩ := ent2 x hx
          have : x < 24 := by
            rcases hx with q | q
            · have := hG.1 _ _ q; omega
            · have := hG.1 _ _ q; omega
          exact absurd hoe (hno s hs x this)
        · subst ej
          have q := (ent s hs j hj hoe).1
          have jn : j < n ∧ j ≠ i := by
            rcases q with q | q
            · have := hG.1 _ _ q; omega
            · have := hG.1 _ _ q; omega
          refine H j jn.1 jn.2 q (fun x hx => ?_) ⟨s, hs, hoe⟩
          obtain ⟨s', hs', hoe'⟩ := ent2 x hx
          have : x < 24 := by
            rcases hx with q | q
            · have := hG.1 _ _ q; omega
            · have := hG.1 _ _ q; omega
          exact hmin s' hs' x this hoe'
      · have vt := vp_in_nI (n := t) (N := 80) (by omega) (by decide)
        have qt := nI_clamp (show t < 2 ^ 31 by omega)
        obtain ⟨u, v, hu, hv, e1, e2, e3, q⟩ := l1 t z
        -- an entry that meets i: its other end w
        have meet : ∀ w, w < 24 → dm_oe a10 a11 t i w → (∀ x, x < 24 → dm_oe a10 a11 t i x → x = w) →
            ((0 ≤ nI w → (((x2 < 0 → (wX_neighbour_77 post (wX_neighbour_19 post (nI i) sz so (nI E) te a1 a2 a3 a4 a5 a6 a7 a8 a9 a10 a11 a12 a13 a14 a15 a16 a17 a18 m) (nI i) (nI t) (nI w) sz so (nI E) te a1 a2 a3 a4 a5 a6 a7 a8 a9 a10 a11 a12 a13 a14 a15 a16 a17 a18)) ∧ (¬ x2 < 0 → (vp_in (nI t) 80 ∧ ((((a12 (nI t).toNatClampNeg) < x3 → (wX_neighbour_77 post (wX_neighbour_19 post (nI i) sz so (nI E) te a1 a2 a3 a4 a5 a6 a7 a8 a9 a10 a11 a12 a13 a14 a15 a16 a17 a18 m) (nI i) (nI t) (nI w) sz so (nI E) te a1 a2 a3 a4 a5 a6 a7 a8 a9 a10 a11 a12 a13 a14 a15 a16 a17 a18)) ∧ (¬ (a12 (nI t).toNatClampNeg) < x3 → (vp_in (nI t) 80 ∧ ((((a12 (nI t).toNatClampNeg) = x3 → (((x2 ≤ nI w → (∀ x4_16 : Int32, x4_16 = nI t + 1 → (wX_neighbour_19 post (nI i) sz so (nI E) te a1 a2 a3 a4 a5 a6 a7 a8 a9 a10 a11 a12 a13 a14 a15 a16 a17 a18 m x2 x3 x4_16))) ∧ (¬ x2 ≤ nI w → (wX_neighbour_77 post (wX_neighbour_19 post (nI i) sz so (nI E) te a1 a2 a3 a4 a5 a6 a7 a8 a9 a10 a11 a12 a13 a14 a15 a16 a17 a18 m) (nI i) (nI t) (nI w) sz so (nI E) te a1 a2 a3 a4 a5 a6 a7 a8 a9 a10 a11 a12 a13 a14 a15 a16 a17 a18))))) ∧ (¬ (a12 (nI t).toNatClampNeg) = x3 → (∀ x4_14 : Int32, x4_14 = nI t + 1 → (wX_neighbour_19 post (nI i) sz so (nI E) te a1 a2 a3 a4 a5 a6 a7 a8 a9 a10 a11 a12 a13 a14 a15 a16 a17 a18 m x2 x3 x4_14)))))))))))))) ∧ (¬ 0 ≤ nI w → (∀ x4_17 : Int32, x4_17 = nI t + 1 → (wX_neighbour_19 post (nI i) sz so (nI E) te a1 a2 a3 a4 a5 a6 a7 a8 a9 a10 a11 a12 a13 a14 a15 a16 a17 a18 m x2 x3 x4_17)))) := by
          intro w hw hoe huniq
          have lw := (ent t z w hw hoe).2
          have upd77 : (∀ s, s < t → ∀ x, x < 24 → dm_oe a10 a11 s i x → dm_ln (dm_co a2) (dm_co a3) i w ≤ dm_ln (dm_co a2) (dm_co a3) i x) → wX_neighbour_77 post (wX_neighbour_19 post (nI i) sz so (nI E) te a1 a2 a3 a4 a5 a6 a7 a8 a9 a10 a11 a12 a13 a14 a15 a16 a17 a18 m) (nI i) (nI t) (nI w) sz so (nI E) te a1 a2 a3 a4 a5 a6 a7 a8 a9 a10 a11 a12 a13 a14 a15 a16 a17 a18 := by
            intro hle
            refine ⟨vt, nm_r (e' := a12 t) (by rw [qt]) (nm_r (nI_1 t) (ih (t + 1) _ _ (by omega) (by omega) (Or.inr ⟨w, hw, rfl, lw, ⟨t, by omega, hoe⟩, fun s hs x hx h => ?_⟩)))⟩
            by_cases e : s = t
            · subst e; rw [huniq x hx h]; exact Int.le_refl _
            · exact hle s (by omega) x hx h
          refine br_t (nI_pos' (by omega)) ?_
          rw [qt]
          rcases hI with ⟨ex, hno⟩ | ⟨j, hj, ej, lj, ⟨s, hs, hoej⟩, hmin⟩
          · subst ex
            exact br_t (by decide) (upd77 (fun s hs x hx h => absurd h (hno s hs x hx)))
          · subst ej
            have keep : dm_ln (dm_co a2) (dm_co a3) i j ≤ dm_ln (dm_co a2) (dm_co a3) i w → wX_neighbour_19 post (nI i) sz so (nI E) te a1 a2 a3 a4 a5 a6 a7 a8 a9 a10 a11 a12 a13 a14 a15 a16 a17 a18 m (nI j) x3 (nI (t + 1)) := by
              intro hle
              refine ih (t + 1) _ _ (by omega) (by omega) (Or.inr ⟨j, hj, rfl, lj, ⟨s, by omega, hoej⟩, fun s' hs' x hx h => ?_⟩)
              by_cases e : s' = t
              · subst e; rw [huniq x hx h]; exact hle
              · exact hmin s' (by omega) x hx h
            refine br_f (nI_pos (by omega)) ⟨vt, br_c (fun c => upd77 (fun s hs x hx h => ?_)) (fun c => ⟨vt, br_c (fun c2 => br_c (fun c3 => nm_r (nI_1 t) (keep ?_)) (fun c3 => upd77 (fun s hs x hx h => ?_))) (fun c2 => nm_r (nI_1 t) (keep ?_))⟩)⟩
            · rw [Int32.lt_iff_toInt_lt, lw, lj] at c
              have := hmin s hs x hx h
              omega
            · rw [Int32.lt_iff_toInt_lt, lw, lj] at c
              omega
            · have : (a12 t).toInt = x3.toInt := by rw [c2]
              rw [lw, lj] at this
              have := hmin s hs x hx h
              omega
            · rw [Int32.lt_iff_toInt_lt, lw, lj] at c
              omega
        refine dm_w_otherEnd (by omega) (fun w => ?_) (fun w1 w2 => ?_) (fun w1 w2 => ?_)
        · rw [e2]
          refine meet v hv (Or.inl ⟨w, e2⟩) (fun x hx h => ?_)
          rcases h with ⟨_, h2⟩ | ⟨h1, _⟩
          · rw [e2] at h2; exact ((nI_eq (by omega) (by omega)).mp h2).symm
          · exact absurd w h1
        · rw [e1]
          refine meet u hu (Or.inr ⟨w1, w2, e1⟩) (fun x hx h => ?_)
          rcases h with ⟨h1, _⟩ | ⟨_, _, h3⟩
          · exact absurd h1 w1
          · rw [e1] at h3; exact ((nI_eq (by omega) (by omega)).mp h3).symm
        · refine br_f (by decide) (nm_r (nI_1 t) (ih (t + 1) x2 x3 (by omega) (by omega) ?_))
          have no : ∀ x, x < 24 → ¬ dm_oe a10 a11 t i x := fun x hx h => h.elim (fun k => w1 k.1) (fun k => w2 k.2.1)
          rcases hI with ⟨ex, hno⟩ | ⟨j, hj, ej, lj, ⟨s, hs, hoej⟩, hmin⟩
          · refine Or.inl ⟨ex, fun s hs x hx => ?_⟩
            by_cases e : s = t
            · subst e; exact no x hx
            · exact hno s (by omega) x hx
          · refine Or.inr ⟨j, hj, ej, lj, ⟨s, by omega, hoej⟩, fun s' hs' x hx h => ?_⟩
            by_cases e : s' = t
            · subst e; exact absurd h (no x hx)
            · exact hmin s' (by omega) x hx h
  exact ⟨E + 1, main (E + 1) 0 (-4) 0 (by omega) (by omega) (Or.inl ⟨rfl, fun s hs => absurd hs (by omega)⟩)⟩
/-- the nearest neighbour is linked -/
theorem dm_w_nl {post : Int32 → Prop} {n i : Nat} {R : Int32 → Prop} (hR : dm_RS n sz so ed te a1 a2 a3 a4 a5 a6 a7 a8 a9 a10 a11 a12 a13 a14 a15 a16 a17 a18) (hn2 : 2 ≤ n) (hi : i < n) (H : R 1) :
    wpX_neighbour (fun r => wpX_linked R (sz, so, ed, te, a1, a2, a3, a4, a5, a6, a7, a8, a9, a10, a11, a12, a13, a14, a15, a16, a17, a18) (nI i) r) (sz, so, ed, te, a1, a2, a3, a4, a5, a6, a7, a8, a9, a10, a11, a12, a13, a14, a15, a16, a17, a18) (nI i) := by
  obtain ⟨_, hP, r5, r6, hst⟩ := hR
  rcases hst with ⟨z, _⟩ | ⟨hn1, _, _, E, Q, eE, hL, hG, hso⟩
  · omega
  · have hn := hP.1
    subst eE
    refine dm_w_nb hP hL hG hn2 hi (fun j hj hji hq hmin hoe => ?_)
    rcases hso with hso | ⟨hso, hI, _, hQ⟩
    · subst hso
      exact dm_w_linkedN hP hL.1 hi hj (fun z => hji z.symm) hoe H
    · subst hso
      have hI' := hI
      obtain ⟨hV, hU, hX, hT, hD, hK⟩ := hI
      subst hQ
      -- a live real half-edge gives a pair of the list
      have toQ : ∀ e, e < 216 → dm_b a4 (e / 3) = true → dm_c a5 e ≠ 24 → dm_c a5 (dm_nx e) ≠ 24 → dm_Qs (dm_b a4) (dm_c a5) (dm_c a5 e) (dm_c a5 (dm_nx e)) ∨ dm_Qs (dm_b a4) (dm_c a5) (dm_c a5 (dm_nx e)) (dm_c a5 e) := by
        intro e he ha h1 h2
        obtain ⟨f, hf, af, _, c1, c2⟩ := hX e he ha
        have hne := (hV e he ha).2
        rcases Nat.lt_or_ge (dm_c a5 e) (dm_c a5 (dm_nx e)) with z | z
        · exact Or.inl ⟨e, he, ha, rfl, rfl, z, h2⟩
        · exact Or.inr ⟨f, hf, af, c1, c2, by omega, h1⟩
      have ex : ∃ e, e < 216 ∧ dm_b a4 (e / 3) = true ∧ dm_c a5 e = i ∧ dm_c a5 (dm_nx e) = j := by
        rcases hq with ⟨e, he, ha, c1, c2, _⟩ | ⟨e, he, ha, c1, c2, _⟩
        · exact ⟨e, he, ha, c1, c2⟩
        · obtain ⟨f, hf, af, _, d1, d2⟩ := hX e he ha
          exact ⟨f, hf, af, by rw [d1, c2], by rw [d2, c1]⟩
      obtain ⟨e, he, hae, e1, e2⟩ := ex
      obtain ⟨f, hf, haf, _, d1, d2⟩ := hX e he hae
      have f1 : dm_c a5 f = j := by rw [d1, e2]
      have f2 : dm_c a5 (dm_nx f) = i := by rw [d2, e1]
      refine dm_w_linkedS hP r5 r6 hI' hi hj (fun z => hji z.symm) he hf hae haf e1 e2 f1 f2 ?_ H
      by_cases g1 : dm_c a5 (dm_nx (dm_nx e)) = 24
      · exact Or.inl g1
      · by_cases g2 : dm_c a5 (dm_nx (dm_nx f)) = 24
        · exact Or.inr (Or.inl g2)
        · have t1 := dm_Te hT he hae (by omega) (by omega) g1
          have t2 := dm_Te hT hf haf (by omega) (by omega) g2
          rw [e1, e2] at t1
          rw [f1, f2] at t2
          have q1 := toQ (dm_nx (dm_nx e)) (dm_nx_lt (dm_nx_lt he)) (dm_al_nx (dm_al_nx hae)) g1 (by rw [dm_nx_3]; omega)
          rw [dm_nx_3, e1] at q1
          have q2 := toQ (dm_nx f) (dm_nx_lt hf) (dm_al_nx haf) (by omega) g2
          rw [f2] at q2
          have m1 := hmin _ (Or.symm q1)
          have m2 := hmin _ q2
          have t2' := t2
          rw [dm_tn_sw] at t2'
          exact Or.inr (Or.inr (dm_L1 t1 t2 (dm_L2 (by omega) m1) (dm_L2 (by omega) m2)))
/-! the tree -/
theorem dm_w_treeEdge {post : Int32 → Prop} {T k : Nat} (hT : T ≤ 24) (hk : k < T) (H : post (a15 k)) : wpX_treeEdge post (sz, so, ed, nI T, a1, a2, a3, a4, a5, a6, a7, a8, a9, a10, a11, a12, a13, a14, a15, a16, a17, a18) (nI k) := by
  refine br_f (nI_pos (by omega)) (br_t (nI_lt hk (by omega)) ⟨vp_in_nI (by omega) (by decide), ?_⟩)
  rw [nI_clamp (by omega)]
  exact H
theorem dm_w_joinUpTo {post : Int32 → St1 → Prop} {T : Nat} {lim : Int32} (hT : dm_TR T a13 a14 a15) (hT24 : T ≤ 24)
    (H : ∀ (J : Nat) (b16 : Nat → Int32), J ≤ T → (∀ i, i < J → (a15 i).toInt ≤ lim.toInt) → (J < T → lim.toInt < (a15 J).toInt) → post (nI J) (sz, so, ed, nI T, a1, a2, a3, a4, a5, a6, a7, a8, a9, a10, a11, a12, a13, a14, a15, b16, a17, a18)) : wpX_joinUpTo post (sz, so, ed, nI T, a1, a2, a3, a4, a5, a6, a7, a8, a9, a10, a11, a12, a13, a14, a15, a16, a17, a18) lim := by
  unfold wpX_joinUpTo
  refine dm_w_alone (fun b16 h0 => ?_)
  have main : ∀ (m i : Nat) (c16 : Nat → Int32) (r : Nat → Nat), i ≤ T → T - i < m → dm_UF c16 r → (∀ j, j < i → (a15 j).toInt ≤ lim.toInt) → wX_joinUpTo_8 post lim m (nI i) (nI i) sz so ed (nI T) a1 a2 a3 a4 a5 a6 a7 a8 a9 a10 a11 a12 a13 a14 a15 c16 a17 a18 := by
    intro m
    induction m with
    | zero => intro i c16 r _ h; omega
    | succ m ih =>
      intro i c16 r hi hm hr hle
      refine pk_le T i (fun z => H i c16 hi hle (fun w => absurd w (by omega))) (fun z => ⟨vp_in_nI (by omega) (by decide), ?_⟩) rfl rfl
      rw [nI_clamp (show i < 2 ^ 31 by omega)]
      refine br_c (fun w => H i c16 hi hle (fun _ => by rw [Int32.lt_iff_toInt_lt] at w; exact w)) (fun w => ⟨vp_in_nI (by omega) (by decide), vp_in_nI (by omega) (by decide), ?_⟩)
      rw [Int32.lt_iff_toInt_lt] at w
      obtain ⟨⟨u, hu, eu⟩, ⟨v, hv, ev⟩, _⟩ := hT.1 i z
      rw [eu, ev]
      have hle' : ∀ j, j < i + 1 → (a15 j).toInt ≤ lim.toInt := by
        intro j hj
        by_cases e : j = i
        · subst e; omega
        · exact hle j (by omega)
      refine dm_w_join hr hu hv (fun _ d16 k => ?_) (fun _ _ _ _ _ _ _ d16 r' k _ => ?_)
      · exact nm_r (nI_1 i) (nm_r (nI_1 i) (ih (i + 1) d16 r (by omega) (by omega) k hle'))
      · exact nm_r (nI_1 i) (nm_r (nI_1 i) (ih (i + 1) d16 r' (by omega) (by omega) k hle'))
  exact ⟨T + 1, main (T + 1) 0 b16 (fun x => x) (by omega) (by omega) h0 (fun j hj => absurd hj (by omega))⟩
theorem dm_w_groups {post : Int32 → St1 → Prop} {T n : Nat} {lim : Int32} (hT : dm_TR T a13 a14 a15) (hT24 : T ≤ 24) (hTn : T ≤ n)
    (H : ∀ (J : Nat) (b16 : Nat → Int32), J ≤ T → (∀ i, i < J → (a15 i).toInt ≤ lim.toInt) → (J < T → lim.toInt < (a15 J).toInt) → post (nI (n - J)) (nI n, so, ed, nI T, a1, a2, a3, a4, a5, a6, a7, a8, a9, a10, a11, a12, a13, a14, a15, b16, a17, a18)) : wpX_groups post (nI n, so, ed, nI T, a1, a2, a3, a4, a5, a6, a7, a8, a9, a10, a11, a12, a13, a14, a15, a16, a17, a18) lim := by
  unfold wpX_groups
  refine dm_w_joinUpTo hT hT24 (fun J b16 h1 h2 h3 => ?_)
  have := H J b16 h1 h2 h3
  rw [← pk_sub (a := n) (b := J) (by omega)] at this
  exact this
end
end
section
/-! the law -/
section
variable {sz so ed te : Int32} {a1 a2 a3 a4 a5 a6 a7 a8 a9 a10 a11 a12 a13 a14 a15 a16 a17 a18 : Nat → Int32}
theorem dm_w_pairs {post : Int32 → Prop} {n : Nat} (hR : dm_RS n sz so ed te a1 a2 a3 a4 a5 a6 a7 a8 a9 a10 a11 a12 a13 a14 a15 a16 a17 a18) (H : post 1) : wpL_pairs post (sz, so, ed, te, a1, a2, a3, a4, a5, a6, a7, a8, a9, a10, a11, a12, a13, a14, a15, a16, a17, a18) (nI n) := by
  have hn : n ≤ 10 := hR.2.1.1
  refine pk_loop (σ := Unit) (fun m i _ => wL_pairs_2 post (nI n) sz so ed te a1 a2 a3 a4 a5 a6 a7 a8 a9 a10 a11 a12 a13 a14 a15 a16 a17 a18 m (nI i)) (fun _ _ => True) n 0 () (by omega) trivial ?_ ?_
  · intro m _ _
    exact pk_le n n (fun _ => H) (fun z => absurd z (by omega)) rfl rfl
  · intro m i _ hi _ hw
    refine pk_le n i (fun z => absurd z (by omega)) (fun _ => ?_) rfl rfl
    refine pk_loop (σ := Unit) (fun m' j _ => wL_pairs_9 post (wL_pairs_2 post (nI n) sz so ed te a1 a2 a3 a4 a5 a6 a7 a8 a9 a10 a11 a12 a13 a14 a15 a16 a17 a18 m) (nI n) (nI i) sz so ed te a1 a2 a3 a4 a5 a6 a7 a8 a9 a10 a11 a12 a13 a14 a15 a16 a17 a18 m' (nI j)) (fun _ _ => True) n 0 () (by omega) trivial ?_ ?_
    · intro m' _ _
      exact pk_le n n (fun _ => nm_r (nI_1 i) (hw () trivial)) (fun z => absurd z (by omega)) rfl rfl
    · intro m' j _ hj _ hw'
      refine pk_le n j (fun z => absurd z (by omega)) (fun _ => ?_) rfl rfl
      exact dm_w_cl hR hi hj (nm_r (nI_1 j) (hw' () trivial))
end
section
variable {sz so ed te : Int32} {a1 a2 a3 a4 a5 a6 a7 a8 a9 a10 a11 a12 a13 a14 a15 a16 a17 a18 : Nat → Int32}
theorem dm_w_153 {post : Int32 → Prop} {L n : Nat} {xs : Nat → Int32} {x2 x3 : Int32} {kc ks : Nat}
    {J : Int32 → Int32 → Int32 → Int32 → Int32 → (Nat → Int32) → (Nat → Int32) → (Nat → Int32) → (Nat → Int32) → (Nat → Int32) → (Nat → Int32) → (Nat → Int32) → (Nat → Int32) → (Nat → Int32) → (Nat → Int32) → (Nat → Int32) → (Nat → Int32) → (Nat → Int32) → (Nat → Int32) → (Nat → Int32) → (Nat → Int32) → (Nat → Int32) → (Nat → Int32) → Prop}
    (hR : dm_RS n sz so ed te a1 a2 a3 a4 a5 a6 a7 a8 a9 a10 a11 a12 a13 a14 a15 a16 a17 a18) (hn1 : 1 ≤ n) (HJ : ∀ b16 : Nat → Int32, dm_RS n sz so ed te a1 a2 a3 a4 a5 a6 a7 a8 a9 a10 a11 a12 a13 a14 a15 b16 a17 a18 → J (x3 + 1) sz so ed te a1 a2 a3 a4 a5 a6 a7 a8 a9 a10 a11 a12 a13 a14 a15 b16 a17 a18) :
    ∃ fu, wL_law_153 post L xs J x2 x3 (nI n) kc ks fu (nI 0) sz so ed te a1 a2 a3 a4 a5 a6 a7 a8 a9 a10 a11 a12 a13 a14 a15 a16 a17 a18 := by
  have hR' := hR
  obtain ⟨esz, hP, r5, r6, hst⟩ := hR
  rcases hst with ⟨z, _⟩ | ⟨_, ete, hT, _⟩
  · omega
  have hn : n ≤ 10 := hP.1
  subst esz
  subst ete
  have e1 : nI n - 1 = nI (n - 1) := by
    have := nI_pred (n - 1)
    rwa [show n - 1 + 1 = n by omega] at this
  refine pk_loop (fun m i s => wL_law_153 post L xs J x2 x3 (nI n) kc ks m (nI i) (nI n) so ed (nI (n - 1)) a1 a2 a3 a4 a5 a6 a7 a8 a9 a10 a11 a12 a13 a14 a15 s a17 a18) (fun _ _ => True) (n - 1) 0 a16 (by omega) trivial ?_ ?_
  · intro m s _
    exact pk_le (n - 1) (n - 1) (fun _ => nm_e (HJ s hR')) (fun z => absurd z (by omega)) e1 rfl
  · intro m i s hi _ hw
    refine pk_le (n - 1) i (fun z => absurd z (by omega)) (fun _ => ?_) e1 rfl
    refine dm_w_treeEdge (by omega) hi ?_
    have nn := (hT.1 i hi).2.2
    have hub : (a15 i).toInt < 2 ^ 31 := Int32.toInt_lt _
    refine dm_w_groups (n := n) hT (by omega) (by omega) (fun J1 b16 h1 h2 h3 => ?_)
    have hJ1 : i + 1 ≤ J1 := by
      rcases Nat.lt_or_ge i J1 with c | c
      · exact c
      · have q := h3 (by omega)
        by_cases e : J1 = i
        · subst e; omega
        · have := hT.2 J1 i (by omega) hi
          omega
    have s1 : nI (n - 1) - nI i = nI (n - 1 - i) := pk_sub (by omega)
    have s2 : nI n - nI i = nI (n - i) := pk_sub (by omega)
    refine br_f (by rw [e1, s1]; exact nI_nlt (by omega) (by omega)) ?_
    refine dm_w_groups (n := n) hT (by omega) (by omega) (fun J2 c16 g1 g2 g3 => ?_)
    have hm1 : (a15 i - 1).toInt = (a15 i).toInt - 1 := by
      have o1 : (1 : Int32).toInt = 1 := by decide
      rw [dm_sub32 (by omega) (by omega), o1]
    have hJ2 : J2 ≤ i := by
      rcases Nat.lt_or_ge i J2 with c | c
      · have := g2 i c
        omega
      · exact c
    exact br_t (by rw [s2]; exact nI_le (by omega) (by omega)) (nm_r (nI_1 i) (hw c16 trivial))
theorem dm_w_110 {post : Int32 → Prop} {L n : Nat} {xs : Nat → Int32} {x2 x3 : Int32} {kc ks : Nat}
    {J : Int32 → Int32 → Int32 → Int32 → Int32 → (Nat → Int32) → (Nat → Int32) → (Nat → Int32) → (Nat → Int32) → (Nat → Int32) → (Nat → Int32) → (Nat → Int32) → (Nat → Int32) → (Nat → Int32) → (Nat → Int32) → (Nat → Int32) → (Nat → Int32) → (Nat → Int32) → (Nat → Int32) → (Nat → Int32) → (Nat → Int32) → (Nat → Int32) → (Nat → Int32) → Prop}
    (hR : dm_RS n sz so ed te a1 a2 a3 a4 a5 a6 a7 a8 a9 a10 a11 a12 a13 a14 a15 a16 a17 a18) (hn1 : 1 ≤ n) (HJ : ∀ b16 : Nat → Int32, dm_RS n sz so ed te a1 a2 a3 a4 a5 a6 a7 a8 a9 a10 a11 a12 a13 a14 a15 b16 a17 a18 → J (x3 + 1) sz so ed te a1 a2 a3 a4 a5 a6 a7 a8 a9 a10 a11 a12 a13 a14 a15 b16 a17 a18) :
    ∃ fu, wL_law_110 post L xs J x2 x3 (nI n) kc ks sz so ed te a1 a2 a3 a4 a5 a6 a7 a8 a9 a10 a11 a12 a13 a14 a15 a16 a17 a18 fu (nI 0) := by
  have hn : n ≤ 10 := hR.2.1.1
  have fin := dm_w_153 (post := post) (L := L) (xs := xs) (x2 := x2) (kc := kc) (ks := ks) hR hn1 HJ
  refine pk_loop (σ := Unit) (fun m i _ => wL_law_110 post L xs J x2 x3 (nI n) kc ks sz so ed te a1 a2 a3 a4 a5 a6 a7 a8 a9 a10 a11 a12 a13 a14 a15 a16 a17 a18 m (nI i)) (fun _ _ => True) n 0 () (by omega) trivial ?_ ?_
  · intro m _ _
    exact pk_le n 1 (fun _ => fin) (fun _ => pk_le n n (fun _ => fin) (fun z => absurd z (by omega)) rfl rfl) rfl rfl
  · intro m i _ hi _ hw
    refine pk_le n 1 (fun _ => fin) (fun h2 => pk_le n i (fun z => absurd z (by omega)) (fun _ => ?_) rfl rfl) rfl rfl
    exact dm_w_nl (post := post) hR (by omega) hi (br_f (by decide) (nm_r (nI_1 i) (hw () trivial)))
end
theorem dm_w_43 {L : Nat} {xs : Nat → Int32} (hL : L ≤ 260) {x2 : Int32} (hM : ∀ x : Int32, ∃ j, j < 128 ∧ x &&& x2 = nI j) {kc ks : Nat} :
    ∀ (m k n : Nat) (sz so ed te : Int32) (a1 a2 a3 a4 a5 a6 a7 a8 a9 a10 a11 a12 a13 a14 a15 a16 a17 a18 : Nat → Int32), dm_RS n sz so ed te a1 a2 a3 a4 a5 a6 a7 a8 a9 a10 a11 a12 a13 a14 a15 a16 a17 a18 → n ≤ k → k ≤ 10 → 10 - k < m → wL_law_43 (fun r => r = 1) L xs x2 kc ks m (nI k) sz so ed te a1 a2 a3 a4 a5 a6 a7 a8 a9 a10 a11 a12 a13 a14 a15 a16 a17 a18 := by
  intro m
  induction m with
  | zero => intro k n _ _ _ _ _ _ _ _ _ _ _ _ _ _ _ _ _ _ _ _ _ _ _ _ _ h; omega
  | succ m ih =>
    intro k n sz so ed te a1 a2 a3 a4 a5 a6 a7 a8 a9 a10 a11 a12 a13 a14 a15 a16 a17 a18 hR hnk hk hm
    refine pk_le 10 k (fun _ => rfl) (fun hk10 => ?_) rfl rfl
    have e2 : (2 : Int32) + 2 * nI k = nI (2 + 2 * k) := by
      show nI 2 + nI 2 * nI k = _
      rw [pk_mul, nI_add]
    have e1 : (1 : Int32) + 2 * nI k = nI (1 + 2 * k) := by
      show nI 1 + nI 2 * nI k = _
      rw [pk_mul, nI_add]
    refine pk_le L (2 + 2 * k) (fun _ => nm_r (nI_1 k) (ih (k + 1) n _ _ _ _ _ _ _ _ _ _ _ _ _ _ _ _ _ _ _ _ _ _ hR (by omega) (by omega) (by omega))) (fun hL2 => ?_) rfl e2 
    obtain ⟨x, hx, ex⟩ := hM (xs (1 + 2 * k))
    obtain ⟨y, hy, ey⟩ := hM (xs (2 + 2 * k))
    refine ⟨by rw [e1]; exact vp_in_nI (by omega) (by omega), nm_r (e' := nI x) (by rw [e1, nI_clamp (by omega)]; exact ex) ⟨by rw [e2]; exact vp_in_nI (by omega) (by omega), nm_r (e' := nI y) (by rw [e2, nI_clamp (by omega)]; exact ey) ?_⟩⟩
    have after : ∀ (n' : Nat) (sz_ so_ ed_ te_ : Int32) (a1_ a2_ a3_ a4_ a5_ a6_ a7_ a8_ a9_ a10_ a11_ a12_ a13_ a14_ a15_ a16_ a17_ a18_ : Nat → Int32), dm_RS n' sz_ so_ ed_ te_ a1_ a2_ a3_ a4_ a5_ a6_ a7_ a8_ a9_ a10_ a11_ a12_ a13_ a14_ a15_ a16_ a17_ a18_ → 1 ≤ n' → n' ≤ k + 1 →
        wpX_size (fun r_135 => (wpL_pairs (fun r_136 => (((r_136 = 0 → (fun r => r = 1) (0 : Int32)) ∧ (¬ r_136 = 0 → (∃ fu110 : Nat, wL_law_110 (fun r => r = 1) L xs (wL_law_43 (fun r => r = 1) L xs x2 kc ks m) x2 (nI k) r_135 kc ks sz_ so_ ed_ te_ a1_ a2_ a3_ a4_ a5_ a6_ a7_ a8_ a9_ a10_ a11_ a12_ a13_ a14_ a15_ a16_ a17_ a18_ fu110 0))))) (sz_, so_, ed_, te_, a1_, a2_, a3_, a4_, a5_, a6_, a7_, a8_, a9_, a10_, a11_, a12_, a13_, a14_, a15_, a16_, a17_, a18_) r_135)) (sz_, so_, ed_, te_, a1_, a2_, a3_, a4_, a5_, a6_, a7_, a8_, a9_, a10_, a11_, a12_, a13_, a14_, a15_, a16_, a17_, a18_) := by
      intro n' sz_ so_ ed_ te_ a1_ a2_ a3_ a4_ a5_ a6_ a7_ a8_ a9_ a10_ a11_ a12_ a13_ a14_ a15_ a16_ a17_ a18_ hR' hn1 hn'
      have esz : sz_ = nI n' := hR'.1
      subst esz
      unfold wpX_size
      refine dm_w_pairs hR' (br_f (by decide) ?_)
      refine dm_w_110 hR' hn1 (fun b16 hR2 => ?_)
      rw [nI_1]
      exact ih (k + 1) n' _ _ _ _ _ _ _ _ _ _ _ _ _ _ _ _ _ _ _ _ _ _ hR2 hn' (by omega) (by omega)
    refine dm_w_add (n := n) (by omega) hR hx hy (fun hn1 => ?_) (fun r sz_ so_ ed_ te_ a1_ a2_ a3_ a4_ a5_ a6_ a7_ a8_ a9_ a10_ a11_ a12_ a13_ a14_ a15_ a16_ a17_ a18_ hR' => ?_)
    · exact after n _ _ _ _ _ _ _ _ _ _ _ _ _ _ _ _ _ _ _ _ _ _ hR hn1 (by omega)
    · exact after (n + 1) _ _ _ _ _ _ _ _ _ _ _ _ _ _ _ _ _ _ _ _ _ _ hR' (by omega) (by omega)
theorem dm_RS_0 : dm_RS 0 0 0 0 0 (fun _ => 0) (fun _ => 0) (fun _ => 0) (fun _ => 0) (fun _ => 0) (fun _ => 0) (fun _ => 0) (fun _ => 0) (fun _ => 0) (fun _ => 0) (fun _ => 0) (fun _ => 0) (fun _ => 0) (fun _ => 0) (fun _ => 0) (fun _ => 0) (fun _ => 0) (fun _ => 0) := by
  refine ⟨rfl, ⟨by omega, fun i _ => ⟨fun z => absurd rfl z, fun z => absurd z (by omega)⟩, fun i _ => ?_, fun i _ => ?_, fun i j hi => absurd hi (by omega)⟩, dm_rg_mk (by decide) (fun i _ => ⟨0, by omega, rfl⟩), dm_rg_mk (by decide) (fun i _ => ⟨0, by omega, rfl⟩), Or.inl ⟨rfl, rfl⟩⟩
  · show 0 ≤ (0 : Int32).toInt ∧ (0 : Int32).toInt ≤ 127
    decide
  · show 0 ≤ (0 : Int32).toInt ∧ (0 : Int32).toInt ≤ 127
    decide
theorem dm_cell {post : Int32 → Prop} {L : Nat} {xs : Nat → Int32} (hL : L ≤ 260) (H : ∀ r, post r) : wpL_cell post L xs () 0 :=
  pk_le L 0 (fun _ => H _) (fun z => ⟨vp_in_nI (n := 0) z (by omega), H _⟩) rfl rfl
theorem dm_mask {x2 : Int32} (k : Nat) (hk : 2 ^ k ≤ 128) (hm : x2.toBitVec.toNat = 2 ^ k - 1) : ∀ x : Int32, ∃ j, j < 128 ∧ x &&& x2 = nI j := by
  intro x
  obtain ⟨j, hj, e⟩ := pk_andE x k hm
  exact ⟨j, by omega, e⟩
theorem i_vc (xs : Nat → Int32) (L : Nat) (hL : L ≤ 260) : wpL_law (fun r => r = 1) L xs := by
  refine ⟨18, 1082, by omega, by omega, ?_⟩
  refine ⟨by omega, by omega, by omega, by omega, by omega, by omega, by omega, by omega, by omega, by omega, by omega, by omega, by omega, by omega, by omega, by omega, by omega, by omega, by omega, by omega, by omega, by omega, by omega, by omega, by omega, by omega, by omega, by omega, by omega, by omega, by omega, by omega, by omega, by omega, by omega, by omega, ?_⟩
  refine dm_cell hL (fun r => br_c (fun _ => ⟨11, ?_⟩) (fun _ => dm_cell hL (fun r' => br_c (fun _ => ⟨11, ?_⟩) (fun _ => ⟨11, ?_⟩))))
  · exact dm_w_43 hL (dm_mask 7 (by decide) (by decide)) 11 0 0 _ _ _ _ _ _ _ _ _ _ _ _ _ _ _ _ _ _ _ _ _ _ dm_RS_0 (by omega) (by omega) (by omega)
  · exact dm_w_43 hL (dm_mask 4 (by decide) (by decide)) 11 0 0 _ _ _ _ _ _ _ _ _ _ _ _ _ _ _ _ _ _ _ _ _ _ dm_RS_0 (by omega) (by omega) (by omega)
  · exact dm_w_43 hL (dm_mask 2 (by decide) (by decide)) 11 0 0 _ _ _ _ _ _ _ _ _ _ _ _ _ _ _ _ _ _ _ _ _ _ dm_RS_0 (by omega) (by omega) (by omega)
end
