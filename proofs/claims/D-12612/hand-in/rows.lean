section
/-! counting -/
def ca_cn (p : Nat → Bool) : Nat → Nat
  | 0 => 0
  | n + 1 => ca_cn p n + (p n).toNat
theorem ca_cn_s (p : Nat → Bool) (n : Nat) : ca_cn p (n + 1) = ca_cn p n + (p n).toNat := rfl
theorem ca_cn_cg {p q : Nat → Bool} {n : Nat} (h : ∀ j, j < n → p j = q j) : ca_cn p n = ca_cn q n := by
  induction n with
  | zero => rfl
  | succ n ih =>
    rw [ca_cn_s, ca_cn_s, ih (fun j hj => h j (by omega)), h n (by omega)]
theorem ca_cn_up {p q : Nat → Bool} {n j : Nat} (hj : j < n) (h : ∀ i, i < n → i ≠ j → q i = p i) : ca_cn q n + (p j).toNat = ca_cn p n + (q j).toNat := by
  induction n with
  | zero => omega
  | succ n ih =>
    rw [ca_cn_s, ca_cn_s]
    by_cases e : j = n
    · subst e
      rw [ca_cn_cg (p := q) (q := p) (fun i hi => h i (by omega) (by omega))]
      omega
    · have t := ih (by omega) (fun i hi => h i (by omega))
      rw [h n (by omega) (by omega)]
      omega
theorem ca_cn_le (p : Nat → Bool) (n : Nat) : ca_cn p n ≤ n := by
  induction n with
  | zero => exact Nat.le_refl 0
  | succ n ih =>
    rw [ca_cn_s]
    have t := Bool.toNat_le (p n)
    omega
theorem ca_tn_mono {a b : Bool} (h : a = true → b = true) : a.toNat ≤ b.toNat := by
  cases a
  · exact Nat.zero_le _
  · rw [h rfl]; exact Nat.le_refl _
theorem ca_cn_mono {p q : Nat → Bool} {n : Nat} (h : ∀ j, j < n → p j = true → q j = true) : ca_cn p n ≤ ca_cn q n := by
  induction n with
  | zero => exact Nat.le_refl 0
  | succ n ih =>
    rw [ca_cn_s, ca_cn_s]
    have t := ih (fun j hj => h j (by omega))
    have t2 := ca_tn_mono (h n (by omega))
    omega
theorem ca_cn_pos {p : Nat → Bool} {n j : Nat} (hj : j < n) (h : p j = true) : 1 ≤ ca_cn p n := by
  induction n with
  | zero => omega
  | succ n ih =>
    rw [ca_cn_s]
    by_cases e : j = n
    · subst e
      rw [h]
      exact Nat.le_add_left 1 _
    · have t := ih (by omega)
      omega
theorem ca_cn_zero {p : Nat → Bool} {n : Nat} (h : ∀ j, j < n → p j = false) : ca_cn p n = 0 := by
  induction n with
  | zero => rfl
  | succ n ih =>
    rw [ca_cn_s, ih (fun j hj => h j (by omega)), h n (by omega)]
    rfl
theorem ca_cn_one {p : Nat → Bool} {n i j : Nat} (hi : i < n) (hj : j < n) (pi : p i = true) (pj : p j = true) (h : ca_cn p n = 1) : i = j := by
  by_cases e : i = j
  · exact e
  · have t := ca_cn_up (p := p) (q := fun x => if x = i then false else p x) hi (fun x _ hx => if_neg hx)
    have t2 : 1 ≤ ca_cn (fun x => if x = i then false else p x) n := ca_cn_pos hj (by
      show (if j = i then false else p j) = true
      rw [if_neg (fun z => e z.symm)]
      exact pj)
    rw [h, pi, if_pos rfl] at t
    have t3 : (true).toNat = 1 := rfl
    have t4 : (false).toNat = 0 := rfl
    omega
/-! how many live places hold the chunk c -/
def ca_ct (L : Nat → Bool) (C : Nat → Nat) (c : Nat) : Nat := ca_cn (fun j => L j && (C j == c)) 80
theorem ca_ct_le (L : Nat → Bool) (C : Nat → Nat) (c : Nat) : ca_ct L C c ≤ 80 := ca_cn_le _ 80
theorem ca_hit {L : Nat → Bool} {C : Nat → Nat} {c j : Nat} (hl : L j = true) (hc : C j = c) : (L j && (C j == c)) = true := by
  rw [hl, hc, Bool.true_and]
  exact beq_self_eq_true c
theorem ca_ct_pos {L : Nat → Bool} {C : Nat → Nat} {c j : Nat} (hj : j < 80) (hl : L j = true) (hc : C j = c) : 1 ≤ ca_ct L C c := ca_cn_pos hj (ca_hit hl hc)
theorem ca_ct_one {L : Nat → Bool} {C : Nat → Nat} {c i j : Nat} (hi : i < 80) (hj : j < 80) (li : L i = true) (lj : L j = true) (ci : C i = c) (cj : C j = c) (h : ca_ct L C c = 1) : i = j :=
  ca_cn_one hi hj (ca_hit li ci) (ca_hit lj cj) h
theorem ca_ct_up {L L' : Nat → Bool} {C C' : Nat → Nat} {j : Nat} (hj : j < 80) (h : ∀ i, i < 80 → i ≠ j → L' i = L i ∧ C' i = C i) (x : Nat) : ca_ct L' C' x + (L j && (C j == x)).toNat = ca_ct L C x + (L' j && (C' j == x)).toNat :=
  ca_cn_up (p := fun j => L j && (C j == x)) (q := fun j => L' j && (C' j == x)) hj (fun i hi hn => by
    show (L' i && (C' i == x)) = (L i && (C i == x))
    rw [(h i hi hn).1, (h i hi hn).2])
theorem ca_ct_cg {L L' : Nat → Bool} {C C' : Nat → Nat} (h : ∀ i, i < 80 → L' i = L i ∧ C' i = C i) (x : Nat) : ca_ct L' C' x = ca_ct L C x :=
  ca_cn_cg (fun i hi => by rw [(h i hi).1, (h i hi).2])
/-! eighty chunks, eighty places: where one is held twice, one is free -/
def ca_ss (f : Nat → Nat) : Nat → Nat
  | 0 => 0
  | n + 1 => ca_ss f n + f n
theorem ca_ss_s (f : Nat → Nat) (n : Nat) : ca_ss f (n + 1) = ca_ss f n + f n := rfl
theorem ca_ss_add (f g : Nat → Nat) (n : Nat) : ca_ss (fun c => f c + g c) n = ca_ss f n + ca_ss g n := by
  induction n with
  | zero => rfl
  | succ n ih =>
    rw [ca_ss_s, ca_ss_s, ca_ss_s, ih]
    omega
theorem ca_ss_0 (n : Nat) : ca_ss (fun _ => 0) n = 0 := by
  induction n with
  | zero => rfl
  | succ n ih => rw [ca_ss_s, ih]
theorem ca_ss_cg {f g : Nat → Nat} {n : Nat} (h : ∀ j, j < n → f j = g j) : ca_ss f n = ca_ss g n := by
  induction n with
  | zero => rfl
  | succ n ih => rw [ca_ss_s, ca_ss_s, ih (fun j hj => h j (by omega)), h n (by omega)]
theorem ca_ss_mono {f g : Nat → Nat} {n : Nat} (h : ∀ j, j < n → f j ≤ g j) : ca_ss f n ≤ ca_ss g n := by
  induction n with
  | zero => exact Nat.le_refl 0
  | succ n ih =>
    rw [ca_ss_s, ca_ss_s]
    have t := ih (fun j hj => h j (by omega))
    have t2 := h n (by omega)
    omega
theorem ca_ss_pt (b : Bool) (d n : Nat) : ca_ss (fun c => (b && (d == c)).toNat) n ≤ 1 ∧ (n ≤ d → ca_ss (fun c => (b && (d == c)).toNat) n = 0) := by
  induction n with
  | zero => exact ⟨Nat.zero_le 1, fun _ => rfl⟩
  | succ n ih =>
    rw [ca_ss_s]
    have t := Bool.toNat_le (b && (d == n))
    constructor
    · by_cases h : n ≤ d
      · have t2 := ih.2 h
        omega
      · have e : (d == n) = false := beq_eq_false_iff_ne.mpr (by omega)
        have t3 : (b && (d == n)).toNat = 0 := by rw [e, Bool.and_false]; rfl
        have t4 := ih.1
        omega
    · intro h
      have e : (d == n) = false := beq_eq_false_iff_ne.mpr (by omega)
      have t3 : (b && (d == n)).toNat = 0 := by rw [e, Bool.and_false]; rfl
      have t2 := ih.2 (by omega)
      omega
theorem ca_ss_ct (L : Nat → Bool) (C : Nat → Nat) (n m : Nat) : ca_ss (fun c => ca_cn (fun j => L j && (C j == c)) m) n ≤ m := by
  induction m with
  | zero =>
    have t := ca_ss_0 n
    exact Nat.le_of_eq t
  | succ m ih =>
    have t : ca_ss (fun c => ca_cn (fun j => L j && (C j == c)) (m + 1)) n = ca_ss (fun c => ca_cn (fun j => L j && (C j == c)) m) n + ca_ss (fun c => (L m && (C m == c)).toNat) n := ca_ss_add _ _ n
    have t2 := (ca_ss_pt (L m) (C m) n).1
    omega
theorem ca_ss_one {f : Nat → Nat} {n : Nat} (h : ∀ j, j < n → 1 ≤ f j) : n ≤ ca_ss f n := by
  induction n with
  | zero => exact Nat.le_refl 0
  | succ n ih =>
    rw [ca_ss_s]
    have t := ih (fun j hj => h j (by omega))
    have t2 := h n (by omega)
    omega
theorem ca_ss_big {f : Nat → Nat} {n c : Nat} (h : ∀ j, j < n → 1 ≤ f j) (hc : c < n) (h2 : 2 ≤ f c) : n + 1 ≤ ca_ss f n := by
  induction n with
  | zero => omega
  | succ n ih =>
    rw [ca_ss_s]
    by_cases e : c = n
    · subst e
      have t := ca_ss_one (fun j hj => h j (Nat.lt_succ_of_lt hj))
      omega
    · have t := ih (fun j hj => h j (by omega)) (by omega)
      have t2 := h n (by omega)
      omega
theorem ca_free {L : Nat → Bool} {C : Nat → Nat} {c : Nat} (hc : c < 80) (h2 : 2 ≤ ca_ct L C c) : ∃ d, d < 80 ∧ ca_ct L C d = 0 := by
  rcases Classical.em (∃ d, d < 80 ∧ ca_ct L C d = 0) with h | h
  · exact h
  · have t := ca_ss_big (f := fun c => ca_cn (fun j => L j && (C j == c)) 80) (n := 80) (c := c) (fun j hj => by
      rcases Nat.eq_zero_or_pos (ca_ct L C j) with z | z
      · exact absurd ⟨j, hj, z⟩ h
      · exact z) hc h2
    have t2 := ca_ss_ct L C 80 80
    omega
/-! sums and the greatest -/
def ca_sm (f : Nat → Int32) : Nat → Int32
  | 0 => 0
  | n + 1 => ca_sm f n + f n
theorem ca_sm_s (f : Nat → Int32) (n : Nat) : ca_sm f (n + 1) = ca_sm f n + f n := rfl
theorem ca_sm_cg {f g : Nat → Int32} {n : Nat} (h : ∀ j, j < n → f j = g j) : ca_sm f n = ca_sm g n := by
  induction n with
  | zero => rfl
  | succ n ih => rw [ca_sm_s, ca_sm_s, ih (fun j hj => h j (by omega)), h n (by omega)]
theorem ca_sm_lin (f : Nat → Int32) (a b : Int32) (n : Nat) : ca_sm (fun i => f i * a + b) n = ca_sm f n * a + nI n * b := by
  induction n with
  | zero =>
    show (0 : Int32) = 0 * a + nI 0 * b
    rw [nI_0]
    grind
  | succ n ih =>
    rw [ca_sm_s, ca_sm_s, ih, nI_succ]
    grind
def ca_mx (f : Nat → Int32) : Nat → Int32
  | 0 => f 0
  | n + 1 => if f (n + 1) ≤ ca_mx f n then ca_mx f n else f (n + 1)
theorem ca_mx_s (f : Nat → Int32) (n : Nat) : ca_mx f (n + 1) = if f (n + 1) ≤ ca_mx f n then ca_mx f n else f (n + 1) := rfl
theorem ca_mx_cg {f g : Nat → Int32} {n : Nat} (h : ∀ j, j ≤ n → f j = g j) : ca_mx f n = ca_mx g n := by
  induction n with
  | zero => exact h 0 (Nat.le_refl 0)
  | succ n ih => rw [ca_mx_s, ca_mx_s, ih (fun j hj => h j (by omega)), h (n + 1) (Nat.le_refl _)]
/-! rows, columns, places -/
def ca_rw (k i : Nat) : Nat := k / 4 * 4 + i / 4
def ca_cl (k i : Nat) : Nat := k % 4 * 4 + i % 4
def ca_pl (r c : Nat) : Nat := r / 4 * 4 + c / 4
def ca_wi (r c : Nat) : Nat := r % 4 * 4 + c % 4
theorem ca_pl_lt {r c : Nat} (hr : r < 16) (hc : c < 16) : ca_pl r c < 16 := by unfold ca_pl; omega
theorem ca_wi_lt (r c : Nat) : ca_wi r c < 16 := by unfold ca_wi; omega
theorem ca_rw_lt {k i : Nat} (hk : k < 16) (hi : i < 16) : ca_rw k i < 16 := by unfold ca_rw; omega
theorem ca_cl_lt (k i : Nat) : ca_cl k i < 16 := by unfold ca_cl; omega
theorem ca_pl_rc {k i : Nat} (hk : k < 16) (hi : i < 16) : ca_pl (ca_rw k i) (ca_cl k i) = k := by unfold ca_pl ca_rw ca_cl; omega
theorem ca_wi_rc {k i : Nat} (hk : k < 16) (hi : i < 16) : ca_wi (ca_rw k i) (ca_cl k i) = i := by unfold ca_wi ca_rw ca_cl; omega
theorem ca_rw_pw {r c : Nat} (hr : r < 16) (hc : c < 16) : ca_rw (ca_pl r c) (ca_wi r c) = r := by unfold ca_pl ca_wi ca_rw; omega
theorem ca_cl_pw {r c : Nat} (hr : r < 16) (hc : c < 16) : ca_cl (ca_pl r c) (ca_wi r c) = c := by unfold ca_pl ca_wi ca_cl; omega
/-! the region -/
def ca_in (R0 R1 C0 C1 k i : Nat) : Bool := decide (R0 ≤ ca_rw k i ∧ ca_rw k i ≤ R1 ∧ C0 ≤ ca_cl k i ∧ ca_cl k i ≤ C1)
def ca_cv (R0 R1 C0 C1 k : Nat) : Bool := decide (R0 ≤ k / 4 * 4 ∧ k / 4 * 4 + 3 ≤ R1 ∧ C0 ≤ k % 4 * 4 ∧ k % 4 * 4 + 3 ≤ C1)
def ca_to (R0 R1 C0 C1 k : Nat) : Bool := decide (R0 ≤ k / 4 * 4 + 3 ∧ k / 4 * 4 ≤ R1 ∧ C0 ≤ k % 4 * 4 + 3 ∧ k % 4 * 4 ≤ C1)
theorem ca_cv_in {R0 R1 C0 C1 k i : Nat} (hi : i < 16) (h : ca_cv R0 R1 C0 C1 k = true) : ca_in R0 R1 C0 C1 k i = true := by
  unfold ca_cv at h
  unfold ca_in ca_rw ca_cl
  rw [decide_eq_true_eq] at *
  omega
theorem ca_to_in {R0 R1 C0 C1 k i : Nat} (hi : i < 16) (h : ca_to R0 R1 C0 C1 k = false) : ca_in R0 R1 C0 C1 k i = false := by
  unfold ca_to at h
  unfold ca_in ca_rw ca_cl
  rw [decide_eq_false_iff_not] at *
  omega
/-! how many cells the region has -/
theorem ca_ss_16 (p q : Nat → Nat) : ca_ss (fun i => p (i / 4) * q (i % 4)) 16 = ca_ss p 4 * ca_ss q 4 := by
  have h : ca_ss (fun i => p (i / 4) * q (i % 4)) 16 = 0 + p 0 * q 0 + p 0 * q 1 + p 0 * q 2 + p 0 * q 3 + p 1 * q 0 + p 1 * q 1 + p 1 * q 2 + p 1 * q 3 + p 2 * q 0 + p 2 * q 1 + p 2 * q 2 + p 2 * q 3 + p 3 * q 0 + p 3 * q 1 + p 3 * q 2 + p 3 * q 3 := rfl
  have h2 : ca_ss p 4 = 0 + p 0 + p 1 + p 2 + p 3 := rfl
  have h3 : ca_ss q 4 = 0 + q 0 + q 1 + q 2 + q 3 := rfl
  rw [h, h2, h3]
  grind
theorem ca_ss_256 (f g : Nat → Nat) : ca_ss (fun k => ca_ss (fun i => f (ca_rw k i) * g (ca_cl k i)) 16) 16 = ca_ss (fun a => ca_ss (fun b => f (a * 4 + b)) 4) 4 * ca_ss (fun a => ca_ss (fun b => g (a * 4 + b)) 4) 4 := by
  rw [← ca_ss_16 (fun a => ca_ss (fun b => f (a * 4 + b)) 4) (fun a => ca_ss (fun b => g (a * 4 + b)) 4)]
  exact ca_ss_cg (fun k _ => ca_ss_16 (fun b => f (k / 4 * 4 + b)) (fun b => g (k % 4 * 4 + b)))
def ca_iv (A B : Nat) (x : Nat) : Nat := (decide (A ≤ x ∧ x ≤ B)).toNat
theorem ca_iv_n : ∀ A, A < 16 → ∀ B, B < 16 → A ≤ B → ca_ss (fun a => ca_ss (fun b => ca_iv A B (a * 4 + b)) 4) 4 = B - A + 1 := by decide +kernel
theorem ca_in_iv (R0 R1 C0 C1 k i : Nat) : (ca_in R0 R1 C0 C1 k i).toNat = ca_iv R0 R1 (ca_rw k i) * ca_iv C0 C1 (ca_cl k i) := by
  unfold ca_in ca_iv
  by_cases h : R0 ≤ ca_rw k i ∧ ca_rw k i ≤ R1 <;> by_cases h2 : C0 ≤ ca_cl k i ∧ ca_cl k i ≤ C1 <;> simp [h, h2, ← and_assoc]
theorem ca_cn_ss (p : Nat → Bool) (n : Nat) : ca_cn p n = ca_ss (fun j => (p j).toNat) n := by
  induction n with
  | zero => rfl
  | succ n ih => rw [ca_cn_s, ca_ss_s, ih]
def ca_sz (R0 R1 C0 C1 : Nat) : Nat := (R1 - R0 + 1) * (C1 - C0 + 1)
theorem ca_in_n {R0 R1 C0 C1 : Nat} (h1 : R0 ≤ R1) (h2 : R1 < 16) (h3 : C0 ≤ C1) (h4 : C1 < 16) : ca_ss (fun k => ca_cn (ca_in R0 R1 C0 C1 k) 16) 16 = ca_sz R0 R1 C0 C1 := by
  have t : ca_ss (fun k => ca_cn (ca_in R0 R1 C0 C1 k) 16) 16 = ca_ss (fun k => ca_ss (fun i => ca_iv R0 R1 (ca_rw k i) * ca_iv C0 C1 (ca_cl k i)) 16) 16 := by
    refine ca_ss_cg (fun k _ => ?_)
    rw [ca_cn_ss]
    exact ca_ss_cg (fun i _ => ca_in_iv R0 R1 C0 C1 k i)
  rw [t, ca_ss_256, ca_iv_n R0 (by omega) R1 h2 h1, ca_iv_n C0 (by omega) C1 h4 h3]
  rfl
/-! the inverse of an odd int -/
def ca_nv (o : Int32) : Nat → Int32
  | 0 => o
  | n + 1 => ca_nv o n * (2 - o * ca_nv o n)
theorem ca_nv_s (o : Int32) (n : Nat) : ca_nv o (n + 1) = ca_nv o n * (2 - o * ca_nv o n) := rfl
theorem ca_nv_sq (o : Int32) (n : Nat) : 1 - o * ca_nv o (n + 1) = (1 - o * ca_nv o n) * (1 - o * ca_nv o n) := by
  rw [ca_nv_s]
  grind
theorem ca_nv_5 (v : Int32) : (2 * v + 1) * ca_nv (2 * v + 1) 5 = 1 := by
  have h0 : 1 - (2 * v + 1) * ca_nv (2 * v + 1) 0 = 4 * (-(v * v + v)) := by
    show 1 - (2 * v + 1) * (2 * v + 1) = 4 * (-(v * v + v))
    grind
  have h1 := ca_nv_sq (2 * v + 1) 0
  have h2 := ca_nv_sq (2 * v + 1) 1
  have h3 := ca_nv_sq (2 * v + 1) 2
  have h4 := ca_nv_sq (2 * v + 1) 3
  have h5 := ca_nv_sq (2 * v + 1) 4
  generalize -(v * v + v) = t at h0
  rw [h0] at h1
  rw [h1] at h2
  rw [h2] at h3
  have h3' : 1 - (2 * v + 1) * ca_nv (2 * v + 1) 3 = 65536 * (t * t * (t * t) * (t * t * (t * t))) := by
    rw [h3]
    grind
  rw [h3'] at h4
  have z : (65536 : Int32) * 65536 = 0 := by decide
  have h4' : 1 - (2 * v + 1) * ca_nv (2 * v + 1) 4 = 0 := by
    rw [h4]
    generalize t * t * (t * t) * (t * t * (t * t)) = s
    have e : 65536 * s * (65536 * s) = (65536 * 65536) * (s * s) := by grind
    rw [e, z]
    grind
  rw [h4'] at h5
  have h6 : 1 - (2 * v + 1) * ca_nv (2 * v + 1) 5 = 0 := by
    rw [h5]
    grind
  generalize (2 * v + 1) * ca_nv (2 * v + 1) 5 = y at h6
  grind
end
section
/-! the picture: M a k i is the value of cell i at place k of array a (4: the present one); e a ≠ 0: the array exists -/
def ca_lv (e : Nat → Int32) (j : Nat) : Bool := decide (e (j / 16) ≠ 0)
def ca_v (a4 a5 a6 : Nat → Int32) (c i : Nat) : Int32 := a4 (c * 16 + i) * a5 c + a6 c
def ca_nc (a4 a5 a6 a7 a8 a9 a10 : Nat → Int32) (c : Nat) : Prop := (a7 c ≠ 0 → a8 c = ca_sm (fun i => a4 (c * 16 + i)) 16) ∧ (a9 c ≠ 0 → a10 c = ca_mx (ca_v a4 a5 a6 c) 15)
def ca_S (L : Nat → Bool) (C : Nat → Nat) (a2 a3 : Nat → Int32) : Prop := (∀ j, j < 80 → C j < 80 ∧ a2 j = nI (C j)) ∧ (∀ c, c < 80 → a3 c = nI (ca_ct L C c))
def ca_V (e : Nat → Int32) (C : Nat → Nat) (M : Nat → Nat → Nat → Int32) (a4 a5 a6 : Nat → Int32) : Prop := ∀ a, a < 5 → e a ≠ 0 → ∀ k, k < 16 → ∀ i, i < 16 → ca_v a4 a5 a6 (C (a * 16 + k)) i = M a k i
def ca_Q (e : Nat → Int32) (C : Nat → Nat) (M : Nat → Nat → Nat → Int32) (a2 a3 a4 a5 a6 a7 a8 a9 a10 : Nat → Int32) : Prop := ca_S (ca_lv e) C a2 a3 ∧ (∀ c, c < 80 → ca_nc a4 a5 a6 a7 a8 a9 a10 c) ∧ ca_V e C M a4 a5 a6
def ca_R (e : Nat → Int32) (M : Nat → Nat → Nat → Int32) (a2 a3 a4 a5 a6 a7 a8 a9 a10 : Nat → Int32) : Prop := e 4 ≠ 0 ∧ ∃ C : Nat → Nat, ca_Q e C M a2 a3 a4 a5 a6 a7 a8 a9 a10
/-- place k of the present array has the chunk d to itself -/
def ca_O (e : Nat → Int32) (M : Nat → Nat → Nat → Int32) (k d : Nat) (a2 a3 a4 a5 a6 a7 a8 a9 a10 : Nat → Int32) : Prop := e 4 ≠ 0 ∧ d < 80 ∧ ∃ C : Nat → Nat, ca_Q e C M a2 a3 a4 a5 a6 a7 a8 a9 a10 ∧ C (64 + k) = d ∧ ca_ct (ca_lv e) C d = 1
theorem ca_lv_at {e : Nat → Int32} {a k : Nat} (hk : k < 16) (h : e a ≠ 0) : ca_lv e (a * 16 + k) = true := by
  unfold ca_lv
  rw [show (a * 16 + k) / 16 = a by omega]
  exact decide_eq_true h
theorem ca_lv_4 {e : Nat → Int32} {k : Nat} (hk : k < 16) (h : e 4 ≠ 0) : ca_lv e (64 + k) = true := ca_lv_at (a := 4) hk h
theorem ca_R_cg {e : Nat → Int32} {M M' : Nat → Nat → Nat → Int32} {a2 a3 a4 a5 a6 a7 a8 a9 a10 : Nat → Int32} (h : ca_R e M a2 a3 a4 a5 a6 a7 a8 a9 a10) (hM : ∀ a, a < 5 → e a ≠ 0 → ∀ k, k < 16 → ∀ i, i < 16 → M a k i = M' a k i) : ca_R e M' a2 a3 a4 a5 a6 a7 a8 a9 a10 := by
  obtain ⟨h4, C, hS, hN, hV⟩ := h
  exact ⟨h4, C, hS, hN, fun a ha he k hk i hi => (hV a ha he k hk i hi).trans (hM a ha he k hk i hi)⟩
theorem ca_O_R {e : Nat → Int32} {M : Nat → Nat → Nat → Int32} {k d : Nat} {a2 a3 a4 a5 a6 a7 a8 a9 a10 : Nat → Int32} (h : ca_O e M k d a2 a3 a4 a5 a6 a7 a8 a9 a10) : ca_R e M a2 a3 a4 a5 a6 a7 a8 a9 a10 := by
  obtain ⟨h4, hd, C, hQ, _, _⟩ := h
  exact ⟨h4, C, hQ⟩
theorem ca_O_lt {e : Nat → Int32} {M : Nat → Nat → Nat → Int32} {k d : Nat} {a2 a3 a4 a5 a6 a7 a8 a9 a10 : Nat → Int32} (h : ca_O e M k d a2 a3 a4 a5 a6 a7 a8 a9 a10) : d < 80 := h.2.1
theorem ca_O_nc {e : Nat → Int32} {M : Nat → Nat → Nat → Int32} {k d : Nat} {a2 a3 a4 a5 a6 a7 a8 a9 a10 : Nat → Int32} (h : ca_O e M k d a2 a3 a4 a5 a6 a7 a8 a9 a10) : ca_nc a4 a5 a6 a7 a8 a9 a10 d := by
  obtain ⟨h4, hd, C, hQ, _, _⟩ := h
  exact hQ.2.1 d hd
theorem ca_O_v {e : Nat → Int32} {M : Nat → Nat → Nat → Int32} {k d : Nat} {a2 a3 a4 a5 a6 a7 a8 a9 a10 : Nat → Int32} (h : ca_O e M k d a2 a3 a4 a5 a6 a7 a8 a9 a10) (hk : k < 16) : ∀ i, i < 16 → ca_v a4 a5 a6 d i = M 4 k i := by
  obtain ⟨h4, hd, C, hQ, hC, _⟩ := h
  intro i hi
  have t := hQ.2.2 4 (by omega) h4 k hk i hi
  rw [show 4 * 16 + k = 64 + k by omega, hC] at t
  exact t
theorem ca_v_cg {a4 a5 a6 b4 b5 b6 : Nat → Int32} {c c' i : Nat} (h4 : b4 (c' * 16 + i) = a4 (c * 16 + i)) (h5 : b5 c' = a5 c) (h6 : b6 c' = a6 c) : ca_v b4 b5 b6 c' i = ca_v a4 a5 a6 c i := by
  unfold ca_v
  rw [h4, h5, h6]
/-- chunk c' of the new arrays is chunk c of the old ones -/
theorem ca_nc_cg {a4 a5 a6 a7 a8 a9 a10 b4 b5 b6 b7 b8 b9 b10 : Nat → Int32} {c c' : Nat} (h : ca_nc a4 a5 a6 a7 a8 a9 a10 c) (h4 : ∀ i, i < 16 → b4 (c' * 16 + i) = a4 (c * 16 + i)) (h5 : b5 c' = a5 c) (h6 : b6 c' = a6 c) (h7 : b7 c' ≠ 0 → a7 c ≠ 0) (h8 : b8 c' = a8 c) (h9 : b9 c' ≠ 0 → a9 c ≠ 0) (h10 : b10 c' = a10 c) : ca_nc b4 b5 b6 b7 b8 b9 b10 c' := by
  refine ⟨fun z => ?_, fun z => ?_⟩
  · rw [h8, h.1 (h7 z)]
    exact ca_sm_cg (fun j hj => (h4 j hj).symm)
  · rw [h10, h.2 (h9 z)]
    exact ca_mx_cg (fun j hj => (ca_v_cg (h4 j (by omega)) h5 h6).symm)
/-- the rest of the chunks stays as it is -/
def ca_but (d : Nat) (a4 a5 a6 a7 a8 a9 a10 b4 b5 b6 b7 b8 b9 b10 : Nat → Int32) : Prop := ∀ c, c < 80 → c ≠ d → (∀ i, i < 16 → b4 (c * 16 + i) = a4 (c * 16 + i)) ∧ b5 c = a5 c ∧ b6 c = a6 c ∧ b7 c = a7 c ∧ b8 c = a8 c ∧ b9 c = a9 c ∧ b10 c = a10 c
theorem ca_but_nc {d : Nat} {a4 a5 a6 a7 a8 a9 a10 b4 b5 b6 b7 b8 b9 b10 : Nat → Int32} (h : ca_but d a4 a5 a6 a7 a8 a9 a10 b4 b5 b6 b7 b8 b9 b10) {c : Nat} (hc : c < 80) (hd : c ≠ d) (hn : ca_nc a4 a5 a6 a7 a8 a9 a10 c) : ca_nc b4 b5 b6 b7 b8 b9 b10 c := by
  obtain ⟨h4, h5, h6, h7, h8, h9, h10⟩ := h c hc hd
  exact ca_nc_cg hn h4 h5 h6 (fun z => by rw [← h7]; exact z) h8 (fun z => by rw [← h9]; exact z) h10
theorem ca_but_v {d : Nat} {a4 a5 a6 a7 a8 a9 a10 b4 b5 b6 b7 b8 b9 b10 : Nat → Int32} (h : ca_but d a4 a5 a6 a7 a8 a9 a10 b4 b5 b6 b7 b8 b9 b10) {c i : Nat} (hc : c < 80) (hd : c ≠ d) (hi : i < 16) : ca_v b4 b5 b6 c i = ca_v a4 a5 a6 c i := by
  obtain ⟨h4, h5, h6, h7, h8, h9, h10⟩ := h c hc hd
  exact ca_v_cg (h4 i hi) h5 h6
/-- an owned chunk changes -/
theorem ca_put {e : Nat → Int32} {M M' : Nat → Nat → Nat → Int32} {k d : Nat} {a2 a3 a4 a5 a6 a7 a8 a9 a10 b4 b5 b6 b7 b8 b9 b10 : Nat → Int32} (h : ca_O e M k d a2 a3 a4 a5 a6 a7 a8 a9 a10) (hk : k < 16)
    (ho : ca_but d a4 a5 a6 a7 a8 a9 a10 b4 b5 b6 b7 b8 b9 b10) (hn : ca_nc b4 b5 b6 b7 b8 b9 b10 d) (hm : ∀ i, i < 16 → ca_v b4 b5 b6 d i = M' 4 k i)
    (hM : ∀ a k' i, ¬ (a = 4 ∧ k' = k) → M' a k' i = M a k' i) : ca_O e M' k d a2 a3 b4 b5 b6 b7 b8 b9 b10 := by
  obtain ⟨h4, hd, C, ⟨hS, hN, hV⟩, hC, h1⟩ := h
  refine ⟨h4, hd, C, ⟨hS, fun c hc => ?_, fun a ha he k' hk' i hi => ?_⟩, hC, h1⟩
  · by_cases ec : c = d
    · rw [ec]
      exact hn
    · exact ca_but_nc ho hc ec (hN c hc)
  · by_cases ec : C (a * 16 + k') = d
    · have t : a * 16 + k' = 64 + k := ca_ct_one (by omega) (by omega) (ca_lv_at hk' he) (ca_lv_4 hk h4) ec hC h1
      have e1 : a = 4 := by omega
      have e2 : k' = k := by omega
      rw [ec, e1, e2]
      exact hm i hi
    · rw [ca_but_v ho (hS.1 _ (by omega)).1 ec hi, hV a ha he k' hk' i hi]
      refine (hM a k' i (fun z => ec ?_)).symm
      rw [z.1, z.2]
      exact hC
/-- a shared chunk is copied to a free one -/
theorem ca_dup {e : Nat → Int32} {M : Nat → Nat → Nat → Int32} {C : Nat → Nat} {k c d : Nat} {a2 a3 a4 a5 a6 a7 a8 a9 a10 b4 b5 b6 b7 b8 b9 b10 : Nat → Int32} (h4 : e 4 ≠ 0) (h : ca_Q e C M a2 a3 a4 a5 a6 a7 a8 a9 a10) (hk : k < 16) (hc : C (64 + k) = c) (hd : d < 80) (h0 : ca_ct (ca_lv e) C d = 0)
    (ho : ca_but d a4 a5 a6 a7 a8 a9 a10 b4 b5 b6 b7 b8 b9 b10) (g4 : ∀ i, i < 16 → b4 (d * 16 + i) = a4 (c * 16 + i)) (g5 : b5 d = a5 c) (g6 : b6 d = a6 c) (g7 : b7 d ≠ 0 → a7 c ≠ 0) (g8 : b8 d = a8 c) (g9 : b9 d ≠ 0 → a9 c ≠ 0) (g10 : b10 d = a10 c) :
    ca_O e M k d (upd a2 (64 + k) (nI d)) (upd (upd a3 c (a3 c - 1)) d 1) b4 b5 b6 b7 b8 b9 b10 := by
  obtain ⟨hS, hN, hV⟩ := h
  have hcl : c < 80 := by rw [← hc]; exact (hS.1 _ (by omega)).1
  have c1 : 1 ≤ ca_ct (ca_lv e) C c := ca_ct_pos (by omega) (ca_lv_4 hk h4) hc
  have hdc : d ≠ c := fun z => by rw [z] at h0; omega
  have up := ca_ct_up (L := ca_lv e) (L' := ca_lv e) (C := C) (C' := fun j => if j = 64 + k then d else C j) (j := 64 + k) (by omega) (fun i _ hn => ⟨rfl, if_neg hn⟩)
  simp only [if_true, ca_lv_4 hk h4, hc, Bool.true_and] at up
  have kd : ca_ct (ca_lv e) (fun j => if j = 64 + k then d else C j) d = 1 := by
    have t := up d
    rw [beq_self_eq_true d, beq_eq_false_iff_ne.mpr (fun z => hdc z.symm), h0] at t
    have t3 : (true).toNat = 1 := rfl
    have t4 : (false).toNat = 0 := rfl
    omega
  refine ⟨h4, hd, fun j => if j = 64 + k then d else C j, ⟨⟨fun j hj => ?_, fun x hx => ?_⟩, fun x hx => ?_, fun a ha he k' hk' i hi => ?_⟩, if_pos rfl, kd⟩
  · by_cases ej : j = 64 + k
    · rw [ej, pk_us]
      simp only [if_true]
      exact ⟨hd, trivial⟩
    · rw [pk_un ej]
      simp only [if_neg ej]
      exact hS.1 j hj
  · by_cases e1 : x = d
    · rw [e1, pk_us, kd]
      rfl
    · rw [pk_un e1]
      have t := up x
      have t3 : (true).toNat = 1 := rfl
      have t4 : (false).toNat = 0 := rfl
      rw [beq_eq_false_iff_ne.mpr (fun z => e1 z.symm)] at t
      by_cases e2 : x = c
      · rw [e2, pk_us, hS.2 c hcl]
        rw [e2, beq_self_eq_true c] at t
        rw [show ca_ct (ca_lv e) C c = ca_ct (ca_lv e) (fun j => if j = 64 + k then d else C j) c + 1 by omega, nI_pred]
      · rw [pk_un e2, hS.2 x hx]
        rw [beq_eq_false_iff_ne.mpr (fun z => e2 z.symm)] at t
        rw [show ca_ct (ca_lv e) C x = ca_ct (ca_lv e) (fun j => if j = 64 + k then d else C j) x by omega]
  · by_cases e1 : x = d
    · rw [e1]
      exact ca_nc_cg (hN c hcl) g4 g5 g6 g7 g8 g9 g10
    · exact ca_but_nc ho hx e1 (hN x hx)
  · by_cases ej : a * 16 + k' = 64 + k
    · have e1 : a = 4 := by omega
      have e2 : k' = k := by omega
      simp only [if_pos ej]
      rw [ca_v_cg (c := c) (g4 i hi) g5 g6, e1, e2, ← hc]
      exact hV 4 (by omega) h4 k hk i hi
    · simp only [if_neg ej]
      have ne : C (a * 16 + k') ≠ d := fun z => by
        have t := ca_ct_pos (L := ca_lv e) (C := C) (c := d) (j := a * 16 + k') (by omega) (ca_lv_at hk' he) z
        omega
      rw [ca_but_v ho (hS.1 _ (by omega)).1 ne hi]
      exact hV a ha he k' hk' i hi
/-- a chunk with one holder is owned -/
theorem ca_sole {e : Nat → Int32} {M : Nat → Nat → Nat → Int32} {C : Nat → Nat} {k : Nat} {a2 a3 a4 a5 a6 a7 a8 a9 a10 : Nat → Int32} (h4 : e 4 ≠ 0) (h : ca_Q e C M a2 a3 a4 a5 a6 a7 a8 a9 a10) (hk : k < 16) (h1 : ca_ct (ca_lv e) C (C (64 + k)) = 1) : ca_O e M k (C (64 + k)) a2 a3 a4 a5 a6 a7 a8 a9 a10 :=
  ⟨h4, (h.1.1 _ (by omega)).1, C, h, rfl, h1⟩
/-! versions: kept, dropped, restored -/
theorem ca_S_cg {L L' : Nat → Bool} {C C' : Nat → Nat} {a2 a3 : Nat → Int32} (h : ca_S L C a2 a3) (hc : ∀ i, i < 80 → L' i = L i ∧ C' i = C i) : ca_S L' C' a2 a3 :=
  ⟨fun j hj => by rw [(hc j hj).2]; exact h.1 j hj, fun c h' => by rw [ca_ct_cg hc c]; exact h.2 c h'⟩
theorem ca_S_keep {L : Nat → Bool} {C : Nat → Nat} {a2 a3 : Nat → Int32} {j q : Nat} (h : ca_S L C a2 a3) (hj : j < 80) (hq : q < 80) (hl : L j = false) :
    ca_S (fun i => if i = j then true else L i) (fun i => if i = j then C q else C i) (upd a2 j (nI (C q))) (upd a3 (C q) (a3 (C q) + 1)) := by
  have up := ca_ct_up (L := L) (L' := fun i => if i = j then true else L i) (C := C) (C' := fun i => if i = j then C q else C i) (j := j) hj (fun i _ hn => ⟨if_neg hn, if_neg hn⟩)
  simp only [if_true, hl, Bool.true_and, Bool.false_and] at up
  have t3 : (true).toNat = 1 := rfl
  have t4 : (false).toNat = 0 := rfl
  refine ⟨fun i hi => ?_, fun x hx => ?_⟩
  · by_cases e1 : i = j
    · rw [e1, pk_us]
      simp only [if_true]
      exact ⟨(h.1 q hq).1, trivial⟩
    · rw [pk_un e1]
      simp only [if_neg e1]
      exact h.1 i hi
  · have t := up x
    by_cases e1 : x = C q
    · rw [e1, pk_us, h.2 (C q) (h.1 q hq).1, nI_1]
      rw [e1, beq_self_eq_true] at t
      rw [show ca_ct (fun i => if i = j then true else L i) (fun i => if i = j then C q else C i) (C q) = ca_ct L C (C q) + 1 by omega]
    · rw [pk_un e1, h.2 x hx]
      rw [beq_eq_false_iff_ne.mpr (fun z => e1 z.symm)] at t
      rw [show ca_ct (fun i => if i = j then true else L i) (fun i => if i = j then C q else C i) x = ca_ct L C x by omega]
theorem ca_S_drop {L : Nat → Bool} {C : Nat → Nat} {a2 a3 : Nat → Int32} {j : Nat} (h : ca_S L C a2 a3) (hj : j < 80) (hl : L j = true) :
    ca_S (fun i => if i = j then false else L i) C a2 (upd a3 (C j) (a3 (C j) - 1)) := by
  have up := ca_ct_up (L := L) (L' := fun i => if i = j then false else L i) (C := C) (C' := C) (j := j) hj (fun i _ hn => ⟨if_neg hn, rfl⟩)
  simp only [if_true, hl, Bool.true_and, Bool.false_and] at up
  have t3 : (true).toNat = 1 := rfl
  have t4 : (false).toNat = 0 := rfl
  refine ⟨h.1, fun x hx => ?_⟩
  have t := up x
  by_cases e1 : x = C j
  · rw [e1, beq_self_eq_true] at t
    rw [e1, pk_us, h.2 (C j) (h.1 j hj).1, show ca_ct L C (C j) = ca_ct (fun i => if i = j then false else L i) C (C j) + 1 by omega, nI_pred]
  · rw [beq_eq_false_iff_ne.mpr (fun z => e1 z.symm)] at t
    rw [pk_un e1, h.2 x hx, show ca_ct L C x = ca_ct (fun i => if i = j then false else L i) C x by omega]
theorem ca_S_rest {L : Nat → Bool} {C : Nat → Nat} {a2 a3 : Nat → Int32} {p q : Nat} (h : ca_S L C a2 a3) (hp : p < 80) (hq : q < 80) (hl : L p = true) :
    ca_S L (fun i => if i = p then C q else C i) (upd a2 p (nI (C q))) (upd (upd a3 (C p) (a3 (C p) - 1)) (C q) ((upd a3 (C p) (a3 (C p) - 1)) (C q) + 1)) := by
  have up := ca_ct_up (L := L) (L' := L) (C := C) (C' := fun i => if i = p then C q else C i) (j := p) hp (fun i _ hn => ⟨rfl, if_neg hn⟩)
  simp only [if_true, hl, Bool.true_and] at up
  have t3 : (true).toNat = 1 := rfl
  have t4 : (false).toNat = 0 := rfl
  have hcp := h.2 (C p) (h.1 p hp).1
  have hcq := h.2 (C q) (h.1 q hq).1
  have c1 : 1 ≤ ca_ct L C (C p) := ca_ct_pos hp hl rfl
  refine ⟨fun i hi => ?_, fun x hx => ?_⟩
  · by_cases e1 : i = p
    · rw [e1, pk_us]
      simp only [if_true]
      exact ⟨(h.1 q hq).1, trivial⟩
    · rw [pk_un e1]
      simp only [if_neg e1]
      exact h.1 i hi
  · have t := up x
    by_cases e1 : x = C q
    · rw [e1, beq_self_eq_true] at t
      rw [e1, pk_us]
      by_cases e2 : C q = C p
      · rw [e2, beq_self_eq_true] at t
        rw [e2, pk_us, hcp]
        rw [show ca_ct L C (C p) = (ca_ct L C (C p) - 1) + 1 by omega, nI_pred, nI_1]
        rw [show ca_ct L C (C p) - 1 + 1 = ca_ct L (fun i => if i = p then C p else C i) (C p) by omega]
      · rw [beq_eq_false_iff_ne.mpr (fun z => e2 z.symm)] at t
        rw [pk_un e2, hcq, nI_1]
        rw [show ca_ct L (fun i => if i = p then C q else C i) (C q) = ca_ct L C (C q) + 1 by omega]
    · rw [beq_eq_false_iff_ne.mpr (fun (z : C q = x) => e1 z.symm)] at t
      rw [pk_un e1]
      by_cases e2 : x = C p
      · rw [e2, beq_self_eq_true] at t
        rw [e2, pk_us, hcp, show ca_ct L C (C p) = ca_ct L (fun i => if i = p then C q else C i) (C p) + 1 by omega, nI_pred]
      · rw [beq_eq_false_iff_ne.mpr (fun (z : C p = x) => e2 z.symm)] at t
        rw [pk_un e2, h.2 x hx, show ca_ct L C x = ca_ct L (fun i => if i = p then C q else C i) x by omega]
end
section
/-! indices as the code writes them -/
theorem ca_e_pl {r c : Nat} (hr : r < 16) (hc : c < 16) : (nI r >>> ((2 : Int32) &&& 31)) * 4 + (nI c >>> ((2 : Int32) &&& 31)) = nI (ca_pl r c) := by
  rw [pk_shrN (n := r) (by omega) _ 2 (by decide), pk_shrN (n := c) (by omega) _ 2 (by decide), show (4 : Int32) = nI 4 from rfl, pk_mul, nI_add]
  rfl
theorem ca_e_wi {r c : Nat} (hr : r < 16) (hc : c < 16) : (nI r &&& 3) * 4 + (nI c &&& 3) = nI (ca_wi r c) := by
  rw [pk_andN (n := r) (by omega) 2 (by decide), pk_andN (n := c) (by omega) 2 (by decide), show (4 : Int32) = nI 4 from rfl, pk_mul, nI_add]
  rfl
theorem ca_e_rw {k i : Nat} (hk : k < 16) (hi : i < 16) : nI k / 4 * 4 + nI i / 4 = nI (ca_rw k i) := by
  rw [show (4 : Int32) = nI 4 from rfl, pk_div (by omega) (by omega) (by omega), pk_div (by omega) (by omega) (by omega), pk_mul, nI_add]
  rfl
theorem ca_e_cl {k i : Nat} (hk : k < 16) (hi : i < 16) : (nI k - nI k / 4 * 4) * 4 + (nI i - nI i / 4 * 4) = nI (ca_cl k i) := by
  rw [show (4 : Int32) = nI 4 from rfl, pk_rem (by omega) (by omega) (by omega), pk_rem (by omega) (by omega) (by omega), pk_mul, nI_add]
  rfl
theorem ca_e_k4 {k : Nat} (hk : k < 16) : nI k / 4 * 4 = nI (k / 4 * 4) := by
  rw [show (4 : Int32) = nI 4 from rfl, pk_div (by omega) (by omega) (by omega), pk_mul]
theorem ca_e_m4 {k : Nat} (hk : k < 16) : (nI k - nI k / 4 * 4) * 4 = nI (k % 4 * 4) := by
  rw [show (4 : Int32) = nI 4 from rfl, pk_rem (by omega) (by omega) (by omega), pk_mul]
theorem ca_e_16 (a k : Nat) : nI a * 16 + nI k = nI (a * 16 + k) := by
  rw [show (16 : Int32) = nI 16 from rfl, pk_mul, nI_add]
theorem ca_e_64 (k : Nat) : 64 + nI k = nI (64 + k) := nI_add 64 k
theorem ca_placeOf {post : Int32 → Prop} {r c : Nat} (hr : r < 16) (hc : c < 16) (hp : post (nI (ca_pl r c))) : wpX_placeOf post () (nI r) (nI c) := by
  unfold wpX_placeOf
  rw [ca_e_pl hr hc]
  exact hp
theorem ca_within {post : Int32 → Prop} {r c : Nat} (hr : r < 16) (hc : c < 16) (hp : post (nI (ca_wi r c))) : wpX_within post () (nI r) (nI c) := by
  unfold wpX_within
  rw [ca_e_wi hr hc]
  exact hp
/-! good and bad cells -/
theorem ca_bad_g {post : Int32 → Prop} {F : Nat} (hF : F < 256) (hp : post 0) : wpX_bad post () (nI F) :=
  br_f (nI_pos (by omega)) (br_t (nI_le (b := 255) (by omega) (by omega)) hp)
theorem ca_bad_b {post : Int32 → Prop} {x : Int32} (h : ∀ F, F < 256 → x ≠ nI F) (hp : post 1) : wpX_bad post () x := by
  unfold wpX_bad
  refine br_c (fun _ => hp) (fun z => br_c (fun z2 => ?_) (fun _ => hp))
  obtain ⟨F, hF, he⟩ := nI_of2 (M := 255) (n := 255) (by decide) z z2
  exact absurd he (h F (by omega))
theorem ca_gb (x : Int32) : (∃ F, F < 256 ∧ x = nI F) ∨ (∀ F, F < 256 → x ≠ nI F) := by
  rcases Classical.em (∃ F, F < 256 ∧ x = nI F) with h | h
  · exact Or.inl h
  · exact Or.inr (fun F hF he => h ⟨F, hF, he⟩)
/-! the region -/
theorem ca_setRegion {post : St1 → Prop} {r0 r1 c0 c1 : Int32} {e a2 a3 a4 a5 a6 a7 a8 a9 a10 w : Nat → Int32} {F T : Nat} (hF : F < 256) (hT : T < 256)
    (hp : post (nI (min (F % 16) (T % 16)), nI (max (F % 16) (T % 16)), nI (min (F / 16) (T / 16)), nI (max (F / 16) (T / 16)), e, a2, a3, a4, a5, a6, a7, a8, a9, a10, w)) : wpX_setRegion post (r0, r1, c0, c1, e, a2, a3, a4, a5, a6, a7, a8, a9, a10, w) (nI F) (nI T) := by
  unfold wpX_setRegion
  dsimp only
  refine nm_r (e' := nI (F % 16)) (pk_andN (by omega) 4 (by decide)) (nm_r (e' := nI (T % 16)) (pk_andN (by omega) 4 (by decide)) (nm_r (e' := nI (F / 16)) (pk_shrN (by omega) _ 4 (by decide)) (nm_r (e' := nI (T / 16)) (pk_shrN (by omega) _ 4 (by decide)) ?_)))
  unfold wX_setRegion_34 wX_setRegion_50 wX_setRegion_68
  refine pk_le (T % 16) (F % 16) (fun z => ?_) (fun z => ?_)
  · refine pk_le (T % 16) (F % 16) (fun _ => ?_) (fun y => absurd y (by omega))
    rw [Nat.min_eq_right z, Nat.max_eq_left z] at hp
    refine pk_le (T / 16) (F / 16) (fun z2 => ?_) (fun z2 => ?_)
    · refine pk_le (T / 16) (F / 16) (fun _ => ?_) (fun y => absurd y (by omega))
      rw [Nat.min_eq_right z2, Nat.max_eq_left z2] at hp
      exact hp
    · refine pk_le (T / 16) (F / 16) (fun y => absurd y (by omega)) (fun _ => ?_)
      rw [Nat.min_eq_left (by omega), Nat.max_eq_right (by omega)] at hp
      exact hp
  · refine pk_le (T % 16) (F % 16) (fun y => absurd y (by omega)) (fun _ => ?_)
    rw [Nat.min_eq_left (a := F % 16) (by omega), Nat.max_eq_right (a := F % 16) (by omega)] at hp
    refine pk_le (T / 16) (F / 16) (fun z2 => ?_) (fun z2 => ?_)
    · refine pk_le (T / 16) (F / 16) (fun _ => ?_) (fun y => absurd y (by omega))
      rw [Nat.min_eq_right z2, Nat.max_eq_left z2] at hp
      exact hp
    · refine pk_le (T / 16) (F / 16) (fun y => absurd y (by omega)) (fun _ => ?_)
      rw [Nat.min_eq_left (a := F / 16) (by omega), Nat.max_eq_right (a := F / 16) (by omega)] at hp
      exact hp
theorem ca_regionSize {post : Int32 → Prop} {e a2 a3 a4 a5 a6 a7 a8 a9 a10 w : Nat → Int32} {R0 R1 C0 C1 : Nat} (h1 : R0 ≤ R1) (h2 : C0 ≤ C1) (hp : post (nI (ca_sz R0 R1 C0 C1))) : wpX_regionSize post (nI R0, nI R1, nI C0, nI C1, e, a2, a3, a4, a5, a6, a7, a8, a9, a10, w) := by
  unfold wpX_regionSize
  dsimp only
  rw [pk_sub h1, pk_sub h2, nI_1, nI_1, pk_mul]
  exact hp
theorem ca_covers {post : Int32 → Prop} {e a2 a3 a4 a5 a6 a7 a8 a9 a10 w : Nat → Int32} {R0 R1 C0 C1 k : Nat} (h1 : R0 ≤ R1) (h2 : R1 < 16) (h3 : C0 ≤ C1) (h4 : C1 < 16) (hk : k < 16) (ht : ca_cv R0 R1 C0 C1 k = true → post 1) (hf : ca_cv R0 R1 C0 C1 k = false → post 0) : wpX_covers post (nI R0, nI R1, nI C0, nI C1, e, a2, a3, a4, a5, a6, a7, a8, a9, a10, w) (nI k) := by
  unfold wpX_covers
  dsimp only
  unfold ca_cv at ht hf
  refine ⟨by decide, nm_r (ca_e_k4 hk) ⟨by decide, nm_r (ca_e_m4 hk) ?_⟩⟩
  refine pk_lt (k / 4 * 4) R0 (fun z => hf (decide_eq_false (by omega))) (fun z1 => ?_)
  refine pk_lt R1 (k / 4 * 4 + 3) (hy := nI_add _ 3) (fun z => hf (decide_eq_false (by omega))) (fun z2 => ?_)
  refine pk_lt (k % 4 * 4) C0 (fun z => hf (decide_eq_false (by omega))) (fun z3 => ?_)
  exact pk_lt C1 (k % 4 * 4 + 3) (hy := nI_add _ 3) (fun z => hf (decide_eq_false (by omega))) (fun z4 => ht (decide_eq_true (by omega)))
theorem ca_touches {post : Int32 → Prop} {e a2 a3 a4 a5 a6 a7 a8 a9 a10 w : Nat → Int32} {R0 R1 C0 C1 k : Nat} (h1 : R0 ≤ R1) (h2 : R1 < 16) (h3 : C0 ≤ C1) (h4 : C1 < 16) (hk : k < 16) (ht : ca_to R0 R1 C0 C1 k = true → post 1) (hf : ca_to R0 R1 C0 C1 k = false → post 0) : wpX_touches post (nI R0, nI R1, nI C0, nI C1, e, a2, a3, a4, a5, a6, a7, a8, a9, a10, w) (nI k) := by
  unfold wpX_touches
  dsimp only
  unfold ca_to at ht hf
  refine ⟨by decide, nm_r (ca_e_k4 hk) ⟨by decide, nm_r (ca_e_m4 hk) ?_⟩⟩
  refine pk_lt (k / 4 * 4 + 3) R0 (hx := nI_add _ 3) (fun z => hf (decide_eq_false (by omega))) (fun z1 => ?_)
  refine pk_lt R1 (k / 4 * 4) (fun z => hf (decide_eq_false (by omega))) (fun z2 => ?_)
  refine pk_lt (k % 4 * 4 + 3) C0 (hx := nI_add _ 3) (fun z => hf (decide_eq_false (by omega))) (fun z3 => ?_)
  exact pk_lt C1 (k % 4 * 4) (fun z => hf (decide_eq_false (by omega))) (fun z4 => ht (decide_eq_true (by omega)))
theorem ca_inRegion {post : Int32 → Prop} {e a2 a3 a4 a5 a6 a7 a8 a9 a10 w : Nat → Int32} {R0 R1 C0 C1 k i : Nat} (h1 : R0 ≤ R1) (h2 : R1 < 16) (h3 : C0 ≤ C1) (h4 : C1 < 16) (hk : k < 16) (hi : i < 16) (ht : ca_in R0 R1 C0 C1 k i = true → post 1) (hf : ca_in R0 R1 C0 C1 k i = false → post 0) : wpX_inRegion post (nI R0, nI R1, nI C0, nI C1, e, a2, a3, a4, a5, a6, a7, a8, a9, a10, w) (nI (ca_rw k i)) (nI (ca_cl k i)) := by
  have hr := ca_rw_lt hk hi
  have hc := ca_cl_lt k i
  unfold wpX_inRegion
  dsimp only
  unfold ca_in at ht hf
  refine pk_lt (ca_rw k i) R0 (fun z => hf (decide_eq_false (by omega))) (fun z1 => ?_)
  refine pk_lt R1 (ca_rw k i) (fun z => hf (decide_eq_false (by omega))) (fun z2 => ?_)
  refine pk_lt (ca_cl k i) C0 (fun z => hf (decide_eq_false (by omega))) (fun z3 => ?_)
  exact pk_lt C1 (ca_cl k i) (fun z => hf (decide_eq_false (by omega))) (fun z4 => ht (decide_eq_true (by omega)))
/-! a cell is read -/
theorem ca_read {post : Int32 → Prop} {M : Nat → Nat → Nat → Int32} {r0 r1 c0 c1 : Int32} {e a2 a3 a4 a5 a6 a7 a8 a9 a10 w : Nat → Int32} {a r c : Nat} (h : ca_R e M a2 a3 a4 a5 a6 a7 a8 a9 a10) (ha : a < 5) (he : e a ≠ 0) (hr : r < 16) (hc : c < 16) (hp : post (M a (ca_pl r c) (ca_wi r c))) : wpX_read post (r0, r1, c0, c1, e, a2, a3, a4, a5, a6, a7, a8, a9, a10, w) (nI a) (nI r) (nI c) := by
  obtain ⟨h4, C, hS, hN, hV⟩ := h
  have hk := ca_pl_lt hr hc
  have hi := ca_wi_lt r c
  have t := hV a ha he _ hk _ hi
  have hj := hS.1 (a * 16 + ca_pl r c) (by omega)
  have hd := hj.1
  unfold wpX_read
  dsimp only
  refine ca_placeOf hr hc ⟨pk_in (a * 16 + ca_pl r c) 80 (by omega) (ca_e_16 _ _), nm_r (e' := nI (C (a * 16 + ca_pl r c))) (by rw [ca_e_16, nI_clamp (by omega)]; exact hj.2) (ca_within hr hc ⟨pk_in (C (a * 16 + ca_pl r c) * 16 + ca_wi r c) 1280 (by omega) (ca_e_16 _ _), pk_in _ 80 hd, pk_in _ 80 hd, ?_⟩)⟩
  show post (a4 (nI (C (a * 16 + ca_pl r c)) * 16 + nI (ca_wi r c)).toNatClampNeg * a5 (nI (C (a * 16 + ca_pl r c))).toNatClampNeg + a6 (nI (C (a * 16 + ca_pl r c))).toNatClampNeg)
  rw [ca_e_16, nI_clamp (n := C (a * 16 + ca_pl r c) * 16 + ca_wi r c) (by omega), nI_clamp (n := C (a * 16 + ca_pl r c)) (by omega)]
  unfold ca_v at t
  rw [t]
  exact hp
/-- a cell named by its place -/
theorem ca_read_k {post : Int32 → Prop} {M : Nat → Nat → Nat → Int32} {r0 r1 c0 c1 : Int32} {e a2 a3 a4 a5 a6 a7 a8 a9 a10 w : Nat → Int32} {a k i : Nat} (h : ca_R e M a2 a3 a4 a5 a6 a7 a8 a9 a10) (ha : a < 5) (he : e a ≠ 0) (hk : k < 16) (hi : i < 16) (hp : post (M a k i)) : wpX_read post (r0, r1, c0, c1, e, a2, a3, a4, a5, a6, a7, a8, a9, a10, w) (nI a) (nI (ca_rw k i)) (nI (ca_cl k i)) :=
  ca_read h ha he (ca_rw_lt hk hi) (ca_cl_lt k i) (by rw [ca_pl_rc hk hi, ca_wi_rc hk hi]; exact hp)
/-! what a change makes of a cell -/
def ca_f (q x : Int32) (o : Int32) : Int32 := if q = 0 then x else if q = 1 then o + x else o * x
theorem ca_result {post : Int32 → Prop} {q x o : Int32} (hp : post (ca_f q x o)) : wpX_result post () q o x := by
  unfold wpX_result
  unfold ca_f at hp
  refine br_c (fun z => ?_) (fun z => br_c (fun z2 => ?_) (fun z2 => ?_))
  · rw [if_pos z] at hp
    exact hp
  · rw [if_neg z, if_pos z2] at hp
    exact hp
  · rw [if_neg z, if_neg z2] at hp
    exact hp
/-! one cell written; some cells changed -/
def ca_w (M : Nat → Nat → Nat → Int32) (k i : Nat) (x : Int32) : Nat → Nat → Nat → Int32 := fun a k' i' => if a = 4 ∧ k' = k ∧ i' = i then x else M a k' i'
def ca_ap (P : Nat → Nat → Bool) (f : Int32 → Int32) (M : Nat → Nat → Nat → Int32) : Nat → Nat → Nat → Int32 := fun a k i => if a = 4 ∧ P k i = true then f (M a k i) else M a k i
theorem ca_w_s (M : Nat → Nat → Nat → Int32) (k i : Nat) (x : Int32) : ca_w M k i x 4 k i = x := if_pos ⟨rfl, rfl, rfl⟩
theorem ca_w_n {M : Nat → Nat → Nat → Int32} {k i : Nat} {x : Int32} {a k' i' : Nat} (h : ¬ (a = 4 ∧ k' = k ∧ i' = i)) : ca_w M k i x a k' i' = M a k' i' := if_neg h
theorem ca_ap_t {P : Nat → Nat → Bool} {f : Int32 → Int32} {M : Nat → Nat → Nat → Int32} {k i : Nat} (h : P k i = true) : ca_ap P f M 4 k i = f (M 4 k i) := if_pos ⟨rfl, h⟩
theorem ca_ap_f {P : Nat → Nat → Bool} {f : Int32 → Int32} {M : Nat → Nat → Nat → Int32} {a k i : Nat} (h : P k i = false) : ca_ap P f M a k i = M a k i := if_neg (fun z => by rw [h] at z; exact absurd z.2 (by decide))
theorem ca_ap_o {P : Nat → Nat → Bool} {f : Int32 → Int32} {M : Nat → Nat → Nat → Int32} {a k i : Nat} (h : a ≠ 4) : ca_ap P f M a k i = M a k i := if_neg (fun z => h z.1)
theorem ca_ap_cg {P P' : Nat → Nat → Bool} {f : Int32 → Int32} {M : Nat → Nat → Nat → Int32} {a k i : Nat} (h : P k i = P' k i) : ca_ap P f M a k i = ca_ap P' f M a k i := by
  unfold ca_ap
  rw [h]
theorem ca_R_ap {e : Nat → Int32} {M : Nat → Nat → Nat → Int32} {a2 a3 a4 a5 a6 a7 a8 a9 a10 : Nat → Int32} {P P' : Nat → Nat → Bool} {f : Int32 → Int32} (h : ca_R e (ca_ap P f M) a2 a3 a4 a5 a6 a7 a8 a9 a10) (hP : ∀ k, k < 16 → ∀ i, i < 16 → P k i = P' k i) : ca_R e (ca_ap P' f M) a2 a3 a4 a5 a6 a7 a8 a9 a10 :=
  ca_R_cg h (fun a _ _ k hk i hi => ca_ap_cg (hP k hk i hi))
theorem ca_R_step {e : Nat → Int32} {M : Nat → Nat → Nat → Int32} {a2 a3 a4 a5 a6 a7 a8 a9 a10 : Nat → Int32} {P P' : Nat → Nat → Bool} {f : Int32 → Int32} {k i : Nat} {x : Int32} (h : ca_R e (ca_w (ca_ap P f M) k i x) a2 a3 a4 a5 a6 a7 a8 a9 a10) (hx : x = f (M 4 k i)) (h1 : P' k i = true) (h2 : ∀ k', k' < 16 → ∀ i', i' < 16 → ¬ (k' = k ∧ i' = i) → P k' i' = P' k' i') : ca_R e (ca_ap P' f M) a2 a3 a4 a5 a6 a7 a8 a9 a10 := by
  refine ca_R_cg h (fun a _ _ k' hk' i' hi' => ?_)
  by_cases t : k' = k ∧ i' = i
  · rw [t.1, t.2]
    by_cases ea : a = 4
    · rw [ea, ca_w_s, ca_ap_t h1, hx]
    · rw [ca_w_n (fun z => ea z.1), ca_ap_o ea, ca_ap_o ea]
  · rw [ca_w_n (fun z => t z.2), ca_ap_cg (h2 k' hk' i' hi' t)]
theorem ca_R_ap2 {e : Nat → Int32} {M : Nat → Nat → Nat → Int32} {a2 a3 a4 a5 a6 a7 a8 a9 a10 : Nat → Int32} {P Q P' : Nat → Nat → Bool} {f : Int32 → Int32} (h : ca_R e (ca_ap Q f (ca_ap P f M)) a2 a3 a4 a5 a6 a7 a8 a9 a10) (hP : ∀ k, k < 16 → ∀ i, i < 16 → (Q k i = true → P k i = false ∧ P' k i = true) ∧ (Q k i = false → P k i = P' k i)) : ca_R e (ca_ap P' f M) a2 a3 a4 a5 a6 a7 a8 a9 a10 := by
  refine ca_R_cg h (fun a _ _ k hk i hi => ?_)
  by_cases ea : a = 4
  · rw [ea]
    cases hq : Q k i
    · rw [ca_ap_f hq]
      exact ca_ap_cg ((hP k hk i hi).2 hq)
    · obtain ⟨t1, t2⟩ := (hP k hk i hi).1 hq
      rw [ca_ap_t hq, ca_ap_f t1, ca_ap_t t2]
  · rw [ca_ap_o ea, ca_ap_o ea, ca_ap_o ea]
/-- a loop that changes the nine arrays -/
theorem ca_loop9 (W : Nat → Nat → (Nat → Int32) → (Nat → Int32) → (Nat → Int32) → (Nat → Int32) → (Nat → Int32) → (Nat → Int32) → (Nat → Int32) → (Nat → Int32) → (Nat → Int32) → Prop) (I : Nat → (Nat → Int32) → (Nat → Int32) → (Nat → Int32) → (Nat → Int32) → (Nat → Int32) → (Nat → Int32) → (Nat → Int32) → (Nat → Int32) → (Nat → Int32) → Prop) (E : Nat) (a2 a3 a4 a5 a6 a7 a8 a9 a10 : Nat → Int32) (h0 : I 0 a2 a3 a4 a5 a6 a7 a8 a9 a10)
    (hx : ∀ n b2 b3 b4 b5 b6 b7 b8 b9 b10, I E b2 b3 b4 b5 b6 b7 b8 b9 b10 → W (n + 1) E b2 b3 b4 b5 b6 b7 b8 b9 b10)
    (hs : ∀ n i b2 b3 b4 b5 b6 b7 b8 b9 b10, i < E → I i b2 b3 b4 b5 b6 b7 b8 b9 b10 → (∀ g2 g3 g4 g5 g6 g7 g8 g9 g10, I (i + 1) g2 g3 g4 g5 g6 g7 g8 g9 g10 → W n (i + 1) g2 g3 g4 g5 g6 g7 g8 g9 g10) → W (n + 1) i b2 b3 b4 b5 b6 b7 b8 b9 b10) : ∃ n, W n 0 a2 a3 a4 a5 a6 a7 a8 a9 a10 := by
  have key : ∀ n i b2 b3 b4 b5 b6 b7 b8 b9 b10, i ≤ E → E - i < n → I i b2 b3 b4 b5 b6 b7 b8 b9 b10 → W n i b2 b3 b4 b5 b6 b7 b8 b9 b10 := by
    intro n
    induction n with
    | zero => intro i b2 b3 b4 b5 b6 b7 b8 b9 b10 hi hn; omega
    | succ n ih =>
      intro i b2 b3 b4 b5 b6 b7 b8 b9 b10 hi hn h
      by_cases ei : i = E
      · subst ei
        exact hx n b2 b3 b4 b5 b6 b7 b8 b9 b10 h
      · exact hs n i b2 b3 b4 b5 b6 b7 b8 b9 b10 (by omega) h (fun g2 g3 g4 g5 g6 g7 g8 g9 g10 h' => ih (i + 1) g2 g3 g4 g5 g6 g7 g8 g9 g10 (by omega) (by omega) h')
  exact ⟨E + 1, key (E + 1) 0 a2 a3 a4 a5 a6 a7 a8 a9 a10 (by omega) (by omega) h0⟩
end
section
theorem ca_freeSlot {post : Int32 → Prop} {L : Nat → Bool} {C : Nat → Nat} {r0 r1 c0 c1 : Int32} {e a2 a3 a4 a5 a6 a7 a8 a9 a10 w : Nat → Int32} (h : ca_S L C a2 a3) (hf : ∃ d, d < 80 ∧ ca_ct L C d = 0) (hp : ∀ d, d < 80 → ca_ct L C d = 0 → post (nI d)) : wpX_freeSlot post (r0, r1, c0, c1, e, a2, a3, a4, a5, a6, a7, a8, a9, a10, w) := by
  obtain ⟨d, ⟨hd, h0⟩, hm⟩ := pk_least (fun d => d < 80 ∧ ca_ct L C d = 0) hf
  unfold wpX_freeSlot
  dsimp only
  refine pk_loop (σ := Unit) (fun n i _ => wX_freeSlot_2 post r0 r1 c0 c1 e a2 a3 a4 a5 a6 a7 a8 a9 a10 w n (nI i)) (fun _ _ => True) d 0 () (by omega) trivial
    (fun n _ _ => pk_le 79 d (fun _ => hp d hd h0) (fun z => ⟨pk_in d 80 hd, br_t ?_ (hp d hd h0)⟩))
    (fun n i _ hi _ hw => pk_le 79 i (fun z => absurd z (by omega)) (fun z => ⟨pk_in i 80 (by omega), br_f ?_ (nm_r (nI_1 i) (hw () trivial))⟩))
  · rw [nI_clamp (by omega), h.2 d hd, h0]
    decide
  · rw [nI_clamp (by omega), h.2 i (by omega)]
    have t := ca_ct_le L C i
    refine nI_nle ?_ (by omega)
    rcases Nat.eq_zero_or_pos (ca_ct L C i) with y | y
    · exact absurd ⟨by omega, y⟩ (hm i hi)
    · exact y
theorem ca_nb {x : Int32} (h : vp_nar .boolean x ≠ 0) : x ≠ 0 := fun z => h (by rw [z]; rfl)
theorem ca_own {post : Int32 → St1 → Prop} {M : Nat → Nat → Nat → Int32} {r0 r1 c0 c1 : Int32} {e a2 a3 a4 a5 a6 a7 a8 a9 a10 w : Nat → Int32} {k : Nat} (h : ca_R e M a2 a3 a4 a5 a6 a7 a8 a9 a10) (hk : k < 16) (hp : ∀ (d : Nat) (b2 b3 b4 b5 b6 b7 b8 b9 b10 : Nat → Int32), ca_O e M k d b2 b3 b4 b5 b6 b7 b8 b9 b10 → post (nI d) (r0, r1, c0, c1, e, b2, b3, b4, b5, b6, b7, b8, b9, b10, w)) : wpX_own post (r0, r1, c0, c1, e, a2, a3, a4, a5, a6, a7, a8, a9, a10, w) (nI k) := by
  obtain ⟨h4, C, hQ⟩ := h
  have hS := hQ.1
  have hc := hS.1 (64 + k) (by omega)
  have hcl := hc.1
  have c1' : 1 ≤ ca_ct (ca_lv e) C (C (64 + k)) := ca_ct_pos (by omega) (ca_lv_4 hk h4) rfl
  have c80 := ca_ct_le (ca_lv e) C (C (64 + k))
  have hsole : ca_ct (ca_lv e) C (C (64 + k)) = 1 → ca_O e M k (C (64 + k)) a2 a3 a4 a5 a6 a7 a8 a9 a10 := ca_sole h4 hQ hk
  generalize hcc : C (64 + k) = c at *
  have kc : (nI c).toNatClampNeg = c := nI_clamp (by omega)
  have k6 : (64 + nI k).toNatClampNeg = 64 + k := by rw [ca_e_64, nI_clamp (by omega)]
  unfold wpX_own
  dsimp only
  refine ⟨pk_in (64 + k) 80 (by omega) (nI_add 64 k), nm_r (e' := nI c) (by rw [k6]; exact hc.2) ⟨pk_in c 80 hcl, ?_⟩⟩
  refine br_c (fun z => ?_) (fun z => ?_)
  · rw [kc, hS.2 c hcl] at z
    exact hp c a2 a3 a4 a5 a6 a7 a8 a9 a10 (hsole ((nI_eq (b := 1) (by omega) (by omega)).mp z))
  · rw [kc, hS.2 c hcl] at z
    have c2 : 2 ≤ ca_ct (ca_lv e) C c := by
      rcases Nat.lt_or_ge (ca_ct (ca_lv e) C c) 2 with y | y
      · exact absurd (by rw [show ca_ct (ca_lv e) C c = 1 by omega]; rfl) z
      · exact y
    refine ca_freeSlot hS (ca_free hcl c2) (fun d hd h0 => ?_)
    have hdc : d ≠ c := fun y => by rw [y] at h0; omega
    have kd : (nI d).toNatClampNeg = d := nI_clamp (by omega)
    refine pk_loop (fun n i s => wX_own_30 post (nI k) (nI c) (nI d) r0 r1 c0 c1 n (nI i) e a2 a3 s a5 a6 a7 a8 a9 a10 w) (fun i s => (∀ j, j < i → s (d * 16 + j) = a4 (c * 16 + j)) ∧ (∀ x, x < d * 16 ∨ d * 16 + 16 ≤ x → s x = a4 x)) 16 0 a4 (by omega) ⟨fun j hj => absurd hj (by omega), fun x _ => rfl⟩
      (fun n s hs => pk_le 16 16 (fun _ => ?_) (fun y => absurd y (by omega)))
      (fun n i s hi hs hw => pk_le 16 i (fun y => absurd y (by omega)) (fun _ => ⟨pk_in (c * 16 + i) 1280 (by omega) (ca_e_16 c i), pk_in (d * 16 + i) 1280 (by omega) (ca_e_16 d i), nm_r (e' := upd s (d * 16 + i) (s (c * 16 + i))) ?_ (nm_r (nI_1 i) (hw _ ⟨fun j hj => ?_, fun x hx => ?_⟩))⟩))
    · refine ⟨pk_in c 80 hcl, pk_in d 80 hd, nm_r (e' := upd a5 d (a5 c)) (by rw [kd, kc]) ⟨pk_in c 80 hcl, pk_in d 80 hd, nm_r (e' := upd a6 d (a6 c)) (by rw [kd, kc]) ⟨pk_in c 80 hcl, pk_in d 80 hd, nm_r (e' := upd a7 d (vp_nar .boolean (a7 c))) (by rw [kd, kc]) ⟨pk_in c 80 hcl, pk_in d 80 hd, nm_r (e' := upd a8 d (a8 c)) (by rw [kd, kc]) ⟨pk_in c 80 hcl, pk_in d 80 hd, nm_r (e' := upd a9 d (vp_nar .boolean (a9 c))) (by rw [kd, kc]) ⟨pk_in c 80 hcl, pk_in d 80 hd, nm_r (e' := upd a10 d (a10 c)) (by rw [kd, kc]) ⟨pk_in c 80 hcl, pk_in c 80 hcl, nm_r (e' := upd a3 c (a3 c - 1)) (by rw [kc]) ⟨pk_in d 80 hd, nm_r (e' := upd (upd a3 c (a3 c - 1)) d 1) (by rw [kd]) ⟨pk_in (64 + k) 80 (by omega) (nI_add 64 k), nm_r (e' := upd a2 (64 + k) (nI d)) (by rw [k6]) ?_⟩⟩⟩⟩⟩⟩⟩⟩⟩
      refine hp d _ _ _ _ _ _ _ _ _ (ca_dup h4 hQ hk hcc hd h0 (fun x hx hxd => ⟨fun i hi => hs.2 _ (by omega), pk_un hxd, pk_un hxd, pk_un hxd, pk_un hxd, pk_un hxd, pk_un hxd⟩) (fun i hi => hs.1 i hi) pk_us pk_us (fun y => ?_) pk_us (fun y => ?_) pk_us)
      · rw [pk_us] at y
        exact ca_nb y
      · rw [pk_us] at y
        exact ca_nb y
    · rw [ca_e_16, ca_e_16, nI_clamp (by omega), nI_clamp (by omega)]
    · by_cases ej : j = i
      · rw [ej, pk_us]
        exact hs.2 _ (by omega)
      · rw [pk_un (by omega)]
        exact hs.1 j (by omega)
    · rw [pk_un (by omega)]
      exact hs.2 x hx
theorem ca_settle {post : St1 → Prop} {M : Nat → Nat → Nat → Int32} {r0 r1 c0 c1 : Int32} {e a2 a3 a4 a5 a6 a7 a8 a9 a10 w : Nat → Int32} {k d : Nat} (h : ca_O e M k d a2 a3 a4 a5 a6 a7 a8 a9 a10) (hk : k < 16) (hp : ∀ b4 b5 b6 b7 : Nat → Int32, ca_O e M k d a2 a3 b4 b5 b6 b7 a8 a9 a10 → b5 d = 1 → b6 d = 0 → post (r0, r1, c0, c1, e, a2, a3, b4, b5, b6, b7, a8, a9, a10, w)) : wpX_settle post (r0, r1, c0, c1, e, a2, a3, a4, a5, a6, a7, a8, a9, a10, w) (nI d) := by
  have hd := ca_O_lt h
  have kd : (nI d).toNatClampNeg = d := nI_clamp (by omega)
  unfold wpX_settle
  dsimp only
  refine pk_loop (fun n i s => wX_settle_2 post (nI d) r0 r1 c0 c1 n (nI i) e a2 a3 s a5 a6 a7 a8 a9 a10 w) (fun i s => (∀ j, j < i → s (d * 16 + j) = ca_v a4 a5 a6 d j) ∧ (∀ x, x < d * 16 ∨ d * 16 + i ≤ x → s x = a4 x)) 16 0 a4 (by omega) ⟨fun j hj => absurd hj (by omega), fun x _ => rfl⟩
    (fun n s hs => pk_le 16 16 (fun _ => ?_) (fun y => absurd y (by omega)))
    (fun n i s hi hs hw => pk_le 16 i (fun y => absurd y (by omega)) (fun _ => ⟨pk_in (d * 16 + i) 1280 (by omega) (ca_e_16 d i), pk_in d 80 hd, pk_in d 80 hd, pk_in (d * 16 + i) 1280 (by omega) (ca_e_16 d i), nm_r (e' := upd s (d * 16 + i) (ca_v a4 a5 a6 d i)) ?_ (nm_r (nI_1 i) (hw _ ⟨fun j hj => ?_, fun x hx => ?_⟩))⟩))
  · refine ⟨pk_in d 80 hd, nm_r (e' := upd a5 d 1) (by rw [kd]) ⟨pk_in d 80 hd, nm_r (e' := upd a6 d 0) (by rw [kd]) ⟨pk_in d 80 hd, nm_r (e' := upd a7 d 0) (by rw [kd]) ?_⟩⟩⟩
    have hv : ∀ j, j < 16 → ca_v s (upd a5 d 1) (upd a6 d 0) d j = ca_v a4 a5 a6 d j := by
      intro j hj
      rw [← hs.1 j hj]
      unfold ca_v
      rw [pk_us, pk_us, Int32.mul_one, Int32.add_zero]
    refine hp _ _ _ _ (ca_put h hk (fun x hx hxd => ⟨fun i hi => hs.2 _ (by omega), pk_un hxd, pk_un hxd, pk_un hxd, rfl, rfl, rfl⟩) ⟨fun y => absurd pk_us y, fun y => ?_⟩ (fun i hi => ?_) (fun _ _ _ _ => rfl)) pk_us pk_us
    · rw [(ca_O_nc h).2 y]
      exact ca_mx_cg (fun j hj => (hv j (by omega)).symm)
    · rw [hv i hi]
      exact ca_O_v h hk i hi
  · rw [ca_e_16, nI_clamp (by omega), kd, hs.2 (d * 16 + i) (by omega)]
    rfl
  · by_cases ej : j = i
    · rw [ej, pk_us]
    · rw [pk_un (by omega)]
      exact hs.1 j (by omega)
  · rw [pk_un (by omega)]
    exact hs.2 x (by omega)
theorem ca_wc42 {post : St1 → Prop} {M : Nat → Nat → Nat → Int32} {r0 r1 c0 c1 : Int32} {e a2 a3 a4 a5 a6 a7 a8 a9 a10 w : Nat → Int32} {d r c : Nat} {x : Int32} (h : ca_O e M (ca_pl r c) d a2 a3 a4 a5 a6 a7 a8 a9 a10) (hr : r < 16) (hc : c < 16) (h5 : a5 d = 1) (h6 : a6 d = 0) (hp : ∀ (b2 b3 b4 b5 b6 b7 b8 b9 b10 : Nat → Int32), ca_R e (ca_w M (ca_pl r c) (ca_wi r c) x) b2 b3 b4 b5 b6 b7 b8 b9 b10 → post (r0, r1, c0, c1, e, b2, b3, b4, b5, b6, b7, b8, b9, b10, w)) : wX_writeCell_42 post (nI r) (nI c) x (nI d) r0 r1 c0 c1 e a2 a3 a4 a5 a6 a7 a8 a9 a10 w := by
  have hd := ca_O_lt h
  have hk := ca_pl_lt hr hc
  have hi := ca_wi_lt r c
  have kd : (nI d).toNatClampNeg = d := nI_clamp (by omega)
  unfold wX_writeCell_42
  refine ca_within hr hc ⟨pk_in (d * 16 + ca_wi r c) 1280 (by omega) (ca_e_16 d _), nm_r (e' := upd a4 (d * 16 + ca_wi r c) x) (by rw [ca_e_16, nI_clamp (by omega)]) ⟨pk_in d 80 hd, nm_r (e' := upd a7 d 0) (by rw [kd]) ⟨pk_in d 80 hd, nm_r (e' := upd a9 d 0) (by rw [kd]) ?_⟩⟩⟩
  refine hp _ _ _ _ _ _ _ _ _ (ca_O_R (ca_put h hk (fun y hy hyd => ⟨fun i hi' => pk_un (by omega), rfl, rfl, pk_un hyd, rfl, pk_un hyd, rfl⟩) ⟨fun y => absurd pk_us y, fun y => absurd pk_us y⟩ (fun i hi' => ?_) (fun a k' i hn => ca_w_n (fun z => hn ⟨z.1, z.2.1⟩))))
  by_cases ei : i = ca_wi r c
  · rw [ei, ca_w_s]
    unfold ca_v
    rw [pk_us, h5, h6, Int32.mul_one, Int32.add_zero]
  · rw [ca_w_n (fun z => ei z.2.2), ← ca_O_v h hk i hi']
    unfold ca_v
    rw [pk_un (by omega)]
theorem ca_wc36 {post : St1 → Prop} {M : Nat → Nat → Nat → Int32} {r0 r1 c0 c1 : Int32} {e a2 a3 a4 a5 a6 a7 a8 a9 a10 w : Nat → Int32} {d r c : Nat} {x : Int32} (h : ca_O e M (ca_pl r c) d a2 a3 a4 a5 a6 a7 a8 a9 a10) (hr : r < 16) (hc : c < 16) (hp : ∀ (b2 b3 b4 b5 b6 b7 b8 b9 b10 : Nat → Int32), ca_R e (ca_w M (ca_pl r c) (ca_wi r c) x) b2 b3 b4 b5 b6 b7 b8 b9 b10 → post (r0, r1, c0, c1, e, b2, b3, b4, b5, b6, b7, b8, b9, b10, w)) : wX_writeCell_36 post (nI r) (nI c) x (nI d) r0 r1 c0 c1 e a2 a3 a4 a5 a6 a7 a8 a9 a10 w := by
  unfold wX_writeCell_36
  exact ca_settle h (ca_pl_lt hr hc) (fun b4 b5 b6 b7 hO h5 h6 => ca_wc42 hO hr hc h5 h6 hp)
theorem ca_writeCell {post : St1 → Prop} {M : Nat → Nat → Nat → Int32} {r0 r1 c0 c1 : Int32} {e a2 a3 a4 a5 a6 a7 a8 a9 a10 w : Nat → Int32} {r c : Nat} {x : Int32} (h : ca_R e M a2 a3 a4 a5 a6 a7 a8 a9 a10) (hr : r < 16) (hc : c < 16) (hp : ∀ (b2 b3 b4 b5 b6 b7 b8 b9 b10 : Nat → Int32), ca_R e (ca_w M (ca_pl r c) (ca_wi r c) x) b2 b3 b4 b5 b6 b7 b8 b9 b10 → post (r0, r1, c0, c1, e, b2, b3, b4, b5, b6, b7, b8, b9, b10, w)) : wpX_writeCell post (r0, r1, c0, c1, e, a2, a3, a4, a5, a6, a7, a8, a9, a10, w) (nI r) (nI c) x := by
  unfold wpX_writeCell
  dsimp only
  refine ca_placeOf hr hc (ca_own h (ca_pl_lt hr hc) (fun d b2 b3 b4 b5 b6 b7 b8 b9 b10 hO => ?_))
  have hd := ca_O_lt hO
  have kd : (nI d).toNatClampNeg = d := nI_clamp (by omega)
  refine ⟨pk_in d 80 hd, br_c (fun z => ⟨pk_in d 80 hd, br_c (fun z2 => ?_) (fun z2 => ca_wc36 hO hr hc hp)⟩) (fun z => ca_wc36 hO hr hc hp)⟩
  rw [kd] at z z2
  exact ca_wc42 hO hr hc z z2 hp
theorem ca_writeCell_k {post : St1 → Prop} {M : Nat → Nat → Nat → Int32} {r0 r1 c0 c1 : Int32} {e a2 a3 a4 a5 a6 a7 a8 a9 a10 w : Nat → Int32} {k i : Nat} {x : Int32} (h : ca_R e M a2 a3 a4 a5 a6 a7 a8 a9 a10) (hk : k < 16) (hi : i < 16) (hp : ∀ (b2 b3 b4 b5 b6 b7 b8 b9 b10 : Nat → Int32), ca_R e (ca_w M k i x) b2 b3 b4 b5 b6 b7 b8 b9 b10 → post (r0, r1, c0, c1, e, b2, b3, b4, b5, b6, b7, b8, b9, b10, w)) : wpX_writeCell post (r0, r1, c0, c1, e, a2, a3, a4, a5, a6, a7, a8, a9, a10, w) (nI (ca_rw k i)) (nI (ca_cl k i)) x :=
  ca_writeCell h (ca_rw_lt hk hi) (ca_cl_lt k i) (by rw [ca_pl_rc hk hi, ca_wi_rc hk hi]; exact hp)
theorem ca_changeWhole {post : St1 → Prop} {M : Nat → Nat → Nat → Int32} {r0 r1 c0 c1 : Int32} {e a2 a3 a4 a5 a6 a7 a8 a9 a10 w : Nat → Int32} {k : Nat} {q x : Int32} (h : ca_R e M a2 a3 a4 a5 a6 a7 a8 a9 a10) (hk : k < 16) (hp : ∀ (b2 b3 b4 b5 b6 b7 b8 b9 b10 : Nat → Int32), ca_R e (ca_ap (fun k' _ => k' == k) (ca_f q x) M) b2 b3 b4 b5 b6 b7 b8 b9 b10 → post (r0, r1, c0, c1, e, b2, b3, b4, b5, b6, b7, b8, b9, b10, w)) : wpX_changeWhole post (r0, r1, c0, c1, e, a2, a3, a4, a5, a6, a7, a8, a9, a10, w) (nI k) q x := by
  unfold wpX_changeWhole
  dsimp only
  refine ca_own h hk (fun d b2 b3 b4 b5 b6 b7 b8 b9 b10 hO => ?_)
  have hd := ca_O_lt hO
  have kd : (nI d).toNatClampNeg = d := nI_clamp (by omega)
  have hn := ca_O_nc hO
  have hv := ca_O_v hO hk
  have hb : (k == k) = true := beq_self_eq_true k
  have hM : ∀ a k' i, ¬ (a = 4 ∧ k' = k) → ca_ap (fun k' _ => k' == k) (ca_f q x) M a k' i = M a k' i := by
    intro a k' i hne
    by_cases ek : k' = k
    · exact ca_ap_o (fun z => hne ⟨z, ek⟩)
    · exact ca_ap_f (P := fun k' _ => k' == k) (beq_eq_false_iff_ne.mpr ek)
  refine br_c (fun z => ?_) (fun z => br_c (fun z2 => ?_) (fun z2 => ?_))
  · refine ⟨pk_in d 80 hd, nm_r (e' := upd b5 d 0) (by rw [kd]) ⟨pk_in d 80 hd, nm_r (e' := upd b6 d x) (by rw [kd]) ⟨pk_in d 80 hd, nm_r (e' := upd b9 d 0) (by rw [kd]) ?_⟩⟩⟩
    refine hp _ _ _ _ _ _ _ _ _ (ca_O_R (ca_put hO hk (fun y hy hyd => ⟨fun i hi' => rfl, pk_un hyd, pk_un hyd, rfl, rfl, pk_un hyd, rfl⟩) ⟨hn.1, fun y => absurd pk_us y⟩ (fun i hi' => ?_) hM))
    rw [ca_ap_t (P := fun k' _ => k' == k) hb]
    unfold ca_v ca_f
    rw [if_pos z, pk_us, pk_us, Int32.mul_zero, Int32.zero_add]
  · refine ⟨pk_in d 80 hd, pk_in d 80 hd, nm_r (e' := upd b6 d (b6 d + x)) (by rw [kd]) ⟨pk_in d 80 hd, nm_r (e' := upd b9 d 0) (by rw [kd]) ?_⟩⟩
    refine hp _ _ _ _ _ _ _ _ _ (ca_O_R (ca_put hO hk (fun y hy hyd => ⟨fun i hi' => rfl, rfl, pk_un hyd, rfl, rfl, pk_un hyd, rfl⟩) ⟨hn.1, fun y => absurd pk_us y⟩ (fun i hi' => ?_) hM))
    rw [ca_ap_t (P := fun k' _ => k' == k) hb, ← hv i hi']
    unfold ca_v ca_f
    rw [if_neg z, if_pos z2, pk_us, Int32.add_assoc]
  · refine ⟨pk_in d 80 hd, pk_in d 80 hd, nm_r (e' := upd b5 d (b5 d * x)) (by rw [kd]) ⟨pk_in d 80 hd, pk_in d 80 hd, nm_r (e' := upd b6 d (b6 d * x)) (by rw [kd]) ⟨pk_in d 80 hd, nm_r (e' := upd b9 d 0) (by rw [kd]) ?_⟩⟩⟩
    refine hp _ _ _ _ _ _ _ _ _ (ca_O_R (ca_put hO hk (fun y hy hyd => ⟨fun i hi' => rfl, pk_un hyd, pk_un hyd, rfl, rfl, pk_un hyd, rfl⟩) ⟨hn.1, fun y => absurd pk_us y⟩ (fun i hi' => ?_) hM))
    rw [ca_ap_t (P := fun k' _ => k' == k) hb, ← hv i hi']
    unfold ca_v ca_f
    rw [if_neg z, if_neg z2, pk_us, pk_us]
    grind
end
section
theorem ca_P_s {k i k' i' : Nat} {b : Bool} (h : ¬ (k' = k ∧ i' = i) ∨ b = false) : ((k' == k) && (decide (i' < i) && b)) = ((k' == k) && (decide (i' < i + 1) && b)) := by
  by_cases ek : k' = k
  · by_cases ei : i' = i
    · rcases h with h | h
      · exact absurd ⟨ek, ei⟩ h
      · rw [h, Bool.and_false, Bool.and_false, Bool.and_false, Bool.and_false]
    · rw [show decide (i' < i + 1) = decide (i' < i) from decide_eq_decide.mpr (by omega)]
  · rw [beq_eq_false_iff_ne.mpr ek, Bool.false_and, Bool.false_and]
theorem ca_changePart {post : St1 → Prop} {M : Nat → Nat → Nat → Int32} {e a2 a3 a4 a5 a6 a7 a8 a9 a10 w : Nat → Int32} {R0 R1 C0 C1 k : Nat} {q x : Int32} (h1 : R0 ≤ R1) (h2 : R1 < 16) (h3 : C0 ≤ C1) (h4 : C1 < 16) (h : ca_R e M a2 a3 a4 a5 a6 a7 a8 a9 a10) (hk : k < 16) (hp : ∀ (b2 b3 b4 b5 b6 b7 b8 b9 b10 : Nat → Int32), ca_R e (ca_ap (fun k' i => (k' == k) && ca_in R0 R1 C0 C1 k' i) (ca_f q x) M) b2 b3 b4 b5 b6 b7 b8 b9 b10 → post (nI R0, nI R1, nI C0, nI C1, e, b2, b3, b4, b5, b6, b7, b8, b9, b10, w)) : wpX_changePart post (nI R0, nI R1, nI C0, nI C1, e, a2, a3, a4, a5, a6, a7, a8, a9, a10, w) (nI k) q x := by
  have he := h.1
  have hkk : (k == k) = true := beq_self_eq_true k
  unfold wpX_changePart
  dsimp only
  refine ca_loop9 (fun n i b2 b3 b4 b5 b6 b7 b8 b9 b10 => wX_changePart_3 post (nI k) q x n (nI i) (nI R0) (nI R1) (nI C0) (nI C1) e b2 b3 b4 b5 b6 b7 b8 b9 b10 w) (fun i b2 b3 b4 b5 b6 b7 b8 b9 b10 => ca_R e (ca_ap (fun k' j => (k' == k) && (decide (j < i) && ca_in R0 R1 C0 C1 k' j)) (ca_f q x) M) b2 b3 b4 b5 b6 b7 b8 b9 b10) 16 a2 a3 a4 a5 a6 a7 a8 a9 a10 ?_
    (fun n b2 b3 b4 b5 b6 b7 b8 b9 b10 hb => pk_le 16 16 (fun _ => hp b2 b3 b4 b5 b6 b7 b8 b9 b10 ?_) (fun y => absurd y (by omega)))
    (fun n i b2 b3 b4 b5 b6 b7 b8 b9 b10 hi hb hw => pk_le 16 i (fun y => absurd y (by omega)) (fun _ => ⟨by decide, by decide, nm_r (ca_e_rw hk hi) ⟨by decide, by decide, nm_r (ca_e_cl hk hi) (ca_inRegion h1 h2 h3 h4 hk hi (fun hin => br_f (by decide) ?_) (fun hin => br_t rfl (nm_r (nI_1 i) (hw b2 b3 b4 b5 b6 b7 b8 b9 b10 ?_))))⟩⟩))
  · refine ca_R_cg h (fun a _ _ k' _ j _ => (ca_ap_f ?_).symm)
    show ((k' == k) && (decide (j < 0) && ca_in R0 R1 C0 C1 k' j)) = false
    rw [decide_eq_false (Nat.not_lt_zero j), Bool.false_and, Bool.and_false]
  · refine ca_R_ap hb (fun k' _ j hj => ?_)
    rw [decide_eq_true hj, Bool.true_and]
  · refine ca_read_k (a := 4) hb (by omega) he hk hi (ca_result (ca_writeCell_k hb hk hi (fun g2 g3 g4 g5 g6 g7 g8 g9 g10 hg => nm_r (nI_1 i) (hw g2 g3 g4 g5 g6 g7 g8 g9 g10 ?_))))
    refine ca_R_step hg ?_ ?_ (fun k' _ i' _ hne => ca_P_s (Or.inl hne))
    · rw [ca_ap_f]
      show ((k == k) && (decide (i < i) && ca_in R0 R1 C0 C1 k i)) = false
      rw [decide_eq_false (Nat.lt_irrefl i), Bool.false_and, Bool.and_false]
    · show ((k == k) && (decide (i < i + 1) && ca_in R0 R1 C0 C1 k i)) = true
      rw [hkk, hin, decide_eq_true (Nat.lt_succ_self i)]
      rfl
  · refine ca_R_ap hb (fun k' _ j hj => ca_P_s ?_)
    by_cases t : k' = k ∧ j = i
    · rw [t.1, t.2]
      exact Or.inr hin
    · exact Or.inl t
theorem ca_D_s {t k : Nat} {b : Bool} (h : k ≠ t ∨ b = false) : (decide (k < t) && b) = (decide (k < t + 1) && b) := by
  rcases h with h | h
  · rw [show decide (k < t + 1) = decide (k < t) from decide_eq_decide.mpr (by omega)]
  · rw [h, Bool.and_false, Bool.and_false]
theorem ca_D_0 {t : Nat} {b : Bool} : (decide (t < t) && b) = false := by
  rw [decide_eq_false (Nat.lt_irrefl t), Bool.false_and]
theorem ca_D_1 {t : Nat} {b : Bool} (h : b = true) : (decide (t < t + 1) && b) = true := by
  rw [h, decide_eq_true (Nat.lt_succ_self t)]
  rfl
theorem ca_change_l {post : Int32 → St1 → Prop} {M : Nat → Nat → Nat → Int32} {e a2 a3 a4 a5 a6 a7 a8 a9 a10 w : Nat → Int32} {R0 R1 C0 C1 : Nat} {q x : Int32} (h1 : R0 ≤ R1) (h2 : R1 < 16) (h3 : C0 ≤ C1) (h4 : C1 < 16) (h : ca_R e M a2 a3 a4 a5 a6 a7 a8 a9 a10) (hp : ∀ (b2 b3 b4 b5 b6 b7 b8 b9 b10 : Nat → Int32), ca_R e (ca_ap (ca_in R0 R1 C0 C1) (ca_f q x) M) b2 b3 b4 b5 b6 b7 b8 b9 b10 → post (nI (ca_sz R0 R1 C0 C1)) (nI R0, nI R1, nI C0, nI C1, e, b2, b3, b4, b5, b6, b7, b8, b9, b10, w)) : ∃ n, wX_change_25 post q x n 0 (nI R0) (nI R1) (nI C0) (nI C1) e a2 a3 a4 a5 a6 a7 a8 a9 a10 w := by
  have whole : ∀ t, t < 16 → ca_cv R0 R1 C0 C1 t = true → ∀ (g2 g3 g4 g5 g6 g7 g8 g9 g10 : Nat → Int32), ca_R e (ca_ap (fun k' _ => k' == t) (ca_f q x) (ca_ap (fun k i => decide (k < t) && ca_in R0 R1 C0 C1 k i) (ca_f q x) M)) g2 g3 g4 g5 g6 g7 g8 g9 g10 → ca_R e (ca_ap (fun k i => decide (k < t + 1) && ca_in R0 R1 C0 C1 k i) (ca_f q x) M) g2 g3 g4 g5 g6 g7 g8 g9 g10 := by
    intro t ht hc g2 g3 g4 g5 g6 g7 g8 g9 g10 hg
    refine ca_R_ap2 hg (fun k hk i hi => ⟨fun hq => ?_, fun hq => ca_D_s (Or.inl (beq_eq_false_iff_ne.mp hq))⟩)
    have ek : k = t := beq_iff_eq.mp hq
    rw [ek]
    exact ⟨ca_D_0, ca_D_1 (ca_cv_in hi hc)⟩
  have part : ∀ t, t < 16 → ∀ (g2 g3 g4 g5 g6 g7 g8 g9 g10 : Nat → Int32), ca_R e (ca_ap (fun k' i => (k' == t) && ca_in R0 R1 C0 C1 k' i) (ca_f q x) (ca_ap (fun k i => decide (k < t) && ca_in R0 R1 C0 C1 k i) (ca_f q x) M)) g2 g3 g4 g5 g6 g7 g8 g9 g10 → ca_R e (ca_ap (fun k i => decide (k < t + 1) && ca_in R0 R1 C0 C1 k i) (ca_f q x) M) g2 g3 g4 g5 g6 g7 g8 g9 g10 := by
    intro t ht g2 g3 g4 g5 g6 g7 g8 g9 g10 hg
    refine ca_R_ap2 hg (fun k hk i hi => ⟨fun hq => ?_, fun hq => ca_D_s ?_⟩)
    · rw [Bool.and_eq_true] at hq
      have ek : k = t := beq_iff_eq.mp hq.1
      have hin := hq.2
      rw [ek] at hin
      rw [ek]
      exact ⟨ca_D_0, ca_D_1 hin⟩
    · by_cases ek : k = t
      · rw [ek, beq_self_eq_true, Bool.true_and] at hq
        rw [ek]
        exact Or.inr hq
      · exact Or.inl ek
  refine ca_loop9 (fun n i b2 b3 b4 b5 b6 b7 b8 b9 b10 => wX_change_25 post q x n (nI i) (nI R0) (nI R1) (nI C0) (nI C1) e b2 b3 b4 b5 b6 b7 b8 b9 b10 w) (fun t b2 b3 b4 b5 b6 b7 b8 b9 b10 => ca_R e (ca_ap (fun k i => decide (k < t) && ca_in R0 R1 C0 C1 k i) (ca_f q x) M) b2 b3 b4 b5 b6 b7 b8 b9 b10) 16 a2 a3 a4 a5 a6 a7 a8 a9 a10 ?_
    (fun n b2 b3 b4 b5 b6 b7 b8 b9 b10 hb => pk_le 16 16 (fun _ => ca_regionSize h1 h3 (hp b2 b3 b4 b5 b6 b7 b8 b9 b10 ?_)) (fun y => absurd y (by omega)))
    (fun n t b2 b3 b4 b5 b6 b7 b8 b9 b10 ht hb hw => pk_le 16 t (fun y => absurd y (by omega)) (fun _ => ca_covers h1 h2 h3 h4 ht
      (fun hc => ca_touches h1 h2 h3 h4 ht (fun _ => br_f (by decide) (ca_changeWhole hb ht (fun g2 g3 g4 g5 g6 g7 g8 g9 g10 hg => nm_r (nI_1 t) (hw g2 g3 g4 g5 g6 g7 g8 g9 g10 (whole t ht hc g2 g3 g4 g5 g6 g7 g8 g9 g10 hg))))) (fun _ => br_f (by decide) (ca_changeWhole hb ht (fun g2 g3 g4 g5 g6 g7 g8 g9 g10 hg => nm_r (nI_1 t) (hw g2 g3 g4 g5 g6 g7 g8 g9 g10 (whole t ht hc g2 g3 g4 g5 g6 g7 g8 g9 g10 hg))))))
      (fun _ => ca_touches h1 h2 h3 h4 ht (fun _ => br_t rfl (br_f (by decide) (ca_changePart h1 h2 h3 h4 hb ht (fun g2 g3 g4 g5 g6 g7 g8 g9 g10 hg => nm_r (nI_1 t) (hw g2 g3 g4 g5 g6 g7 g8 g9 g10 (part t ht g2 g3 g4 g5 g6 g7 g8 g9 g10 hg)))))) (fun hto => br_t rfl (br_t rfl (nm_r (nI_1 t) (hw b2 b3 b4 b5 b6 b7 b8 b9 b10 ?_)))))))
  · refine ca_R_cg h (fun a _ _ k' _ j _ => (ca_ap_f ?_).symm)
    show (decide (k' < 0) && ca_in R0 R1 C0 C1 k' j) = false
    rw [decide_eq_false (Nat.not_lt_zero k'), Bool.false_and]
  · refine ca_R_ap hb (fun k hk j hj => ?_)
    rw [decide_eq_true hk, Bool.true_and]
  · refine ca_R_ap hb (fun k hk j hj => ca_D_s ?_)
    by_cases ek : k = t
    · rw [ek]
      exact Or.inr (ca_to_in hj hto)
    · exact Or.inl ek
/-! any state that shows the picture -/
def ca_U (e : Nat → Int32) (M : Nat → Nat → Nat → Int32) (u : St1) : Prop := match u with
  | (_, _, _, _, a1, a2, a3, a4, a5, a6, a7, a8, a9, a10, _) => a1 = e ∧ ca_R e M a2 a3 a4 a5 a6 a7 a8 a9 a10
theorem ca_U_cg {e : Nat → Int32} {M M' : Nat → Nat → Nat → Int32} {u : St1} (h : ca_U e M u) (hM : ∀ a, a < 5 → e a ≠ 0 → ∀ k, k < 16 → ∀ i, i < 16 → M a k i = M' a k i) : ca_U e M' u := by
  obtain ⟨r0, r1, c0, c1, a1, a2, a3, a4, a5, a6, a7, a8, a9, a10, w⟩ := u
  exact ⟨h.1, ca_R_cg h.2 hM⟩
theorem ca_U_4 {e : Nat → Int32} {M : Nat → Nat → Nat → Int32} {u : St1} (h : ca_U e M u) : e 4 ≠ 0 := by
  obtain ⟨r0, r1, c0, c1, a1, a2, a3, a4, a5, a6, a7, a8, a9, a10, w⟩ := u
  exact h.2.1
/-- the region between two cells -/
def ca_rg (F T : Nat) : Nat → Nat → Bool := ca_in (min (F % 16) (T % 16)) (max (F % 16) (T % 16)) (min (F / 16) (T / 16)) (max (F / 16) (T / 16))
def ca_rs (F T : Nat) : Nat := ca_sz (min (F % 16) (T % 16)) (max (F % 16) (T % 16)) (min (F / 16) (T / 16)) (max (F / 16) (T / 16))
theorem ca_rg_c (F T : Nat) : ca_rg F T = ca_rg T F := by
  unfold ca_rg
  rw [Nat.min_comm (F % 16), Nat.max_comm (F % 16), Nat.min_comm (F / 16), Nat.max_comm (F / 16)]
theorem ca_rs_c (F T : Nat) : ca_rs F T = ca_rs T F := by
  unfold ca_rs
  rw [Nat.min_comm (F % 16), Nat.max_comm (F % 16), Nat.min_comm (F / 16), Nat.max_comm (F / 16)]
theorem ca_change_g {post : Int32 → St1 → Prop} {e : Nat → Int32} {M : Nat → Nat → Nat → Int32} {u : St1} {F T : Nat} {q x : Int32} (hu : ca_U e M u) (hF : F < 256) (hT : T < 256) (hp : ∀ u', ca_U e (ca_ap (ca_rg F T) (ca_f q x) M) u' → post (nI (ca_rs F T)) u') : wpX_change post u (nI F) (nI T) q x := by
  obtain ⟨r0, r1, c0, c1, a1, a2, a3, a4, a5, a6, a7, a8, a9, a10, w⟩ := u
  obtain ⟨rfl, h⟩ := hu
  unfold wpX_change
  dsimp only
  exact ca_bad_g hF (br_t rfl (ca_bad_g hT (br_t rfl (ca_setRegion hF hT (ca_change_l (by omega) (by omega) (by omega) (by omega) h (fun b2 b3 b4 b5 b6 b7 b8 b9 b10 hb => hp _ ⟨rfl, hb⟩))))))
theorem ca_change_b {post : Int32 → St1 → Prop} {u : St1} {p0 p1 q x : Int32} (hb : (∀ F, F < 256 → p0 ≠ nI F) ∨ (∀ F, F < 256 → p1 ≠ nI F)) (hp : post (-1) u) : wpX_change post u p0 p1 q x := by
  obtain ⟨r0, r1, c0, c1, a1, a2, a3, a4, a5, a6, a7, a8, a9, a10, w⟩ := u
  unfold wpX_change
  dsimp only
  rcases ca_gb p0 with ⟨F, hF, rfl⟩ | h0
  · refine ca_bad_g hF (br_t rfl ?_)
    rcases hb with hb | hb
    · exact absurd rfl (hb F hF)
    · exact ca_bad_b hb (br_f (by decide) hp)
  · exact ca_bad_b h0 (br_f (by decide) hp)
end
section
/-! copy: first the region's cells are laid aside -/
def ca_mv (M : Nat → Nat → Nat → Int32) (R0 C0 C1 r c : Nat) (w : Nat → Int32) : Prop := ∀ r' c', r' < 16 → C0 ≤ c' → c' ≤ C1 → (R0 ≤ r' ∧ r' < r ∨ r' = r ∧ c' < c) → w (r' * 16 + c') = M 4 (ca_pl r' c') (ca_wi r' c')
theorem ca_copy71 {post : Int32 → St1 → Prop} {J : Int32 → (Nat → Int32) → (Nat → Int32) → (Nat → Int32) → (Nat → Int32) → (Nat → Int32) → (Nat → Int32) → (Nat → Int32) → (Nat → Int32) → (Nat → Int32) → (Nat → Int32) → (Nat → Int32) → Prop} {x4 x5 : Int32} {M : Nat → Nat → Nat → Int32} {e a2 a3 a4 a5 a6 a7 a8 a9 a10 w : Nat → Int32} {R0 R1 C0 C1 r : Nat} (h2 : R1 < 16) (h3 : C0 ≤ C1) (h4 : C1 < 16) (h : ca_R e M a2 a3 a4 a5 a6 a7 a8 a9 a10) (hR : R0 ≤ r) (hr : r ≤ R1) (hm : ca_mv M R0 C0 C1 r C0 w)
    (hJ : ∀ w' : Nat → Int32, ca_mv M R0 C0 C1 (r + 1) C0 w' → J (nI (r + 1)) e a2 a3 a4 a5 a6 a7 a8 a9 a10 w') : ∃ n, wX_copy_71 post J x4 x5 (nI r) (nI R0) (nI R1) (nI C0) (nI C1) n (nI C0) e a2 a3 a4 a5 a6 a7 a8 a9 a10 w := by
  refine pk_loop (fun n i s => wX_copy_71 post J x4 x5 (nI r) (nI R0) (nI R1) (nI C0) (nI C1) n (nI i) e a2 a3 a4 a5 a6 a7 a8 a9 a10 s) (fun i s => ca_mv M R0 C0 C1 r i s) (C1 + 1) C0 w (by omega) hm
    (fun n s hs => pk_lt C1 (C1 + 1) (fun _ => nm_r (nI_1 r) (hJ s (fun r' c' hr' h0 h1' hc' => hs r' c' hr' h0 h1' (by omega)))) (fun y => absurd y (by omega)))
    (fun n i s hi hs hw => pk_lt C1 i (fun y => absurd y (by omega)) (fun _ => ca_read (a := 4) h (by omega) h.1 (by omega) (by omega) ⟨pk_in (r * 16 + i) 256 (by omega) (ca_e_16 r i), nm_r (e' := upd s (r * 16 + i) (M 4 (ca_pl r i) (ca_wi r i))) (by rw [ca_e_16, nI_clamp (by omega)]) (nm_r (nI_1 i) (hw _ (fun r' c' hr' h0 h1' hc' => ?_)))⟩))
  by_cases t : r' * 16 + c' = r * 16 + i
  · have e1 : r' = r := by omega
    have e2 : c' = i := by omega
    rw [t, pk_us, e1, e2]
  · rw [pk_un t]
    refine hs r' c' hr' h0 h1' ?_
    omega
theorem ca_copy56 {post : Int32 → St1 → Prop} {x4 x5 : Int32} {M : Nat → Nat → Nat → Int32} {e a2 a3 a4 a5 a6 a7 a8 a9 a10 w : Nat → Int32} {R0 R1 C0 C1 : Nat} (h1 : R0 ≤ R1) (h2 : R1 < 16) (h3 : C0 ≤ C1) (h4 : C1 < 16) (h : ca_R e M a2 a3 a4 a5 a6 a7 a8 a9 a10)
    (hJ : ∀ w' : Nat → Int32, ca_mv M R0 C0 C1 (R1 + 1) C0 w' → ∃ n, wX_copy_123 post x4 x5 n 0 (nI R0) (nI R0) (nI R1) (nI C0) (nI C1) e a2 a3 a4 a5 a6 a7 a8 a9 a10 w') : ∃ n, wX_copy_56 post x4 x5 (nI R0) (nI R1) (nI C0) (nI C1) n (nI R0) e a2 a3 a4 a5 a6 a7 a8 a9 a10 w := by
  have hI : ∃ n, (fun n i s => wX_copy_56 post x4 x5 (nI R0) (nI R1) (nI C0) (nI C1) n (nI i) e a2 a3 a4 a5 a6 a7 a8 a9 a10 s) n R0 w := by
    refine pk_loop (fun n i s => wX_copy_56 post x4 x5 (nI R0) (nI R1) (nI C0) (nI C1) n (nI i) e a2 a3 a4 a5 a6 a7 a8 a9 a10 s) (fun i s => R0 ≤ i ∧ ca_mv M R0 C0 C1 i C0 s) (R1 + 1) R0 w (by omega) ⟨by omega, fun r' c' hr' h0 h1' hc' => absurd hc' (by omega)⟩
      (fun n s hs => pk_lt R1 (R1 + 1) (fun _ => hJ s hs.2) (fun y => absurd y (by omega)))
      (fun n i s hi hs hw => pk_lt R1 i (fun y => absurd y (by omega)) (fun _ => ca_copy71 h2 h3 h4 h hs.1 (by omega) hs.2 (fun w' hw' => hw w' ⟨by omega, hw'⟩)))
  exact hI
/-! then they are written -/
theorem ca_e_sh (R t a : Nat) : nI (R + t) + (nI a - nI R) = nI (a + t) := by
  rw [← nI_add, ← nI_add]
  grind
def ca_cpb (ar ac Nc t s k i : Nat) : Bool := decide (ar ≤ ca_rw k i ∧ ac ≤ ca_cl k i ∧ ca_cl k i < ac + Nc ∧ (ca_rw k i < ar + t ∨ ca_rw k i = ar + t ∧ ca_cl k i < ac + s))
def ca_cp (M : Nat → Nat → Nat → Int32) (R0 C0 ar ac Nc t s : Nat) : Nat → Nat → Nat → Int32 := fun a k i => if a = 4 ∧ ca_cpb ar ac Nc t s k i = true then M 4 (ca_pl (ca_rw k i - ar + R0) (ca_cl k i - ac + C0)) (ca_wi (ca_rw k i - ar + R0) (ca_cl k i - ac + C0)) else M a k i
theorem ca_cp_cg {M : Nat → Nat → Nat → Int32} {R0 C0 ar ac Nc t s t' s' a k i : Nat} (h : ca_cpb ar ac Nc t s k i = ca_cpb ar ac Nc t' s' k i) : ca_cp M R0 C0 ar ac Nc t s a k i = ca_cp M R0 C0 ar ac Nc t' s' a k i := by
  unfold ca_cp
  rw [h]
theorem ca_cp_s {M : Nat → Nat → Nat → Int32} {R0 C0 ar ac Nc t s a k i : Nat} (hk : k < 16) (hi : i < 16) (hs : s < Nc) (hr : ar + t < 16) (hc : ac + s < 16) : ca_w (ca_cp M R0 C0 ar ac Nc t s) (ca_pl (ar + t) (ac + s)) (ca_wi (ar + t) (ac + s)) (M 4 (ca_pl (R0 + t) (C0 + s)) (ca_wi (R0 + t) (C0 + s))) a k i = ca_cp M R0 C0 ar ac Nc t (s + 1) a k i := by
  by_cases g : ca_rw k i = ar + t ∧ ca_cl k i = ac + s
  · have e1 := ca_pl_rc hk hi
    have e2 := ca_wi_rc hk hi
    by_cases ea : a = 4
    · have c1 : ca_cpb ar ac Nc t (s + 1) k i = true := by
        unfold ca_cpb
        exact decide_eq_true (by omega)
      have c2 : ca_cp M R0 C0 ar ac Nc t (s + 1) a k i = M 4 (ca_pl (ca_rw k i - ar + R0) (ca_cl k i - ac + C0)) (ca_wi (ca_rw k i - ar + R0) (ca_cl k i - ac + C0)) := if_pos ⟨ea, c1⟩
      rw [c2, g.1, g.2, show ar + t - ar + R0 = R0 + t by omega, show ac + s - ac + C0 = C0 + s by omega]
      rw [g.1, g.2] at e1 e2
      exact if_pos ⟨ea, e1.symm, e2.symm⟩
    · rw [ca_w_n (fun z => ea z.1)]
      exact (if_neg (fun z => ea z.1)).trans (if_neg (fun z => ea z.1)).symm
  · rw [ca_w_n]
    · refine ca_cp_cg ?_
      unfold ca_cpb
      exact decide_eq_decide.mpr (by omega)
    · intro z
      refine g ⟨?_, ?_⟩
      · rw [z.2.1, z.2.2, ca_rw_pw hr hc]
      · rw [z.2.1, z.2.2, ca_cl_pw hr hc]
theorem ca_writeCell_e {post : St1 → Prop} {M : Nat → Nat → Nat → Int32} {r0 r1 c0 c1 : Int32} {e a2 a3 a4 a5 a6 a7 a8 a9 a10 w : Nat → Int32} {r c : Nat} {X Y Z x : Int32} (er : X = nI r) (ec : Y = nI c) (ex : Z = x) (h : ca_R e M a2 a3 a4 a5 a6 a7 a8 a9 a10) (hr : r < 16) (hc : c < 16) (hp : ∀ (b2 b3 b4 b5 b6 b7 b8 b9 b10 : Nat → Int32), ca_R e (ca_w M (ca_pl r c) (ca_wi r c) x) b2 b3 b4 b5 b6 b7 b8 b9 b10 → post (r0, r1, c0, c1, e, b2, b3, b4, b5, b6, b7, b8, b9, b10, w)) : wpX_writeCell post (r0, r1, c0, c1, e, a2, a3, a4, a5, a6, a7, a8, a9, a10, w) X Y Z := by
  subst er ec ex
  exact ca_writeCell h hr hc hp
theorem ca_copy148 {post : Int32 → St1 → Prop} {J : Int32 → Int32 → Int32 → Int32 → Int32 → Int32 → (Nat → Int32) → (Nat → Int32) → (Nat → Int32) → (Nat → Int32) → (Nat → Int32) → (Nat → Int32) → (Nat → Int32) → (Nat → Int32) → (Nat → Int32) → (Nat → Int32) → (Nat → Int32) → Prop} {M : Nat → Nat → Nat → Int32} {e a2 a3 a4 a5 a6 a7 a8 a9 a10 w : Nat → Int32} {R0 R1 C0 C1 ar ac Nc t : Nat} (h2 : R1 < 16) (h3 : C0 ≤ C1) (h4 : C1 < 16) (hac : ac < 16) (hN : Nc = min (C1 - C0 + 1) (16 - ac)) (ht : R0 + t ≤ R1) (har : ar + t < 16) (hm : ca_mv M R0 C0 C1 (R1 + 1) C0 w) (h : ca_R e (ca_cp M R0 C0 ar ac Nc t 0) a2 a3 a4 a5 a6 a7 a8 a9 a10)
    (hJ : ∀ (b2 b3 b4 b5 b6 b7 b8 b9 b10 : Nat → Int32), ca_R e (ca_cp M R0 C0 ar ac Nc (t + 1) 0) b2 b3 b4 b5 b6 b7 b8 b9 b10 → J (nI (Nc * (t + 1))) (nI (R0 + (t + 1))) (nI R0) (nI R1) (nI C0) (nI C1) e b2 b3 b4 b5 b6 b7 b8 b9 b10 w) : ∃ n, wX_copy_148 post J (nI ar - nI R0) (nI ac - nI C0) (nI (R0 + t)) n (nI (Nc * t)) (nI C0) (nI R0) (nI R1) (nI C0) (nI C1) e a2 a3 a4 a5 a6 a7 a8 a9 a10 w := by
  have hx : ∀ (b2 b3 b4 b5 b6 b7 b8 b9 b10 : Nat → Int32), ca_R e (ca_cp M R0 C0 ar ac Nc t Nc) b2 b3 b4 b5 b6 b7 b8 b9 b10 → J (nI (Nc * t + Nc)) (nI (R0 + t + 1)) (nI R0) (nI R1) (nI C0) (nI C1) e b2 b3 b4 b5 b6 b7 b8 b9 b10 w := by
    intro b2 b3 b4 b5 b6 b7 b8 b9 b10 hb
    refine hJ b2 b3 b4 b5 b6 b7 b8 b9 b10 (ca_R_cg hb (fun a _ _ k hk i hi => ca_cp_cg ?_))
    unfold ca_cpb
    exact decide_eq_decide.mpr (by omega)
  refine ca_loop9 (fun n s b2 b3 b4 b5 b6 b7 b8 b9 b10 => wX_copy_148 post J (nI ar - nI R0) (nI ac - nI C0) (nI (R0 + t)) n (nI (Nc * t + s)) (nI (C0 + s)) (nI R0) (nI R1) (nI C0) (nI C1) e b2 b3 b4 b5 b6 b7 b8 b9 b10 w) (fun s b2 b3 b4 b5 b6 b7 b8 b9 b10 => ca_R e (ca_cp M R0 C0 ar ac Nc t s) b2 b3 b4 b5 b6 b7 b8 b9 b10) Nc a2 a3 a4 a5 a6 a7 a8 a9 a10 h
    (fun n b2 b3 b4 b5 b6 b7 b8 b9 b10 hb => pk_lt C1 (C0 + Nc) (fun _ => nm_r (nI_1 (R0 + t)) (hx b2 b3 b4 b5 b6 b7 b8 b9 b10 hb)) (fun y => pk_le 16 (ac + Nc) (hy := ca_e_sh C0 Nc ac) (fun _ => nm_r (nI_1 (R0 + t)) (hx b2 b3 b4 b5 b6 b7 b8 b9 b10 hb)) (fun y2 => absurd y2 (by omega))))
    (fun n s b2 b3 b4 b5 b6 b7 b8 b9 b10 hs hb hw => pk_lt C1 (C0 + s) (fun y => absurd y (by omega)) (fun _ => pk_le 16 (ac + s) (hy := ca_e_sh C0 s ac) (fun y => absurd y (by omega)) (fun _ => ⟨pk_in ((R0 + t) * 16 + (C0 + s)) 256 (by omega) (ca_e_16 _ _), ?_⟩)))
  refine ca_writeCell_e (x := M 4 (ca_pl (R0 + t) (C0 + s)) (ca_wi (R0 + t) (C0 + s))) (ca_e_sh R0 t ar) (ca_e_sh C0 s ac) ?_ hb (by omega) (by omega) (fun g2 g3 g4 g5 g6 g7 g8 g9 g10 hg => nm_r (nI_1 (Nc * t + s)) (nm_r (nI_1 (C0 + s)) (hw g2 g3 g4 g5 g6 g7 g8 g9 g10 (ca_R_cg hg (fun a _ _ k hk i hi => ca_cp_s hk hi hs (by omega) (by omega))))))
  rw [ca_e_16, nI_clamp (by omega)]
  exact hm (R0 + t) (C0 + s) (by omega) (by omega) (by omega) (by omega)
theorem ca_copy123 {post : Int32 → St1 → Prop} {M : Nat → Nat → Nat → Int32} {e a2 a3 a4 a5 a6 a7 a8 a9 a10 w : Nat → Int32} {R0 R1 C0 C1 ar ac Nr Nc : Nat} (h1 : R0 ≤ R1) (h2 : R1 < 16) (h3 : C0 ≤ C1) (h4 : C1 < 16) (har : ar < 16) (hac : ac < 16) (hNr : Nr = min (R1 - R0 + 1) (16 - ar)) (hN : Nc = min (C1 - C0 + 1) (16 - ac)) (hm : ca_mv M R0 C0 C1 (R1 + 1) C0 w) (h : ca_R e M a2 a3 a4 a5 a6 a7 a8 a9 a10)
    (hp : ∀ (b2 b3 b4 b5 b6 b7 b8 b9 b10 : Nat → Int32), ca_R e (ca_cp M R0 C0 ar ac Nc Nr 0) b2 b3 b4 b5 b6 b7 b8 b9 b10 → post (nI (Nc * Nr)) (nI R0, nI R1, nI C0, nI C1, e, b2, b3, b4, b5, b6, b7, b8, b9, b10, w)) : ∃ n, wX_copy_123 post (nI ar - nI R0) (nI ac - nI C0) n 0 (nI R0) (nI R0) (nI R1) (nI C0) (nI C1) e a2 a3 a4 a5 a6 a7 a8 a9 a10 w := by
  refine ca_loop9 (fun n t b2 b3 b4 b5 b6 b7 b8 b9 b10 => wX_copy_123 post (nI ar - nI R0) (nI ac - nI C0) n (nI (Nc * t)) (nI (R0 + t)) (nI R0) (nI R1) (nI C0) (nI C1) e b2 b3 b4 b5 b6 b7 b8 b9 b10 w) (fun t b2 b3 b4 b5 b6 b7 b8 b9 b10 => ca_R e (ca_cp M R0 C0 ar ac Nc t 0) b2 b3 b4 b5 b6 b7 b8 b9 b10) Nr a2 a3 a4 a5 a6 a7 a8 a9 a10 ?_
    (fun n b2 b3 b4 b5 b6 b7 b8 b9 b10 hb => pk_lt R1 (R0 + Nr) (fun _ => hp b2 b3 b4 b5 b6 b7 b8 b9 b10 hb) (fun y => pk_le 16 (ar + Nr) (hy := ca_e_sh R0 Nr ar) (fun _ => hp b2 b3 b4 b5 b6 b7 b8 b9 b10 hb) (fun y2 => absurd y2 (by omega))))
    (fun n t b2 b3 b4 b5 b6 b7 b8 b9 b10 ht hb hw => pk_lt R1 (R0 + t) (fun y => absurd y (by omega)) (fun _ => pk_le 16 (ar + t) (hy := ca_e_sh R0 t ar) (fun y => absurd y (by omega)) (fun _ => ca_copy148 h2 h3 h4 hac hN (by omega) (by omega) hm hb (fun g2 g3 g4 g5 g6 g7 g8 g9 g10 hg => hw g2 g3 g4 g5 g6 g7 g8 g9 g10 hg))))
  refine ca_R_cg h (fun a _ _ k hk i hi => ?_)
  refine (if_neg (fun z => ?_)).symm
  have z2 := z.2
  unfold ca_cpb at z2
  rw [decide_eq_true_eq] at z2
  omega
/-- what copy makes of the picture, and how many cells it writes -/
def ca_cpM (F T A : Nat) (M : Nat → Nat → Nat → Int32) : Nat → Nat → Nat → Int32 := ca_cp M (min (F % 16) (T % 16)) (min (F / 16) (T / 16)) (A % 16) (A / 16) (min (max (F / 16) (T / 16) - min (F / 16) (T / 16) + 1) (16 - A / 16)) (min (max (F % 16) (T % 16) - min (F % 16) (T % 16) + 1) (16 - A % 16)) 0
def ca_cpn (F T A : Nat) : Nat := min (max (F / 16) (T / 16) - min (F / 16) (T / 16) + 1) (16 - A / 16) * min (max (F % 16) (T % 16) - min (F % 16) (T % 16) + 1) (16 - A % 16)
theorem ca_copy_g {post : Int32 → St1 → Prop} {e : Nat → Int32} {M : Nat → Nat → Nat → Int32} {u : St1} {F T A : Nat} (hu : ca_U e M u) (hF : F < 256) (hT : T < 256) (hA : A < 256) (hp : ∀ u', ca_U e (ca_cpM F T A M) u' → post (nI (ca_cpn F T A)) u') : wpX_copy post u (nI F) (nI T) (nI A) := by
  obtain ⟨r0, r1, c0, c1, a1, a2, a3, a4, a5, a6, a7, a8, a9, a10, w⟩ := u
  obtain ⟨rfl, h⟩ := hu
  unfold wpX_copy
  dsimp only
  refine ca_bad_g hF (br_t rfl (ca_bad_g hT (br_t rfl (ca_bad_g hA (br_t rfl (ca_setRegion hF hT ?_))))))
  refine nm_r (e' := nI (A % 16) - nI (min (F % 16) (T % 16))) (by rw [pk_andN (n := A) (by omega) 4 (by decide)]) (nm_r (e' := nI (A / 16) - nI (min (F / 16) (T / 16))) (by rw [pk_shrN (n := A) (by omega) _ 4 (by decide)]) ?_)
  exact ca_copy56 (by omega) (by omega) (by omega) (by omega) h (fun w' hw' => ca_copy123 (by omega) (by omega) (by omega) (by omega) (by omega) (by omega) rfl rfl hw' h (fun b2 b3 b4 b5 b6 b7 b8 b9 b10 hb => hp _ ⟨rfl, hb⟩))
theorem ca_copy_b {post : Int32 → St1 → Prop} {u : St1} {p0 p1 p2 : Int32} (hb : (∀ F, F < 256 → p0 ≠ nI F) ∨ (∀ F, F < 256 → p1 ≠ nI F) ∨ (∀ F, F < 256 → p2 ≠ nI F)) (hp : post (-1) u) : wpX_copy post u p0 p1 p2 := by
  obtain ⟨r0, r1, c0, c1, a1, a2, a3, a4, a5, a6, a7, a8, a9, a10, w⟩ := u
  unfold wpX_copy
  dsimp only
  rcases ca_gb p0 with ⟨F, hF, rfl⟩ | h0
  · refine ca_bad_g hF (br_t rfl ?_)
    rcases ca_gb p1 with ⟨T, hT, rfl⟩ | h1
    · refine ca_bad_g hT (br_t rfl ?_)
      rcases hb with hb | hb | hb
      · exact absurd rfl (hb F hF)
      · exact absurd rfl (hb T hT)
      · exact ca_bad_b hb (br_f (by decide) hp)
    · exact ca_bad_b h1 (br_f (by decide) hp)
  · exact ca_bad_b h0 (br_f (by decide) hp)
end
section
/-! versions -/
def ca_bt (v t j : Nat) : Bool := decide (v * 16 ≤ j ∧ j < v * 16 + t)
theorem ca_bt_s {v t j : Nat} (h : j ≠ v * 16 + t) : ca_bt v (t + 1) j = ca_bt v t j := decide_eq_decide.mpr (by omega)
theorem ca_bt_1 (v t : Nat) : ca_bt v (t + 1) (v * 16 + t) = true := decide_eq_true (by omega)
theorem ca_bt_n (v t : Nat) : ca_bt v t (v * 16 + t) = false := decide_eq_false (by omega)
theorem ca_bt_0 (v j : Nat) : ca_bt v 0 j = false := decide_eq_false (by omega)
theorem ca_bt_e {v j : Nat} (h : j / 16 = v) : ca_bt v 16 j = true := decide_eq_true (by omega)
theorem ca_bt_o {v j : Nat} (h : j / 16 ≠ v) : ca_bt v 16 j = false := decide_eq_false (by omega)
theorem ca_bt_4 {v t j : Nat} (hv : v < 4) (ht : t ≤ 16) (h : 64 ≤ j) : ca_bt v t j = false := decide_eq_false (by omega)
theorem ca_lv_f {e : Nat → Int32} {v t : Nat} (ht : t < 16) (h : e v = 0) : ca_lv e (v * 16 + t) = false := by
  unfold ca_lv
  rw [show (v * 16 + t) / 16 = v by omega]
  exact decide_eq_false (fun z => z h)
/-! no such version -/
theorem ca_noVersion_g {post : Int32 → Prop} {r0 r1 c0 c1 : Int32} {e a2 a3 a4 a5 a6 a7 a8 a9 a10 w : Nat → Int32} {v : Nat} (hv : v < 4) (he : e v ≠ 0) (hp : post 0) : wpX_noVersion post (r0, r1, c0, c1, e, a2, a3, a4, a5, a6, a7, a8, a9, a10, w) (nI v) := by
  unfold wpX_noVersion
  dsimp only
  refine br_f (nI_pos (by omega)) (pk_lt 3 v (fun y => absurd y (by omega)) (fun _ => ⟨pk_in v 5 (by omega), br_f ?_ hp⟩))
  rw [nI_clamp (by omega)]
  exact he
theorem ca_noVersion_b {post : Int32 → Prop} {r0 r1 c0 c1 : Int32} {e a2 a3 a4 a5 a6 a7 a8 a9 a10 w : Nat → Int32} {x : Int32} (h : ∀ v, v < 4 → x = nI v → e v = 0) (hp : post 1) : wpX_noVersion post (r0, r1, c0, c1, e, a2, a3, a4, a5, a6, a7, a8, a9, a10, w) x := by
  unfold wpX_noVersion
  dsimp only
  refine br_c (fun _ => hp) (fun z => br_c (fun _ => hp) (fun z2 => ?_))
  obtain ⟨v, hv, rfl⟩ := nI_of2 (M := 3) (n := 3) (by decide) z (Int32.not_lt.mp z2)
  refine ⟨pk_in v 5 (by omega), br_t ?_ hp⟩
  rw [nI_clamp (by omega)]
  exact h v (by omega) rfl
/-! how many cells differ -/
def ca_dn (M : Nat → Nat → Nat → Int32) (v k : Nat) : Nat → Nat := ca_cn (fun i => decide (M v k i ≠ M 4 k i))
def ca_df (M : Nat → Nat → Nat → Int32) (v : Nat) : Nat := ca_ss (fun k => ca_dn M v k 16) 16
theorem ca_dn_s (M : Nat → Nat → Nat → Int32) (v k i : Nat) : ca_dn M v k (i + 1) = ca_dn M v k i + (decide (M v k i ≠ M 4 k i)).toNat := rfl
theorem ca_df_le (M : Nat → Nat → Nat → Int32) (v : Nat) : ca_df M v ≤ 256 := by
  have t : ca_df M v ≤ ca_ss (fun _ => 16) 16 := ca_ss_mono (fun k _ => ca_cn_le _ 16)
  exact t
theorem ca_differAt {post : Int32 → Prop} {M : Nat → Nat → Nat → Int32} {r0 r1 c0 c1 : Int32} {e a2 a3 a4 a5 a6 a7 a8 a9 a10 w : Nat → Int32} {v k : Nat} (h : ca_R e M a2 a3 a4 a5 a6 a7 a8 a9 a10) (hv : v < 4) (he : e v ≠ 0) (hk : k < 16) (hp : post (nI (ca_dn M v k 16))) : wpX_differAt post (r0, r1, c0, c1, e, a2, a3, a4, a5, a6, a7, a8, a9, a10, w) (nI v) (nI k) := by
  unfold wpX_differAt
  dsimp only
  refine ⟨pk_in (v * 16 + k) 80 (by omega) (ca_e_16 v k), pk_in (64 + k) 80 (by omega) (ca_e_64 k), br_c (fun z => ?_) (fun _ => ?_)⟩
  · rw [ca_e_16, ca_e_64, nI_clamp (by omega), nI_clamp (by omega)] at z
    obtain ⟨h4, C, hS, hN, hV⟩ := h
    have j1 := hS.1 (v * 16 + k) (by omega)
    have j2 := hS.1 (64 + k) (by omega)
    rw [j1.2, j2.2, nI_eq (by omega) (by omega)] at z
    have t : ca_dn M v k 16 = 0 := by
      refine ca_cn_zero (fun i hi => decide_eq_false (fun y => y ?_))
      rw [← hV v (by omega) he k hk i hi, ← hV 4 (by omega) h4 k hk i hi, show 4 * 16 + k = 64 + k by omega, z]
    rw [t] at hp
    exact hp
  · refine pk_loop (σ := Unit) (fun n i _ => wX_differAt_30 post (nI v) (nI k) r0 r1 c0 c1 e a2 a3 a4 a5 a6 a7 a8 a9 a10 w n (nI (ca_dn M v k i)) (nI i)) (fun _ _ => True) 16 0 () (by omega) trivial
      (fun n _ _ => pk_le 16 16 (fun _ => hp) (fun y => absurd y (by omega)))
      (fun n i _ hi _ hw => pk_le 16 i (fun y => absurd y (by omega)) (fun _ => ⟨by decide, by decide, nm_r (ca_e_rw hk hi) ⟨by decide, by decide, nm_r (ca_e_cl hk hi) (ca_read_k h (by omega) he hk hi (ca_read_k (a := 4) h (by omega) h.1 hk hi (br_c (fun z => ?_) (fun z => ?_))))⟩⟩))
    · have t : wX_differAt_30 post (nI v) (nI k) r0 r1 c0 c1 e a2 a3 a4 a5 a6 a7 a8 a9 a10 w n (nI (ca_dn M v k (i + 1))) (nI (i + 1)) := hw () trivial
      rw [ca_dn_s, decide_eq_false (fun y => y z)] at t
      exact nm_r (nI_1 i) t
    · have t : wX_differAt_30 post (nI v) (nI k) r0 r1 c0 c1 e a2 a3 a4 a5 a6 a7 a8 a9 a10 w n (nI (ca_dn M v k (i + 1))) (nI (i + 1)) := hw () trivial
      rw [ca_dn_s, decide_eq_true z] at t
      exact nm_r (nI_1 _) (nm_r (nI_1 i) t)
theorem ca_differences {post : Int32 → Prop} {M : Nat → Nat → Nat → Int32} {r0 r1 c0 c1 : Int32} {e a2 a3 a4 a5 a6 a7 a8 a9 a10 w : Nat → Int32} {v : Nat} (h : ca_R e M a2 a3 a4 a5 a6 a7 a8 a9 a10) (hv : v < 4) (he : e v ≠ 0) (hp : post (nI (ca_df M v))) : wpX_differences post (r0, r1, c0, c1, e, a2, a3, a4, a5, a6, a7, a8, a9, a10, w) (nI v) := by
  unfold wpX_differences
  dsimp only
  exact pk_loop (σ := Unit) (fun n k _ => wX_differences_4 post (nI v) r0 r1 c0 c1 e a2 a3 a4 a5 a6 a7 a8 a9 a10 w n (nI (ca_ss (fun k => ca_dn M v k 16) k)) (nI k)) (fun _ _ => True) 16 0 () (by omega) trivial
    (fun n _ _ => pk_le 16 16 (fun _ => hp) (fun y => absurd y (by omega)))
    (fun n k _ hk _ hw => pk_le 16 k (fun y => absurd y (by omega)) (fun _ => ca_differAt h hv he hk (nm_r (nI_add _ _) (nm_r (nI_1 k) (hw () trivial)))))
theorem ca_differ_g {post : Int32 → Prop} {e : Nat → Int32} {M : Nat → Nat → Nat → Int32} {u : St1} {v : Nat} (hu : ca_U e M u) (hv : v < 4) (he : e v ≠ 0) (hp : post (nI (ca_df M v))) : wpX_differ post u (nI v) := by
  obtain ⟨r0, r1, c0, c1, a1, a2, a3, a4, a5, a6, a7, a8, a9, a10, w⟩ := u
  obtain ⟨rfl, h⟩ := hu
  unfold wpX_differ
  dsimp only
  exact ca_noVersion_g hv he (br_t rfl (ca_differences h hv he hp))
theorem ca_differ_b {post : Int32 → Prop} {e : Nat → Int32} {M : Nat → Nat → Nat → Int32} {u : St1} {x : Int32} (hu : ca_U e M u) (hx : ∀ v, v < 4 → x = nI v → e v = 0) (hp : post (-2)) : wpX_differ post u x := by
  obtain ⟨r0, r1, c0, c1, a1, a2, a3, a4, a5, a6, a7, a8, a9, a10, w⟩ := u
  obtain ⟨rfl, h⟩ := hu
  unfold wpX_differ
  dsimp only
  exact ca_noVersion_b hx (br_f (by decide) hp)
/-! a version is kept -/
def ca_kM (v : Nat) (M : Nat → Nat → Nat → Int32) : Nat → Nat → Nat → Int32 := fun a k i => if a = v then M 4 k i else M a k i
theorem ca_keep_33 {post : Int32 → St1 → Prop} {M : Nat → Nat → Nat → Int32} {r0 r1 c0 c1 : Int32} {e a2 a3 a4 a5 a6 a7 a8 a9 a10 w : Nat → Int32} {v : Nat} (h : ca_R e M a2 a3 a4 a5 a6 a7 a8 a9 a10) (hv : v < 4) (he : e v = 0) (hp : ∀ b2 b3 : Nat → Int32, ca_R (upd e v 1) (ca_kM v M) b2 b3 a4 a5 a6 a7 a8 a9 a10 → post 0 (r0, r1, c0, c1, upd e v 1, b2, b3, a4, a5, a6, a7, a8, a9, a10, w)) : ∃ n, wX_keep_33 post (nI v) r0 r1 c0 c1 n 0 (upd e v 1) a2 a3 a4 a5 a6 a7 a8 a9 a10 w := by
  obtain ⟨h4, C, hS, hN, hV⟩ := h
  refine pk_loop (fun n t (s : (Nat → Int32) × (Nat → Int32)) => wX_keep_33 post (nI v) r0 r1 c0 c1 n (nI t) (upd e v 1) s.1 s.2 a4 a5 a6 a7 a8 a9 a10 w) (fun t s => ca_S (fun j => ca_lv e j || ca_bt v t j) (fun j => if ca_bt v t j = true then C (64 + (j - v * 16)) else C j) s.1 s.2) 16 0 (a2, a3) (by omega) ?_
    (fun n s hs => pk_le 16 16 (fun _ => hp s.1 s.2 ?_) (fun y => absurd y (by omega)))
    (fun n t s ht hs hw => pk_le 16 t (fun y => absurd y (by omega)) (fun _ => ?_))
  · refine ca_S_cg hS (fun j hj => ?_)
    rw [ca_bt_0, Bool.or_false]
    exact ⟨rfl, if_neg (by decide)⟩
  · have e4 : upd e v 1 4 = e 4 := pk_un (by omega)
    refine ⟨by rw [e4]; exact h4, fun j => if ca_bt v 16 j = true then C (64 + (j - v * 16)) else C j, ca_S_cg hs (fun j hj => ⟨?_, rfl⟩), hN, fun a ha hea k hk i hi => ?_⟩
    · unfold ca_lv
      by_cases ej : j / 16 = v
      · rw [ca_bt_e ej, ej, pk_us, Bool.or_true]
        rfl
      · rw [ca_bt_o ej, pk_un ej, Bool.or_false]
    · unfold ca_kM
      dsimp only
      by_cases ea : a = v
      · rw [if_pos ea, ca_bt_e (v := v) (j := a * 16 + k) (by omega), if_pos rfl, ea, show 64 + (v * 16 + k - v * 16) = 4 * 16 + k by omega]
        exact hV 4 (by omega) h4 k hk i hi
      · rw [pk_un ea] at hea
        rw [if_neg ea, ca_bt_o (v := v) (j := a * 16 + k) (by omega), if_neg (by decide)]
        exact hV a ha hea k hk i hi
  · have q := hs.1 (64 + t) (by omega)
    have ne := ca_bt_4 (t := t) (j := 64 + t) hv (by omega) (by omega)
    have lf : (ca_lv e (v * 16 + t) || ca_bt v t (v * 16 + t)) = false := by
      rw [ca_lv_f ht he, ca_bt_n]
      rfl
    have nx := ca_S_keep (j := v * 16 + t) (q := 64 + t) hs (by omega) (by omega) lf
    dsimp only at q nx
    rw [ne, if_neg (by decide)] at q nx
    have k6 : (64 + nI t).toNatClampNeg = 64 + t := by rw [ca_e_64, nI_clamp (by omega)]
    have kc : (nI (C (64 + t))).toNatClampNeg = C (64 + t) := nI_clamp (by omega)
    refine ⟨pk_in (64 + t) 80 (by omega) (ca_e_64 t), nm_r (e' := nI (C (64 + t))) (by rw [k6]; exact q.2) ⟨pk_in (v * 16 + t) 80 (by omega) (ca_e_16 v t), nm_r (e' := upd s.1 (v * 16 + t) (nI (C (64 + t)))) (by rw [ca_e_16, nI_clamp (by omega)]) ⟨pk_in _ 80 q.1, pk_in _ 80 q.1, nm_r (e' := upd s.2 (C (64 + t)) (s.2 (C (64 + t)) + 1)) (by rw [kc]) (nm_r (nI_1 t) (hw (_, _) (ca_S_cg nx (fun j hj => ?_))))⟩⟩⟩
    by_cases ej : j = v * 16 + t
    · rw [ej, ca_bt_1, if_pos rfl, if_pos rfl, if_pos rfl, Bool.or_true, show v * 16 + t - v * 16 = t by omega]
      exact ⟨rfl, rfl⟩
    · rw [ca_bt_s ej, if_neg ej, if_neg ej]
      exact ⟨rfl, rfl⟩
theorem ca_keep_g {post : Int32 → St1 → Prop} {e : Nat → Int32} {M : Nat → Nat → Nat → Int32} {u : St1} {v : Nat} (hu : ca_U e M u) (hv : v < 4) (he : e v = 0) (hp : ∀ u', ca_U (upd e v 1) (ca_kM v M) u' → post 0 u') : wpX_keep post u (nI v) := by
  obtain ⟨r0, r1, c0, c1, a1, a2, a3, a4, a5, a6, a7, a8, a9, a10, w⟩ := u
  obtain ⟨rfl, h⟩ := hu
  have kv : (nI v).toNatClampNeg = v := nI_clamp (by omega)
  unfold wpX_keep
  dsimp only
  refine br_f (nI_pos (by omega)) (pk_le v 3 (fun _ => ⟨pk_in v 5 (by omega), br_t (by rw [kv]; exact he) ⟨pk_in v 5 (by omega), nm_r (e' := upd a1 v 1) (by rw [kv]) ?_⟩⟩) (fun y => absurd y (by omega)))
  exact ca_keep_33 h hv he (fun b2 b3 hb => hp _ ⟨rfl, hb⟩)
theorem ca_keep_t {post : Int32 → St1 → Prop} {e : Nat → Int32} {M : Nat → Nat → Nat → Int32} {u : St1} {v : Nat} (hu : ca_U e M u) (hv : v < 4) (he : e v ≠ 0) (hp : post (-3) u) : wpX_keep post u (nI v) := by
  obtain ⟨r0, r1, c0, c1, a1, a2, a3, a4, a5, a6, a7, a8, a9, a10, w⟩ := u
  obtain ⟨rfl, h⟩ := hu
  have kv : (nI v).toNatClampNeg = v := nI_clamp (by omega)
  unfold wpX_keep
  dsimp only
  exact br_f (nI_pos (by omega)) (pk_le v 3 (fun _ => ⟨pk_in v 5 (by omega), br_f (by rw [kv]; exact he) hp⟩) (fun y => absurd y (by omega)))
theorem ca_keep_b {post : Int32 → St1 → Prop} {u : St1} {x : Int32} (hx : ∀ v, v < 4 → x ≠ nI v) (hp : post (-2) u) : wpX_keep post u x := by
  obtain ⟨r0, r1, c0, c1, a1, a2, a3, a4, a5, a6, a7, a8, a9, a10, w⟩ := u
  unfold wpX_keep
  dsimp only
  refine br_c (fun _ => hp) (fun z => br_c (fun z2 => ?_) (fun _ => hp))
  obtain ⟨v, hv, rfl⟩ := nI_of2 (M := 3) (n := 3) (by decide) z z2
  exact absurd rfl (hx v (by omega))
/-! a version is restored -/
def ca_rM (v : Nat) (M : Nat → Nat → Nat → Int32) : Nat → Nat → Nat → Int32 := fun a k i => if a = 4 then M v k i else M a k i
theorem ca_restore_19 {post : Int32 → St1 → Prop} {M : Nat → Nat → Nat → Int32} {r0 r1 c0 c1 x : Int32} {e a2 a3 a4 a5 a6 a7 a8 a9 a10 w : Nat → Int32} {v : Nat} (h : ca_R e M a2 a3 a4 a5 a6 a7 a8 a9 a10) (hv : v < 4) (he : e v ≠ 0) (hp : ∀ b2 b3 : Nat → Int32, ca_R e (ca_rM v M) b2 b3 a4 a5 a6 a7 a8 a9 a10 → post x (r0, r1, c0, c1, e, b2, b3, a4, a5, a6, a7, a8, a9, a10, w)) : ∃ n, wX_restore_19 post (nI v) x r0 r1 c0 c1 n 0 e a2 a3 a4 a5 a6 a7 a8 a9 a10 w := by
  obtain ⟨h4, C, hS, hN, hV⟩ := h
  refine pk_loop (fun n t (s : (Nat → Int32) × (Nat → Int32)) => wX_restore_19 post (nI v) x r0 r1 c0 c1 n (nI t) e s.1 s.2 a4 a5 a6 a7 a8 a9 a10 w) (fun t s => ca_S (ca_lv e) (fun j => if ca_bt 4 t j = true then C (v * 16 + (j - 64)) else C j) s.1 s.2) 16 0 (a2, a3) (by omega) ?_
    (fun n s hs => pk_le 16 16 (fun _ => hp s.1 s.2 ?_) (fun y => absurd y (by omega)))
    (fun n t s ht hs hw => pk_le 16 t (fun y => absurd y (by omega)) (fun _ => ?_))
  · refine ca_S_cg hS (fun j hj => ?_)
    rw [ca_bt_0]
    exact ⟨rfl, if_neg (by decide)⟩
  · refine ⟨h4, fun j => if ca_bt 4 16 j = true then C (v * 16 + (j - 64)) else C j, hs, hN, fun a ha hea k hk i hi => ?_⟩
    unfold ca_rM
    dsimp only
    by_cases ea : a = 4
    · rw [if_pos ea, ca_bt_e (v := 4) (j := a * 16 + k) (by omega), if_pos rfl, ea, show v * 16 + (4 * 16 + k - 64) = v * 16 + k by omega]
      exact hV v (by omega) he k hk i hi
    · rw [if_neg ea, ca_bt_o (v := 4) (j := a * 16 + k) (by omega), if_neg (by decide)]
      exact hV a ha hea k hk i hi
  · have e1 : ca_bt 4 t (64 + t) = false := ca_bt_n 4 t
    have e2 : ca_bt 4 t (v * 16 + t) = false := decide_eq_false (by omega)
    have p := hs.1 (64 + t) (by omega)
    have q := hs.1 (v * 16 + t) (by omega)
    have nx := ca_S_rest (p := 64 + t) (q := v * 16 + t) hs (by omega) (by omega) (ca_lv_4 ht h4)
    dsimp only at p q nx
    rw [e1, if_neg (by decide)] at p
    rw [e2, if_neg (by decide)] at q
    rw [e1, e2, if_neg (by decide), if_neg (by decide)] at nx
    have k6 : (64 + nI t).toNatClampNeg = 64 + t := by rw [ca_e_64, nI_clamp (by omega)]
    have kv : (nI v * 16 + nI t).toNatClampNeg = v * 16 + t := by rw [ca_e_16, nI_clamp (by omega)]
    have kp : (nI (C (64 + t))).toNatClampNeg = C (64 + t) := nI_clamp (by omega)
    have kq : (nI (C (v * 16 + t))).toNatClampNeg = C (v * 16 + t) := nI_clamp (by omega)
    refine ⟨pk_in (v * 16 + t) 80 (by omega) (ca_e_16 v t), nm_r (e' := nI (C (v * 16 + t))) (by rw [kv]; exact q.2) ⟨pk_in (64 + t) 80 (by omega) (ca_e_64 t), pk_in (C (64 + t)) 80 p.1 (by rw [k6]; exact p.2), pk_in (C (64 + t)) 80 p.1 (by rw [k6]; exact p.2), nm_r (e' := upd s.2 (C (64 + t)) (s.2 (C (64 + t)) - 1)) (by rw [k6, p.2, kp]) ⟨pk_in _ 80 q.1, pk_in _ 80 q.1, nm_r (e' := upd (upd s.2 (C (64 + t)) (s.2 (C (64 + t)) - 1)) (C (v * 16 + t)) ((upd s.2 (C (64 + t)) (s.2 (C (64 + t)) - 1)) (C (v * 16 + t)) + 1)) (by rw [kq]) ⟨pk_in (64 + t) 80 (by omega) (ca_e_64 t), nm_r (e' := upd s.1 (64 + t) (nI (C (v * 16 + t)))) (by rw [k6]) (nm_r (nI_1 t) (hw (_, _) (ca_S_cg nx (fun j hj => ⟨rfl, ?_⟩))))⟩⟩⟩⟩
    by_cases ej : j = 64 + t
    · rw [ej, show ca_bt 4 (t + 1) (64 + t) = true from ca_bt_1 4 t, if_pos rfl, if_pos rfl, show v * 16 + (64 + t - 64) = v * 16 + t by omega]
    · rw [ca_bt_s (v := 4) ej, if_neg ej]
theorem ca_restore_g {post : Int32 → St1 → Prop} {e : Nat → Int32} {M : Nat → Nat → Nat → Int32} {u : St1} {v : Nat} (hu : ca_U e M u) (hv : v < 4) (he : e v ≠ 0) (hp : ∀ u', ca_U e (ca_rM v M) u' → post (nI (ca_df M v)) u') : wpX_restore post u (nI v) := by
  obtain ⟨r0, r1, c0, c1, a1, a2, a3, a4, a5, a6, a7, a8, a9, a10, w⟩ := u
  obtain ⟨rfl, h⟩ := hu
  unfold wpX_restore
  dsimp only
  exact ca_noVersion_g hv he (br_t rfl (ca_differences h hv he (ca_restore_19 h hv he (fun b2 b3 hb => hp _ ⟨rfl, hb⟩))))
theorem ca_restore_b {post : Int32 → St1 → Prop} {e : Nat → Int32} {M : Nat → Nat → Nat → Int32} {u : St1} {x : Int32} (hu : ca_U e M u) (hx : ∀ v, v < 4 → x = nI v → e v = 0) (hp : post (-2) u) : wpX_restore post u x := by
  obtain ⟨r0, r1, c0, c1, a1, a2, a3, a4, a5, a6, a7, a8, a9, a10, w⟩ := u
  obtain ⟨rfl, h⟩ := hu
  unfold wpX_restore
  dsimp only
  exact ca_noVersion_b hx (br_f (by decide) hp)
/-! a version is dropped -/
theorem ca_drop_20 {post : Int32 → St1 → Prop} {M : Nat → Nat → Nat → Int32} {r0 r1 c0 c1 : Int32} {e a2 a3 a4 a5 a6 a7 a8 a9 a10 w : Nat → Int32} {v : Nat} (h : ca_R e M a2 a3 a4 a5 a6 a7 a8 a9 a10) (hv : v < 4) (he : e v ≠ 0) (hp : ∀ b3 : Nat → Int32, ca_R (upd e v 0) M a2 b3 a4 a5 a6 a7 a8 a9 a10 → post 0 (r0, r1, c0, c1, upd e v 0, a2, b3, a4, a5, a6, a7, a8, a9, a10, w)) : ∃ n, wX_drop_20 post (nI v) r0 r1 c0 c1 n 0 (upd e v 0) a2 a3 a4 a5 a6 a7 a8 a9 a10 w := by
  obtain ⟨h4, C, hS, hN, hV⟩ := h
  refine pk_loop (fun n t s => wX_drop_20 post (nI v) r0 r1 c0 c1 n (nI t) (upd e v 0) a2 s a4 a5 a6 a7 a8 a9 a10 w) (fun t s => ca_S (fun j => ca_lv e j && !ca_bt v t j) C a2 s) 16 0 a3 (by omega) ?_
    (fun n s hs => pk_le 16 16 (fun _ => hp s ?_) (fun y => absurd y (by omega)))
    (fun n t s ht hs hw => pk_le 16 t (fun y => absurd y (by omega)) (fun _ => ?_))
  · refine ca_S_cg hS (fun j hj => ⟨?_, rfl⟩)
    rw [ca_bt_0, Bool.not_false, Bool.and_true]
  · have e4 : upd e v 0 4 = e 4 := pk_un (by omega)
    refine ⟨by rw [e4]; exact h4, C, ca_S_cg hs (fun j hj => ⟨?_, rfl⟩), hN, fun a ha hea k hk i hi => ?_⟩
    · unfold ca_lv
      by_cases ej : j / 16 = v
      · rw [ca_bt_e ej, ej, pk_us, Bool.not_true, Bool.and_false]
        rfl
      · rw [ca_bt_o ej, pk_un ej, Bool.not_false, Bool.and_true]
    · by_cases ea : a = v
      · rw [ea, pk_us] at hea
        exact absurd rfl hea
      · rw [pk_un ea] at hea
        exact hV a ha hea k hk i hi
  · have q := hs.1 (v * 16 + t) (by omega)
    have lt : (ca_lv e (v * 16 + t) && !ca_bt v t (v * 16 + t)) = true := by
      rw [ca_lv_at ht he, ca_bt_n]
      rfl
    have nx := ca_S_drop (j := v * 16 + t) hs (by omega) lt
    have kv : (nI v * 16 + nI t).toNatClampNeg = v * 16 + t := by rw [ca_e_16, nI_clamp (by omega)]
    have kq : (nI (C (v * 16 + t))).toNatClampNeg = C (v * 16 + t) := nI_clamp (by omega)
    refine ⟨pk_in (v * 16 + t) 80 (by omega) (ca_e_16 v t), pk_in (C (v * 16 + t)) 80 q.1 (by rw [kv]; exact q.2), pk_in (C (v * 16 + t)) 80 q.1 (by rw [kv]; exact q.2), nm_r (e' := upd s (C (v * 16 + t)) (s (C (v * 16 + t)) - 1)) (by rw [kv, q.2, kq]) (nm_r (nI_1 t) (hw _ (ca_S_cg nx (fun j hj => ⟨?_, rfl⟩))))⟩
    by_cases ej : j = v * 16 + t
    · rw [ej, ca_bt_1, if_pos rfl, Bool.not_true, Bool.and_false]
    · rw [ca_bt_s ej, if_neg ej]
theorem ca_drop_g {post : Int32 → St1 → Prop} {e : Nat → Int32} {M : Nat → Nat → Nat → Int32} {u : St1} {v : Nat} (hu : ca_U e M u) (hv : v < 4) (he : e v ≠ 0) (hp : ∀ u', ca_U (upd e v 0) M u' → post 0 u') : wpX_drop post u (nI v) := by
  obtain ⟨r0, r1, c0, c1, a1, a2, a3, a4, a5, a6, a7, a8, a9, a10, w⟩ := u
  obtain ⟨rfl, h⟩ := hu
  have kv : (nI v).toNatClampNeg = v := nI_clamp (by omega)
  unfold wpX_drop
  dsimp only
  exact ca_noVersion_g hv he (br_t rfl ⟨pk_in v 5 (by omega), nm_r (e' := upd a1 v 0) (by rw [kv]) (ca_drop_20 h hv he (fun b3 hb => hp _ ⟨rfl, hb⟩))⟩)
theorem ca_drop_b {post : Int32 → St1 → Prop} {e : Nat → Int32} {M : Nat → Nat → Nat → Int32} {u : St1} {x : Int32} (hu : ca_U e M u) (hx : ∀ v, v < 4 → x = nI v → e v = 0) (hp : post (-2) u) : wpX_drop post u x := by
  obtain ⟨r0, r1, c0, c1, a1, a2, a3, a4, a5, a6, a7, a8, a9, a10, w⟩ := u
  obtain ⟨rfl, h⟩ := hu
  unfold wpX_drop
  dsimp only
  exact ca_noVersion_b hx (br_f (by decide) hp)
end
section
/-! questions -/
theorem ca_get_g {post : Int32 → Prop} {e : Nat → Int32} {M : Nat → Nat → Nat → Int32} {u : St1} {F : Nat} (hu : ca_U e M u) (hF : F < 256) (hp : post (M 4 (ca_pl (F % 16) (F / 16)) (ca_wi (F % 16) (F / 16)))) : wpX_get post u (nI F) := by
  obtain ⟨r0, r1, c0, c1, a1, a2, a3, a4, a5, a6, a7, a8, a9, a10, w⟩ := u
  obtain ⟨rfl, h⟩ := hu
  unfold wpX_get
  dsimp only
  refine ca_bad_g hF (br_t rfl ?_)
  rw [pk_andN (n := F) (by omega) 4 (by decide), pk_shrN (n := F) (by omega) _ 4 (by decide)]
  exact ca_read (a := 4) h (by omega) h.1 (by omega) (by omega) hp
theorem ca_getOf_g {post : Int32 → Prop} {e : Nat → Int32} {M : Nat → Nat → Nat → Int32} {u : St1} {v F : Nat} (hu : ca_U e M u) (hv : v < 4) (he : e v ≠ 0) (hF : F < 256) (hp : post (M v (ca_pl (F % 16) (F / 16)) (ca_wi (F % 16) (F / 16)))) : wpX_getOf post u (nI v) (nI F) := by
  obtain ⟨r0, r1, c0, c1, a1, a2, a3, a4, a5, a6, a7, a8, a9, a10, w⟩ := u
  obtain ⟨rfl, h⟩ := hu
  unfold wpX_getOf
  dsimp only
  refine ca_bad_g hF (br_t rfl (ca_noVersion_g hv he (br_t rfl ?_)))
  rw [pk_andN (n := F) (by omega) 4 (by decide), pk_shrN (n := F) (by omega) _ 4 (by decide)]
  exact ca_read h (by omega) he (by omega) (by omega) hp
theorem ca_getOf_b {post : Int32 → Prop} {e : Nat → Int32} {M : Nat → Nat → Nat → Int32} {u : St1} {v F : Nat} (hu : ca_U e M u) (hv : v < 4) (he : e v = 0) (hF : F < 256) (hp : post (-2)) : wpX_getOf post u (nI v) (nI F) := by
  obtain ⟨r0, r1, c0, c1, a1, a2, a3, a4, a5, a6, a7, a8, a9, a10, w⟩ := u
  obtain ⟨rfl, h⟩ := hu
  unfold wpX_getOf
  dsimp only
  refine ca_bad_g hF (br_t rfl (ca_noVersion_b (fun v' hv' ev => ?_) (br_f (by decide) hp)))
  rw [← (nI_eq (a := v) (b := v') (by omega) (by omega)).mp ev]
  exact he
/-! sums -/
theorem ca_R_kept {e : Nat → Int32} {M : Nat → Nat → Nat → Int32} {a2 a3 a4 a5 a6 a7 a8 a9 a10 b7 b8 b9 b10 : Nat → Int32} (h : ca_R e M a2 a3 a4 a5 a6 a7 a8 a9 a10) (hn : ∀ c, c < 80 → ca_nc a4 a5 a6 a7 a8 a9 a10 c → ca_nc a4 a5 a6 b7 b8 b9 b10 c) : ca_R e M a2 a3 a4 a5 a6 b7 b8 b9 b10 := by
  obtain ⟨h4, C, hS, hN, hV⟩ := h
  exact ⟨h4, C, hS, fun c hc => hn c hc (hN c hc), hV⟩
/-- the chunk at place k of the present array -/
theorem ca_R_at {e : Nat → Int32} {M : Nat → Nat → Nat → Int32} {a2 a3 a4 a5 a6 a7 a8 a9 a10 : Nat → Int32} {k : Nat} (h : ca_R e M a2 a3 a4 a5 a6 a7 a8 a9 a10) (hk : k < 16) : ∃ c, c < 80 ∧ a2 (64 + k) = nI c ∧ ca_nc a4 a5 a6 a7 a8 a9 a10 c ∧ ∀ i, i < 16 → ca_v a4 a5 a6 c i = M 4 k i := by
  obtain ⟨h4, C, hS, hN, hV⟩ := h
  have j := hS.1 (64 + k) (by omega)
  refine ⟨C (64 + k), j.1, j.2, hN _ j.1, fun i hi => ?_⟩
  have t := hV 4 (by omega) h4 k hk i hi
  rw [show 4 * 16 + k = 64 + k by omega] at t
  exact t
theorem ca_wholeSum53 {post : Int32 → St1 → Prop} {r0 r1 c0 c1 : Int32} {e a2 a3 a4 a5 a6 a7 a8 a9 a10 w : Nat → Int32} {f : Nat → Int32} {c : Nat} (hc : c < 80) (h8 : a8 c = ca_sm (fun i => a4 (c * 16 + i)) 16) (hv : ∀ i, i < 16 → ca_v a4 a5 a6 c i = f i) (hp : post (ca_sm f 16) (r0, r1, c0, c1, e, a2, a3, a4, a5, a6, a7, a8, a9, a10, w)) : wX_wholeSum_53 post (nI c) r0 r1 c0 c1 e a2 a3 a4 a5 a6 a7 a8 a9 a10 w := by
  unfold wX_wholeSum_53
  refine ⟨pk_in c 80 hc, pk_in c 80 hc, pk_in c 80 hc, ?_⟩
  rw [nI_clamp (by omega), h8]
  have t := ca_sm_lin (fun i => a4 (c * 16 + i)) (a5 c) (a6 c) 16
  have t2 : ca_sm (fun i => a4 (c * 16 + i) * a5 c + a6 c) 16 = ca_sm f 16 := ca_sm_cg (fun i hi => hv i hi)
  rw [t2] at t
  rw [t] at hp
  exact hp
theorem ca_wholeSum {post : Int32 → St1 → Prop} {M : Nat → Nat → Nat → Int32} {r0 r1 c0 c1 : Int32} {e a2 a3 a4 a5 a6 a7 a8 a9 a10 w : Nat → Int32} {k : Nat} (h : ca_R e M a2 a3 a4 a5 a6 a7 a8 a9 a10) (hk : k < 16) (hp : ∀ b7 b8 : Nat → Int32, ca_R e M a2 a3 a4 a5 a6 b7 b8 a9 a10 → post (ca_sm (M 4 k) 16) (r0, r1, c0, c1, e, a2, a3, a4, a5, a6, b7, b8, a9, a10, w)) : wpX_wholeSum post (r0, r1, c0, c1, e, a2, a3, a4, a5, a6, a7, a8, a9, a10, w) (a2 (64 + nI k).toNatClampNeg) := by
  obtain ⟨c, hc, h2, hn, hv⟩ := ca_R_at h hk
  have kc : (nI c).toNatClampNeg = c := nI_clamp (by omega)
  rw [ca_e_64, nI_clamp (by omega), h2]
  unfold wpX_wholeSum
  dsimp only
  refine ⟨pk_in c 80 hc, br_c (fun z => ?_) (fun z => ?_)⟩
  · refine pk_loop (σ := Unit) (fun n i _ => wX_wholeSum_13 post (nI c) r0 r1 c0 c1 e a2 a3 a4 a5 a6 a7 a8 a9 a10 w n (ca_sm (fun i => a4 (c * 16 + i)) i) (nI i)) (fun _ _ => True) 16 0 () (by omega) trivial
      (fun n _ _ => pk_le 16 16 (fun _ => ⟨pk_in c 80 hc, nm_r (e' := upd a8 c (ca_sm (fun i => a4 (c * 16 + i)) 16)) (by rw [kc]) ⟨pk_in c 80 hc, nm_r (e' := upd a7 c 1) (by rw [kc]) ?_⟩⟩) (fun y => absurd y (by omega)))
      (fun n i _ hi _ hw => pk_le 16 i (fun y => absurd y (by omega)) (fun _ => ⟨pk_in (c * 16 + i) 1280 (by omega) (ca_e_16 c i), nm_r (e' := ca_sm (fun i => a4 (c * 16 + i)) (i + 1)) (by rw [ca_e_16, nI_clamp (by omega), ca_sm_s]) (nm_r (nI_1 i) (hw () trivial))⟩))
    refine ca_wholeSum53 hc pk_us hv (hp _ _ (ca_R_kept h (fun x hx hnx => ?_)))
    by_cases ex : x = c
    · rw [ex] at hnx
      rw [ex]
      exact ⟨fun _ => pk_us, hnx.2⟩
    · refine ⟨fun y => ?_, hnx.2⟩
      rw [pk_un ex] at y
      rw [pk_un ex]
      exact hnx.1 y
  · rw [kc] at z
    exact ca_wholeSum53 hc (hn.1 z) hv (hp a7 a8 h)
def ca_ps (M : Nat → Nat → Nat → Int32) (R0 R1 C0 C1 k : Nat) : Nat → Int32 := ca_sm (fun i => if ca_in R0 R1 C0 C1 k i = true then M 4 k i else 0)
theorem ca_ps_s (M : Nat → Nat → Nat → Int32) (R0 R1 C0 C1 k i : Nat) : ca_ps M R0 R1 C0 C1 k (i + 1) = ca_ps M R0 R1 C0 C1 k i + (if ca_in R0 R1 C0 C1 k i = true then M 4 k i else 0) := rfl
theorem ca_partSum {post : Int32 → Prop} {M : Nat → Nat → Nat → Int32} {e a2 a3 a4 a5 a6 a7 a8 a9 a10 w : Nat → Int32} {R0 R1 C0 C1 k : Nat} (h1 : R0 ≤ R1) (h2 : R1 < 16) (h3 : C0 ≤ C1) (h4 : C1 < 16) (h : ca_R e M a2 a3 a4 a5 a6 a7 a8 a9 a10) (hk : k < 16) (hp : post (ca_ps M R0 R1 C0 C1 k 16)) : wpX_partSum post (nI R0, nI R1, nI C0, nI C1, e, a2, a3, a4, a5, a6, a7, a8, a9, a10, w) (nI k) := by
  unfold wpX_partSum
  dsimp only
  refine pk_loop (σ := Unit) (fun n i _ => wX_partSum_4 post (nI k) (nI R0) (nI R1) (nI C0) (nI C1) e a2 a3 a4 a5 a6 a7 a8 a9 a10 w n (ca_ps M R0 R1 C0 C1 k i) (nI i)) (fun _ _ => True) 16 0 () (by omega) trivial
    (fun n _ _ => pk_le 16 16 (fun _ => hp) (fun y => absurd y (by omega)))
    (fun n i _ hi _ hw => pk_le 16 i (fun y => absurd y (by omega)) (fun _ => ⟨by decide, by decide, nm_r (ca_e_rw hk hi) ⟨by decide, by decide, nm_r (ca_e_cl hk hi) (ca_inRegion h1 h2 h3 h4 hk hi (fun hin => br_f (by decide) (ca_read_k (a := 4) h (by omega) h.1 hk hi ?_)) (fun hin => br_t rfl ?_))⟩⟩))
  · have t : wX_partSum_4 post (nI k) (nI R0) (nI R1) (nI C0) (nI C1) e a2 a3 a4 a5 a6 a7 a8 a9 a10 w n (ca_ps M R0 R1 C0 C1 k (i + 1)) (nI (i + 1)) := hw () trivial
    rw [ca_ps_s, if_pos hin] at t
    exact nm_e (nm_r (nI_1 i) t)
  · have t : wX_partSum_4 post (nI k) (nI R0) (nI R1) (nI C0) (nI C1) e a2 a3 a4 a5 a6 a7 a8 a9 a10 w n (ca_ps M R0 R1 C0 C1 k (i + 1)) (nI (i + 1)) := hw () trivial
    rw [ca_ps_s, if_neg (by rw [hin]; decide), Int32.add_zero] at t
    exact nm_r (nI_1 i) t
def ca_sg (M : Nat → Nat → Nat → Int32) (R0 R1 C0 C1 : Nat) : Nat → Int32 := ca_sm (fun k => if ca_cv R0 R1 C0 C1 k = true then ca_sm (M 4 k) 16 else if ca_to R0 R1 C0 C1 k = true then ca_ps M R0 R1 C0 C1 k 16 else 0)
theorem ca_sg_s (M : Nat → Nat → Nat → Int32) (R0 R1 C0 C1 k : Nat) : ca_sg M R0 R1 C0 C1 (k + 1) = ca_sg M R0 R1 C0 C1 k + (if ca_cv R0 R1 C0 C1 k = true then ca_sm (M 4 k) 16 else if ca_to R0 R1 C0 C1 k = true then ca_ps M R0 R1 C0 C1 k 16 else 0) := rfl
theorem ca_sum_l {post : Int32 → St1 → Prop} {M : Nat → Nat → Nat → Int32} {e a2 a3 a4 a5 a6 a7 a8 a9 a10 w : Nat → Int32} {R0 R1 C0 C1 : Nat} (h1 : R0 ≤ R1) (h2 : R1 < 16) (h3 : C0 ≤ C1) (h4 : C1 < 16) (h : ca_R e M a2 a3 a4 a5 a6 a7 a8 a9 a10) (hp : ∀ (b2 b3 b4 b5 b6 b7 b8 b9 b10 : Nat → Int32), ca_R e M b2 b3 b4 b5 b6 b7 b8 b9 b10 → post (ca_sg M R0 R1 C0 C1 16) (nI R0, nI R1, nI C0, nI C1, e, b2, b3, b4, b5, b6, b7, b8, b9, b10, w)) : ∃ n, wX_sum_27 post n 0 0 (nI R0) (nI R1) (nI C0) (nI C1) e a2 a3 a4 a5 a6 a7 a8 a9 a10 w := by
  refine ca_loop9 (fun n k b2 b3 b4 b5 b6 b7 b8 b9 b10 => wX_sum_27 post n (ca_sg M R0 R1 C0 C1 k) (nI k) (nI R0) (nI R1) (nI C0) (nI C1) e b2 b3 b4 b5 b6 b7 b8 b9 b10 w) (fun k b2 b3 b4 b5 b6 b7 b8 b9 b10 => ca_R e M b2 b3 b4 b5 b6 b7 b8 b9 b10) 16 a2 a3 a4 a5 a6 a7 a8 a9 a10 h
    (fun n b2 b3 b4 b5 b6 b7 b8 b9 b10 hb => pk_le 16 16 (fun _ => hp b2 b3 b4 b5 b6 b7 b8 b9 b10 hb) (fun y => absurd y (by omega)))
    (fun n k b2 b3 b4 b5 b6 b7 b8 b9 b10 hk hb hw => pk_le 16 k (fun y => absurd y (by omega)) (fun _ => ?_))
  have whole : ca_cv R0 R1 C0 C1 k = true → ∀ (g2 g3 g4 g5 g6 g7 g8 g9 g10 : Nat → Int32), ca_R e M g2 g3 g4 g5 g6 g7 g8 g9 g10 → wX_sum_27 post n (ca_sg M R0 R1 C0 C1 k + ca_sm (M 4 k) 16) (nI (k + 1)) (nI R0) (nI R1) (nI C0) (nI C1) e g2 g3 g4 g5 g6 g7 g8 g9 g10 w := by
    intro hc g2 g3 g4 g5 g6 g7 g8 g9 g10 hg
    have t : wX_sum_27 post n (ca_sg M R0 R1 C0 C1 (k + 1)) (nI (k + 1)) (nI R0) (nI R1) (nI C0) (nI C1) e g2 g3 g4 g5 g6 g7 g8 g9 g10 w := hw g2 g3 g4 g5 g6 g7 g8 g9 g10 hg
    rw [ca_sg_s, if_pos hc] at t
    exact t
  refine ca_covers h1 h2 h3 h4 hk
    (fun hc => ca_touches h1 h2 h3 h4 hk (fun _ => br_f (by decide) ⟨pk_in (64 + k) 80 (by omega) (ca_e_64 k), ca_wholeSum hb hk (fun g7 g8 hg => nm_e (nm_r (nI_1 k) (whole hc _ _ _ _ _ _ _ _ _ hg)))⟩) (fun _ => br_f (by decide) ⟨pk_in (64 + k) 80 (by omega) (ca_e_64 k), ca_wholeSum hb hk (fun g7 g8 hg => nm_e (nm_r (nI_1 k) (whole hc _ _ _ _ _ _ _ _ _ hg)))⟩))
    (fun hc => ca_touches h1 h2 h3 h4 hk (fun hto => br_t rfl (br_f (by decide) (ca_partSum h1 h2 h3 h4 hb hk ?_))) (fun hto => br_t rfl (br_t rfl ?_)))
  · have t : wX_sum_27 post n (ca_sg M R0 R1 C0 C1 (k + 1)) (nI (k + 1)) (nI R0) (nI R1) (nI C0) (nI C1) e b2 b3 b4 b5 b6 b7 b8 b9 b10 w := hw b2 b3 b4 b5 b6 b7 b8 b9 b10 hb
    rw [ca_sg_s, if_neg (by rw [hc]; decide), if_pos hto] at t
    exact nm_e (nm_r (nI_1 k) t)
  · have t : wX_sum_27 post n (ca_sg M R0 R1 C0 C1 (k + 1)) (nI (k + 1)) (nI R0) (nI R1) (nI C0) (nI C1) e b2 b3 b4 b5 b6 b7 b8 b9 b10 w := hw b2 b3 b4 b5 b6 b7 b8 b9 b10 hb
    rw [ca_sg_s, if_neg (by rw [hc]; decide), if_neg (by rw [hto]; decide), Int32.add_zero] at t
    exact nm_r (nI_1 k) t
def ca_sgF (M : Nat → Nat → Nat → Int32) (F T : Nat) : Int32 := ca_sg M (min (F % 16) (T % 16)) (max (F % 16) (T % 16)) (min (F / 16) (T / 16)) (max (F / 16) (T / 16)) 16
theorem ca_sgF_c (M : Nat → Nat → Nat → Int32) (F T : Nat) : ca_sgF M F T = ca_sgF M T F := by
  unfold ca_sgF
  rw [Nat.min_comm (F % 16), Nat.max_comm (F % 16), Nat.min_comm (F / 16), Nat.max_comm (F / 16)]
theorem ca_sum_g {post : Int32 → St1 → Prop} {e : Nat → Int32} {M : Nat → Nat → Nat → Int32} {u : St1} {F T : Nat} (hu : ca_U e M u) (hF : F < 256) (hT : T < 256) (hp : ∀ u', ca_U e M u' → post (ca_sgF M F T) u') : wpX_sum post u (nI F) (nI T) := by
  obtain ⟨r0, r1, c0, c1, a1, a2, a3, a4, a5, a6, a7, a8, a9, a10, w⟩ := u
  obtain ⟨rfl, h⟩ := hu
  unfold wpX_sum
  dsimp only
  exact ca_bad_g hF (br_t rfl (ca_bad_g hT (br_t rfl (ca_setRegion hF hT (ca_sum_l (by omega) (by omega) (by omega) (by omega) h (fun b2 b3 b4 b5 b6 b7 b8 b9 b10 hb => hp _ ⟨rfl, hb⟩))))))
/-! the greatest -/
theorem ca_wholeGreatest {post : Int32 → St1 → Prop} {M : Nat → Nat → Nat → Int32} {r0 r1 c0 c1 : Int32} {e a2 a3 a4 a5 a6 a7 a8 a9 a10 w : Nat → Int32} {k : Nat} (h : ca_R e M a2 a3 a4 a5 a6 a7 a8 a9 a10) (hk : k < 16) (hp : ∀ b9 b10 : Nat → Int32, ca_R e M a2 a3 a4 a5 a6 a7 a8 b9 b10 → post (ca_mx (M 4 k) 15) (r0, r1, c0, c1, e, a2, a3, a4, a5, a6, a7, a8, b9, b10, w)) : wpX_wholeGreatest post (r0, r1, c0, c1, e, a2, a3, a4, a5, a6, a7, a8, a9, a10, w) (a2 (64 + nI k).toNatClampNeg) := by
  obtain ⟨c, hc, h2, hn, hv⟩ := ca_R_at h hk
  have kc : (nI c).toNatClampNeg = c := nI_clamp (by omega)
  have hm : ca_mx (ca_v a4 a5 a6 c) 15 = ca_mx (M 4 k) 15 := ca_mx_cg (fun j hj => hv j (by omega))
  have k0 : (nI c * 16).toNatClampNeg = c * 16 + 0 := by
    rw [show (16 : Int32) = nI 16 from rfl, pk_mul, nI_clamp (by omega)]
    rfl
  rw [ca_e_64, nI_clamp (by omega), h2]
  unfold wpX_wholeGreatest
  dsimp only
  refine ⟨pk_in c 80 hc, br_c (fun z => ?_) (fun z => ?_)⟩
  · refine ⟨pk_in (c * 16) 1280 (by omega) (pk_mul c 16), pk_in c 80 hc, pk_in c 80 hc, nm_r (e' := ca_mx (ca_v a4 a5 a6 c) 0) (by rw [k0, kc]; rfl) ?_⟩
    refine pk_loop (σ := Unit) (fun n i _ => wX_wholeGreatest_35 post (nI c) r0 r1 c0 c1 e a2 a3 a4 a5 a6 a7 a8 a9 a10 w n (ca_mx (ca_v a4 a5 a6 c) i) (nI (i + 1))) (fun _ _ => True) 15 0 () (by omega) trivial
      (fun n _ _ => pk_le 16 16 (fun _ => ⟨pk_in c 80 hc, nm_r (e' := upd a10 c (ca_mx (ca_v a4 a5 a6 c) 15)) (by rw [kc]) ⟨pk_in c 80 hc, nm_r (e' := upd a9 c 1) (by rw [kc]) ⟨pk_in c 80 hc, ?_⟩⟩⟩) (fun y => absurd y (by omega)))
      (fun n i _ hi _ hw => pk_le 16 (i + 1) (fun y => absurd y (by omega)) (fun _ => ⟨pk_in (c * 16 + (i + 1)) 1280 (by omega) (ca_e_16 c (i + 1)), pk_in c 80 hc, pk_in c 80 hc, nm_r (e' := ca_v a4 a5 a6 c (i + 1)) (by rw [ca_e_16, nI_clamp (by omega), kc]; rfl) (br_c (fun g => ?_) (fun g => ?_))⟩))
    · rw [kc, pk_us, hm]
      refine hp _ _ (ca_R_kept h (fun x hx hnx => ?_))
      by_cases ex : x = c
      · rw [ex] at hnx
        rw [ex]
        exact ⟨hnx.1, fun _ => by rw [pk_us, hm]⟩
      · refine ⟨hnx.1, fun y => ?_⟩
        rw [pk_un ex] at y
        rw [pk_un ex]
        exact hnx.2 y
    · have t : wX_wholeGreatest_35 post (nI c) r0 r1 c0 c1 e a2 a3 a4 a5 a6 a7 a8 a9 a10 w n (ca_mx (ca_v a4 a5 a6 c) (i + 1)) (nI (i + 1 + 1)) := hw () trivial
      rw [ca_mx_s, if_pos g] at t
      exact nm_r (nI_1 (i + 1)) t
    · have t : wX_wholeGreatest_35 post (nI c) r0 r1 c0 c1 e a2 a3 a4 a5 a6 a7 a8 a9 a10 w n (ca_mx (ca_v a4 a5 a6 c) (i + 1)) (nI (i + 1 + 1)) := hw () trivial
      rw [ca_mx_s, if_neg g] at t
      exact nm_r (nI_1 (i + 1)) t
  · rw [kc] at z
    refine ⟨pk_in c 80 hc, ?_⟩
    rw [kc, hn.2 z, hm]
    exact hp a9 a10 h
def ca_gp (M : Nat → Nat → Nat → Int32) (R0 R1 C0 C1 k : Nat) (b : Int32) : Nat → Int32
  | 0 => b
  | i + 1 => if ca_in R0 R1 C0 C1 k i = true then (if M 4 k i ≤ ca_gp M R0 R1 C0 C1 k b i then ca_gp M R0 R1 C0 C1 k b i else M 4 k i) else ca_gp M R0 R1 C0 C1 k b i
theorem ca_gp_s (M : Nat → Nat → Nat → Int32) (R0 R1 C0 C1 k : Nat) (b : Int32) (i : Nat) : ca_gp M R0 R1 C0 C1 k b (i + 1) = if ca_in R0 R1 C0 C1 k i = true then (if M 4 k i ≤ ca_gp M R0 R1 C0 C1 k b i then ca_gp M R0 R1 C0 C1 k b i else M 4 k i) else ca_gp M R0 R1 C0 C1 k b i := rfl
theorem ca_partGreatest {post : Int32 → Prop} {M : Nat → Nat → Nat → Int32} {e a2 a3 a4 a5 a6 a7 a8 a9 a10 w : Nat → Int32} {R0 R1 C0 C1 k : Nat} {b : Int32} (h1 : R0 ≤ R1) (h2 : R1 < 16) (h3 : C0 ≤ C1) (h4 : C1 < 16) (h : ca_R e M a2 a3 a4 a5 a6 a7 a8 a9 a10) (hk : k < 16) (hp : post (ca_gp M R0 R1 C0 C1 k b 16)) : wpX_partGreatest post (nI R0, nI R1, nI C0, nI C1, e, a2, a3, a4, a5, a6, a7, a8, a9, a10, w) (nI k) b := by
  unfold wpX_partGreatest
  dsimp only
  refine pk_loop (σ := Unit) (fun n i _ => wX_partGreatest_5 post (nI k) (nI R0) (nI R1) (nI C0) (nI C1) e a2 a3 a4 a5 a6 a7 a8 a9 a10 w n (ca_gp M R0 R1 C0 C1 k b i) (nI i)) (fun _ _ => True) 16 0 () (by omega) trivial
    (fun n _ _ => pk_le 16 16 (fun _ => hp) (fun y => absurd y (by omega)))
    (fun n i _ hi _ hw => pk_le 16 i (fun y => absurd y (by omega)) (fun _ => ⟨by decide, by decide, nm_r (ca_e_rw hk hi) ⟨by decide, by decide, nm_r (ca_e_cl hk hi) (ca_inRegion h1 h2 h3 h4 hk hi (fun hin => ca_read_k (a := 4) h (by omega) h.1 hk hi (br_f (by decide) (br_c (fun g => ?_) (fun g => ?_)))) (fun hin => ca_read_k (a := 4) h (by omega) h.1 hk hi (br_t rfl ?_)))⟩⟩))
  · have t : wX_partGreatest_5 post (nI k) (nI R0) (nI R1) (nI C0) (nI C1) e a2 a3 a4 a5 a6 a7 a8 a9 a10 w n (ca_gp M R0 R1 C0 C1 k b (i + 1)) (nI (i + 1)) := hw () trivial
    rw [ca_gp_s, if_pos hin, if_pos g] at t
    exact nm_r (nI_1 i) t
  · have t : wX_partGreatest_5 post (nI k) (nI R0) (nI R1) (nI C0) (nI C1) e a2 a3 a4 a5 a6 a7 a8 a9 a10 w n (ca_gp M R0 R1 C0 C1 k b (i + 1)) (nI (i + 1)) := hw () trivial
    rw [ca_gp_s, if_pos hin, if_neg g] at t
    exact nm_r (nI_1 i) t
  · have t : wX_partGreatest_5 post (nI k) (nI R0) (nI R1) (nI C0) (nI C1) e a2 a3 a4 a5 a6 a7 a8 a9 a10 w n (ca_gp M R0 R1 C0 C1 k b (i + 1)) (nI (i + 1)) := hw () trivial
    rw [ca_gp_s, if_neg (by rw [hin]; decide)] at t
    exact nm_r (nI_1 i) t
def ca_gg (M : Nat → Nat → Nat → Int32) (R0 R1 C0 C1 : Nat) : Nat → Int32
  | 0 => M 4 (ca_pl R0 C0) (ca_wi R0 C0)
  | k + 1 => if ca_cv R0 R1 C0 C1 k = true then (if ca_mx (M 4 k) 15 ≤ ca_gg M R0 R1 C0 C1 k then ca_gg M R0 R1 C0 C1 k else ca_mx (M 4 k) 15) else if ca_to R0 R1 C0 C1 k = true then ca_gp M R0 R1 C0 C1 k (ca_gg M R0 R1 C0 C1 k) 16 else ca_gg M R0 R1 C0 C1 k
theorem ca_gg_s (M : Nat → Nat → Nat → Int32) (R0 R1 C0 C1 k : Nat) : ca_gg M R0 R1 C0 C1 (k + 1) = if ca_cv R0 R1 C0 C1 k = true then (if ca_mx (M 4 k) 15 ≤ ca_gg M R0 R1 C0 C1 k then ca_gg M R0 R1 C0 C1 k else ca_mx (M 4 k) 15) else if ca_to R0 R1 C0 C1 k = true then ca_gp M R0 R1 C0 C1 k (ca_gg M R0 R1 C0 C1 k) 16 else ca_gg M R0 R1 C0 C1 k := rfl
theorem ca_greatest_l {post : Int32 → St1 → Prop} {M : Nat → Nat → Nat → Int32} {e a2 a3 a4 a5 a6 a7 a8 a9 a10 w : Nat → Int32} {R0 R1 C0 C1 : Nat} (h1 : R0 ≤ R1) (h2 : R1 < 16) (h3 : C0 ≤ C1) (h4 : C1 < 16) (h : ca_R e M a2 a3 a4 a5 a6 a7 a8 a9 a10) (hp : ∀ (b2 b3 b4 b5 b6 b7 b8 b9 b10 : Nat → Int32), ca_R e M b2 b3 b4 b5 b6 b7 b8 b9 b10 → post (ca_gg M R0 R1 C0 C1 16) (nI R0, nI R1, nI C0, nI C1, e, b2, b3, b4, b5, b6, b7, b8, b9, b10, w)) : ∃ n, wX_greatest_39 post n (M 4 (ca_pl R0 C0) (ca_wi R0 C0)) 0 (nI R0) (nI R1) (nI C0) (nI C1) e a2 a3 a4 a5 a6 a7 a8 a9 a10 w := by
  refine ca_loop9 (fun n k b2 b3 b4 b5 b6 b7 b8 b9 b10 => wX_greatest_39 post n (ca_gg M R0 R1 C0 C1 k) (nI k) (nI R0) (nI R1) (nI C0) (nI C1) e b2 b3 b4 b5 b6 b7 b8 b9 b10 w) (fun k b2 b3 b4 b5 b6 b7 b8 b9 b10 => ca_R e M b2 b3 b4 b5 b6 b7 b8 b9 b10) 16 a2 a3 a4 a5 a6 a7 a8 a9 a10 h
    (fun n b2 b3 b4 b5 b6 b7 b8 b9 b10 hb => pk_le 16 16 (fun _ => hp b2 b3 b4 b5 b6 b7 b8 b9 b10 hb) (fun y => absurd y (by omega)))
    (fun n k b2 b3 b4 b5 b6 b7 b8 b9 b10 hk hb hw => pk_le 16 k (fun y => absurd y (by omega)) (fun _ => ?_))
  have w1 : ca_cv R0 R1 C0 C1 k = true → ca_mx (M 4 k) 15 ≤ ca_gg M R0 R1 C0 C1 k → ∀ (g2 g3 g4 g5 g6 g7 g8 g9 g10 : Nat → Int32), ca_R e M g2 g3 g4 g5 g6 g7 g8 g9 g10 → wX_greatest_39 post n (ca_gg M R0 R1 C0 C1 k) (nI (k + 1)) (nI R0) (nI R1) (nI C0) (nI C1) e g2 g3 g4 g5 g6 g7 g8 g9 g10 w := by
    intro hc g g2 g3 g4 g5 g6 g7 g8 g9 g10 hg
    have t : wX_greatest_39 post n (ca_gg M R0 R1 C0 C1 (k + 1)) (nI (k + 1)) (nI R0) (nI R1) (nI C0) (nI C1) e g2 g3 g4 g5 g6 g7 g8 g9 g10 w := hw g2 g3 g4 g5 g6 g7 g8 g9 g10 hg
    rw [ca_gg_s, if_pos hc, if_pos g] at t
    exact t
  have w2 : ca_cv R0 R1 C0 C1 k = true → ¬ ca_mx (M 4 k) 15 ≤ ca_gg M R0 R1 C0 C1 k → ∀ (g2 g3 g4 g5 g6 g7 g8 g9 g10 : Nat → Int32), ca_R e M g2 g3 g4 g5 g6 g7 g8 g9 g10 → wX_greatest_39 post n (ca_mx (M 4 k) 15) (nI (k + 1)) (nI R0) (nI R1) (nI C0) (nI C1) e g2 g3 g4 g5 g6 g7 g8 g9 g10 w := by
    intro hc g g2 g3 g4 g5 g6 g7 g8 g9 g10 hg
    have t : wX_greatest_39 post n (ca_gg M R0 R1 C0 C1 (k + 1)) (nI (k + 1)) (nI R0) (nI R1) (nI C0) (nI C1) e g2 g3 g4 g5 g6 g7 g8 g9 g10 w := hw g2 g3 g4 g5 g6 g7 g8 g9 g10 hg
    rw [ca_gg_s, if_pos hc, if_neg g] at t
    exact t
  refine ca_covers h1 h2 h3 h4 hk
    (fun hc => ca_touches h1 h2 h3 h4 hk (fun _ => br_f (by decide) ⟨pk_in (64 + k) 80 (by omega) (ca_e_64 k), ca_wholeGreatest hb hk (fun g9 g10 hg => br_c (fun g => nm_r (nI_1 k) (w1 hc g _ _ _ _ _ _ _ _ _ hg)) (fun g => nm_r (nI_1 k) (w2 hc g _ _ _ _ _ _ _ _ _ hg)))⟩) (fun _ => br_f (by decide) ⟨pk_in (64 + k) 80 (by omega) (ca_e_64 k), ca_wholeGreatest hb hk (fun g9 g10 hg => br_c (fun g => nm_r (nI_1 k) (w1 hc g _ _ _ _ _ _ _ _ _ hg)) (fun g => nm_r (nI_1 k) (w2 hc g _ _ _ _ _ _ _ _ _ hg)))⟩))
    (fun hc => ca_touches h1 h2 h3 h4 hk (fun hto => br_t rfl (br_f (by decide) (ca_partGreatest h1 h2 h3 h4 hb hk ?_))) (fun hto => br_t rfl (br_t rfl ?_)))
  · have t : wX_greatest_39 post n (ca_gg M R0 R1 C0 C1 (k + 1)) (nI (k + 1)) (nI R0) (nI R1) (nI C0) (nI C1) e b2 b3 b4 b5 b6 b7 b8 b9 b10 w := hw b2 b3 b4 b5 b6 b7 b8 b9 b10 hb
    rw [ca_gg_s, if_neg (by rw [hc]; decide), if_pos hto] at t
    exact nm_r (nI_1 k) t
  · have t : wX_greatest_39 post n (ca_gg M R0 R1 C0 C1 (k + 1)) (nI (k + 1)) (nI R0) (nI R1) (nI C0) (nI C1) e b2 b3 b4 b5 b6 b7 b8 b9 b10 w := hw b2 b3 b4 b5 b6 b7 b8 b9 b10 hb
    rw [ca_gg_s, if_neg (by rw [hc]; decide), if_neg (by rw [hto]; decide)] at t
    exact nm_r (nI_1 k) t
def ca_ggF (M : Nat → Nat → Nat → Int32) (F T : Nat) : Int32 := ca_gg M (min (F % 16) (T % 16)) (max (F % 16) (T % 16)) (min (F / 16) (T / 16)) (max (F / 16) (T / 16)) 16
theorem ca_greatest_g {post : Int32 → St1 → Prop} {e : Nat → Int32} {M : Nat → Nat → Nat → Int32} {u : St1} {F T : Nat} (hu : ca_U e M u) (hF : F < 256) (hT : T < 256) (hp : ∀ u', ca_U e M u' → post (ca_ggF M F T) u') : wpX_greatest post u (nI F) (nI T) := by
  obtain ⟨r0, r1, c0, c1, a1, a2, a3, a4, a5, a6, a7, a8, a9, a10, w⟩ := u
  obtain ⟨rfl, h⟩ := hu
  unfold wpX_greatest
  dsimp only
  exact ca_bad_g hF (br_t rfl (ca_bad_g hT (br_t rfl (ca_setRegion hF hT (ca_read (a := 4) h (by omega) h.1 (by omega) (by omega) (ca_greatest_l (by omega) (by omega) (by omega) (by omega) h (fun b2 b3 b4 b5 b6 b7 b8 b9 b10 hb => hp _ ⟨rfl, hb⟩)))))))
end
section
/-! the three changes by name -/
theorem ca_fill_g {post : Int32 → St1 → Prop} {e : Nat → Int32} {M : Nat → Nat → Nat → Int32} {u : St1} {F T : Nat} {x : Int32} (hu : ca_U e M u) (hF : F < 256) (hT : T < 256) (hp : ∀ u', ca_U e (ca_ap (ca_rg F T) (ca_f 0 x) M) u' → post (nI (ca_rs F T)) u') : wpX_fill post u (nI F) (nI T) x := by
  obtain ⟨p0, p1, p2, p3, p4, p5, p6, p7, p8, p9, p10, p11, p12, p13, p14⟩ := u
  unfold wpX_fill
  dsimp only
  refine ca_change_g hu hF hT (fun u' hu' => ?_)
  obtain ⟨q0, q1, q2, q3, q4, q5, q6, q7, q8, q9, q10, q11, q12, q13, q14⟩ := u'
  exact hp _ hu'
theorem ca_add_g {post : Int32 → St1 → Prop} {e : Nat → Int32} {M : Nat → Nat → Nat → Int32} {u : St1} {F T : Nat} {x : Int32} (hu : ca_U e M u) (hF : F < 256) (hT : T < 256) (hp : ∀ u', ca_U e (ca_ap (ca_rg F T) (ca_f 1 x) M) u' → post (nI (ca_rs F T)) u') : wpX_add post u (nI F) (nI T) x := by
  obtain ⟨p0, p1, p2, p3, p4, p5, p6, p7, p8, p9, p10, p11, p12, p13, p14⟩ := u
  unfold wpX_add
  dsimp only
  refine ca_change_g hu hF hT (fun u' hu' => ?_)
  obtain ⟨q0, q1, q2, q3, q4, q5, q6, q7, q8, q9, q10, q11, q12, q13, q14⟩ := u'
  exact hp _ hu'
theorem ca_scale_g {post : Int32 → St1 → Prop} {e : Nat → Int32} {M : Nat → Nat → Nat → Int32} {u : St1} {F T : Nat} {x : Int32} (hu : ca_U e M u) (hF : F < 256) (hT : T < 256) (hp : ∀ u', ca_U e (ca_ap (ca_rg F T) (ca_f 2 x) M) u' → post (nI (ca_rs F T)) u') : wpX_scale post u (nI F) (nI T) x := by
  obtain ⟨p0, p1, p2, p3, p4, p5, p6, p7, p8, p9, p10, p11, p12, p13, p14⟩ := u
  unfold wpX_scale
  dsimp only
  refine ca_change_g hu hF hT (fun u' hu' => ?_)
  obtain ⟨q0, q1, q2, q3, q4, q5, q6, q7, q8, q9, q10, q11, q12, q13, q14⟩ := u'
  exact hp _ hu'
theorem ca_fill_b {post : Int32 → St1 → Prop} {u : St1} {p0 p1 x : Int32} (hb : (∀ F, F < 256 → p0 ≠ nI F) ∨ (∀ F, F < 256 → p1 ≠ nI F)) (hp : post (-1) u) : wpX_fill post u p0 p1 x := by
  obtain ⟨q0, q1, q2, q3, q4, q5, q6, q7, q8, q9, q10, q11, q12, q13, q14⟩ := u
  unfold wpX_fill
  dsimp only
  exact ca_change_b hb hp
/-! what a call makes of the picture depends on the picture and the arguments alone -/
theorem ca_change_D (e : Nat → Int32) (M : Nat → Nat → Nat → Int32) (p0 p1 q x : Int32) : ∃ e' M', ∀ (post : Int32 → St1 → Prop) (u : St1), ca_U e M u → (∀ r u', ca_U e' M' u' → post r u') → wpX_change post u p0 p1 q x := by
  rcases ca_gb p0 with ⟨F, hF, rfl⟩ | h0
  · rcases ca_gb p1 with ⟨T, hT, rfl⟩ | h1
    · exact ⟨e, _, fun post u hu hp => ca_change_g hu hF hT (fun u' hu' => hp _ u' hu')⟩
    · exact ⟨e, M, fun post u hu hp => ca_change_b (Or.inr h1) (hp _ u hu)⟩
  · exact ⟨e, M, fun post u hu hp => ca_change_b (Or.inl h0) (hp _ u hu)⟩
theorem ca_fill_D (e : Nat → Int32) (M : Nat → Nat → Nat → Int32) (p0 p1 x : Int32) : ∃ e' M', ∀ (post : Int32 → St1 → Prop) (u : St1), ca_U e M u → (∀ r u', ca_U e' M' u' → post r u') → wpX_fill post u p0 p1 x := by
  obtain ⟨e', M', h⟩ := ca_change_D e M p0 p1 0 x
  refine ⟨e', M', fun post u hu hp => ?_⟩
  obtain ⟨s0, s1, s2, s3, s4, s5, s6, s7, s8, s9, s10, s11, s12, s13, s14⟩ := u
  unfold wpX_fill
  dsimp only
  refine h _ _ hu (fun r u' hu' => ?_)
  obtain ⟨t0, t1, t2, t3, t4, t5, t6, t7, t8, t9, t10, t11, t12, t13, t14⟩ := u'
  exact hp r _ hu'
theorem ca_add_D (e : Nat → Int32) (M : Nat → Nat → Nat → Int32) (p0 p1 x : Int32) : ∃ e' M', ∀ (post : Int32 → St1 → Prop) (u : St1), ca_U e M u → (∀ r u', ca_U e' M' u' → post r u') → wpX_add post u p0 p1 x := by
  obtain ⟨e', M', h⟩ := ca_change_D e M p0 p1 1 x
  refine ⟨e', M', fun post u hu hp => ?_⟩
  obtain ⟨s0, s1, s2, s3, s4, s5, s6, s7, s8, s9, s10, s11, s12, s13, s14⟩ := u
  unfold wpX_add
  dsimp only
  refine h _ _ hu (fun r u' hu' => ?_)
  obtain ⟨t0, t1, t2, t3, t4, t5, t6, t7, t8, t9, t10, t11, t12, t13, t14⟩ := u'
  exact hp r _ hu'
theorem ca_scale_D (e : Nat → Int32) (M : Nat → Nat → Nat → Int32) (p0 p1 x : Int32) : ∃ e' M', ∀ (post : Int32 → St1 → Prop) (u : St1), ca_U e M u → (∀ r u', ca_U e' M' u' → post r u') → wpX_scale post u p0 p1 x := by
  obtain ⟨e', M', h⟩ := ca_change_D e M p0 p1 2 x
  refine ⟨e', M', fun post u hu hp => ?_⟩
  obtain ⟨s0, s1, s2, s3, s4, s5, s6, s7, s8, s9, s10, s11, s12, s13, s14⟩ := u
  unfold wpX_scale
  dsimp only
  refine h _ _ hu (fun r u' hu' => ?_)
  obtain ⟨t0, t1, t2, t3, t4, t5, t6, t7, t8, t9, t10, t11, t12, t13, t14⟩ := u'
  exact hp r _ hu'
theorem ca_copy_D (e : Nat → Int32) (M : Nat → Nat → Nat → Int32) (p0 p1 p2 : Int32) : ∃ e' M', ∀ (post : Int32 → St1 → Prop) (u : St1), ca_U e M u → (∀ r u', ca_U e' M' u' → post r u') → wpX_copy post u p0 p1 p2 := by
  rcases ca_gb p0 with ⟨F, hF, rfl⟩ | h0
  · rcases ca_gb p1 with ⟨T, hT, rfl⟩ | h1
    · rcases ca_gb p2 with ⟨A, hA, rfl⟩ | h2
      · exact ⟨e, _, fun post u hu hp => ca_copy_g hu hF hT hA (fun u' hu' => hp _ u' hu')⟩
      · exact ⟨e, M, fun post u hu hp => ca_copy_b (Or.inr (Or.inr h2)) (hp _ u hu)⟩
    · exact ⟨e, M, fun post u hu hp => ca_copy_b (Or.inr (Or.inl h1)) (hp _ u hu)⟩
  · exact ⟨e, M, fun post u hu hp => ca_copy_b (Or.inl h0) (hp _ u hu)⟩
theorem ca_keep_D (e : Nat → Int32) (M : Nat → Nat → Nat → Int32) (x : Int32) : ∃ e' M', ∀ (post : Int32 → St1 → Prop) (u : St1), ca_U e M u → (∀ r u', ca_U e' M' u' → post r u') → wpX_keep post u x := by
  rcases Classical.em (∃ v, v < 4 ∧ x = nI v) with ⟨v, hv, rfl⟩ | h
  · by_cases he : e v = 0
    · exact ⟨_, _, fun post u hu hp => ca_keep_g hu hv he (fun u' hu' => hp _ u' hu')⟩
    · exact ⟨e, M, fun post u hu hp => ca_keep_t hu hv he (hp _ u hu)⟩
  · exact ⟨e, M, fun post u hu hp => ca_keep_b (fun v hv ev => h ⟨v, hv, ev⟩) (hp _ u hu)⟩
theorem ca_vers (e : Nat → Int32) (x : Int32) : (∃ v, v < 4 ∧ x = nI v ∧ e v ≠ 0) ∨ (∀ v, v < 4 → x = nI v → e v = 0) := by
  rcases Classical.em (∃ v, v < 4 ∧ x = nI v ∧ e v ≠ 0) with h | h
  · exact Or.inl h
  · refine Or.inr (fun v hv ev => ?_)
    by_cases he : e v = 0
    · exact he
    · exact absurd ⟨v, hv, ev, he⟩ h
theorem ca_restore_D (e : Nat → Int32) (M : Nat → Nat → Nat → Int32) (x : Int32) : ∃ e' M', ∀ (post : Int32 → St1 → Prop) (u : St1), ca_U e M u → (∀ r u', ca_U e' M' u' → post r u') → wpX_restore post u x := by
  rcases ca_vers e x with ⟨v, hv, rfl, he⟩ | h
  · exact ⟨_, _, fun post u hu hp => ca_restore_g hu hv he (fun u' hu' => hp _ u' hu')⟩
  · exact ⟨e, M, fun post u hu hp => ca_restore_b hu h (hp _ u hu)⟩
theorem ca_drop_D (e : Nat → Int32) (M : Nat → Nat → Nat → Int32) (x : Int32) : ∃ e' M', ∀ (post : Int32 → St1 → Prop) (u : St1), ca_U e M u → (∀ r u', ca_U e' M' u' → post r u') → wpX_drop post u x := by
  rcases ca_vers e x with ⟨v, hv, rfl, he⟩ | h
  · exact ⟨_, _, fun post u hu hp => ca_drop_g hu hv he (fun u' hu' => hp _ u' hu')⟩
  · exact ⟨e, M, fun post u hu hp => ca_drop_b hu h (hp _ u hu)⟩
/-! one turn -/
theorem ca_t105 (e : Nat → Int32) (M : Nat → Nat → Nat → Int32) (x1 x2 : Int32) : ∃ e' M', ∀ (post : St1 → Prop) (p0 p1 p2 p3 : Int32) (p4 p5 p6 p7 p8 p9 p10 p11 p12 p13 p14 : Nat → Int32), ca_U e M (p0, p1, p2, p3, p4, p5, p6, p7, p8, p9, p10, p11, p12, p13, p14) → (∀ u', ca_U e' M' u' → post u') → wL_turn_105 post x1 x2 p0 p1 p2 p3 p4 p5 p6 p7 p8 p9 p10 p11 p12 p13 p14 := by
  by_cases h : x1 = 14
  · obtain ⟨e', M', hd⟩ := ca_drop_D e M x2
    refine ⟨e', M', fun post p0 p1 p2 p3 p4 p5 p6 p7 p8 p9 p10 p11 p12 p13 p14 hu hp => br_t h (hd _ _ hu (fun r u' hu' => ?_))⟩
    obtain ⟨q0, q1, q2, q3, q4, q5, q6, q7, q8, q9, q10, q11, q12, q13, q14⟩ := u'
    exact hp _ hu'
  · exact ⟨e, M, fun post p0 p1 p2 p3 p4 p5 p6 p7 p8 p9 p10 p11 p12 p13 p14 hu hp => br_f h (hp _ hu)⟩
theorem ca_t99 (e : Nat → Int32) (M : Nat → Nat → Nat → Int32) (x1 x2 : Int32) : ∃ e' M', ∀ (post : St1 → Prop) (p0 p1 p2 p3 : Int32) (p4 p5 p6 p7 p8 p9 p10 p11 p12 p13 p14 : Nat → Int32), ca_U e M (p0, p1, p2, p3, p4, p5, p6, p7, p8, p9, p10, p11, p12, p13, p14) → (∀ u', ca_U e' M' u' → post u') → wL_turn_99 post x1 x2 p0 p1 p2 p3 p4 p5 p6 p7 p8 p9 p10 p11 p12 p13 p14 := by
  obtain ⟨e1, M1, h1⟩ := ca_restore_D e M x2
  obtain ⟨e2, M2, h2⟩ := ca_t105 e1 M1 x1 x2
  refine ⟨e2, M2, fun post p0 p1 p2 p3 p4 p5 p6 p7 p8 p9 p10 p11 p12 p13 p14 hu hp => ?_⟩
  unfold wL_turn_99
  refine h1 _ _ hu (fun r u' hu' => ?_)
  obtain ⟨q0, q1, q2, q3, q4, q5, q6, q7, q8, q9, q10, q11, q12, q13, q14⟩ := u'
  exact h2 post q0 q1 q2 q3 q4 q5 q6 q7 q8 q9 q10 q11 q12 q13 q14 hu' hp
theorem ca_t87 (e : Nat → Int32) (M : Nat → Nat → Nat → Int32) (x1 x2 : Int32) : ∃ e' M', ∀ (post : St1 → Prop) (p0 p1 p2 p3 : Int32) (p4 p5 p6 p7 p8 p9 p10 p11 p12 p13 p14 : Nat → Int32), ca_U e M (p0, p1, p2, p3, p4, p5, p6, p7, p8, p9, p10, p11, p12, p13, p14) → (∀ u', ca_U e' M' u' → post u') → wL_turn_87 post x1 x2 p0 p1 p2 p3 p4 p5 p6 p7 p8 p9 p10 p11 p12 p13 p14 := by
  by_cases h : x1 = 12
  · obtain ⟨e2, M2, h2⟩ := ca_t99 e M x1 x2
    exact ⟨e2, M2, fun post p0 p1 p2 p3 p4 p5 p6 p7 p8 p9 p10 p11 p12 p13 p14 hu hp => br_t h (h2 post p0 p1 p2 p3 p4 p5 p6 p7 p8 p9 p10 p11 p12 p13 p14 hu hp)⟩
  · by_cases g : x1 = 13
    · obtain ⟨e2, M2, h2⟩ := ca_t99 e M x1 x2
      exact ⟨e2, M2, fun post p0 p1 p2 p3 p4 p5 p6 p7 p8 p9 p10 p11 p12 p13 p14 hu hp => br_f h (br_t g (h2 post p0 p1 p2 p3 p4 p5 p6 p7 p8 p9 p10 p11 p12 p13 p14 hu hp))⟩
    · obtain ⟨e2, M2, h2⟩ := ca_t105 e M x1 x2
      exact ⟨e2, M2, fun post p0 p1 p2 p3 p4 p5 p6 p7 p8 p9 p10 p11 p12 p13 p14 hu hp => br_f h (br_f g (h2 post p0 p1 p2 p3 p4 p5 p6 p7 p8 p9 p10 p11 p12 p13 p14 hu hp))⟩
theorem ca_t81 (e : Nat → Int32) (M : Nat → Nat → Nat → Int32) (x1 x2 : Int32) : ∃ e' M', ∀ (post : St1 → Prop) (p0 p1 p2 p3 : Int32) (p4 p5 p6 p7 p8 p9 p10 p11 p12 p13 p14 : Nat → Int32), ca_U e M (p0, p1, p2, p3, p4, p5, p6, p7, p8, p9, p10, p11, p12, p13, p14) → (∀ u', ca_U e' M' u' → post u') → wL_turn_81 post x1 x2 p0 p1 p2 p3 p4 p5 p6 p7 p8 p9 p10 p11 p12 p13 p14 := by
  obtain ⟨e1, M1, h1⟩ := ca_keep_D e M x2
  obtain ⟨e2, M2, h2⟩ := ca_t87 e1 M1 x1 x2
  refine ⟨e2, M2, fun post p0 p1 p2 p3 p4 p5 p6 p7 p8 p9 p10 p11 p12 p13 p14 hu hp => ?_⟩
  unfold wL_turn_81
  refine h1 _ _ hu (fun r u' hu' => ?_)
  obtain ⟨q0, q1, q2, q3, q4, q5, q6, q7, q8, q9, q10, q11, q12, q13, q14⟩ := u'
  exact h2 post q0 q1 q2 q3 q4 q5 q6 q7 q8 q9 q10 q11 q12 q13 q14 hu' hp
theorem ca_t69 (e : Nat → Int32) (M : Nat → Nat → Nat → Int32) (x1 x2 : Int32) : ∃ e' M', ∀ (post : St1 → Prop) (p0 p1 p2 p3 : Int32) (p4 p5 p6 p7 p8 p9 p10 p11 p12 p13 p14 : Nat → Int32), ca_U e M (p0, p1, p2, p3, p4, p5, p6, p7, p8, p9, p10, p11, p12, p13, p14) → (∀ u', ca_U e' M' u' → post u') → wL_turn_69 post x1 x2 p0 p1 p2 p3 p4 p5 p6 p7 p8 p9 p10 p11 p12 p13 p14 := by
  by_cases h : x1 = 10
  · obtain ⟨e2, M2, h2⟩ := ca_t81 e M x1 x2
    exact ⟨e2, M2, fun post p0 p1 p2 p3 p4 p5 p6 p7 p8 p9 p10 p11 p12 p13 p14 hu hp => br_t h (h2 post p0 p1 p2 p3 p4 p5 p6 p7 p8 p9 p10 p11 p12 p13 p14 hu hp)⟩
  · by_cases g : x1 = 11
    · obtain ⟨e2, M2, h2⟩ := ca_t81 e M x1 x2
      exact ⟨e2, M2, fun post p0 p1 p2 p3 p4 p5 p6 p7 p8 p9 p10 p11 p12 p13 p14 hu hp => br_f h (br_t g (h2 post p0 p1 p2 p3 p4 p5 p6 p7 p8 p9 p10 p11 p12 p13 p14 hu hp))⟩
    · obtain ⟨e2, M2, h2⟩ := ca_t87 e M x1 x2
      exact ⟨e2, M2, fun post p0 p1 p2 p3 p4 p5 p6 p7 p8 p9 p10 p11 p12 p13 p14 hu hp => br_f h (br_f g (h2 post p0 p1 p2 p3 p4 p5 p6 p7 p8 p9 p10 p11 p12 p13 p14 hu hp))⟩
theorem ca_t48 (e : Nat → Int32) (M : Nat → Nat → Nat → Int32) (x1 x2 x3 x4 : Int32) : ∃ e' M', ∀ (post : St1 → Prop) (p0 p1 p2 p3 : Int32) (p4 p5 p6 p7 p8 p9 p10 p11 p12 p13 p14 : Nat → Int32), ca_U e M (p0, p1, p2, p3, p4, p5, p6, p7, p8, p9, p10, p11, p12, p13, p14) → (∀ u', ca_U e' M' u' → post u') → wL_turn_48 post x1 x2 x3 x4 p0 p1 p2 p3 p4 p5 p6 p7 p8 p9 p10 p11 p12 p13 p14 := by
  by_cases h : x1 < 7
  · obtain ⟨e2, M2, h2⟩ := ca_t69 e M x1 x2
    exact ⟨e2, M2, fun post p0 p1 p2 p3 p4 p5 p6 p7 p8 p9 p10 p11 p12 p13 p14 hu hp => br_t h (h2 post p0 p1 p2 p3 p4 p5 p6 p7 p8 p9 p10 p11 p12 p13 p14 hu hp)⟩
  · by_cases g : 9 < x1
    · obtain ⟨e2, M2, h2⟩ := ca_t69 e M x1 x2
      exact ⟨e2, M2, fun post p0 p1 p2 p3 p4 p5 p6 p7 p8 p9 p10 p11 p12 p13 p14 hu hp => br_f h (br_t g (h2 post p0 p1 p2 p3 p4 p5 p6 p7 p8 p9 p10 p11 p12 p13 p14 hu hp))⟩
    · obtain ⟨e1, M1, h1⟩ := ca_copy_D e M x2 x3 x4
      obtain ⟨e2, M2, h2⟩ := ca_t69 e1 M1 x1 x2
      refine ⟨e2, M2, fun post p0 p1 p2 p3 p4 p5 p6 p7 p8 p9 p10 p11 p12 p13 p14 hu hp => br_f h (br_f g (h1 _ _ hu (fun r u' hu' => ?_)))⟩
      obtain ⟨q0, q1, q2, q3, q4, q5, q6, q7, q8, q9, q10, q11, q12, q13, q14⟩ := u'
      exact h2 post q0 q1 q2 q3 q4 q5 q6 q7 q8 q9 q10 q11 q12 q13 q14 hu' hp
theorem ca_t33 (e : Nat → Int32) (M : Nat → Nat → Nat → Int32) (x1 x2 x3 x4 : Int32) : ∃ e' M', ∀ (post : St1 → Prop) (p0 p1 p2 p3 : Int32) (p4 p5 p6 p7 p8 p9 p10 p11 p12 p13 p14 : Nat → Int32), ca_U e M (p0, p1, p2, p3, p4, p5, p6, p7, p8, p9, p10, p11, p12, p13, p14) → (∀ u', ca_U e' M' u' → post u') → wL_turn_33 post x1 x2 x3 x4 p0 p1 p2 p3 p4 p5 p6 p7 p8 p9 p10 p11 p12 p13 p14 := by
  by_cases h : x1 = 6
  · obtain ⟨e1, M1, h1⟩ := ca_scale_D e M x2 x3 x4
    obtain ⟨e2, M2, h2⟩ := ca_t48 e1 M1 x1 x2 x3 x4
    refine ⟨e2, M2, fun post p0 p1 p2 p3 p4 p5 p6 p7 p8 p9 p10 p11 p12 p13 p14 hu hp => br_t h (h1 _ _ hu (fun r u' hu' => ?_))⟩
    obtain ⟨q0, q1, q2, q3, q4, q5, q6, q7, q8, q9, q10, q11, q12, q13, q14⟩ := u'
    exact h2 post q0 q1 q2 q3 q4 q5 q6 q7 q8 q9 q10 q11 q12 q13 q14 hu' hp
  · obtain ⟨e2, M2, h2⟩ := ca_t48 e M x1 x2 x3 x4
    exact ⟨e2, M2, fun post p0 p1 p2 p3 p4 p5 p6 p7 p8 p9 p10 p11 p12 p13 p14 hu hp => br_f h (h2 post p0 p1 p2 p3 p4 p5 p6 p7 p8 p9 p10 p11 p12 p13 p14 hu hp)⟩
theorem ca_t24 (e : Nat → Int32) (M : Nat → Nat → Nat → Int32) (x1 x2 x3 x4 : Int32) : ∃ e' M', ∀ (post : St1 → Prop) (p0 p1 p2 p3 : Int32) (p4 p5 p6 p7 p8 p9 p10 p11 p12 p13 p14 : Nat → Int32), ca_U e M (p0, p1, p2, p3, p4, p5, p6, p7, p8, p9, p10, p11, p12, p13, p14) → (∀ u', ca_U e' M' u' → post u') → wL_turn_24 post x1 x2 x3 x4 p0 p1 p2 p3 p4 p5 p6 p7 p8 p9 p10 p11 p12 p13 p14 := by
  obtain ⟨e1, M1, h1⟩ := ca_add_D e M x2 x3 x4
  obtain ⟨e2, M2, h2⟩ := ca_t33 e1 M1 x1 x2 x3 x4
  refine ⟨e2, M2, fun post p0 p1 p2 p3 p4 p5 p6 p7 p8 p9 p10 p11 p12 p13 p14 hu hp => ?_⟩
  unfold wL_turn_24
  refine h1 _ _ hu (fun r u' hu' => ?_)
  obtain ⟨q0, q1, q2, q3, q4, q5, q6, q7, q8, q9, q10, q11, q12, q13, q14⟩ := u'
  exact h2 post q0 q1 q2 q3 q4 q5 q6 q7 q8 q9 q10 q11 q12 q13 q14 hu' hp
theorem ca_t14 (e : Nat → Int32) (M : Nat → Nat → Nat → Int32) (x1 x2 x3 x4 : Int32) : ∃ e' M', ∀ (post : St1 → Prop) (p0 p1 p2 p3 : Int32) (p4 p5 p6 p7 p8 p9 p10 p11 p12 p13 p14 : Nat → Int32), ca_U e M (p0, p1, p2, p3, p4, p5, p6, p7, p8, p9, p10, p11, p12, p13, p14) → (∀ u', ca_U e' M' u' → post u') → wL_turn_14 post x1 x2 x3 x4 p0 p1 p2 p3 p4 p5 p6 p7 p8 p9 p10 p11 p12 p13 p14 := by
  by_cases h : x1 = 4
  · obtain ⟨e2, M2, h2⟩ := ca_t24 e M x1 x2 x3 x4
    exact ⟨e2, M2, fun post p0 p1 p2 p3 p4 p5 p6 p7 p8 p9 p10 p11 p12 p13 p14 hu hp => br_t h (h2 post p0 p1 p2 p3 p4 p5 p6 p7 p8 p9 p10 p11 p12 p13 p14 hu hp)⟩
  · by_cases g : x1 = 5
    · obtain ⟨e2, M2, h2⟩ := ca_t24 e M x1 x2 x3 x4
      exact ⟨e2, M2, fun post p0 p1 p2 p3 p4 p5 p6 p7 p8 p9 p10 p11 p12 p13 p14 hu hp => br_f h (br_t g (h2 post p0 p1 p2 p3 p4 p5 p6 p7 p8 p9 p10 p11 p12 p13 p14 hu hp))⟩
    · obtain ⟨e2, M2, h2⟩ := ca_t33 e M x1 x2 x3 x4
      exact ⟨e2, M2, fun post p0 p1 p2 p3 p4 p5 p6 p7 p8 p9 p10 p11 p12 p13 p14 hu hp => br_f h (br_f g (h2 post p0 p1 p2 p3 p4 p5 p6 p7 p8 p9 p10 p11 p12 p13 p14 hu hp))⟩
theorem ca_turn (e : Nat → Int32) (M : Nat → Nat → Nat → Int32) (x1 x2 x3 x4 : Int32) : ∃ e' M', ∀ (post : St1 → Prop) (u : St1), ca_U e M u → (∀ u', ca_U e' M' u' → post u') → wpL_turn post u x1 x2 x3 x4 := by
  by_cases h : 3 < x1
  · obtain ⟨e2, M2, h2⟩ := ca_t14 e M x1 x2 x3 x4
    refine ⟨e2, M2, fun post u hu hp => ?_⟩
    obtain ⟨p0, p1, p2, p3, p4, p5, p6, p7, p8, p9, p10, p11, p12, p13, p14⟩ := u
    exact br_t h (h2 post p0 p1 p2 p3 p4 p5 p6 p7 p8 p9 p10 p11 p12 p13 p14 hu hp)
  · obtain ⟨e1, M1, h1⟩ := ca_fill_D e M x2 x3 x4
    obtain ⟨e2, M2, h2⟩ := ca_t14 e1 M1 x1 x2 x3 x4
    refine ⟨e2, M2, fun post u hu hp => ?_⟩
    obtain ⟨p0, p1, p2, p3, p4, p5, p6, p7, p8, p9, p10, p11, p12, p13, p14⟩ := u
    refine br_f h (h1 _ _ hu (fun r u' hu' => ?_))
    obtain ⟨q0, q1, q2, q3, q4, q5, q6, q7, q8, q9, q10, q11, q12, q13, q14⟩ := u'
    exact h2 post q0 q1 q2 q3 q4 q5 q6 q7 q8 q9 q10 q11 q12 q13 q14 hu' hp
end
section
theorem ca_m1 : ∀ F, F < 256 → (-1 : Int32) ≠ nI F := fun F hF h => absurd (show nI F < 0 by rw [← h]; decide) (nI_pos (by omega))
theorem ca_256 : ∀ F, F < 256 → (256 : Int32) ≠ nI F := fun F hF h => absurd ((nI_eq (a := 256) (b := F) (by omega) (by omega)).mp h) (by omega)
theorem ca_f_0 (x o : Int32) : ca_f 0 x o = x := by
  unfold ca_f
  rw [if_pos rfl]
theorem ca_f_1 (x o : Int32) : ca_f 1 x o = o + x := by
  unfold ca_f
  rw [if_neg (by decide), if_pos rfl]
theorem ca_f_2 (x o : Int32) : ca_f 2 x o = o * x := by
  unfold ca_f
  rw [if_neg (by decide), if_neg (by decide)]
theorem ca_ap_id {P : Nat → Nat → Bool} {f : Int32 → Int32} {M : Nat → Nat → Nat → Int32} (h : ∀ o, f o = o) (a k i : Nat) : ca_ap P f M a k i = M a k i := by
  unfold ca_ap
  rw [h]
  exact ite_self _
theorem ca_ap_inv {P Q : Nat → Nat → Bool} {f g : Int32 → Int32} {M : Nat → Nat → Nat → Int32} (hP : P = Q) (h : ∀ o, f (g o) = o) (a k i : Nat) : ca_ap P f (ca_ap Q g M) a k i = M a k i := by
  subst hP
  by_cases ea : a = 4
  · rw [ea]
    cases hp : P k i
    · rw [ca_ap_f hp, ca_ap_f hp]
    · rw [ca_ap_t hp, ca_ap_t hp, h]
  · rw [ca_ap_o ea, ca_ap_o ea]
/-! the two objects answer alike -/
theorem ca_same32 {post : Int32 → Prop} {e : Nat → Int32} {M : Nat → Nat → Nat → Int32} {p0 p1 p2 p3 : Int32} {p4 p5 p6 p7 p8 p9 p10 p11 p12 p13 p14 : Nat → Int32} {q0 q1 q2 q3 : Int32} {q4 q5 q6 q7 q8 q9 q10 q11 q12 q13 q14 : Nat → Int32} (hx : ca_U e M (p0, p1, p2, p3, p4, p5, p6, p7, p8, p9, p10, p11, p12, p13, p14)) (hy : ca_U e M (q0, q1, q2, q3, q4, q5, q6, q7, q8, q9, q10, q11, q12, q13, q14)) (hp : post 1) : ∃ n, wL_same_32 post p0 p1 p2 p3 p4 p5 p6 p7 p8 p9 p10 p11 p12 p13 p14 q0 q1 q2 q3 q4 q5 q6 q7 q8 q9 q10 q11 q12 q13 q14 n 0 := by
  refine pk_loop (σ := Unit) (fun n v _ => wL_same_32 post p0 p1 p2 p3 p4 p5 p6 p7 p8 p9 p10 p11 p12 p13 p14 q0 q1 q2 q3 q4 q5 q6 q7 q8 q9 q10 q11 q12 q13 q14 n (nI v)) (fun _ _ => True) 4 0 () (by omega) trivial
    (fun n _ _ => pk_le 4 4 (fun _ => hp) (fun y => absurd y (by omega)))
    (fun n v _ hv _ hw => pk_le 4 v (fun y => absurd y (by omega)) (fun _ => ?_))
  rw [show (17 : Int32) * nI v = nI (17 * v) from pk_mul 17 v]
  by_cases he : e v = 0
  · have hn : ∀ v', v' < 4 → nI v = nI v' → e v' = 0 := fun v' hv' ev => by
      rw [← (nI_eq (a := v) (b := v') (by omega) (by omega)).mp ev]
      exact he
    exact ca_differ_b hx hn (ca_differ_b hy hn (br_t rfl (ca_getOf_b hx hv he (by omega) (ca_getOf_b hy hv he (by omega) (br_t rfl (nm_r (nI_1 v) (hw () trivial)))))))
  · exact ca_differ_g hx hv he (ca_differ_g hy hv he (br_t rfl (ca_getOf_g hx hv he (by omega) (ca_getOf_g hy hv he (by omega) (br_t rfl (nm_r (nI_1 v) (hw () trivial)))))))
theorem ca_same {post : Int32 → Prop} {e : Nat → Int32} {M : Nat → Nat → Nat → Int32} {p0 p1 p2 p3 : Int32} {p4 p5 p6 p7 p8 p9 p10 p11 p12 p13 p14 : Nat → Int32} {q0 q1 q2 q3 : Int32} {q4 q5 q6 q7 q8 q9 q10 q11 q12 q13 q14 : Nat → Int32} (hx : ca_U e M (p0, p1, p2, p3, p4, p5, p6, p7, p8, p9, p10, p11, p12, p13, p14)) (hy : ca_U e M (q0, q1, q2, q3, q4, q5, q6, q7, q8, q9, q10, q11, q12, q13, q14)) (hp : post 1) : wpL_same post (p0, p1, p2, p3, p4, p5, p6, p7, p8, p9, p10, p11, p12, p13, p14, q0, q1, q2, q3, q4, q5, q6, q7, q8, q9, q10, q11, q12, q13, q14) := by
  unfold wpL_same
  dsimp only
  exact pk_loop (σ := Unit) (fun n c _ => wL_same_2 post p0 p1 p2 p3 p4 p5 p6 p7 p8 p9 p10 p11 p12 p13 p14 q0 q1 q2 q3 q4 q5 q6 q7 q8 q9 q10 q11 q12 q13 q14 n (nI c)) (fun _ _ => True) 256 0 () (by omega) trivial
    (fun n _ _ => pk_le 256 256 (fun _ => ca_same32 hx hy hp) (fun y => absurd y (by omega)))
    (fun n c _ hc _ hw => pk_le 256 c (fun y => absurd y (by omega)) (fun _ => ca_get_g hx hc (ca_get_g hy hc (br_t rfl (nm_r (nI_1 c) (hw () trivial))))))
theorem ca_law418 {post : Int32 → Prop} {L : Nat} {xs : Nat → Int32} {J : Int32 → Int32 → Int32 → Int32 → Int32 → (Nat → Int32) → (Nat → Int32) → (Nat → Int32) → (Nat → Int32) → (Nat → Int32) → (Nat → Int32) → (Nat → Int32) → (Nat → Int32) → (Nat → Int32) → (Nat → Int32) → (Nat → Int32) → Int32 → Int32 → Int32 → Int32 → (Nat → Int32) → (Nat → Int32) → (Nat → Int32) → (Nat → Int32) → (Nat → Int32) → (Nat → Int32) → (Nat → Int32) → (Nat → Int32) → (Nat → Int32) → (Nat → Int32) → (Nat → Int32) → Prop} {x3 : Int32} {kc ks F T : Nat} {e : Nat → Int32} {M : Nat → Nat → Nat → Int32} {p0 p1 p2 p3 : Int32} {p4 p5 p6 p7 p8 p9 p10 p11 p12 p13 p14 : Nat → Int32} {q0 q1 q2 q3 : Int32} {q4 q5 q6 q7 q8 q9 q10 q11 q12 q13 q14 : Nat → Int32} (hF : F < 256) (hT : T < 256) (hx : ca_U e M (p0, p1, p2, p3, p4, p5, p6, p7, p8, p9, p10, p11, p12, p13, p14)) (hy : ca_U e M (q0, q1, q2, q3, q4, q5, q6, q7, q8, q9, q10, q11, q12, q13, q14)) (hJ : ∀ (s0 s1 s2 s3 : Int32) (s4 s5 s6 s7 s8 s9 s10 s11 s12 s13 s14 : Nat → Int32) (t0 t1 t2 t3 : Int32) (t4 t5 t6 t7 t8 t9 t10 t11 t12 t13 t14 : Nat → Int32), ca_U e M (s0, s1, s2, s3, s4, s5, s6, s7, s8, s9, s10, s11, s12, s13, s14) → ca_U e M (t0, t1, t2, t3, t4, t5, t6, t7, t8, t9, t10, t11, t12, t13, t14) → J (x3 + 4) s0 s1 s2 s3 s4 s5 s6 s7 s8 s9 s10 s11 s12 s13 s14 t0 t1 t2 t3 t4 t5 t6 t7 t8 t9 t10 t11 t12 t13 t14) : wL_law_418 post L xs J x3 (nI F) (nI T) kc ks p0 p1 p2 p3 p4 p5 p6 p7 p8 p9 p10 p11 p12 p13 p14 q0 q1 q2 q3 q4 q5 q6 q7 q8 q9 q10 q11 q12 q13 q14 := by
  unfold wL_law_418
  refine ca_same hx hy (br_f (by decide) (ca_sum_g hx hF hT (fun u1 h1 => ?_)))
  obtain ⟨ua0, ua1, ua2, ua3, ua4, ua5, ua6, ua7, ua8, ua9, ua10, ua11, ua12, ua13, ua14⟩ := u1
  refine ca_sum_g hy hT hF (fun u2 h2 => ?_)
  obtain ⟨ub0, ub1, ub2, ub3, ub4, ub5, ub6, ub7, ub8, ub9, ub10, ub11, ub12, ub13, ub14⟩ := u2
  refine br_t (ca_sgF_c M F T) (ca_greatest_g h1 hF hT (fun u3 h3 => ?_))
  obtain ⟨uc0, uc1, uc2, uc3, uc4, uc5, uc6, uc7, uc8, uc9, uc10, uc11, uc12, uc13, uc14⟩ := u3
  refine ca_greatest_g h2 hF hT (fun u4 h4 => ?_)
  obtain ⟨ud0, ud1, ud2, ud3, ud4, ud5, ud6, ud7, ud8, ud9, ud10, ud11, ud12, ud13, ud14⟩ := u4
  exact br_t rfl (nm_e (hJ uc0 uc1 uc2 uc3 uc4 uc5 uc6 uc7 uc8 uc9 uc10 uc11 uc12 uc13 uc14 ud0 ud1 ud2 ud3 ud4 ud5 ud6 ud7 ud8 ud9 ud10 ud11 ud12 ud13 ud14 h3 h4))
/-! version 3 is kept, the region filled, the version restored and dropped -/
theorem ca_df_rs {M : Nat → Nat → Nat → Int32} {f : Int32 → Int32} {F T : Nat} (hF : F < 256) (hT : T < 256) : ca_df (ca_ap (ca_rg F T) f (ca_kM 3 M)) 3 ≤ ca_rs F T := by
  have t : ca_df (ca_ap (ca_rg F T) f (ca_kM 3 M)) 3 ≤ ca_ss (fun k => ca_cn (ca_rg F T k) 16) 16 := by
    refine ca_ss_mono (fun k _ => ca_cn_mono (fun i _ hd => ?_))
    have hd' := of_decide_eq_true hd
    cases hg : ca_rg F T k i
    · refine absurd ?_ hd'
      rw [ca_ap_f hg, ca_ap_f hg]
      rfl
    · rfl
  have t2 : ca_ss (fun k => ca_cn (ca_rg F T k) 16) 16 = ca_rs F T := ca_in_n (by omega) (by omega) (by omega) (by omega)
  omega
theorem ca_rs_lt {F T : Nat} (hF : F < 256) (hT : T < 256) : ca_rs F T ≤ 256 := by
  unfold ca_rs ca_sz
  exact Nat.mul_le_mul (show max (F % 16) (T % 16) - min (F % 16) (T % 16) + 1 ≤ 16 by omega) (show max (F / 16) (T / 16) - min (F / 16) (T / 16) + 1 ≤ 16 by omega)
theorem ca_e_back {e : Nat → Int32} (he : e 3 = 0) : upd (upd e 3 1) 3 0 = e := by
  funext j
  by_cases ej : j = 3
  · rw [ej, pk_us, he]
  · rw [pk_un ej, pk_un ej]
theorem ca_M_back {e : Nat → Int32} {M : Nat → Nat → Nat → Int32} {f : Int32 → Int32} {F T : Nat} (he : e 3 = 0) : ∀ a, a < 5 → e a ≠ 0 → ∀ k, k < 16 → ∀ i, i < 16 → ca_rM 3 (ca_ap (ca_rg F T) f (ca_kM 3 M)) a k i = M a k i := by
  intro a ha hea k hk i hi
  have a3 : a ≠ 3 := fun z => hea (by rw [z]; exact he)
  unfold ca_rM
  by_cases ea : a = 4
  · rw [if_pos ea, ca_ap_o (by decide), ea]
    rfl
  · rw [if_neg ea, ca_ap_o ea]
    exact if_neg a3
theorem ca_law347a {post : Int32 → Prop} {L : Nat} {xs : Nat → Int32} {J : Int32 → Int32 → Int32 → Int32 → Int32 → (Nat → Int32) → (Nat → Int32) → (Nat → Int32) → (Nat → Int32) → (Nat → Int32) → (Nat → Int32) → (Nat → Int32) → (Nat → Int32) → (Nat → Int32) → (Nat → Int32) → (Nat → Int32) → Int32 → Int32 → Int32 → Int32 → (Nat → Int32) → (Nat → Int32) → (Nat → Int32) → (Nat → Int32) → (Nat → Int32) → (Nat → Int32) → (Nat → Int32) → (Nat → Int32) → (Nat → Int32) → (Nat → Int32) → (Nat → Int32) → Prop} {x3 x7 : Int32} {kc ks F T : Nat} {e : Nat → Int32} {M : Nat → Nat → Nat → Int32} {p0 p1 p2 p3 : Int32} {p4 p5 p6 p7 p8 p9 p10 p11 p12 p13 p14 : Nat → Int32} {q0 q1 q2 q3 : Int32} {q4 q5 q6 q7 q8 q9 q10 q11 q12 q13 q14 : Nat → Int32} (hF : F < 256) (hT : T < 256) (he : e 3 = 0) (hx : ca_U e M (p0, p1, p2, p3, p4, p5, p6, p7, p8, p9, p10, p11, p12, p13, p14)) (hy : ca_U e M (q0, q1, q2, q3, q4, q5, q6, q7, q8, q9, q10, q11, q12, q13, q14)) (hJ : ∀ (s0 s1 s2 s3 : Int32) (s4 s5 s6 s7 s8 s9 s10 s11 s12 s13 s14 : Nat → Int32) (t0 t1 t2 t3 : Int32) (t4 t5 t6 t7 t8 t9 t10 t11 t12 t13 t14 : Nat → Int32), ca_U e M (s0, s1, s2, s3, s4, s5, s6, s7, s8, s9, s10, s11, s12, s13, s14) → ca_U e M (t0, t1, t2, t3, t4, t5, t6, t7, t8, t9, t10, t11, t12, t13, t14) → J (x3 + 4) s0 s1 s2 s3 s4 s5 s6 s7 s8 s9 s10 s11 s12 s13 s14 t0 t1 t2 t3 t4 t5 t6 t7 t8 t9 t10 t11 t12 t13 t14) : wL_law_347 post L xs J x3 x7 (nI F) (nI T) (nI (ca_rs F T)) 3 kc ks p0 p1 p2 p3 p4 p5 p6 p7 p8 p9 p10 p11 p12 p13 p14 q0 q1 q2 q3 q4 q5 q6 q7 q8 q9 q10 q11 q12 q13 q14 := by
  have hd := ca_df_rs (M := M) (f := ca_f 0 x7) hF hT
  have hr := ca_rs_lt hF hT
  have e3 : upd e 3 1 3 ≠ 0 := by
    rw [pk_us]
    decide
  unfold wL_law_347
  refine br_f (by decide) (ca_keep_g (v := 3) hy (by omega) he (fun u1 h1 => ?_))
  obtain ⟨ua0, ua1, ua2, ua3, ua4, ua5, ua6, ua7, ua8, ua9, ua10, ua11, ua12, ua13, ua14⟩ := u1
  refine br_t rfl (ca_fill_g h1 hF hT (fun u2 h2 => ?_))
  obtain ⟨ub0, ub1, ub2, ub3, ub4, ub5, ub6, ub7, ub8, ub9, ub10, ub11, ub12, ub13, ub14⟩ := u2
  refine br_t rfl (ca_differ_g (v := 3) h2 (by omega) e3 (br_f (nI_pos (by omega)) (br_f (nI_nlt hd (by omega)) (ca_restore_g (v := 3) h2 (by omega) e3 (fun u3 h3 => ?_)))))
  obtain ⟨uc0, uc1, uc2, uc3, uc4, uc5, uc6, uc7, uc8, uc9, uc10, uc11, uc12, uc13, uc14⟩ := u3
  refine br_t rfl (ca_drop_g (v := 3) h3 (by omega) e3 (fun u4 h4 => ?_))
  obtain ⟨ud0, ud1, ud2, ud3, ud4, ud5, ud6, ud7, ud8, ud9, ud10, ud11, ud12, ud13, ud14⟩ := u4
  rw [ca_e_back he] at h4
  exact br_t rfl (ca_law418 hF hT hx (ca_U_cg h4 (ca_M_back he)) hJ)
theorem ca_law347b {post : Int32 → Prop} {L : Nat} {xs : Nat → Int32} {J : Int32 → Int32 → Int32 → Int32 → Int32 → (Nat → Int32) → (Nat → Int32) → (Nat → Int32) → (Nat → Int32) → (Nat → Int32) → (Nat → Int32) → (Nat → Int32) → (Nat → Int32) → (Nat → Int32) → (Nat → Int32) → (Nat → Int32) → Int32 → Int32 → Int32 → Int32 → (Nat → Int32) → (Nat → Int32) → (Nat → Int32) → (Nat → Int32) → (Nat → Int32) → (Nat → Int32) → (Nat → Int32) → (Nat → Int32) → (Nat → Int32) → (Nat → Int32) → (Nat → Int32) → Prop} {x3 x7 x10 : Int32} {kc ks F T : Nat} {e : Nat → Int32} {M : Nat → Nat → Nat → Int32} {p0 p1 p2 p3 : Int32} {p4 p5 p6 p7 p8 p9 p10 p11 p12 p13 p14 : Nat → Int32} {q0 q1 q2 q3 : Int32} {q4 q5 q6 q7 q8 q9 q10 q11 q12 q13 q14 : Nat → Int32} (hF : F < 256) (hT : T < 256) (hx : ca_U e M (p0, p1, p2, p3, p4, p5, p6, p7, p8, p9, p10, p11, p12, p13, p14)) (hy : ca_U e M (q0, q1, q2, q3, q4, q5, q6, q7, q8, q9, q10, q11, q12, q13, q14)) (hJ : ∀ (s0 s1 s2 s3 : Int32) (s4 s5 s6 s7 s8 s9 s10 s11 s12 s13 s14 : Nat → Int32) (t0 t1 t2 t3 : Int32) (t4 t5 t6 t7 t8 t9 t10 t11 t12 t13 t14 : Nat → Int32), ca_U e M (s0, s1, s2, s3, s4, s5, s6, s7, s8, s9, s10, s11, s12, s13, s14) → ca_U e M (t0, t1, t2, t3, t4, t5, t6, t7, t8, t9, t10, t11, t12, t13, t14) → J (x3 + 4) s0 s1 s2 s3 s4 s5 s6 s7 s8 s9 s10 s11 s12 s13 s14 t0 t1 t2 t3 t4 t5 t6 t7 t8 t9 t10 t11 t12 t13 t14) : wL_law_347 post L xs J x3 x7 (nI F) (nI T) x10 (-1) kc ks p0 p1 p2 p3 p4 p5 p6 p7 p8 p9 p10 p11 p12 p13 p14 q0 q1 q2 q3 q4 q5 q6 q7 q8 q9 q10 q11 q12 q13 q14 := by
  unfold wL_law_347
  exact br_t (by decide) (ca_law418 hF hT hx hy hJ)
/-! a copy of the region to itself, and calls that must not do anything -/
theorem ca_cpM_id {M : Nat → Nat → Nat → Int32} {F T : Nat} (hF : F < 256) (hT : T < 256) (a k i : Nat) (hk : k < 16) (hi : i < 16) : ca_cpM F T (min (F % 16) (T % 16) + 16 * min (F / 16) (T / 16)) M a k i = M a k i := by
  unfold ca_cpM
  rw [show (min (F % 16) (T % 16) + 16 * min (F / 16) (T / 16)) % 16 = min (F % 16) (T % 16) by omega, show (min (F % 16) (T % 16) + 16 * min (F / 16) (T / 16)) / 16 = min (F / 16) (T / 16) by omega]
  generalize min (max (F / 16) (T / 16) - min (F / 16) (T / 16) + 1) (16 - min (F / 16) (T / 16)) = Nc
  generalize min (max (F % 16) (T % 16) - min (F % 16) (T % 16) + 1) (16 - min (F % 16) (T % 16)) = Nr
  generalize min (F % 16) (T % 16) = R0
  generalize min (F / 16) (T / 16) = C0
  unfold ca_cp
  by_cases z : a = 4 ∧ ca_cpb R0 C0 Nc Nr 0 k i = true
  · rw [if_pos z]
    have z2 := z.2
    unfold ca_cpb at z2
    rw [decide_eq_true_eq] at z2
    rw [Nat.sub_add_cancel z2.1, Nat.sub_add_cancel z2.2.1, ca_pl_rc hk hi, ca_wi_rc hk hi, z.1]
  · rw [if_neg z]
theorem ca_cpn_id {F T : Nat} (hF : F < 256) (hT : T < 256) : ca_cpn F T (min (F % 16) (T % 16) + 16 * min (F / 16) (T / 16)) = ca_rs F T := by
  unfold ca_cpn ca_rs ca_sz
  rw [show (min (F % 16) (T % 16) + 16 * min (F / 16) (T / 16)) % 16 = min (F % 16) (T % 16) by omega, show (min (F % 16) (T % 16) + 16 * min (F / 16) (T / 16)) / 16 = min (F / 16) (T / 16) by omega]
  rw [Nat.min_eq_left (b := 16 - min (F / 16) (T / 16)) (by omega), Nat.min_eq_left (b := 16 - min (F % 16) (T % 16)) (by omega), Nat.mul_comm]
theorem ca_law231 {post : Int32 → Prop} {L : Nat} {xs : Nat → Int32} {J : Int32 → Int32 → Int32 → Int32 → Int32 → (Nat → Int32) → (Nat → Int32) → (Nat → Int32) → (Nat → Int32) → (Nat → Int32) → (Nat → Int32) → (Nat → Int32) → (Nat → Int32) → (Nat → Int32) → (Nat → Int32) → (Nat → Int32) → Int32 → Int32 → Int32 → Int32 → (Nat → Int32) → (Nat → Int32) → (Nat → Int32) → (Nat → Int32) → (Nat → Int32) → (Nat → Int32) → (Nat → Int32) → (Nat → Int32) → (Nat → Int32) → (Nat → Int32) → (Nat → Int32) → Prop} {x3 x7 x13 z0 : Int32} {kc ks F T : Nat} {e : Nat → Int32} {M : Nat → Nat → Nat → Int32} {p0 p1 p2 p3 : Int32} {p4 p5 p6 p7 p8 p9 p10 p11 p12 p13 p14 : Nat → Int32} {q0 q1 q2 q3 : Int32} {q4 q5 q6 q7 q8 q9 q10 q11 q12 q13 q14 : Nat → Int32} (hF : F < 256) (hT : T < 256) (h13 : x13 = nI (min (F % 16) (T % 16))) (hz : z0 = nI (min (F / 16) (T / 16))) (hx : ca_U e M (p0, p1, p2, p3, p4, p5, p6, p7, p8, p9, p10, p11, p12, p13, p14)) (hy : ca_U e M (q0, q1, q2, q3, q4, q5, q6, q7, q8, q9, q10, q11, q12, q13, q14)) (hJ : ∀ (s0 s1 s2 s3 : Int32) (s4 s5 s6 s7 s8 s9 s10 s11 s12 s13 s14 : Nat → Int32) (t0 t1 t2 t3 : Int32) (t4 t5 t6 t7 t8 t9 t10 t11 t12 t13 t14 : Nat → Int32), ca_U e M (s0, s1, s2, s3, s4, s5, s6, s7, s8, s9, s10, s11, s12, s13, s14) → ca_U e M (t0, t1, t2, t3, t4, t5, t6, t7, t8, t9, t10, t11, t12, t13, t14) → J (x3 + 4) s0 s1 s2 s3 s4 s5 s6 s7 s8 s9 s10 s11 s12 s13 s14 t0 t1 t2 t3 t4 t5 t6 t7 t8 t9 t10 t11 t12 t13 t14) : wL_law_231 post L xs J x3 x7 (nI F) (nI T) (nI (ca_rs F T)) x13 z0 kc ks p0 p1 p2 p3 p4 p5 p6 p7 p8 p9 p10 p11 p12 p13 p14 q0 q1 q2 q3 q4 q5 q6 q7 q8 q9 q10 q11 q12 q13 q14 := by
  have hA : x13 + 16 * z0 = nI (min (F % 16) (T % 16) + 16 * min (F / 16) (T / 16)) := by
    rw [h13, hz, show (16 : Int32) = nI 16 from rfl, pk_mul, nI_add]
  unfold wL_law_231
  rw [hA]
  refine ca_copy_g hy hF hT (by omega) (fun u1 h1 => ?_)
  obtain ⟨ua0, ua1, ua2, ua3, ua4, ua5, ua6, ua7, ua8, ua9, ua10, ua11, ua12, ua13, ua14⟩ := u1
  have h1' := ca_U_cg (M' := M) h1 (fun a _ _ k hk i hi => ca_cpM_id hF hT a k i hk hi)
  refine br_t (congrArg nI (ca_cpn_id hF hT)) (ca_scale_g (F := 0) (T := 255) h1' (by omega) (by omega) (fun u2 h2 => ?_))
  obtain ⟨ub0, ub1, ub2, ub3, ub4, ub5, ub6, ub7, ub8, ub9, ub10, ub11, ub12, ub13, ub14⟩ := u2
  have h2' := ca_U_cg (M' := M) h2 (fun a _ _ k hk i hi => ca_ap_id (fun o => by rw [ca_f_2, Int32.mul_one]) a k i)
  refine br_t (by decide) (ca_fill_b (Or.inl ca_256) (br_t rfl (ca_copy_b (Or.inr (Or.inr ca_m1)) (br_t rfl (ca_keep_b (by decide) (br_t rfl (ca_restore_b h2' (fun v hv ev => absurd ev (ca_m1 v (by omega))) (br_t rfl (ca_drop_b h2' (fun v hv ev => absurd ((nI_eq (a := 7) (b := v) (by omega) (by omega)).mp ev) (by omega)) (br_t rfl ?_))))))))))
  by_cases he : e 3 = 0
  · refine ca_differ_b h2' (fun v hv ev => ?_) (br_t rfl (ca_law347a hF hT he hx h2' hJ))
    rw [← (nI_eq (a := 3) (b := v) (by omega) (by omega)).mp ev]
    exact he
  · refine ca_differ_g (v := 3) h2' (by omega) he (br_f (fun z => ?_) (ca_law347b hF hT hx h2' hJ))
    have t := ca_df_le M 3
    have t2 : ¬ nI (ca_df M 3) < 0 := nI_pos (by omega)
    rw [z] at t2
    exact absurd t2 (by decide)
theorem ca_law207 {post : Int32 → Prop} {L : Nat} {xs : Nat → Int32} {J : Int32 → Int32 → Int32 → Int32 → Int32 → (Nat → Int32) → (Nat → Int32) → (Nat → Int32) → (Nat → Int32) → (Nat → Int32) → (Nat → Int32) → (Nat → Int32) → (Nat → Int32) → (Nat → Int32) → (Nat → Int32) → (Nat → Int32) → Int32 → Int32 → Int32 → Int32 → (Nat → Int32) → (Nat → Int32) → (Nat → Int32) → (Nat → Int32) → (Nat → Int32) → (Nat → Int32) → (Nat → Int32) → (Nat → Int32) → (Nat → Int32) → (Nat → Int32) → (Nat → Int32) → Prop} {x3 x7 z0 : Int32} {kc ks F T : Nat} {e : Nat → Int32} {M : Nat → Nat → Nat → Int32} {p0 p1 p2 p3 : Int32} {p4 p5 p6 p7 p8 p9 p10 p11 p12 p13 p14 : Nat → Int32} {q0 q1 q2 q3 : Int32} {q4 q5 q6 q7 q8 q9 q10 q11 q12 q13 q14 : Nat → Int32} (hF : F < 256) (hT : T < 256) (hz : z0 = nI (min (F % 16) (T % 16))) (hx : ca_U e M (p0, p1, p2, p3, p4, p5, p6, p7, p8, p9, p10, p11, p12, p13, p14)) (hy : ca_U e M (q0, q1, q2, q3, q4, q5, q6, q7, q8, q9, q10, q11, q12, q13, q14)) (hJ : ∀ (s0 s1 s2 s3 : Int32) (s4 s5 s6 s7 s8 s9 s10 s11 s12 s13 s14 : Nat → Int32) (t0 t1 t2 t3 : Int32) (t4 t5 t6 t7 t8 t9 t10 t11 t12 t13 t14 : Nat → Int32), ca_U e M (s0, s1, s2, s3, s4, s5, s6, s7, s8, s9, s10, s11, s12, s13, s14) → ca_U e M (t0, t1, t2, t3, t4, t5, t6, t7, t8, t9, t10, t11, t12, t13, t14) → J (x3 + 4) s0 s1 s2 s3 s4 s5 s6 s7 s8 s9 s10 s11 s12 s13 s14 t0 t1 t2 t3 t4 t5 t6 t7 t8 t9 t10 t11 t12 t13 t14) : wL_law_207 post L xs J x3 x7 (nI F) (nI T) (nI (ca_rs F T)) z0 kc ks p0 p1 p2 p3 p4 p5 p6 p7 p8 p9 p10 p11 p12 p13 p14 q0 q1 q2 q3 q4 q5 q6 q7 q8 q9 q10 q11 q12 q13 q14 := by
  have eF : nI F >>> ((4 : Int32) &&& 31) = nI (F / 16) := pk_shrN (by omega) _ 4 (by decide)
  have eT : nI T >>> ((4 : Int32) &&& 31) = nI (T / 16) := pk_shrN (by omega) _ 4 (by decide)
  unfold wL_law_207
  exact pk_le (T / 16) (F / 16) (hx := eT) (hy := eF) (fun z => ca_law231 hF hT hz (by rw [eT, Nat.min_eq_right z]) hx hy hJ) (fun z => ca_law231 hF hT hz (by rw [eF, Nat.min_eq_left (by omega)]) hx hy hJ)
theorem ca_law126 {post : Int32 → Prop} {L : Nat} {xs : Nat → Int32} {J : Int32 → Int32 → Int32 → Int32 → Int32 → (Nat → Int32) → (Nat → Int32) → (Nat → Int32) → (Nat → Int32) → (Nat → Int32) → (Nat → Int32) → (Nat → Int32) → (Nat → Int32) → (Nat → Int32) → (Nat → Int32) → (Nat → Int32) → Int32 → Int32 → Int32 → Int32 → (Nat → Int32) → (Nat → Int32) → (Nat → Int32) → (Nat → Int32) → (Nat → Int32) → (Nat → Int32) → (Nat → Int32) → (Nat → Int32) → (Nat → Int32) → (Nat → Int32) → (Nat → Int32) → Prop} {x3 x7 : Int32} {kc ks F T : Nat} {e : Nat → Int32} {M : Nat → Nat → Nat → Int32} {p0 p1 p2 p3 : Int32} {p4 p5 p6 p7 p8 p9 p10 p11 p12 p13 p14 : Nat → Int32} {q0 q1 q2 q3 : Int32} {q4 q5 q6 q7 q8 q9 q10 q11 q12 q13 q14 : Nat → Int32} (hF : F < 256) (hT : T < 256) (hx : ca_U e M (p0, p1, p2, p3, p4, p5, p6, p7, p8, p9, p10, p11, p12, p13, p14)) (hy : ca_U e (ca_ap (ca_rg F T) (ca_f 2 (2 * x7 + 1)) M) (q0, q1, q2, q3, q4, q5, q6, q7, q8, q9, q10, q11, q12, q13, q14)) (hJ : ∀ (s0 s1 s2 s3 : Int32) (s4 s5 s6 s7 s8 s9 s10 s11 s12 s13 s14 : Nat → Int32) (t0 t1 t2 t3 : Int32) (t4 t5 t6 t7 t8 t9 t10 t11 t12 t13 t14 : Nat → Int32), ca_U e M (s0, s1, s2, s3, s4, s5, s6, s7, s8, s9, s10, s11, s12, s13, s14) → ca_U e M (t0, t1, t2, t3, t4, t5, t6, t7, t8, t9, t10, t11, t12, t13, t14) → J (x3 + 4) s0 s1 s2 s3 s4 s5 s6 s7 s8 s9 s10 s11 s12 s13 s14 t0 t1 t2 t3 t4 t5 t6 t7 t8 t9 t10 t11 t12 t13 t14) : ∃ n, wL_law_126 post L xs J x3 x7 (nI F) (nI T) (nI (ca_rs F T)) (2 * x7 + 1) kc ks p0 p1 p2 p3 p4 p5 p6 p7 p8 p9 p10 p11 p12 p13 p14 q0 q1 q2 q3 q4 q5 q6 q7 q8 q9 q10 q11 q12 q13 q14 n (2 * x7 + 1) 0 := by
  have eF : nI F &&& 15 = nI (F % 16) := pk_andN (by omega) 4 (by decide)
  have eT : nI T &&& 15 = nI (T % 16) := pk_andN (by omega) 4 (by decide)
  refine pk_loop (σ := Unit) (fun n i _ => wL_law_126 post L xs J x3 x7 (nI F) (nI T) (nI (ca_rs F T)) (2 * x7 + 1) kc ks p0 p1 p2 p3 p4 p5 p6 p7 p8 p9 p10 p11 p12 p13 p14 q0 q1 q2 q3 q4 q5 q6 q7 q8 q9 q10 q11 q12 q13 q14 n (ca_nv (2 * x7 + 1) i) (nI i)) (fun _ _ => True) 5 0 () (by omega) trivial
    (fun n _ _ => pk_le 5 5 (fun _ => ca_scale_g hy hT hF (fun u1 h1 => ?_)) (fun y => absurd y (by omega)))
    (fun n i _ hi _ hw => pk_le 5 i (fun y => absurd y (by omega)) (fun _ => nm_e (nm_r (nI_1 i) (hw () trivial))))
  obtain ⟨ua0, ua1, ua2, ua3, ua4, ua5, ua6, ua7, ua8, ua9, ua10, ua11, ua12, ua13, ua14⟩ := u1
  have h1' := ca_U_cg (M' := M) h1 (fun a _ _ k hk i hi => ca_ap_inv (ca_rg_c T F) (fun o => by rw [ca_f_2, ca_f_2, Int32.mul_assoc, ca_nv_5, Int32.mul_one]) a k i)
  refine br_t (congrArg nI (ca_rs_c T F)) (ca_add_g h1' hF hT (fun u2 h2 => ?_))
  obtain ⟨ub0, ub1, ub2, ub3, ub4, ub5, ub6, ub7, ub8, ub9, ub10, ub11, ub12, ub13, ub14⟩ := u2
  have h2' := ca_U_cg (M' := M) h2 (fun a _ _ k hk i hi => ca_ap_id (fun o => by rw [ca_f_1, Int32.add_zero]) a k i)
  exact br_t rfl (pk_le (T % 16) (F % 16) (hx := eT) (hy := eF) (fun z => ca_law207 hF hT (by rw [eT, Nat.min_eq_right z]) hx h2' hJ) (fun z => ca_law207 hF hT (by rw [eF, Nat.min_eq_left (by omega)]) hx h2' hJ))
theorem ca_law18 (xs : Nat → Int32) (L : Nat) (hL : L ≤ 260) (kc ks : Nat) : ∀ (n i : Nat) (e : Nat → Int32) (M : Nat → Nat → Nat → Int32) (p0 p1 p2 p3 : Int32) (p4 p5 p6 p7 p8 p9 p10 p11 p12 p13 p14 : Nat → Int32) (q0 q1 q2 q3 : Int32) (q4 q5 q6 q7 q8 q9 q10 q11 q12 q13 q14 : Nat → Int32), 4 * i ≤ L → L + 4 ≤ 4 * (i + n) → ca_U e M (p0, p1, p2, p3, p4, p5, p6, p7, p8, p9, p10, p11, p12, p13, p14) → ca_U e M (q0, q1, q2, q3, q4, q5, q6, q7, q8, q9, q10, q11, q12, q13, q14) → wL_law_18 (fun r => r = 1) L xs kc ks n (nI (4 * i)) p0 p1 p2 p3 p4 p5 p6 p7 p8 p9 p10 p11 p12 p13 p14 q0 q1 q2 q3 q4 q5 q6 q7 q8 q9 q10 q11 q12 q13 q14 := by
  intro n
  induction n with
  | zero => intro i e M p0 p1 p2 p3 p4 p5 p6 p7 p8 p9 p10 p11 p12 p13 p14 q0 q1 q2 q3 q4 q5 q6 q7 q8 q9 q10 q11 q12 q13 q14 h1 h2; omega
  | succ n ih =>
    intro i e M p0 p1 p2 p3 p4 p5 p6 p7 p8 p9 p10 p11 p12 p13 p14 q0 q1 q2 q3 q4 q5 q6 q7 q8 q9 q10 q11 q12 q13 q14 h1 h2 hx hy
    have s4 : (nI L - nI 4).toInt = (L : Int) - (4 : Nat) := pk_sub_toInt (by omega) (by omega)
    have i4 : (nI (4 * i)).toInt = ((4 * i : Nat) : Int) := nI_toInt (by omega)
    by_cases hlt : L < 4 * i + 4
    · have g : nI L - nI 4 < nI (4 * i) := by
        rw [Int32.lt_iff_toInt_lt, s4, i4]
        omega
      exact br_t g rfl
    · have g : ¬ nI L - nI 4 < nI (4 * i) := by
        rw [Int32.lt_iff_toInt_lt, s4, i4]
        omega
      refine br_f g ⟨pk_in (4 * i) L (by omega), nm_e ⟨pk_in (4 * i + 1) L (by omega) (nI_add _ 1), nm_e ⟨pk_in (4 * i + 2) L (by omega) (nI_add _ 2), nm_e ⟨pk_in (4 * i + 3) L (by omega) (nI_add _ 3), nm_e ?_⟩⟩⟩⟩
      generalize xs (nI (4 * i)).toNatClampNeg &&& 15 = x4
      generalize xs (nI (4 * i) + 1).toNatClampNeg = x5
      generalize xs (nI (4 * i) + 2).toNatClampNeg = x6
      generalize xs (nI (4 * i) + 3).toNatClampNeg = x7
      obtain ⟨e1, M1, ht⟩ := ca_turn e M x4 x5 x6 x7
      obtain ⟨F, hF, eF⟩ := pk_andE x5 8 (m := 255) (by decide)
      obtain ⟨T, hT, eT⟩ := pk_andE x6 8 (m := 255) (by decide)
      refine ht _ _ hx (fun u1 k1 => ?_)
      obtain ⟨ua0, ua1, ua2, ua3, ua4, ua5, ua6, ua7, ua8, ua9, ua10, ua11, ua12, ua13, ua14⟩ := u1
      refine ht _ _ hy (fun u2 k2 => ?_)
      obtain ⟨ub0, ub1, ub2, ub3, ub4, ub5, ub6, ub7, ub8, ub9, ub10, ub11, ub12, ub13, ub14⟩ := u2
      refine nm_r eF (nm_r eT (ca_scale_g k2 hF hT (fun u3 k3 => ?_)))
      obtain ⟨uc0, uc1, uc2, uc3, uc4, uc5, uc6, uc7, uc8, uc9, uc10, uc11, uc12, uc13, uc14⟩ := u3
      refine nm_e (ca_law126 hF hT k1 k3 (fun s0 s1 s2 s3 s4 s5 s6 s7 s8 s9 s10 s11 s12 s13 s14 t0 t1 t2 t3 t4 t5 t6 t7 t8 t9 t10 t11 t12 t13 t14 hs ht' => ?_))
      rw [show nI (4 * i) + 4 = nI (4 * (i + 1)) from nI_add (4 * i) 4]
      exact ih (i + 1) e1 M1 s0 s1 s2 s3 s4 s5 s6 s7 s8 s9 s10 s11 s12 s13 s14 t0 t1 t2 t3 t4 t5 t6 t7 t8 t9 t10 t11 t12 t13 t14 (by omega) (by omega) hs ht'
end
section
/-! two new objects -/
def ca_e0 : Nat → Int32 := upd (fun _ => 0) 4 1
def ca_C0 (j : Nat) : Nat := if 64 ≤ j then j - 64 else 0
theorem ca_ct0 : ∀ c, c < 80 → ca_ct (ca_lv ca_e0) ca_C0 c = if c < 16 then 1 else 0 := by decide +kernel
theorem ca_init {post : St1 → Prop} (hp : ∀ u, ca_U ca_e0 (fun _ _ _ => 0) u → post u) : wpX_init post 11 2181 (0, 0, 0, 0) := by
  unfold wpX_init
  dsimp only
  refine ⟨by omega, by omega, by omega, by omega, by omega, by omega, by omega, by omega, by omega, by omega, by omega, by omega, by omega, by omega, by omega, by omega, by omega, by omega, by omega, by omega, by omega, by omega, nm_e ?_⟩
  refine pk_loop (fun n t (s : (Nat → Int32) × (Nat → Int32) × (Nat → Int32)) => wX_init_102 post 11 2181 11 2181 0 0 0 0 n (nI t) ca_e0 s.1 s.2.1 (fun _ => 0) s.2.2 (fun _ => 0) (fun _ => 0) (fun _ => 0) (fun _ => 0) (fun _ => 0) (fun _ => 0)) (fun t s => (∀ j, j < 80 → s.1 j = if 64 ≤ j ∧ j < 64 + t then nI (j - 64) else 0) ∧ (∀ c, c < 80 → s.2.1 c = if c < t then 1 else 0)) 16 0 (fun _ => 0, fun _ => 0, fun _ => 0) (by omega) ?_
    (fun n s hs => pk_le 16 16 (fun _ => hp _ ⟨rfl, ?_, ca_C0, ⟨?_, ?_⟩, ?_, ?_⟩) (fun y => absurd y (by omega)))
    (fun n t s ht hs hw => pk_le 16 t (fun y => absurd y (by omega)) (fun _ => ⟨pk_in (64 + t) 80 (by omega) (ca_e_64 t), nm_r (e' := upd s.1 (64 + t) (nI t)) (by rw [ca_e_64, nI_clamp (by omega)]) ⟨pk_in t 80 (by omega), nm_r (e' := upd s.2.1 t 1) (by rw [nI_clamp (by omega)]) ⟨pk_in t 80 (by omega), nm_e (nm_r (nI_1 t) (hw (upd s.1 (64 + t) (nI t), upd s.2.1 t 1, upd s.2.2 (nI t).toNatClampNeg 1) ⟨fun j hj => ?_, fun c hc => ?_⟩))⟩⟩⟩))
  · refine ⟨fun j hj => ?_, fun c hc => ?_⟩
    · exact (if_neg (by omega)).symm
    · exact (if_neg (by omega)).symm
  · decide
  · intro j hj
    rw [hs.1 j hj]
    unfold ca_C0
    by_cases ej : 64 ≤ j
    · rw [if_pos ej, if_pos ⟨ej, by omega⟩]
      exact ⟨by omega, rfl⟩
    · rw [if_neg ej, if_neg (fun z => ej z.1)]
      exact ⟨by omega, rfl⟩
  · intro c hc
    rw [hs.2 c hc, ca_ct0 c hc]
    by_cases ec : c < 16
    · rw [if_pos ec, if_pos ec]
      rfl
    · rw [if_neg ec, if_neg ec]
      rfl
  · intro c hc
    exact ⟨fun z => absurd rfl z, fun z => absurd rfl z⟩
  · intro a ha he k hk i hi
    unfold ca_v
    dsimp only
    rw [Int32.zero_mul, Int32.add_zero]
  · show upd s.1 (64 + t) (nI t) j = if 64 ≤ j ∧ j < 64 + (t + 1) then nI (j - 64) else 0
    by_cases ej : j = 64 + t
    · rw [ej, pk_us, if_pos ⟨by omega, by omega⟩, show 64 + t - 64 = t by omega]
    · rw [pk_un ej, hs.1 j hj]
      by_cases z : 64 ≤ j ∧ j < 64 + t
      · rw [if_pos z, if_pos ⟨z.1, by omega⟩]
      · rw [if_neg z, if_neg (by omega)]
  · show upd s.2.1 t 1 c = if c < t + 1 then 1 else 0
    by_cases ec : c = t
    · rw [ec, pk_us, if_pos (by omega)]
    · rw [pk_un ec, hs.2 c hc]
      by_cases z : c < t
      · rw [if_pos z, if_pos (by omega)]
      · rw [if_neg z, if_neg (by omega)]
theorem i_vc (xs : Nat → Int32) (L : Nat) (hL : L ≤ 260) : wpL_law (fun r => r = 1) L xs := by
  unfold wpL_law
  refine ⟨11, 2181, by omega, by omega, ca_init (fun u1 h1 => ?_)⟩
  obtain ⟨p0, p1, p2, p3, p4, p5, p6, p7, p8, p9, p10, p11, p12, p13, p14⟩ := u1
  refine ⟨by omega, by omega, 11, 2181, by omega, by omega, ca_init (fun u2 h2 => ?_)⟩
  obtain ⟨q0, q1, q2, q3, q4, q5, q6, q7, q8, q9, q10, q11, q12, q13, q14⟩ := u2
  exact ⟨L + 4, ca_law18 xs L hL _ _ (L + 4) 0 ca_e0 _ p0 p1 p2 p3 p4 p5 p6 p7 p8 p9 p10 p11 p12 p13 p14 q0 q1 q2 q3 q4 q5 q6 q7 q8 q9 q10 q11 q12 q13 q14 (by omega) (by omega) h1 h2⟩
end
