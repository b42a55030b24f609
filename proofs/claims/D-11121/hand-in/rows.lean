section
/-! sums of naturals -/
def cv_sum (f : Nat → Nat) : Nat → Nat
  | 0 => 0
  | n + 1 => cv_sum f n + f n
theorem cv_sum_s (f : Nat → Nat) (n : Nat) : cv_sum f (n + 1) = cv_sum f n + f n := rfl
theorem cv_sum_congr {f g : Nat → Nat} {n : Nat} (h : ∀ i, i < n → f i = g i) : cv_sum f n = cv_sum g n := by
  induction n with
  | zero => rfl
  | succ n ih => rw [cv_sum_s, cv_sum_s, ih (fun i hi => h i (by omega)), h n (by omega)]
theorem cv_sum_zero {f : Nat → Nat} {n : Nat} (h : ∀ i, i < n → f i = 0) : cv_sum f n = 0 := by
  induction n with
  | zero => rfl
  | succ n ih => rw [cv_sum_s, ih (fun i hi => h i (by omega)), h n (by omega)]
theorem cv_sum_one {f : Nat → Nat} {n k : Nat} (hk : k < n) (h : ∀ i, i < n → i ≠ k → f i = 0) : cv_sum f n = f k := by
  induction n with
  | zero => omega
  | succ n ih =>
    rw [cv_sum_s]
    by_cases e : k = n
    · rw [cv_sum_zero (fun i hi => h i (by omega) (by omega)), e, Nat.zero_add]
    · rw [ih (by omega) (fun i hi hn => h i (by omega) hn), h n (by omega) (fun z => e z.symm), Nat.add_zero]
theorem cv_sum_le {f : Nat → Nat} {b n : Nat} (h : ∀ i, i < n → f i ≤ b) : cv_sum f n ≤ n * b := by
  induction n with
  | zero => exact Nat.zero_le _
  | succ n ih =>
    rw [cv_sum_s, Nat.succ_mul]
    exact Nat.add_le_add (ih (fun i hi => h i (by omega))) (h n (by omega))
theorem cv_sum_mod (D : Nat) (g : Nat → Nat) (n : Nat) : cv_sum (fun i => D * g i % 7681) n % 7681 = D * cv_sum g n % 7681 := by
  induction n with
  | zero => show 0 % 7681 = D * 0 % 7681; rw [Nat.mul_zero]
  | succ n ih =>
    rw [cv_sum_s, cv_sum_s, Nat.mul_add, Nat.add_mod, ih, Nat.mod_mod, ← Nat.add_mod]
/-! the powers of the root and of its inverse -/
def cv_rt : Nat → Nat
  | 0 => 1
  | n + 1 => cv_rt n * 7098 % 7681
def cv_bk : Nat → Nat
  | 0 => 1
  | n + 1 => cv_bk n * 7154 % 7681
theorem cv_rt_lt (n : Nat) : cv_rt n < 7681 := by
  cases n with
  | zero => decide
  | succ n => exact Nat.mod_lt _ (by decide)
theorem cv_bk_lt (n : Nat) : cv_bk n < 7681 := by
  cases n with
  | zero => decide
  | succ n => exact Nat.mod_lt _ (by decide)
theorem cv_rt_add_t : ∀ m, m < 16 → ∀ k, k < 16 → cv_rt m * cv_rt k % 7681 = cv_rt ((m + k) % 16) := by decide +kernel
theorem cv_rt_add (c m k : Nat) : cv_rt (c * m % 16) * cv_rt (c * k % 16) % 7681 = cv_rt (c * (m + k) % 16) := by
  rw [cv_rt_add_t _ (Nat.mod_lt _ (by decide)) _ (Nat.mod_lt _ (by decide)), ← Nat.add_mod, ← Nat.mul_add]
theorem cv_orth : ∀ m, m < 16 → ∀ k, k < 16 → cv_sum (fun i => cv_rt (i * m % 16) * cv_bk (k * i % 16)) 16 % 7681 = (if k = m then 16 else 0) := by decide +kernel
/-! the transform of sixteen numbers -/
def cv_dft (tb : Nat → Nat) (x : Nat → Nat) (k : Nat) : Nat := cv_sum (fun i => x i * tb (k * i % 16) % 7681) 16 % 7681
theorem cv_dft_lt (tb x : Nat → Nat) (k : Nat) : cv_dft tb x k < 7681 := Nat.mod_lt _ (by decide)
theorem cv_dft_congr {tb x y : Nat → Nat} (h : ∀ i, i < 16 → x i = y i) (k : Nat) : cv_dft tb x k = cv_dft tb y k := by
  unfold cv_dft
  rw [cv_sum_congr (fun i hi => by rw [h i hi])]
theorem cv_dft_zero {tb x : Nat → Nat} (h : ∀ i, i < 16 → x i = 0) (k : Nat) : cv_dft tb x k = 0 := by
  unfold cv_dft
  rw [cv_sum_zero (fun i hi => by rw [h i hi, Nat.zero_mul])]
theorem cv_dft_one {tb x : Nat → Nat} {i0 : Nat} (hi0 : i0 < 16) (h : ∀ i, i < 16 → i ≠ i0 → x i = 0) (k : Nat) : cv_dft tb x k = x i0 * tb (k * i0 % 16) % 7681 := by
  unfold cv_dft
  rw [cv_sum_one hi0 (fun i hi hn => by rw [h i hi hn, Nat.zero_mul]), Nat.mod_mod]
theorem cv_dft_geo {x : Nat → Nat} {D m : Nat} (hm : m < 16) (h : ∀ i, i < 16 → x i = D * cv_rt (i * m % 16) % 7681) {k : Nat} (hk : k < 16) : cv_dft cv_bk x k = D * (if k = m then 16 else 0) % 7681 := by
  unfold cv_dft
  rw [cv_sum_congr (g := fun i => D * (cv_rt (i * m % 16) * cv_bk (k * i % 16)) % 7681) (fun i hi => by rw [h i hi, Nat.mod_mul_mod, Nat.mul_assoc]), cv_sum_mod, ← Nat.mul_mod_mod, cv_orth m hm k hk]
/-! transforms of planes -/
def cv_T2 (tb : Nat → Nat) (M : Nat → Nat → Nat) (r c : Nat) : Nat := cv_dft tb (fun r' => cv_dft tb (M r') c) r
theorem cv_T2_lt (tb : Nat → Nat) (M : Nat → Nat → Nat) (r c : Nat) : cv_T2 tb M r c < 7681 := Nat.mod_lt _ (by decide)
theorem cv_T2_zero {tb : Nat → Nat} {M : Nat → Nat → Nat} (h : ∀ r, r < 16 → ∀ c, c < 16 → M r c = 0) (r c : Nat) : cv_T2 tb M r c = 0 :=
  cv_dft_zero (fun i hi => cv_dft_zero (h i hi) c) r
theorem cv_T2_one {tb : Nat → Nat} {M : Nat → Nat → Nat} {r0 c0 : Nat} (hr : r0 < 16) (hc : c0 < 16) (h : ∀ r, r < 16 → ∀ c, c < 16 → ¬ (r = r0 ∧ c = c0) → M r c = 0) (r c : Nat) : cv_T2 tb M r c = M r0 c0 * (tb (c * c0 % 16) * tb (r * r0 % 16)) % 7681 := by
  unfold cv_T2
  rw [cv_dft_one hr (fun i hi hn => cv_dft_zero (fun j hj => h i hi j hj (fun z => hn z.1)) c), cv_dft_one hc (fun j hj hn => h r0 hr j hj (fun z => hn z.2)), Nat.mod_mul_mod, Nat.mul_assoc]
theorem cv_prod (u v c c1 c2 r r1 r2 : Nat) : (u * (cv_rt (c * c1 % 16) * cv_rt (r * r1 % 16)) % 7681) * (v * (cv_rt (c * c2 % 16) * cv_rt (r * r2 % 16)) % 7681) % 7681 = u * v * cv_rt (r * (r1 + r2) % 16) * cv_rt (c * (c1 + c2) % 16) % 7681 := by
  rw [← cv_rt_add c c1 c2, ← cv_rt_add r r1 r2, Nat.mul_mod_mod, Nat.mod_mul_mod, Nat.mul_mod_mod]
  generalize cv_rt (c * c1 % 16) = p
  generalize cv_rt (r * r1 % 16) = q
  generalize cv_rt (c * c2 % 16) = p'
  generalize cv_rt (r * r2 % 16) = q'
  rw [show u * v * (q * q' % 7681) * (p * p') = (q * q' % 7681) * (u * v * (p * p')) by rw [Nat.mul_comm (u * v), Nat.mul_assoc], Nat.mod_mul_mod]
  congr 1
  grind
theorem cv_inv {M : Nat → Nat → Nat} {D R C : Nat} (hR : R < 16) (hC : C < 16) (h : ∀ r, r < 16 → ∀ c, c < 16 → M r c = D * cv_rt (r * R % 16) * cv_rt (c * C % 16) % 7681) {r c : Nat} (hr : r < 16) (hc : c < 16) : cv_T2 cv_bk M r c = (if r = R ∧ c = C then D * 256 % 7681 else 0) := by
  unfold cv_T2
  rw [cv_dft_geo (D := D * (if c = C then 16 else 0)) hR (fun i hi => ?_) hr]
  · by_cases h1 : r = R
    · by_cases h2 : c = C
      · rw [if_pos h1, if_pos h2, if_pos ⟨h1, h2⟩, Nat.mul_assoc]
      · rw [if_pos h1, if_neg h2, if_neg (fun z => h2 z.2), Nat.mul_zero, Nat.zero_mul]
    · rw [if_neg h1, Nat.mul_zero, if_neg (show ¬ (r = R ∧ c = C) from fun z => h1 z.1)]
  · rw [cv_dft_geo (D := D * cv_rt (i * R % 16)) hC (h i hi) hc]
    congr 1
    rw [Nat.mul_assoc, Nat.mul_assoc, Nat.mul_comm (cv_rt _)]
/-! the powers by squaring -/
def cv_ps (a : Nat) : Nat → Nat
  | 0 => a
  | i + 1 => cv_ps a i * cv_ps a i % 7681
def cv_px (a n : Nat) : Nat → Nat
  | 0 => 1
  | i + 1 => if n / 2 ^ i % 2 = 1 then cv_px a n i * cv_ps a i % 7681 else cv_px a n i
theorem cv_ps_lt {a : Nat} (ha : a < 7681) (i : Nat) : cv_ps a i < 7681 := by
  cases i with
  | zero => exact ha
  | succ i => exact Nat.mod_lt _ (by decide)
theorem cv_px_lt (a n i : Nat) : cv_px a n i < 7681 := by
  induction i with
  | zero => show 1 < 7681; decide
  | succ i ih =>
    show (if n / 2 ^ i % 2 = 1 then cv_px a n i * cv_ps a i % 7681 else cv_px a n i) < 7681
    split
    · exact Nat.mod_lt _ (by decide)
    · exact ih
theorem cv_pow_g : cv_px 17 480 14 = 7098 := by decide +kernel
theorem cv_pow_i : cv_px 7098 7679 14 = 7154 := by decide +kernel
theorem cv_pow_s : cv_px 256 7679 14 = 7651 := by decide +kernel
theorem cv_scale {D : Nat} (h : D < 7681) : D * 256 % 7681 * 7651 % 7681 = D := by
  rw [Nat.mod_mul_mod, Nat.mul_assoc]
  omega
end
section
/-! arithmetic of counters -/
theorem cv_fill {f s : Nat → Int32} {i k : Nat} {x : Int32} (hk : k = i) (h : ∀ j, j < i → s j = f j) (hx : x = f i) : ∀ j, j < i + 1 → upd s k x j = f j := by
  intro j hj
  rw [hk]
  by_cases e : j = i
  · rw [e, pk_us, hx]
  · rw [pk_un e]
    exact h j (by omega)
theorem cv_0 {P : Nat → Prop} : ∀ j, j < 0 → P j := fun j h => absurd h (by omega)
theorem cv_rem {a : Nat} (h : a < 2 ^ 31) : nI a - nI a / 7681 * 7681 = nI (a % 7681) := pk_rem h (by decide) (by decide)
theorem cv_mb {a b : Nat} (ha : a < 7681) (hb : b < 7681) : a * b ≤ 58982400 := Nat.le_trans (Nat.mul_le_mul (Nat.le_of_lt_succ ha) (Nat.le_of_lt_succ hb)) (by decide)
theorem cv_mm {a b : Nat} (ha : a < 7681) (hb : b < 7681) : nI a * nI b - nI a * nI b / 7681 * 7681 = nI (a * b % 7681) := by
  have := cv_mb ha hb
  rw [pk_mul]
  exact cv_rem (by omega)
theorem cv_pred {i : Nat} (h : 1 ≤ i) : nI i - 1 = nI (i - 1) := pk_sub (b := 1) h
theorem cv_nlt20 {n : Nat} (h : n < 2 ^ 31) : ¬ nI n < (-20) := by
  intro z
  have z := Int32.lt_iff_toInt_lt.mp z
  rw [nI_toInt h, show (-20 : Int32).toInt = -20 by decide] at z
  omega
theorem cv_nlt9 {n : Nat} (h : n < 2 ^ 31) : ¬ nI n < (-9) := by
  intro z
  have z := Int32.lt_iff_toInt_lt.mp z
  rw [nI_toInt h, show (-9 : Int32).toInt = -9 by decide] at z
  omega
theorem cv_le20 {n : Nat} (h : n < 2 ^ 31) : (-20) ≤ nI n := by
  rw [Int32.le_iff_toInt_le, nI_toInt h, show (-20 : Int32).toInt = -20 by decide]
  omega
theorem cv_sh : ∀ n, n < 32 → ((nI n &&& 31).toBitVec.smod 32).toNat = n := by decide +kernel
theorem cv_ix8 (y x : Nat) : 8 * nI y + nI x = nI (8 * y + x) := by rw [← nI_add, ← pk_mul]; rfl
theorem cv_ix64 (c y x : Nat) : 64 * nI c + 8 * nI y + nI x = nI (64 * c + 8 * y + x) := by rw [← nI_add, ← nI_add, ← pk_mul, ← pk_mul]; rfl
theorem cv_ix9 (c j i : Nat) : 9 * nI c + 3 * nI j + nI i = nI (9 * c + 3 * j + i) := by rw [← nI_add, ← nI_add, ← pk_mul, ← pk_mul]; rfl
theorem cv_ixl (a i s : Nat) : nI a + nI i * nI s = nI (a + i * s) := by rw [← nI_add, ← pk_mul]
theorem cv_ix16 (i : Nat) : 16 * nI i = nI (16 * i) := by rw [← pk_mul]; rfl
/-! small methods -/
section
variable {f0 f1 f2 f3 : Int32} {a1 a2 a3 a4 a5 a6 a7 a8 a9 a10 a11 a12 a13 a14 : Nat → Int32}
theorem cv_power {post : Int32 → Prop} {a n v : Nat} (ha : a < 7681) (hn : n < 16384) (hv : cv_px a n 14 = v) (H : post (nI v)) : wpX_power post (f0, f1, f2, f3, a1, a2, a3, a4, a5, a6, a7, a8, a9, a10, a11, a12, a13, a14) (nI a) (nI n) := by
  refine pk_loop (σ := Int32 × Int32) (fun m i s => wX_power_8 post (nI n) f0 f1 f2 f3 a1 a2 a3 a4 a5 a6 a7 a8 a9 a10 a11 a12 a13 a14 m s.1 s.2 (nI i)) (fun i s => s.1 = nI (cv_px a n i) ∧ s.2 = nI (cv_ps a i)) 14 0 (1, nI a) (by omega) ⟨rfl, rfl⟩ ?_ ?_
  · intro m s h
    refine pk_le 14 14 (fun _ => ?_) (fun z => absurd z (by omega))
    rw [h.1, hv]
    exact H
  · intro m i s hi h hw
    obtain ⟨x, q⟩ := s
    have h1 : x = nI (cv_px a n i) := h.1
    have h2 : q = nI (cv_ps a i) := h.2
    subst h1 h2
    have e : (nI n >>> (nI i &&& 31)) &&& 1 = nI (n / 2 ^ i % 2) := by
      rw [pk_shrN (by omega) _ i (cv_sh i (by omega))]
      exact pk_andN (Nat.lt_of_le_of_lt (Nat.div_le_self _ _) (by omega)) 1 (by decide)
    have b1 := cv_px_lt a n i
    have b2 := cv_ps_lt ha i
    refine pk_le 14 i (fun z => absurd z (by omega)) (fun _ => pk_eq (n / 2 ^ i % 2) 1 (fun z => ⟨by decide, nm_r (cv_mm b1 b2) ?_⟩) (fun z => ?_) e rfl)
    · exact And.intro (by decide) (nm_r (cv_mm b2 b2) (nm_r (nI_1 i) (hw (_, _) ⟨(congrArg nI (if_pos z)).symm, rfl⟩)))
    · exact And.intro (by decide) (nm_r (cv_mm b2 b2) (nm_r (nI_1 i) (hw (_, _) ⟨(congrArg nI (if_neg z)).symm, rfl⟩)))
theorem cv_put {post : Int32 → St2 → Prop} {P A : Nat} (hP : P < 128) (hA : A ≤ 20) (H : post (a1 P) (f0, f1, f2, f3, upd a1 P (nI A), a2, a3, a4, a5, a6, a7, a8, a9, a10, a11, a12, a13, a14)) : wpX_put post (f0, f1, f2, f3, a1, a2, a3, a4, a5, a6, a7, a8, a9, a10, a11, a12, a13, a14) (nI P) (nI A) := by
  refine br_f (nI_pos (by omega)) (pk_lt 127 P (fun z => absurd z (by omega)) (fun _ => br_f (cv_nlt20 (by omega)) (pk_le A 20 (fun _ => ⟨pk_in P 128 hP, nm_e ⟨pk_in P 128 hP, nm_e ?_⟩⟩) (fun z => absurd z (by omega)))))
  rw [nI_clamp (show P < 2 ^ 31 by omega)]
  exact H
theorem cv_kernel {post : Int32 → St2 → Prop} {P A : Nat} (hP : P < 18) (hA : A ≤ 9) (H : post (a2 P) (f0, f1, f2, f3, a1, upd a2 P (nI A), a3, a4, a5, a6, a7, a8, a9, a10, a11, a12, a13, a14)) : wpX_kernel post (f0, f1, f2, f3, a1, a2, a3, a4, a5, a6, a7, a8, a9, a10, a11, a12, a13, a14) (nI P) (nI A) := by
  refine br_f (nI_pos (by omega)) (pk_lt 17 P (fun z => absurd z (by omega)) (fun _ => br_f (cv_nlt9 (by omega)) (pk_le A 9 (fun _ => ⟨pk_in P 18 hP, nm_e ⟨pk_in P 18 hP, nm_e ?_⟩⟩) (fun z => absurd z (by omega)))))
  rw [nI_clamp (show P < 2 ^ 31 by omega)]
  exact H
theorem cv_way {post : Int32 → St2 → Prop} {w : Nat} (hw : w < 4) (H : post 0 (f0, f1, nI w, f3, a1, a2, a3, a4, a5, a6, a7, a8, a9, a10, a11, a12, a13, a14)) : wpX_way post (f0, f1, f2, f3, a1, a2, a3, a4, a5, a6, a7, a8, a9, a10, a11, a12, a13, a14) (nI w) :=
  br_f (nI_pos (by omega)) (pk_le w 3 (fun _ => H) (fun z => absurd z (by omega)))
theorem cv_width {post : Int32 → Prop} (H : post 8) : wpX_widthNow post (1, 1, f2, f3, a1, a2, a3, a4, a5, a6, a7, a8, a9, a10, a11, a12, a13, a14) := by
  refine nm_r (show _ = (7 : Int32) by decide) (br_t rfl ?_)
  rw [show (7 : Int32) + 1 = 8 by decide]
  exact H
/-- the picture's number, the places counted from one before the edge -/
def cv_pix (a : Nat → Int32) (c x y : Nat) : Int32 := if 1 ≤ x ∧ x ≤ 8 ∧ 1 ≤ y ∧ y ≤ 8 then a (64 * c + 8 * (y - 1) + (x - 1)) else 0
theorem cv_at {post : Int32 → Prop} {c x y : Nat} {p1 p2 : Int32} (hc : c < 2) (hx : x < 100) (hy : y < 100) (e1 : p1 = nI x - 1) (e2 : p2 = nI y - 1) (H : post (cv_pix a1 c x y)) : wpX_at post (f0, f1, f2, f3, a1, a2, a3, a4, a5, a6, a7, a8, a9, a10, a11, a12, a13, a14) (nI c) p1 p2 := by
  subst e1 e2
  unfold cv_pix at H
  rcases x with _ | x
  · rw [if_neg (by omega)] at H
    exact br_t (by decide) H
  · rw [nI_pred]
    refine br_f (nI_pos (by omega)) (pk_le 8 x (fun z => ?_) (fun z => ?_))
    · rw [if_neg (by omega)] at H
      exact H
    · rcases y with _ | y
      · rw [if_neg (by omega)] at H
        exact br_t (by decide) H
      · rw [nI_pred]
        refine br_f (nI_pos (by omega)) (pk_lt y 8 (fun z2 => ⟨pk_in (64 * c + 8 * y + x) 128 (by omega) (cv_ix64 c y x), ?_⟩) (fun z2 => ?_))
        · rw [if_pos (by omega)] at H
          rw [cv_ix64, nI_clamp (by omega)]
          exact H
        · rw [if_neg (by omega)] at H
          exact H
theorem cv_reduce {post : Int32 → Prop} {n : Nat} {p0 : Int32} (hn : n < 7681) (e : p0 = nI n) (H : post (nI n)) : wpX_reduce post (f0, f1, f2, f3, a1, a2, a3, a4, a5, a6, a7, a8, a9, a10, a11, a12, a13, a14) p0 := by
  subst e
  refine And.intro (by decide) (nm_r (e' := nI n) ?_ (br_t (nI_pos' (by omega)) H))
  rw [cv_rem (by omega), Nat.mod_eq_of_lt hn]
theorem cv_clear {post : St2 → Prop} (H : ∀ a, (∀ j, j < 256 → a j = 0) → post (f0, f1, f2, f3, a1, a2, a3, a4, a5, a6, a7, a, a9, a10, a11, a12, a13, a14)) : wpX_clearPlane post (f0, f1, f2, f3, a1, a2, a3, a4, a5, a6, a7, a8, a9, a10, a11, a12, a13, a14) :=
  pk_loop (fun n i s => wX_clearPlane_2 post f0 f1 f2 f3 n (nI i) a1 a2 a3 a4 a5 a6 a7 s a9 a10 a11 a12 a13 a14) (fun i s => ∀ j, j < i → s j = 0) 256 0 a8 (by omega) cv_0
    (fun n s h => pk_le 256 256 (fun _ => H s h) (fun z => absurd z (by omega)))
    (fun n i s hi h hw => pk_le 256 i (fun z => absurd z (by omega)) (fun _ => ⟨pk_in i 256 hi, nm_e (nm_r (nI_1 i) (hw _ (cv_fill (f := fun _ => 0) (nI_clamp (by omega)) h rfl)))⟩))
end
/-! the constructor -/
theorem cv_init {post : St2 → Prop} (H : ∀ r b : Nat → Int32, (∀ i, i < 16 → r i = nI (cv_rt i)) → (∀ i, i < 16 → b i = nI (cv_bk i)) → post (1, 1, 0, 0, fun _ => 0, fun _ => 0, fun _ => 0, fun _ => 0, fun _ => 0, fun _ => 0, fun _ => 0, fun _ => 0, fun _ => 0, fun _ => 0, fun _ => 0, r, b, fun _ => 0)) : wpX_init post 14 2242 (0, 0, 0, 0) := by
  unfold wpX_init
  dsimp only
  refine ⟨by decide, by decide, by decide, by decide, by decide, by decide, by decide, by decide, by decide, by decide, by decide, by decide, by decide, by decide, by decide, by decide, by decide, by decide, by decide, by decide, by decide, by decide, by decide, by decide, by decide, by decide, by decide, by decide, ?_⟩
  refine cv_power (a := 17) (n := 480) (by decide) (by decide) cv_pow_g ?_
  refine cv_power (a := 7098) (n := 7679) (by decide) (by decide) cv_pow_i ?_
  refine nm_e (nm_e ?_)
  refine pk_loop (σ := (Nat → Int32) × (Nat → Int32)) (fun n i s => wX_init_166 post 14 2242 (nI 7098) (nI 7154) 14 2242 1 1 0 0 n (nI i) (fun _ => 0) (fun _ => 0) (fun _ => 0) (fun _ => 0) (fun _ => 0) (fun _ => 0) (fun _ => 0) (fun _ => 0) (fun _ => 0) (fun _ => 0) (fun _ => 0) s.1 s.2 (fun _ => 0)) (fun i s => 1 ≤ i ∧ (∀ j, j < i → s.1 j = nI (cv_rt j)) ∧ (∀ j, j < i → s.2 j = nI (cv_bk j))) 16 1 (upd (fun _ => 0) 0 1, upd (fun _ => 0) 0 1) (by omega) ⟨by omega, fun j hj => ?_, fun j hj => ?_⟩ ?_ ?_
  · rw [show j = 0 by omega]; rfl
  · rw [show j = 0 by omega]; rfl
  · intro n s h
    exact pk_le 16 16 (fun _ => H s.1 s.2 h.2.1 h.2.2) (fun z => absurd z (by omega))
  · intro n i s hi h hw
    obtain ⟨r, b⟩ := s
    obtain ⟨h1, h2, h3⟩ := h
    have h2 : ∀ j, j < i → r j = nI (cv_rt j) := h2
    have h3 : ∀ j, j < i → b j = nI (cv_bk j) := h3
    have e1 : (nI i - 1).toNatClampNeg = i - 1 := pk_cl (i - 1) (cv_pred h1)
    have e3 : cv_rt i = cv_rt (i - 1) * 7098 % 7681 := by
      rw [show i = (i - 1) + 1 by omega]; rfl
    have e4 : cv_bk i = cv_bk (i - 1) * 7154 % 7681 := by
      rw [show i = (i - 1) + 1 by omega]; rfl
    refine pk_le 16 i (fun z => absurd z (by omega)) (fun _ => ⟨pk_in (i - 1) 16 (by omega) (cv_pred h1), by decide, pk_in i 16 hi, nm_e ⟨pk_in (i - 1) 16 (by omega) (cv_pred h1), by decide, pk_in i 16 hi, nm_e (nm_r (nI_1 i) (hw (_, _) ⟨by omega, ?_, ?_⟩))⟩⟩)
    · refine cv_fill (f := fun j => nI (cv_rt j)) (nI_clamp (by omega)) h2 ?_
      dsimp only
      rw [e1, h2 (i - 1) (by omega), e3]
      exact cv_mm (cv_rt_lt _) (by decide)
    · refine cv_fill (f := fun j => nI (cv_bk j)) (nI_clamp (by omega)) h3 ?_
      dsimp only
      rw [e1, h3 (i - 1) (by omega), e4]
      exact cv_mm (cv_bk_lt _) (by decide)
end
section
/-! what the law asks of the results -/
section
variable {f0 f1 f2 f3 : Int32} {a1 a2 a3 a4 a5 a6 a7 a8 a9 a10 a11 a12 a13 a14 : Nat → Int32}
theorem cv_result {post : Int32 → Prop} {x y : Nat} (hx : x < 8) (hy : y < 8) (H : post (a3 (8 * y + x))) : wpX_result post (f0, f1, f2, 8, a1, a2, a3, a4, a5, a6, a7, a8, a9, a10, a11, a12, a13, a14) (nI x) (nI y) := by
  refine br_f (nI_pos (by omega)) (pk_le 8 x (fun z => absurd z (by omega)) (fun _ => br_f (nI_pos (by omega)) (pk_lt y 8 (fun _ => ⟨pk_in (8 * y + x) 64 (by omega) (cv_ix8 y x), ?_⟩) (fun z => absurd z (by omega)))))
  rw [cv_ix8, nI_clamp (by omega)]
  exact H
theorem cv_result_out {post : Int32 → Prop} {p0 p1 : Int32} (h : p0 < 0 ∨ 8 ≤ p0 ∨ p1 < 0 ∨ ¬ p1 < 8) (H : post 0) : wpX_result post (f0, f1, f2, 8, a1, a2, a3, a4, a5, a6, a7, a8, a9, a10, a11, a12, a13, a14) p0 p1 := by
  refine br_c (fun _ => H) (fun n1 => br_c (fun _ => H) (fun n2 => br_c (fun _ => H) (fun n3 => br_c (fun n4 => ?_) (fun _ => H))))
  rcases h with h | h | h | h
  · exact absurd h n1
  · exact absurd h n2
  · exact absurd h n3
  · exact absurd n4 h
theorem cv_sum14 {post : Int32 → Prop} {J4 : Int32 → Int32 → Prop} {o : Nat → Nat} {y : Nat} (hy : y < 8) (h : ∀ i, i < 64 → a3 i = nI (o i)) (H : J4 (nI (cv_sum o (8 * (y + 1)))) (nI (y + 1))) : ∃ n, wX_sum_14 post J4 (nI y) f0 f1 f2 8 a1 a2 a3 a4 a5 a6 a7 a8 a9 a10 a11 a12 a13 a14 n (nI (cv_sum o (8 * y))) 0 := by
  refine pk_loop (fun n x s => wX_sum_14 post J4 (nI y) f0 f1 f2 8 a1 a2 a3 a4 a5 a6 a7 a8 a9 a10 a11 a12 a13 a14 n s (nI x)) (fun x s => s = nI (cv_sum o (8 * y + x))) 8 0 _ (by omega) rfl ?_ ?_
  · intro n s hs
    subst hs
    exact pk_le 8 8 (fun _ => nm_r (nI_1 y) H) (fun z => absurd z (by omega))
  · intro n x s hx hs hw
    subst hs
    refine pk_le 8 x (fun z => absurd z (by omega)) (fun _ => ⟨pk_in (8 * y + x) 64 (by omega) (cv_ix8 y x), nm_e (nm_r (nI_1 x) (hw _ ?_))⟩)
    rw [cv_ix8, nI_clamp (by omega), h _ (by omega), nI_add]
    rfl
theorem cv_sumW {post : Int32 → Prop} {o : Nat → Nat} (h : ∀ i, i < 64 → a3 i = nI (o i)) (H : post (nI (cv_sum o 64))) : wpX_sum post (f0, f1, f2, 8, a1, a2, a3, a4, a5, a6, a7, a8, a9, a10, a11, a12, a13, a14) := by
  refine pk_loop (fun n y s => wX_sum_4 post f0 f1 f2 8 a1 a2 a3 a4 a5 a6 a7 a8 a9 a10 a11 a12 a13 a14 n s (nI y)) (fun y s => s = nI (cv_sum o (8 * y))) 8 0 _ (by omega) rfl ?_ ?_
  · intro n s hs
    subst hs
    exact pk_le 8 8 (fun _ => H) (fun z => absurd z (by omega))
  · intro n y s hy hs hw
    subst hs
    exact pk_le 8 y (fun z => absurd z (by omega)) (fun _ => cv_sum14 hy h (hw _ rfl))
/-- the results: D at place T, else 0 -/
def cv_dl (T D : Nat) (i : Nat) : Nat := if i = T then D else 0
def cv_bp (T D m : Nat) : Nat := if T < m ∧ 0 < D then T else 0
def cv_best (T D m : Nat) : Int32 := if m = 0 then -1 else nI (cv_bp T D m)
theorem cv_bp_lt {T D m : Nat} (h : m ≤ 64) (h0 : 0 < m) : cv_bp T D m < m := by
  unfold cv_bp
  split <;> omega
theorem cv_bp_keep {T D m : Nat} (h0 : 0 < m) (h : cv_dl T D m ≤ cv_dl T D (cv_bp T D m)) : cv_bp T D (m + 1) = cv_bp T D m := by
  unfold cv_bp cv_dl at *
  by_cases hD : 0 < D
  · by_cases h1 : T < m
    · rw [if_pos (show T < m + 1 ∧ 0 < D by omega), if_pos ⟨h1, hD⟩]
    · by_cases h2 : T = m
      · rw [if_pos h2.symm, if_neg (show ¬ (T < m ∧ 0 < D) by omega), if_neg (show ¬ 0 = T by omega)] at h
        omega
      · rw [if_neg (by omega), if_neg (by omega)]
  · rw [if_neg (by omega), if_neg (by omega)]
theorem cv_bp_new {T D m : Nat} (h : cv_dl T D (cv_bp T D m) < cv_dl T D m) : cv_bp T D (m + 1) = m := by
  have hT : m = T ∧ 0 < D := by
    unfold cv_dl at h
    by_cases e : m = T
    · rw [if_pos e] at h
      exact ⟨e, by omega⟩
    · rw [if_neg e] at h
      omega
  unfold cv_bp
  rw [if_pos (by omega), hT.1]
theorem cv_peak14 {post : Int32 → Prop} {J4 : Int32 → Int32 → Prop} {T D y : Nat} (hD : D < 10000) (hy : y < 8) (h : ∀ i, i < 64 → a3 i = nI (cv_dl T D i)) (H : J4 (cv_best T D (8 * (y + 1))) (nI (y + 1))) : ∃ n, wX_peak_14 post J4 (nI y) f0 f1 f2 8 a1 a2 a3 a4 a5 a6 a7 a8 a9 a10 a11 a12 a13 a14 n (cv_best T D (8 * y)) 0 := by
  have hb : ∀ i, cv_dl T D i < 10000 := fun i => by unfold cv_dl; split <;> omega
  refine pk_loop (fun n x s => wX_peak_14 post J4 (nI y) f0 f1 f2 8 a1 a2 a3 a4 a5 a6 a7 a8 a9 a10 a11 a12 a13 a14 n s (nI x)) (fun x s => s = cv_best T D (8 * y + x)) 8 0 _ (by omega) rfl ?_ ?_
  · intro n s hs
    subst hs
    exact pk_le 8 8 (fun _ => nm_r (nI_1 y) H) (fun z => absurd z (by omega))
  · intro n x s hx hs hw
    subst hs
    refine pk_le 8 x (fun z => absurd z (by omega)) (fun _ => ?_)
    by_cases e : 8 * y + x = 0
    · have e1 : cv_best T D (8 * y + x) = -1 := if_pos e
      rw [e1]
      refine br_t (by decide) (nm_r (cv_ix8 y x) (nm_r (nI_1 x) (hw _ ?_)))
      unfold cv_best cv_bp
      rw [if_neg (by omega)]
      congr 1
      split <;> omega
    · have e1 : cv_best T D (8 * y + x) = nI (cv_bp T D (8 * y + x)) := if_neg e
      have hbp := cv_bp_lt (T := T) (D := D) (show 8 * y + x ≤ 64 by omega) (by omega)
      rw [e1]
      refine br_f (nI_pos (by omega)) ⟨pk_in (8 * y + x) 64 (by omega) (cv_ix8 y x), pk_in (cv_bp T D (8 * y + x)) 64 (by omega), ?_⟩
      rw [cv_ix8, nI_clamp (by omega), nI_clamp (by omega), h _ (by omega), h _ (by omega)]
      have b1 := hb (8 * y + x)
      have b2 := hb (cv_bp T D (8 * y + x))
      refine pk_le (cv_dl T D (8 * y + x)) (cv_dl T D (cv_bp T D (8 * y + x))) (fun z => nm_r (nI_1 x) (hw _ ?_)) (fun z => nm_r (cv_ix8 y x) (nm_r (nI_1 x) (hw _ ?_)))
      · unfold cv_best
        rw [if_neg (by omega), ← Nat.add_assoc, cv_bp_keep (by omega) z]
      · unfold cv_best
        rw [if_neg (by omega), ← Nat.add_assoc, cv_bp_new z]
theorem cv_peak {post : Int32 → Prop} {T D : Nat} (hD : D < 10000) (h : ∀ i, i < 64 → a3 i = nI (cv_dl T D i)) (H : post (nI (cv_bp T D 64))) : wpX_peak post (f0, f1, f2, 8, a1, a2, a3, a4, a5, a6, a7, a8, a9, a10, a11, a12, a13, a14) := by
  refine pk_loop (fun n y s => wX_peak_4 post f0 f1 f2 8 a1 a2 a3 a4 a5 a6 a7 a8 a9 a10 a11 a12 a13 a14 n s (nI y)) (fun y s => s = cv_best T D (8 * y)) 8 0 _ (by omega) rfl ?_ ?_
  · intro n s hs
    subst hs
    exact pk_le 8 8 (fun _ => H) (fun z => absurd z (by omega))
  · intro n y s hy hs hw
    subst hs
    exact pk_le 8 y (fun z => absurd z (by omega)) (fun _ => cv_peak14 hD hy h (hw _ rfl))
theorem cv_clamp {post : Int32 → Prop} {v : Nat} (hv : v < 10000) (H : post (nI (min v 20))) : wpX_clamp post (f0, f1, f2, f3, a1, a2, a3, a4, a5, a6, a7, a8, a9, a10, a11, a12, a13, a14) (nI v) := by
  refine br_t (cv_le20 (by omega)) (pk_le v 20 (fun z => ?_) (fun z => ?_))
  · rw [Nat.min_eq_left z] at H
    exact H
  · rw [Nat.min_eq_right (Nat.le_of_lt z)] at H
    exact H
def cv_ch (T D m : Nat) : Nat := if T < m ∧ 0 < D then 1 else 0
theorem cv_take25 {post : Int32 → St2 → Prop} {J16 : Int32 → Int32 → (Nat → Int32) → (Nat → Int32) → (Nat → Int32) → (Nat → Int32) → (Nat → Int32) → (Nat → Int32) → (Nat → Int32) → (Nat → Int32) → (Nat → Int32) → (Nat → Int32) → (Nat → Int32) → (Nat → Int32) → (Nat → Int32) → (Nat → Int32) → Prop} {T D y : Nat} (hD : D < 10000) (hy : y < 8) (h : ∀ i, i < 64 → a3 i = nI (cv_dl T D i)) (hp : ∀ j, 8 * y ≤ j → j < 64 → a1 (64 + j) = 0)
    (H : ∀ a, (∀ j, 8 * (y + 1) ≤ j → j < 64 → a (64 + j) = 0) → J16 (nI (cv_ch T D (8 * (y + 1)))) (nI (y + 1)) a a2 a3 a4 a5 a6 a7 a8 a9 a10 a11 a12 a13 a14) :
    ∃ n, wX_take_25 post J16 1 (nI y) f0 f1 f2 8 n (nI (cv_ch T D (8 * y))) 0 a1 a2 a3 a4 a5 a6 a7 a8 a9 a10 a11 a12 a13 a14 := by
  have hb : ∀ i, cv_dl T D i < 10000 := fun i => by unfold cv_dl; split <;> omega
  refine pk_loop (σ := Int32 × (Nat → Int32)) (fun n x s => wX_take_25 post J16 1 (nI y) f0 f1 f2 8 n s.1 (nI x) s.2 a2 a3 a4 a5 a6 a7 a8 a9 a10 a11 a12 a13 a14) (fun x s => s.1 = nI (cv_ch T D (8 * y + x)) ∧ ∀ j, 8 * y + x ≤ j → j < 64 → s.2 (64 + j) = 0) 8 0 (nI (cv_ch T D (8 * y)), a1) (by omega) ⟨rfl, hp⟩ ?_ ?_
  · intro n s hs
    obtain ⟨v, a⟩ := s
    have hv : v = nI (cv_ch T D (8 * y + 8)) := hs.1
    subst hv
    exact pk_le 8 8 (fun _ => nm_r (nI_1 y) (H a hs.2)) (fun z => absurd z (by omega))
  · intro n x s hx hs hw
    obtain ⟨v, a⟩ := s
    have hv : v = nI (cv_ch T D (8 * y + x)) := hs.1
    have ha : ∀ j, 8 * y + x ≤ j → j < 64 → a (64 + j) = 0 := hs.2
    subst hv
    have e7 : 64 * 1 + 8 * nI y + nI x = nI (64 + (8 * y + x)) := by
      rw [show (64 : Int32) * 1 = nI 64 by decide, show (8 : Int32) = nI 8 from rfl, pk_mul, nI_add, nI_add, Nat.add_assoc]
    have hk : ∀ w : Int32, ∀ j, 8 * y + (x + 1) ≤ j → j < 64 → upd a (64 + (8 * y + x)) w (64 + j) = 0 := fun w j h1 h2 => by
      rw [pk_un (by omega)]
      exact ha j (by omega) h2
    refine pk_le 8 x (fun z => absurd z (by omega)) (fun _ => cv_result hx hy ?_)
    rw [h _ (by omega)]
    refine cv_clamp (hb _) (nm_r e7 ⟨pk_in (64 + (8 * y + x)) 128 (by omega), ?_⟩)
    dsimp only
    rw [nI_clamp (by omega), ha (8 * y + x) (by omega) (by omega)]
    refine pk_eq 0 (min (cv_dl T D (8 * y + x)) 20) (fun z => And.intro (pk_in (64 + (8 * y + x)) 128 (by omega)) (nm_r (by rw [nI_clamp (by omega)]) (nm_r (nI_1 x) (hw (_, _) ⟨?_, hk _⟩)))) (fun z => And.intro (pk_in (64 + (8 * y + x)) 128 (by omega)) (nm_r (by rw [nI_clamp (by omega)]) (nm_r (nI_1 x) (hw (_, _) ⟨?_, hk _⟩))))
    · show nI (cv_ch T D (8 * y + x)) = nI (cv_ch T D (8 * y + (x + 1)))
      congr 1
      unfold cv_ch cv_dl at *
      by_cases e : 8 * y + x = T
      · rw [if_pos e] at z
        rw [if_neg (by omega), if_neg (by omega)]
      · by_cases e2 : T < 8 * y + x ∧ 0 < D
        · rw [if_pos e2, if_pos (by omega)]
        · rw [if_neg e2, if_neg (by omega)]
    · show nI (cv_ch T D (8 * y + x)) + 1 = nI (cv_ch T D (8 * y + (x + 1)))
      rw [nI_1]
      congr 1
      unfold cv_ch cv_dl at *
      by_cases e : 8 * y + x = T
      · rw [if_pos e] at z
        rw [if_neg (by omega), if_pos (by omega)]
      · rw [if_neg e] at z
        omega
theorem cv_take {post : Int32 → St2 → Prop} {T D : Nat} (hD : D < 10000) (h : ∀ i, i < 64 → a3 i = nI (cv_dl T D i)) (hp : ∀ j, j < 64 → a1 (64 + j) = 0) (H : ∀ a, post (nI (cv_ch T D 64)) (f0, f1, f2, 8, a, a2, a3, a4, a5, a6, a7, a8, a9, a10, a11, a12, a13, a14)) : wpX_take post (f0, f1, f2, 8, a1, a2, a3, a4, a5, a6, a7, a8, a9, a10, a11, a12, a13, a14) 1 := by
  refine br_f (by decide) (br_t (by decide) ?_)
  refine pk_loop (σ := Int32 × (Nat → Int32)) (fun n y s => wX_take_16 post 1 f0 f1 f2 8 n s.1 (nI y) s.2 a2 a3 a4 a5 a6 a7 a8 a9 a10 a11 a12 a13 a14) (fun y s => s.1 = nI (cv_ch T D (8 * y)) ∧ ∀ j, 8 * y ≤ j → j < 64 → s.2 (64 + j) = 0) 8 0 (0, a1) (by omega) ⟨?_, fun j _ hj => hp j hj⟩ ?_ ?_
  · show (0 : Int32) = nI (cv_ch T D (8 * 0))
    unfold cv_ch
    rw [if_neg (by omega)]
    rfl
  · intro n s hs
    obtain ⟨v, a⟩ := s
    have hv : v = nI (cv_ch T D (8 * 8)) := hs.1
    subst hv
    exact pk_le 8 8 (fun _ => H a) (fun z => absurd z (by omega))
  · intro n y s hy hs hw
    obtain ⟨v, a⟩ := s
    have hv : v = nI (cv_ch T D (8 * y)) := hs.1
    subst hv
    exact pk_le 8 y (fun z => absurd z (by omega)) (fun _ => cv_take25 hD hy h hs.2 (fun a' ha' => hw (_, a') ⟨rfl, ha'⟩))
theorem cv_floor14 {post : Int32 → St2 → Prop} {J4 : Int32 → Int32 → (Nat → Int32) → (Nat → Int32) → (Nat → Int32) → (Nat → Int32) → (Nat → Int32) → (Nat → Int32) → (Nat → Int32) → (Nat → Int32) → (Nat → Int32) → (Nat → Int32) → (Nat → Int32) → (Nat → Int32) → (Nat → Int32) → (Nat → Int32) → Prop} {y : Nat} (hy : y < 8) (h : ∀ i, i < 64 → 0 ≤ a3 i) (H : J4 0 (nI (y + 1)) a1 a2 a3 a4 a5 a6 a7 a8 a9 a10 a11 a12 a13 a14) : ∃ n, wX_floor_14 post J4 (nI y) f0 f1 f2 8 n 0 0 a1 a2 a3 a4 a5 a6 a7 a8 a9 a10 a11 a12 a13 a14 := by
  refine pk_loop (σ := Unit) (fun n x _ => wX_floor_14 post J4 (nI y) f0 f1 f2 8 n 0 (nI x) a1 a2 a3 a4 a5 a6 a7 a8 a9 a10 a11 a12 a13 a14) (fun _ _ => True) 8 0 () (by omega) trivial ?_ ?_
  · intro n s hs
    exact pk_le 8 8 (fun _ => nm_r (nI_1 y) H) (fun z => absurd z (by omega))
  · intro n x s hx hs hw
    refine pk_le 8 x (fun z => absurd z (by omega)) (fun _ => ⟨pk_in (8 * y + x) 64 (by omega) (cv_ix8 y x), ?_⟩)
    rw [cv_ix8, nI_clamp (by omega)]
    exact br_t (h _ (by omega)) (nm_r (nI_1 x) (hw () trivial))
theorem cv_floor {post : Int32 → St2 → Prop} (h : ∀ i, i < 64 → 0 ≤ a3 i) (H : post 0 (f0, f1, f2, 8, a1, a2, a3, a4, a5, a6, a7, a8, a9, a10, a11, a12, a13, a14)) : wpX_floor post (f0, f1, f2, 8, a1, a2, a3, a4, a5, a6, a7, a8, a9, a10, a11, a12, a13, a14) := by
  refine pk_loop (σ := Unit) (fun n y _ => wX_floor_4 post f0 f1 f2 8 n 0 (nI y) a1 a2 a3 a4 a5 a6 a7 a8 a9 a10 a11 a12 a13 a14) (fun _ _ => True) 8 0 () (by omega) trivial ?_ ?_
  · intro n s hs
    exact pk_le 8 8 (fun _ => H) (fun z => absurd z (by omega))
  · intro n y s hy hs hw
    exact pk_le 8 y (fun z => absurd z (by omega)) (fun _ => cv_floor14 hy h (hw () trivial))
end
end
section
/-! the third way: windows -/
def cv_W (a : Nat → Int32) (x y j : Nat) : Int32 := cv_pix a (j / 9) (x + j % 9 % 3) (y + j % 9 / 3)
section
variable {f0 f1 f2 f3 : Int32} {a1 a2 a3 a4 a5 a6 a7 a8 a9 a10 a11 a12 a13 a14 : Nat → Int32}
theorem cv_st12 {post : St2 → Prop} {J3 : Int32 → (Nat → Int32) → (Nat → Int32) → (Nat → Int32) → (Nat → Int32) → (Nat → Int32) → (Nat → Int32) → (Nat → Int32) → (Nat → Int32) → (Nat → Int32) → (Nat → Int32) → (Nat → Int32) → (Nat → Int32) → (Nat → Int32) → (Nat → Int32) → Prop} {w x y c : Nat} (hc : c < 2) (hw : w + 18 ≤ 1152) (hx : x < 8) (hy : y < 8) (h0 : ∀ j, j < 9 * c → a14 (w + j) = cv_W a1 x y j)
    (H : ∀ s, (∀ j, j < 9 * (c + 1) → s (w + j) = cv_W a1 x y j) → (∀ j, j < w ∨ w + 18 ≤ j → s j = a14 j) → J3 (nI (c + 1)) a1 a2 a3 a4 a5 a6 a7 a8 a9 a10 a11 a12 a13 s) :
    ∃ n, wX_stretch_12 post J3 (nI w) (nI x - 1) (nI y - 1) (nI c) f0 f1 f2 f3 n 0 a1 a2 a3 a4 a5 a6 a7 a8 a9 a10 a11 a12 a13 a14 := by
  refine pk_loop (fun n k s => wX_stretch_12 post J3 (nI w) (nI x - 1) (nI y - 1) (nI c) f0 f1 f2 f3 n (nI k) a1 a2 a3 a4 a5 a6 a7 a8 a9 a10 a11 a12 a13 s) (fun k s => (∀ j, j < 9 * c + k → s (w + j) = cv_W a1 x y j) ∧ (∀ j, j < w ∨ w + 18 ≤ j → s j = a14 j)) 9 0 a14 (by omega) ⟨h0, fun _ _ => rfl⟩ ?_ ?_
  · intro n s h
    exact pk_le 9 9 (fun _ => nm_r (nI_1 c) (H s h.1 h.2)) (fun z => absurd z (by omega))
  · intro n k s hk h hs
    have e1 : nI x - 1 + (nI k - nI k / 3 * 3) = nI (x + k % 3) - 1 := by
      have e : nI k - nI k / 3 * 3 = nI (k % 3) := pk_rem (by omega) (by decide) (by decide)
      rw [e, ← nI_add]
      grind
    have e2 : nI y - 1 + nI k / 3 = nI (y + k / 3) - 1 := by
      have e : nI k / 3 = nI (k / 3) := pk_div (by omega) (by decide) (by decide)
      rw [e, ← nI_add]
      grind
    have e3 : nI w + 9 * nI c + nI k = nI (w + (9 * c + k)) := by
      rw [show (9 : Int32) = nI 9 from rfl, pk_mul, nI_add, nI_add, Nat.add_assoc]
    refine pk_le 9 k (fun z => absurd z (by omega)) (fun _ => ⟨by decide, by decide, cv_at hc (by omega) (by omega) e1 e2 ⟨pk_in (w + (9 * c + k)) 1152 (by omega) e3, nm_e (nm_r (nI_1 k) (hs _ ⟨?_, ?_⟩))⟩⟩)
    · intro j hj
      rw [pk_cl (w + (9 * c + k)) e3]
      by_cases e : j = 9 * c + k
      · rw [e, pk_us]
        unfold cv_W
        rw [show (9 * c + k) / 9 = c by omega, show (9 * c + k) % 9 = k by omega]
      · rw [pk_un (by omega)]
        exact h.1 j (by omega)
    · intro j hj
      rw [pk_cl (w + (9 * c + k)) e3, pk_un (by omega)]
      exact h.2 j hj
theorem cv_stretch {post : St2 → Prop} {w x y : Nat} {p0 p1 p2 : Int32} (e0 : p0 = nI w) (e1 : p1 = nI x - 1) (e2 : p2 = nI y - 1) (hw : w + 18 ≤ 1152) (hx : x < 8) (hy : y < 8)
    (H : ∀ s, (∀ j, j < 18 → s (w + j) = cv_W a1 x y j) → (∀ j, j < w ∨ w + 18 ≤ j → s j = a14 j) → post (f0, f1, f2, f3, a1, a2, a3, a4, a5, a6, a7, a8, a9, a10, a11, a12, a13, s)) : wpX_stretch post (f0, f1, f2, f3, a1, a2, a3, a4, a5, a6, a7, a8, a9, a10, a11, a12, a13, a14) p0 p1 p2 := by
  subst e0 e1 e2
  refine pk_loop (fun n c s => wX_stretch_3 post (nI w) (nI x - 1) (nI y - 1) f0 f1 f2 f3 n (nI c) a1 a2 a3 a4 a5 a6 a7 a8 a9 a10 a11 a12 a13 s) (fun c s => (∀ j, j < 9 * c → s (w + j) = cv_W a1 x y j) ∧ (∀ j, j < w ∨ w + 18 ≤ j → s j = a14 j)) 2 0 a14 (by omega) ⟨cv_0, fun _ _ => rfl⟩ ?_ ?_
  · intro n s h
    exact pk_le 2 2 (fun _ => H s h.1 h.2) (fun z => absurd z (by omega))
  · intro n c s hc h hs
    exact pk_le 2 c (fun z => absurd z (by omega)) (fun _ => cv_st12 hc hw hx hy h.1 (fun s' h1 h2 => hs s' ⟨h1, fun j hj => (h2 j hj).trans (h.2 j hj)⟩))
theorem cv_mw12 {post : St2 → Prop} {J2 : Int32 → Int32 → Int32 → Int32 → Int32 → (Nat → Int32) → (Nat → Int32) → (Nat → Int32) → (Nat → Int32) → (Nat → Int32) → (Nat → Int32) → (Nat → Int32) → (Nat → Int32) → (Nat → Int32) → (Nat → Int32) → (Nat → Int32) → (Nat → Int32) → (Nat → Int32) → (Nat → Int32) → Prop} {y : Nat} (hy : y < 8) (h0 : ∀ i, i < 8 * y → ∀ j, j < 18 → a14 (18 * i + j) = cv_W a1 (i % 8) (i / 8) j)
    (H : ∀ s, (∀ i, i < 8 * (y + 1) → ∀ j, j < 18 → s (18 * i + j) = cv_W a1 (i % 8) (i / 8) j) → J2 (nI (y + 1)) 1 1 f2 8 a1 a2 a3 a4 a5 a6 a7 a8 a9 a10 a11 a12 a13 s) :
    ∃ n, wX_moveByWindows_12 post J2 (nI y) n 0 1 1 f2 8 a1 a2 a3 a4 a5 a6 a7 a8 a9 a10 a11 a12 a13 a14 := by
  refine pk_loop (fun n x s => wX_moveByWindows_12 post J2 (nI y) n (nI x) 1 1 f2 8 a1 a2 a3 a4 a5 a6 a7 a8 a9 a10 a11 a12 a13 s) (fun x s => ∀ i, i < 8 * y + x → ∀ j, j < 18 → s (18 * i + j) = cv_W a1 (i % 8) (i / 8) j) 8 0 a14 (by omega) h0 ?_ ?_
  · intro n s h
    exact pk_le 8 8 (fun _ => nm_r (nI_1 y) (H s h)) (fun z => absurd z (by omega))
  · intro n x s hx h hs
    have e0 : 18 * (8 * nI y + nI x) = nI (18 * (8 * y + x)) := by
      rw [cv_ix8, show (18 : Int32) = nI 18 from rfl, pk_mul]
    refine pk_le 8 x (fun z => absurd z (by omega)) (fun _ => cv_stretch (x := x) (y := y) e0 (by grind) (by grind) (by omega) hx hy (fun s' h1 h2 => nm_r (nI_1 x) (hs s' (fun i hi j hj => ?_))))
    by_cases e : i = 8 * y + x
    · rw [e, h1 j hj, show (8 * y + x) % 8 = x by omega, show (8 * y + x) / 8 = y by omega]
    · rw [h2 _ (by omega)]
      exact h i (by omega) j hj
theorem cv_addcol {post : St2 → Prop} {k fr : Nat} {p1 : Int32} (e1 : p1 = nI fr) (hk : k < 18) (hf : fr + 8 ≤ 64)
    (H : ∀ s, (∀ j, fr ≤ j → j < fr + 8 → s j = a3 j + a14 (18 * j + k) * a2 k) → (∀ j, j < fr ∨ fr + 8 ≤ j → s j = a3 j) → post (f0, f1, f2, 8, a1, a2, s, a4, a5, a6, a7, a8, a9, a10, a11, a12, a13, a14)) : wpX_addColumn post (f0, f1, f2, 8, a1, a2, a3, a4, a5, a6, a7, a8, a9, a10, a11, a12, a13, a14) (nI k) p1 := by
  subst e1
  have e8 : nI fr + 8 = nI (fr + 8) := nI_add fr 8
  refine pk_loop (fun n i s => wX_addColumn_2 post (nI k) (nI fr) f0 f1 f2 8 n (nI i) a1 a2 s a4 a5 a6 a7 a8 a9 a10 a11 a12 a13 a14) (fun i s => fr ≤ i ∧ (∀ j, fr ≤ j → j < i → s j = a3 j + a14 (18 * j + k) * a2 k) ∧ (∀ j, j < fr ∨ i ≤ j → s j = a3 j)) (fr + 8) fr a3 (by omega) ⟨by omega, fun j h1 h2 => absurd h1 (by omega), fun _ _ => rfl⟩ ?_ ?_
  · intro n s h
    exact pk_le (fr + 8) (fr + 8) (fun _ => H s h.2.1 h.2.2) (fun z => absurd z (by omega)) e8
  · intro n i s hi h hs
    have e3 : 18 * nI i + nI k = nI (18 * i + k) := by
      rw [show (18 : Int32) = nI 18 from rfl, pk_mul, nI_add]
    have h1 := h.1
    refine pk_le (fr + 8) i (fun z => absurd z (by omega)) (fun _ => ⟨pk_in i 64 (by omega), pk_in (18 * i + k) 1152 (by omega) e3, pk_in k 18 hk, pk_in i 64 (by omega), nm_e (nm_r (nI_1 i) (hs _ ⟨by omega, ?_, ?_⟩))⟩) e8
    · intro j h2 h3
      rw [nI_clamp (show i < 2 ^ 31 by omega), nI_clamp (show k < 2 ^ 31 by omega), pk_cl (18 * i + k) e3]
      by_cases e : j = i
      · rw [e, pk_us, h.2.2 i (by omega)]
      · rw [pk_un e]
        exact h.2.1 j h2 (by omega)
    · intro j hj
      rw [nI_clamp (show i < 2 ^ 31 by omega), pk_un (by omega)]
      exact h.2.2 j (by omega)
theorem cv_mw77 {post : St2 → Prop} {J69 : Int32 → Int32 → Int32 → Int32 → Int32 → (Nat → Int32) → (Nat → Int32) → (Nat → Int32) → (Nat → Int32) → (Nat → Int32) → (Nat → Int32) → (Nat → Int32) → (Nat → Int32) → (Nat → Int32) → (Nat → Int32) → (Nat → Int32) → (Nat → Int32) → (Nat → Int32) → (Nat → Int32) → Prop} {px : Nat → Nat → Nat} {kn : Nat → Nat} {k : Nat} (hk : k < 18) (hp : ∀ i, i < 64 → ∀ j, j < 18 → a14 (18 * i + j) = nI (px i j)) (hn : ∀ j, j < 18 → a2 j = nI (kn j)) (h0 : ∀ i, i < 64 → a3 i = nI (cv_sum (fun j => px i j * kn j) k))
    (H : ∀ s, (∀ i, i < 64 → s i = nI (cv_sum (fun j => px i j * kn j) (k + 1))) → J69 (nI (k + 1)) f0 f1 f2 8 a1 a2 s a4 a5 a6 a7 a8 a9 a10 a11 a12 a13 a14) :
    ∃ n, wX_moveByWindows_77 post J69 (nI k) n 0 f0 f1 f2 8 a1 a2 a3 a4 a5 a6 a7 a8 a9 a10 a11 a12 a13 a14 := by
  refine pk_loop (fun n y s => wX_moveByWindows_77 post J69 (nI k) n (nI y) f0 f1 f2 8 a1 a2 s a4 a5 a6 a7 a8 a9 a10 a11 a12 a13 a14) (fun y s => ∀ i, i < 64 → s i = nI (cv_sum (fun j => px i j * kn j) (if i < 8 * y then k + 1 else k))) 8 0 a3 (by omega) (fun i hi => ?_) ?_ ?_
  · rw [if_neg (by omega)]
    exact h0 i hi
  · intro n s h
    refine pk_le 8 8 (fun _ => nm_r (nI_1 k) (H s (fun i hi => ?_))) (fun z => absurd z (by omega))
    have := h i hi
    rw [if_pos (by omega)] at this
    exact this
  · intro n y s hy h hs
    have e1 : 8 * nI y = nI (8 * y) := pk_mul 8 y
    refine pk_le 8 y (fun z => absurd z (by omega)) (fun _ => cv_addcol e1 hk (by omega) (fun s' h1 h2 => nm_r (nI_1 y) (hs s' (fun i hi => ?_))))
    have t := h i hi
    by_cases e : 8 * y ≤ i ∧ i < 8 * y + 8
    · rw [if_neg (by omega)] at t
      rw [h1 i e.1 e.2, t, hp i hi k hk, hn k hk, pk_mul, nI_add, if_pos (by omega)]
      rfl
    · rw [h2 i (by omega), t]
      by_cases e2 : i < 8 * y
      · rw [if_pos e2, if_pos (by omega)]
      · rw [if_neg e2, if_neg (by omega)]
theorem cv_windows {post : St2 → Prop} {px : Nat → Nat → Nat} {kn : Nat → Nat} (hp : ∀ i, i < 64 → ∀ j, j < 18 → cv_W a1 (i % 8) (i / 8) j = nI (px i j)) (hn : ∀ j, j < 18 → a2 j = nI (kn j)) (h3 : ∀ i, i < 64 → a3 i = 0)
    (H : ∀ s w, (∀ i, i < 64 → s i = nI (cv_sum (fun j => px i j * kn j) 18)) → post (1, 1, f2, 8, a1, a2, s, a4, a5, a6, a7, a8, a9, a10, a11, a12, a13, w)) :
    wpX_moveByWindows post (1, 1, f2, 8, a1, a2, a3, a4, a5, a6, a7, a8, a9, a10, a11, a12, a13, a14) := by
  refine pk_loop (fun n y s => wX_moveByWindows_2 post n (nI y) 1 1 f2 8 a1 a2 a3 a4 a5 a6 a7 a8 a9 a10 a11 a12 a13 s) (fun y s => ∀ i, i < 8 * y → ∀ j, j < 18 → s (18 * i + j) = cv_W a1 (i % 8) (i / 8) j) 8 0 a14 (by omega) cv_0 ?_ ?_
  · intro n w h
    refine pk_le 8 8 (fun _ => ?_) (fun z => absurd z (by omega))
    refine pk_loop (fun n k s => wX_moveByWindows_69 post n (nI k) 1 1 f2 8 a1 a2 s a4 a5 a6 a7 a8 a9 a10 a11 a12 a13 w) (fun k s => ∀ i, i < 64 → s i = nI (cv_sum (fun j => px i j * kn j) k)) 18 0 a3 (by omega) (fun i hi => ?_) ?_ ?_
    · rw [h3 i hi]; rfl
    · intro n s hs
      exact pk_le 18 18 (fun _ => H s w hs) (fun z => absurd z (by omega))
    · intro n k s hk hs hw
      exact pk_le 18 k (fun z => absurd z (by omega)) (fun _ => cv_mw77 hk (fun i hi j hj => (h i hi j hj).trans (hp i hi j hj)) hn hs (fun s' h' => hw s' h'))
  · intro n y s hy h hw
    exact pk_le 8 y (fun z => absurd z (by omega)) (fun _ => cv_mw12 hy h (fun s' h' => hw s' h'))
end
end
section
/-! the second way: transforms -/
section
variable {f0 f1 f2 f3 : Int32} {a1 a2 a3 a4 a5 a6 a7 a8 a9 a10 a11 a12 a13 a14 : Nat → Int32}
theorem cv_fr {fr st i k : Nat} (hst : 0 < st) (h : k ≠ i) : fr + k * st ≠ fr + i * st := fun e => h (Nat.eq_of_mul_eq_mul_right hst (by omega))
theorem cv_fb {fr st i : Nat} (hb : fr + 15 * st < 256) (h : i < 16) : fr + i * st < 256 := by
  have : i * st ≤ 15 * st := Nat.mul_le_mul_right st (by omega)
  omega
theorem cv_tl109 {post : St2 → Prop} {fr st : Nat} (hst : 0 < st) (hb : fr + 15 * st < 256)
    (H : ∀ s, (∀ k, k < 16 → s (fr + k * st) = a11 k) → (∀ j, (∀ k, k < 16 → j ≠ fr + k * st) → s j = a8 j) → post (f0, f1, f2, f3, a1, a2, a3, a4, a5, a6, a7, s, a9, a10, a11, a12, a13, a14)) :
    ∃ n, wX_transformLine_109 post (nI fr) (nI st) f0 f1 f2 f3 n 0 a1 a2 a3 a4 a5 a6 a7 a8 a9 a10 a11 a12 a13 a14 := by
  refine pk_loop (fun n i s => wX_transformLine_109 post (nI fr) (nI st) f0 f1 f2 f3 n (nI i) a1 a2 a3 a4 a5 a6 a7 s a9 a10 a11 a12 a13 a14) (fun i s => (∀ k, k < i → s (fr + k * st) = a11 k) ∧ (∀ j, (∀ k, k < 16 → j ≠ fr + k * st) → s j = a8 j)) 16 0 a8 (by omega) ⟨cv_0, fun _ _ => rfl⟩ ?_ ?_
  · intro n s h
    exact pk_le 16 16 (fun _ => H s h.1 h.2) (fun z => absurd z (by omega))
  · intro n i s hi h hs
    have hb' := cv_fb hb hi
    refine pk_le 16 i (fun z => absurd z (by omega)) (fun _ => ⟨pk_in i 16 hi, pk_in (fr + i * st) 256 hb' (cv_ixl fr i st), nm_e (nm_r (nI_1 i) (hs _ ⟨?_, ?_⟩))⟩)
    · intro k hk
      rw [cv_ixl, nI_clamp (show fr + i * st < 2 ^ 31 by omega), nI_clamp (show i < 2 ^ 31 by omega)]
      by_cases e : k = i
      · rw [e, pk_us]
      · rw [pk_un (cv_fr hst e)]
        exact h.1 k (by omega)
    · intro j hj
      rw [cv_ixl, nI_clamp (show fr + i * st < 2 ^ 31 by omega), pk_un (hj i hi)]
      exact h.2 j hj
theorem cv_tl56 {post : St2 → Prop} {J3 : Int32 → (Nat → Int32) → (Nat → Int32) → (Nat → Int32) → (Nat → Int32) → (Nat → Int32) → (Nat → Int32) → (Nat → Int32) → (Nat → Int32) → (Nat → Int32) → (Nat → Int32) → (Nat → Int32) → (Nat → Int32) → (Nat → Int32) → (Nat → Int32) → Prop} {J16 : Int32 → Int32 → Prop} {x3 x4 z0 : Int32} {fr st S i v z : Nat} (hb : fr + i * st < 256) (hv : a8 (fr + i * st) = nI v) (hz : z0 = nI z) (bv : v < 7681) (bz : z < 7681) (H : J16 (nI (S + v * z % 7681)) (nI (i + 1))) :
    wX_transformLine_56 post J3 J16 (nI fr) (nI st) x3 x4 (nI S) (nI i) z0 f0 f1 f2 f3 a1 a2 a3 a4 a5 a6 a7 a8 a9 a10 a11 a12 a13 a14 := by
  refine And.intro (pk_in (fr + i * st) 256 hb (cv_ixl fr i st)) ⟨by decide, nm_r ?_ (nm_r (nI_1 i) H)⟩
  rw [cv_ixl, nI_clamp (show fr + i * st < 2 ^ 31 by omega), hv, hz, cv_mm bv bz, nI_add]
theorem cv_and15 {k i : Nat} (hk : k < 16) (hi : i < 16) : (nI k * nI i) &&& 15 = nI (k * i % 16) := by
  have : k * i ≤ 15 * 15 := Nat.mul_le_mul (by omega) (by omega)
  rw [pk_mul]
  exact pk_andN (by omega) 4 (by decide)
theorem cv_tl16 {post : St2 → Prop} {J3 : Int32 → (Nat → Int32) → (Nat → Int32) → (Nat → Int32) → (Nat → Int32) → (Nat → Int32) → (Nat → Int32) → (Nat → Int32) → (Nat → Int32) → (Nat → Int32) → (Nat → Int32) → (Nat → Int32) → (Nat → Int32) → (Nat → Int32) → (Nat → Int32) → Prop} {x3 : Int32} {fr st k : Nat} {tb x : Nat → Nat} (hk : k < 16) (hb : fr + 15 * st < 256) (ht : (x3 = 0 ∧ ∀ i, i < 16 → a12 i = nI (tb i)) ∨ (¬ x3 = 0 ∧ ∀ i, i < 16 → a13 i = nI (tb i))) (bt' : ∀ i, tb i < 7681)
    (hx : ∀ i, i < 16 → a8 (fr + i * st) = nI (x i)) (bx : ∀ i, i < 16 → x i < 7681) (H : J3 (nI (k + 1)) a1 a2 a3 a4 a5 a6 a7 a8 a9 a10 (upd a11 k (nI (cv_dft tb x k))) a12 a13 a14) :
    ∃ n, wX_transformLine_16 post J3 (nI fr) (nI st) x3 (nI k) f0 f1 f2 f3 a1 a2 a3 a4 a5 a6 a7 a8 a9 a10 a11 a12 a13 a14 n 0 0 := by
  refine pk_loop (fun n i s => wX_transformLine_16 post J3 (nI fr) (nI st) x3 (nI k) f0 f1 f2 f3 a1 a2 a3 a4 a5 a6 a7 a8 a9 a10 a11 a12 a13 a14 n s (nI i)) (fun i s => s = nI (cv_sum (fun i => x i * tb (k * i % 16) % 7681) i)) 16 0 0 (by omega) rfl ?_ ?_
  · intro n s hs
    subst hs
    have hl : cv_sum (fun i => x i * tb (k * i % 16) % 7681) 16 ≤ 16 * 7680 := cv_sum_le (fun i _ => by have := Nat.mod_lt (x i * tb (k * i % 16)) (show 7681 > 0 by decide); omega)
    refine pk_le 16 16 (fun _ => ⟨by decide, pk_in k 16 hk, nm_e (nm_r (nI_1 k) ?_)⟩) (fun z => absurd z (by omega))
    rw [nI_clamp (show k < 2 ^ 31 by omega), cv_rem (by omega)]
    exact H
  · intro n i s hi hs hw
    subst hs
    have hb' := cv_fb hb hi
    have hm : k * i % 16 < 16 := Nat.mod_lt _ (by decide)
    refine pk_le 16 i (fun z => absurd z (by omega)) (fun _ => ?_)
    rw [cv_and15 hk hi, nI_clamp (show k * i % 16 < 2 ^ 31 by omega)]
    rcases ht with ⟨t1, t2⟩ | ⟨t1, t2⟩
    · exact br_t t1 ⟨pk_in (k * i % 16) 16 hm, cv_tl56 hb' (hx i hi) (t2 _ hm) (bx i hi) (bt' _) (hw _ rfl)⟩
    · exact br_f t1 ⟨pk_in (k * i % 16) 16 hm, cv_tl56 hb' (hx i hi) (t2 _ hm) (bx i hi) (bt' _) (hw _ rfl)⟩
theorem cv_tl {post : St2 → Prop} {p0 p1 x3 : Int32} {fr st : Nat} {tb x : Nat → Nat} (e0 : p0 = nI fr) (e1 : p1 = nI st) (hst : 0 < st) (hb : fr + 15 * st < 256) (ht : (x3 = 0 ∧ ∀ i, i < 16 → a12 i = nI (tb i)) ∨ (¬ x3 = 0 ∧ ∀ i, i < 16 → a13 i = nI (tb i))) (bt' : ∀ i, tb i < 7681)
    (hx : ∀ i, i < 16 → a8 (fr + i * st) = nI (x i)) (bx : ∀ i, i < 16 → x i < 7681)
    (H : ∀ s l, (∀ k, k < 16 → s (fr + k * st) = nI (cv_dft tb x k)) → (∀ j, (∀ k, k < 16 → j ≠ fr + k * st) → s j = a8 j) → post (f0, f1, f2, f3, a1, a2, a3, a4, a5, a6, a7, s, a9, a10, l, a12, a13, a14)) : wpX_transformLine post (f0, f1, f2, f3, a1, a2, a3, a4, a5, a6, a7, a8, a9, a10, a11, a12, a13, a14) p0 p1 x3 := by
  subst e0 e1
  refine pk_loop (fun n k s => wX_transformLine_3 post (nI fr) (nI st) x3 f0 f1 f2 f3 n (nI k) a1 a2 a3 a4 a5 a6 a7 a8 a9 a10 s a12 a13 a14) (fun k s => ∀ j, j < k → s j = nI (cv_dft tb x j)) 16 0 a11 (by omega) cv_0 ?_ ?_
  · intro n l h
    exact pk_le 16 16 (fun _ => cv_tl109 hst hb (fun s h1 h2 => H s l (fun k hk => (h1 k hk).trans (h k hk)) h2)) (fun z => absurd z (by omega))
  · intro n k l hk h hw
    exact pk_le 16 k (fun z => absurd z (by omega)) (fun _ => cv_tl16 hk hb ht bt' hx bx (hw _ (cv_fill (f := fun j => nI (cv_dft tb x j)) rfl h rfl)))
theorem cv_tr26 {post : St2 → Prop} {x1 : Int32} {tb : Nat → Nat} {R : Nat → Nat → Nat} (ht : (x1 = 0 ∧ ∀ i, i < 16 → a12 i = nI (tb i)) ∨ (¬ x1 = 0 ∧ ∀ i, i < 16 → a13 i = nI (tb i))) (bt' : ∀ i, tb i < 7681)
    (hR : ∀ r, r < 16 → ∀ c, c < 16 → a8 (16 * r + c) = nI (R r c)) (bR : ∀ r c, R r c < 7681)
    (H : ∀ s l, (∀ r, r < 16 → ∀ c, c < 16 → s (16 * r + c) = nI (cv_dft tb (fun r' => R r' c) r)) → post (f0, f1, f2, f3, a1, a2, a3, a4, a5, a6, a7, s, a9, a10, l, a12, a13, a14)) : ∃ n, wX_transform_26 post x1 n 0 f0 f1 f2 f3 a1 a2 a3 a4 a5 a6 a7 a8 a9 a10 a11 a12 a13 a14 := by
  refine pk_loop (σ := (Nat → Int32) × (Nat → Int32)) (fun n i s => wX_transform_26 post x1 n (nI i) f0 f1 f2 f3 a1 a2 a3 a4 a5 a6 a7 s.1 a9 a10 s.2 a12 a13 a14) (fun i s => ∀ r, r < 16 → ∀ c, c < 16 → s.1 (16 * r + c) = nI (if c < i then cv_dft tb (fun r' => R r' c) r else R r c)) 16 0 (a8, a11) (by omega) (fun r hr c hc => ?_) ?_ ?_
  · rw [if_neg (by omega)]
    exact hR r hr c hc
  · intro n s h
    refine pk_le 16 16 (fun _ => H s.1 s.2 (fun r hr c hc => ?_)) (fun z => absurd z (by omega))
    have t := h r hr c hc
    rw [if_pos hc] at t
    exact t
  · intro n i s hi h hw
    obtain ⟨p, l⟩ := s
    have h : ∀ r, r < 16 → ∀ c, c < 16 → p (16 * r + c) = nI (if c < i then cv_dft tb (fun r' => R r' c) r else R r c) := h
    refine pk_le 16 i (fun z => absurd z (by omega)) (fun _ => cv_tl (fr := i) (st := 16) (x := fun r => R r i) rfl rfl (by omega) (by omega) ht bt' (fun r hr => ?_) (fun r _ => bR r i) (fun s' l' h1 h2 => nm_r (nI_1 i) (hw (s', l') (fun r hr c hc => ?_))))
    · have t := h r hr i hi
      rw [if_neg (by omega), show 16 * r + i = i + r * 16 by omega] at t
      exact t
    · show s' (16 * r + c) = _
      by_cases e : c = i
      · rw [e, if_pos (by omega), show 16 * r + i = i + r * 16 by omega]
        exact h1 r hr
      · rw [h2 _ (fun k hk => by omega)]
        show p (16 * r + c) = _
        rw [h r hr c hc]
        by_cases e2 : c < i
        · rw [if_pos e2, if_pos (by omega)]
        · rw [if_neg e2, if_neg (by omega)]
theorem cv_tr {post : St2 → Prop} {x1 : Int32} {tb : Nat → Nat} {M : Nat → Nat → Nat} (ht : (x1 = 0 ∧ ∀ i, i < 16 → a12 i = nI (tb i)) ∨ (¬ x1 = 0 ∧ ∀ i, i < 16 → a13 i = nI (tb i))) (bt' : ∀ i, tb i < 7681)
    (hM : ∀ r, r < 16 → ∀ c, c < 16 → a8 (16 * r + c) = nI (M r c)) (bM : ∀ r, r < 16 → ∀ c, c < 16 → M r c < 7681)
    (H : ∀ s l, (∀ r, r < 16 → ∀ c, c < 16 → s (16 * r + c) = nI (cv_T2 tb M r c)) → post (f0, f1, f2, f3, a1, a2, a3, a4, a5, a6, a7, s, a9, a10, l, a12, a13, a14)) : wpX_transform post (f0, f1, f2, f3, a1, a2, a3, a4, a5, a6, a7, a8, a9, a10, a11, a12, a13, a14) x1 := by
  refine pk_loop (σ := (Nat → Int32) × (Nat → Int32)) (fun n i s => wX_transform_2 post x1 n (nI i) f0 f1 f2 f3 a1 a2 a3 a4 a5 a6 a7 s.1 a9 a10 s.2 a12 a13 a14) (fun i s => ∀ r, r < 16 → ∀ c, c < 16 → s.1 (16 * r + c) = nI (if r < i then cv_dft tb (M r) c else M r c)) 16 0 (a8, a11) (by omega) (fun r hr c hc => ?_) ?_ ?_
  · rw [if_neg (by omega)]
    exact hM r hr c hc
  · intro n s h
    refine pk_le 16 16 (fun _ => cv_tr26 (R := fun r c => cv_dft tb (M r) c) ht bt' (fun r hr c hc => ?_) (fun r c => cv_dft_lt _ _ _) H) (fun z => absurd z (by omega))
    have t := h r hr c hc
    rw [if_pos hr] at t
    exact t
  · intro n i s hi h hw
    obtain ⟨p, l⟩ := s
    have h : ∀ r, r < 16 → ∀ c, c < 16 → p (16 * r + c) = nI (if r < i then cv_dft tb (M r) c else M r c) := h
    refine pk_le 16 i (fun z => absurd z (by omega)) (fun _ => cv_tl (fr := 16 * i) (st := 1) (x := M i) (cv_ix16 i) rfl (by omega) (by omega) ht bt' (fun c hc => ?_) (fun c hc => bM i hi c hc) (fun s' l' h1 h2 => nm_r (nI_1 i) (hw (s', l') (fun r hr c hc => ?_))))
    · have t := h i hi c hc
      rw [if_neg (by omega), show 16 * i + c = 16 * i + c * 1 by omega] at t
      exact t
    · show s' (16 * r + c) = _
      by_cases e : r = i
      · rw [e, if_pos (by omega), show 16 * i + c = 16 * i + c * 1 by omega]
        exact h1 c hc
      · rw [h2 _ (fun k hk => by omega)]
        show p (16 * r + c) = _
        rw [h r hr c hc]
        by_cases e2 : r < i
        · rw [if_pos e2, if_pos (by omega)]
        · rw [if_neg e2, if_neg (by omega)]
end
end
section
/-! the planes that are transformed -/
def cv_KM (kn : Nat → Nat) (ch j i r c : Nat) : Nat := if r ≤ 2 ∧ c ≤ 2 ∧ (2 < r + j ∨ (r + j = 2 ∧ 2 < c + i)) then kn (9 * ch + 3 * (2 - r) + (2 - c)) else 0
def cv_PM (pn : Nat → Nat) (ch y x r c : Nat) : Nat := if 1 ≤ r ∧ r ≤ 8 ∧ 1 ≤ c ∧ c ≤ 8 ∧ (r < y + 1 ∨ (r = y + 1 ∧ c < x + 1)) then pn (64 * ch + 8 * (r - 1) + (c - 1)) else 0
theorem cv_ifc {a b : Prop} {ia : Decidable a} {ib : Decidable b} {x y : Nat} (h : a ↔ b) : @ite Nat a ia x y = @ite Nat b ib x y := by
  by_cases e : a
  · rw [if_pos e, if_pos (h.mp e)]
  · rw [if_neg e, if_neg (fun z => e (h.mpr z))]
theorem cv_KM_lt {kn : Nat → Nat} (h : ∀ k, kn k < 7681) (ch j i r c : Nat) : cv_KM kn ch j i r c < 7681 := by
  unfold cv_KM
  split
  · exact h _
  · decide
theorem cv_PM_lt {pn : Nat → Nat} (h : ∀ k, pn k < 7681) (ch y x r c : Nat) : cv_PM pn ch y x r c < 7681 := by
  unfold cv_PM
  split
  · exact h _
  · decide
theorem cv_ixk : ∀ j, j < 3 → ∀ i, i < 3 → 16 * (2 - nI j) + 2 - nI i = nI (16 * (2 - j) + (2 - i)) := by decide +kernel
theorem cv_ixp (y x : Nat) : 16 * (nI y + 1) + nI x + 1 = nI (16 * (y + 1) + (x + 1)) := by
  rw [nI_1, cv_ix16, nI_add, nI_1, Nat.add_assoc]
theorem cv_ixo (y x : Nat) : 16 * (1 * nI y + 3 - 1) + 1 * nI x + 3 - 1 = nI (16 * (y + 2) + (x + 2)) := by
  rw [← nI_add, ← pk_mul, ← nI_add, ← nI_add]
  show 16 * (1 * nI y + 3 - 1) + 1 * nI x + 3 - 1 = 16 * (nI y + 2) + (nI x + 2)
  grind
theorem cv_flat {s : Nat → Int32} {M : Nat → Nat → Nat} (h : ∀ r, r < 16 → ∀ c, c < 16 → s (16 * r + c) = nI (M r c)) : ∀ j, j < 256 → s j = nI (M (j / 16) (j % 16)) := fun j hj => by
  have t := h (j / 16) (by omega) (j % 16) (by omega)
  rw [show 16 * (j / 16) + j % 16 = j by omega] at t
  exact t
theorem cv_deep {s : Nat → Int32} {M : Nat → Nat → Nat} (h : ∀ j, j < 256 → s j = nI (M (j / 16) (j % 16))) : ∀ r, r < 16 → ∀ c, c < 16 → s (16 * r + c) = nI (M r c) := fun r hr c hc => by
  have t := h (16 * r + c) (by omega)
  rw [show (16 * r + c) / 16 = r by omega, show (16 * r + c) % 16 = c by omega] at t
  exact t
def cv_X (pn : Nat → Nat) (ch r c : Nat) : Nat := cv_T2 cv_rt (cv_PM pn ch 8 0) r c
def cv_Y (kn : Nat → Nat) (ch r c : Nat) : Nat := cv_T2 cv_rt (cv_KM kn ch 3 0) r c
section
variable {f0 f1 f2 f3 : Int32} {a1 a2 a3 a4 a5 a6 a7 a8 a9 a10 a11 a12 a13 a14 : Nat → Int32}
theorem cv_a170 {post : St2 → Prop} {X Y Z : Nat → Nat} (hx : ∀ j, j < 256 → a8 j = nI (X j)) (hy : ∀ j, j < 256 → a9 j = nI (Y j)) (hz : ∀ j, j < 256 → a10 j = nI (Z j)) (bx : ∀ j, X j < 7681) (bY : ∀ j, Y j < 7681) (bz : ∀ j, Z j < 7681)
    (H : ∀ t, (∀ j, j < 256 → t j = nI ((Z j + X j * Y j) % 7681)) → post (f0, f1, f2, f3, a1, a2, a3, a4, a5, a6, a7, a8, a9, t, a11, a12, a13, a14)) : ∃ n, wX_addTransformed_170 post f0 f1 f2 f3 n 0 a1 a2 a3 a4 a5 a6 a7 a8 a9 a10 a11 a12 a13 a14 := by
  refine pk_loop (fun n i s => wX_addTransformed_170 post f0 f1 f2 f3 n (nI i) a1 a2 a3 a4 a5 a6 a7 a8 a9 s a11 a12 a13 a14) (fun i s => (∀ j, j < i → s j = nI ((Z j + X j * Y j) % 7681)) ∧ (∀ j, i ≤ j → s j = a10 j)) 256 0 a10 (by omega) ⟨cv_0, fun _ _ => rfl⟩ ?_ ?_
  · intro n s h
    exact pk_le 256 256 (fun _ => H s h.1) (fun z => absurd z (by omega))
  · intro n i s hi h hw
    have b1 := cv_mb (bx i) (bY i)
    have b2 := bz i
    refine pk_le 256 i (fun z => absurd z (by omega)) (fun _ => ⟨pk_in i 256 hi, pk_in i 256 hi, pk_in i 256 hi, by decide, pk_in i 256 hi, nm_e (nm_r (nI_1 i) (hw _ ⟨cv_fill (f := fun j => nI ((Z j + X j * Y j) % 7681)) (nI_clamp (by omega)) h.1 ?_, fun j hj => ?_⟩))⟩)
    · rw [nI_clamp (by omega), h.2 i (by omega), hx i hi, hy i hi, hz i hi, pk_mul, nI_add]
      exact cv_rem (by omega)
    · rw [nI_clamp (by omega), pk_un (by omega)]
      exact h.2 j (by omega)
theorem cv_a110 {post : St2 → Prop} {J102 : Int32 → (Nat → Int32) → (Nat → Int32) → (Nat → Int32) → (Nat → Int32) → (Nat → Int32) → (Nat → Int32) → (Nat → Int32) → (Nat → Int32) → (Nat → Int32) → (Nat → Int32) → (Nat → Int32) → (Nat → Int32) → (Nat → Int32) → (Nat → Int32) → Prop} {pn : Nat → Nat} {ch y : Nat} (hch : ch < 2) (hy : y < 8) (hn : ∀ k, k < 128 → a1 k = nI (pn k)) (bn : ∀ k, pn k < 7681) (h0 : ∀ r, r < 16 → ∀ c, c < 16 → a8 (16 * r + c) = nI (cv_PM pn ch y 0 r c))
    (H : ∀ s, (∀ r, r < 16 → ∀ c, c < 16 → s (16 * r + c) = nI (cv_PM pn ch (y + 1) 0 r c)) → J102 (nI (y + 1)) a1 a2 a3 a4 a5 a6 a7 s a9 a10 a11 a12 a13 a14) : ∃ n, wX_addTransformed_110 post J102 (nI ch) (nI y) f0 f1 f2 f3 n 0 a1 a2 a3 a4 a5 a6 a7 a8 a9 a10 a11 a12 a13 a14 := by
  refine pk_loop (fun n x s => wX_addTransformed_110 post J102 (nI ch) (nI y) f0 f1 f2 f3 n (nI x) a1 a2 a3 a4 a5 a6 a7 s a9 a10 a11 a12 a13 a14) (fun x s => ∀ r, r < 16 → ∀ c, c < 16 → s (16 * r + c) = nI (cv_PM pn ch y x r c)) 8 0 a8 (by omega) h0 ?_ ?_
  · intro n s h
    refine pk_le 8 8 (fun _ => nm_r (nI_1 y) (H s (fun r hr c hc => ?_))) (fun z => absurd z (by omega))
    rw [h r hr c hc]
    unfold cv_PM
    exact congrArg nI (cv_ifc (by omega))
  · intro n x s hx h hw
    refine pk_le 8 x (fun z => absurd z (by omega)) (fun _ => ⟨pk_in (64 * ch + 8 * y + x) 128 (by omega) (cv_ix64 ch y x), cv_reduce (bn (64 * ch + 8 * y + x)) ?_ ⟨pk_in (16 * (y + 1) + (x + 1)) 256 (by omega) (cv_ixp y x), nm_e (nm_r (nI_1 x) (hw _ (fun r hr c hc => ?_)))⟩⟩)
    · rw [cv_ix64, nI_clamp (by omega)]
      exact hn _ (by omega)
    · rw [cv_ixp, nI_clamp (by omega)]
      by_cases e : 16 * r + c = 16 * (y + 1) + (x + 1)
      · rw [e, pk_us]
        unfold cv_PM
        rw [if_pos (by omega), show 64 * ch + 8 * (r - 1) + (c - 1) = 64 * ch + 8 * y + x by omega]
      · rw [pk_un e, h r hr c hc]
        unfold cv_PM
        exact congrArg nI (cv_ifc (by omega))
theorem cv_a102 {post : St2 → Prop} {pn Y Z : Nat → Nat} {ch : Nat} (hch : ch < 2) (ht : ∀ i, i < 16 → a12 i = nI (cv_rt i)) (hn : ∀ k, k < 128 → a1 k = nI (pn k)) (bn : ∀ k, pn k < 7681) (hy : ∀ j, j < 256 → a9 j = nI (Y j)) (hz : ∀ j, j < 256 → a10 j = nI (Z j)) (bY : ∀ j, Y j < 7681) (bz : ∀ j, Z j < 7681)
    (h0 : ∀ j, j < 256 → a8 j = 0) (H : ∀ p t l, (∀ j, j < 256 → t j = nI ((Z j + cv_X pn ch (j / 16) (j % 16) * Y j) % 7681)) → post (f0, f1, f2, f3, a1, a2, a3, a4, a5, a6, a7, p, a9, t, l, a12, a13, a14)) : ∃ n, wX_addTransformed_102 post (nI ch) f0 f1 f2 f3 n 0 a1 a2 a3 a4 a5 a6 a7 a8 a9 a10 a11 a12 a13 a14 := by
  refine pk_loop (fun n y s => wX_addTransformed_102 post (nI ch) f0 f1 f2 f3 n (nI y) a1 a2 a3 a4 a5 a6 a7 s a9 a10 a11 a12 a13 a14) (fun y s => ∀ r, r < 16 → ∀ c, c < 16 → s (16 * r + c) = nI (cv_PM pn ch y 0 r c)) 8 0 a8 (by omega) (fun r hr c hc => ?_) ?_ ?_
  · unfold cv_PM
    rw [h0 _ (by omega), if_neg (by omega)]
    rfl
  · intro n s h
    exact pk_le 8 8 (fun _ => cv_tr (tb := cv_rt) (M := cv_PM pn ch 8 0) (Or.inl ⟨rfl, ht⟩) cv_rt_lt h (fun r _ c _ => cv_PM_lt bn _ _ _ _ _) (fun p l hp => cv_a170 (X := fun j => cv_X pn ch (j / 16) (j % 16)) (cv_flat hp) hy hz (fun j => cv_T2_lt _ _ _ _) bY bz (fun t h' => H p t l h'))) (fun z => absurd z (by omega))
  · intro n y s hy' h hw
    exact pk_le 8 y (fun z => absurd z (by omega)) (fun _ => cv_a110 hch hy' hn bn h (fun s' h' => hw s' h'))
theorem cv_a71 {post : St2 → Prop} {pn Z : Nat → Nat} {Y : Nat → Nat → Nat} {ch : Nat} (hch : ch < 2) (ht : ∀ i, i < 16 → a12 i = nI (cv_rt i)) (hn : ∀ k, k < 128 → a1 k = nI (pn k)) (bn : ∀ k, pn k < 7681) (hy : ∀ r, r < 16 → ∀ c, c < 16 → a8 (16 * r + c) = nI (Y r c)) (hz : ∀ j, j < 256 → a10 j = nI (Z j)) (bY : ∀ r c, Y r c < 7681) (bz : ∀ j, Z j < 7681)
    (H : ∀ p q t l, (∀ j, j < 256 → t j = nI ((Z j + cv_X pn ch (j / 16) (j % 16) * Y (j / 16) (j % 16)) % 7681)) → post (f0, f1, f2, f3, a1, a2, a3, a4, a5, a6, a7, p, q, t, l, a12, a13, a14)) : ∃ n, wX_addTransformed_71 post (nI ch) f0 f1 f2 f3 n 0 a1 a2 a3 a4 a5 a6 a7 a8 a9 a10 a11 a12 a13 a14 := by
  refine pk_loop (fun n i s => wX_addTransformed_71 post (nI ch) f0 f1 f2 f3 n (nI i) a1 a2 a3 a4 a5 a6 a7 a8 s a10 a11 a12 a13 a14) (fun i s => ∀ j, j < i → s j = a8 j) 256 0 a9 (by omega) cv_0 ?_ ?_
  · intro n s h
    exact pk_le 256 256 (fun _ => cv_clear (fun p hp => cv_a102 (Y := fun j => Y (j / 16) (j % 16)) hch ht hn bn (fun j hj => (h j hj).trans (cv_flat hy j hj)) hz (fun j => bY _ _) bz hp (fun p' t l h' => H p' s t l h'))) (fun z => absurd z (by omega))
  · intro n i s hi h hw
    exact pk_le 256 i (fun z => absurd z (by omega)) (fun _ => ⟨pk_in i 256 hi, pk_in i 256 hi, nm_e (nm_r (nI_1 i) (hw _ (cv_fill (nI_clamp (by omega)) h (by rw [nI_clamp (by omega)]))))⟩)
theorem cv_a13 {post : St2 → Prop} {J6 : Int32 → (Nat → Int32) → (Nat → Int32) → (Nat → Int32) → (Nat → Int32) → (Nat → Int32) → (Nat → Int32) → (Nat → Int32) → (Nat → Int32) → (Nat → Int32) → (Nat → Int32) → (Nat → Int32) → (Nat → Int32) → (Nat → Int32) → (Nat → Int32) → Prop} {kn : Nat → Nat} {ch j : Nat} (hch : ch < 2) (hj : j < 3) (hn : ∀ k, k < 18 → a2 k = nI (kn k)) (bn : ∀ k, kn k < 7681) (h0 : ∀ r, r < 16 → ∀ c, c < 16 → a8 (16 * r + c) = nI (cv_KM kn ch j 0 r c))
    (H : ∀ s, (∀ r, r < 16 → ∀ c, c < 16 → s (16 * r + c) = nI (cv_KM kn ch (j + 1) 0 r c)) → J6 (nI (j + 1)) a1 a2 a3 a4 a5 a6 a7 s a9 a10 a11 a12 a13 a14) : ∃ n, wX_addTransformed_13 post J6 (nI ch) (nI j) f0 f1 f2 f3 n 0 a1 a2 a3 a4 a5 a6 a7 a8 a9 a10 a11 a12 a13 a14 := by
  refine pk_loop (fun n i s => wX_addTransformed_13 post J6 (nI ch) (nI j) f0 f1 f2 f3 n (nI i) a1 a2 a3 a4 a5 a6 a7 s a9 a10 a11 a12 a13 a14) (fun i s => ∀ r, r < 16 → ∀ c, c < 16 → s (16 * r + c) = nI (cv_KM kn ch j i r c)) 3 0 a8 (by omega) h0 ?_ ?_
  · intro n s h
    refine pk_le 3 3 (fun _ => nm_r (nI_1 j) (H s (fun r hr c hc => ?_))) (fun z => absurd z (by omega))
    rw [h r hr c hc]
    unfold cv_KM
    exact congrArg nI (cv_ifc (by omega))
  · intro n i s hi h hw
    refine pk_le 3 i (fun z => absurd z (by omega)) (fun _ => ⟨pk_in (9 * ch + 3 * j + i) 18 (by omega) (cv_ix9 ch j i), cv_reduce (bn (9 * ch + 3 * j + i)) ?_ ⟨pk_in (16 * (2 - j) + (2 - i)) 256 (by omega) (cv_ixk j hj i hi), nm_e (nm_r (nI_1 i) (hw _ (fun r hr c hc => ?_)))⟩⟩)
    · rw [cv_ix9, nI_clamp (by omega)]
      exact hn _ (by omega)
    · rw [cv_ixk j hj i hi, nI_clamp (by omega)]
      by_cases e : 16 * r + c = 16 * (2 - j) + (2 - i)
      · rw [e, pk_us]
        unfold cv_KM
        rw [if_pos (by omega), show 9 * ch + 3 * (2 - r) + (2 - c) = 9 * ch + 3 * j + i by omega]
      · rw [pk_un e, h r hr c hc]
        unfold cv_KM
        exact congrArg nI (cv_ifc (by omega))
theorem cv_addT {post : St2 → Prop} {pn kn Z : Nat → Nat} {ch : Nat} {p0 : Int32} (e0 : p0 = nI ch) (hch : ch < 2) (ht : ∀ i, i < 16 → a12 i = nI (cv_rt i)) (hn : ∀ k, k < 128 → a1 k = nI (pn k)) (bn : ∀ k, pn k < 7681) (hk : ∀ k, k < 18 → a2 k = nI (kn k)) (bk : ∀ k, kn k < 7681) (hz : ∀ j, j < 256 → a10 j = nI (Z j)) (bz : ∀ j, Z j < 7681)
    (H : ∀ p q t l, (∀ j, j < 256 → t j = nI ((Z j + cv_X pn ch (j / 16) (j % 16) * cv_Y kn ch (j / 16) (j % 16)) % 7681)) → post (f0, f1, f2, f3, a1, a2, a3, a4, a5, a6, a7, p, q, t, l, a12, a13, a14)) : wpX_addTransformed post (f0, f1, f2, f3, a1, a2, a3, a4, a5, a6, a7, a8, a9, a10, a11, a12, a13, a14) p0 := by
  subst e0
  refine cv_clear (fun p0 hp0 => ?_)
  refine pk_loop (fun n j s => wX_addTransformed_6 post (nI ch) f0 f1 f2 f3 n (nI j) a1 a2 a3 a4 a5 a6 a7 s a9 a10 a11 a12 a13 a14) (fun j s => ∀ r, r < 16 → ∀ c, c < 16 → s (16 * r + c) = nI (cv_KM kn ch j 0 r c)) 3 0 p0 (by omega) (fun r hr c hc => ?_) ?_ ?_
  · unfold cv_KM
    rw [hp0 _ (by omega), if_neg (by omega)]
    rfl
  · intro n s h
    exact pk_le 3 3 (fun _ => cv_tr (tb := cv_rt) (M := cv_KM kn ch 3 0) (Or.inl ⟨rfl, ht⟩) cv_rt_lt h (fun r _ c _ => cv_KM_lt bk _ _ _ _ _) (fun p l hp => cv_a71 (Y := cv_Y kn ch) hch ht hn bn hp hz (fun r c => cv_T2_lt _ _ _ _) bz H)) (fun z => absurd z (by omega))
  · intro n j s hj h hw
    exact pk_le 3 j (fun z => absurd z (by omega)) (fun _ => cv_a13 hch hj hk bk h (fun s' h' => hw s' h'))
end
end
section
/-! moveByTransforms -/
def cv_tot0 (pn kn : Nat → Nat) (j : Nat) : Nat := (0 + cv_X pn 0 (j / 16) (j % 16) * cv_Y kn 0 (j / 16) (j % 16)) % 7681
def cv_tot (pn kn : Nat → Nat) (r c : Nat) : Nat := ((0 + cv_X pn 0 r c * cv_Y kn 0 r c) % 7681 + cv_X pn 1 r c * cv_Y kn 1 r c) % 7681
def cv_oT (pn kn : Nat → Nat) (y x : Nat) : Nat := cv_T2 cv_bk (cv_tot pn kn) (y + 2) (x + 2) * 7651 % 7681
section
variable {f0 f1 f2 f3 : Int32} {a1 a2 a3 a4 a5 a6 a7 a8 a9 a10 a11 a12 a13 a14 : Nat → Int32}
theorem cv_m87 {post : St2 → Prop} {J77 : Int32 → (Nat → Int32) → (Nat → Int32) → (Nat → Int32) → (Nat → Int32) → (Nat → Int32) → (Nat → Int32) → (Nat → Int32) → (Nat → Int32) → (Nat → Int32) → (Nat → Int32) → (Nat → Int32) → (Nat → Int32) → (Nat → Int32) → (Nat → Int32) → Prop} {V : Nat → Nat → Nat} {y : Nat} (hy : y < 8) (hV : ∀ r, r < 16 → ∀ c, c < 16 → a8 (16 * r + c) = nI (V r c)) (bV : ∀ r c, V r c < 7681) (ho : ∀ y, y < 8 → ∀ x, x < 8 → V (y + 2) (x + 2) * 7651 % 7681 ≤ 3840)
    (h0 : ∀ i, i < 8 * y → a3 i = nI (V (i / 8 + 2) (i % 8 + 2) * 7651 % 7681))
    (H : ∀ s, (∀ i, i < 8 * (y + 1) → s i = nI (V (i / 8 + 2) (i % 8 + 2) * 7651 % 7681)) → J77 (nI (y + 1)) a1 a2 s a4 a5 a6 a7 a8 a9 a10 a11 a12 a13 a14) : ∃ n, wX_moveByTransforms_87 post J77 (nI 7651) (nI y) 1 1 f2 8 n 0 a1 a2 a3 a4 a5 a6 a7 a8 a9 a10 a11 a12 a13 a14 := by
  refine pk_loop (fun n x s => wX_moveByTransforms_87 post J77 (nI 7651) (nI y) 1 1 f2 8 n (nI x) a1 a2 s a4 a5 a6 a7 a8 a9 a10 a11 a12 a13 a14) (fun x s => ∀ i, i < 8 * y + x → s i = nI (V (i / 8 + 2) (i % 8 + 2) * 7651 % 7681)) 8 0 a3 (by omega) h0 ?_ ?_
  · intro n s h
    exact pk_le 8 8 (fun _ => nm_r (nI_1 y) (H s h)) (fun z => absurd z (by omega))
  · intro n x s hx h hw
    have b := ho y hy x hx
    refine pk_le 8 x (fun z => absurd z (by omega)) (fun _ => nm_r (cv_ixo y x) ⟨pk_in (16 * (y + 2) + (x + 2)) 256 (by omega), by decide, nm_r (e' := nI (V (y + 2) (x + 2) * 7651 % 7681)) ?_ (br_t (nI_le (b := 3840) b (by decide)) ⟨pk_in (8 * y + x) 64 (by omega) (cv_ix8 y x), nm_e (nm_r (nI_1 x) (hw _ (cv_fill (i := 8 * y + x) (f := fun i => nI (V (i / 8 + 2) (i % 8 + 2) * 7651 % 7681)) (pk_cl (8 * y + x) (cv_ix8 y x)) h ?_)))⟩)⟩)
    · rw [nI_clamp (by omega), hV _ (by omega) _ (by omega)]
      exact cv_mm (bV _ _) (by decide)
    · rw [show (8 * y + x) / 8 = y by omega, show (8 * y + x) % 8 = x by omega]
theorem cv_m77 {post : St2 → Prop} {V : Nat → Nat → Nat} (hV : ∀ r, r < 16 → ∀ c, c < 16 → a8 (16 * r + c) = nI (V r c)) (bV : ∀ r c, V r c < 7681) (ho : ∀ y, y < 8 → ∀ x, x < 8 → V (y + 2) (x + 2) * 7651 % 7681 ≤ 3840)
    (H : ∀ s, (∀ i, i < 64 → s i = nI (V (i / 8 + 2) (i % 8 + 2) * 7651 % 7681)) → post (1, 1, f2, 8, a1, a2, s, a4, a5, a6, a7, a8, a9, a10, a11, a12, a13, a14)) : ∃ n, wX_moveByTransforms_77 post (nI 7651) 1 1 f2 8 n 0 a1 a2 a3 a4 a5 a6 a7 a8 a9 a10 a11 a12 a13 a14 := by
  refine pk_loop (fun n y s => wX_moveByTransforms_77 post (nI 7651) 1 1 f2 8 n (nI y) a1 a2 s a4 a5 a6 a7 a8 a9 a10 a11 a12 a13 a14) (fun y s => ∀ i, i < 8 * y → s i = nI (V (i / 8 + 2) (i % 8 + 2) * 7651 % 7681)) 8 0 a3 (by omega) cv_0 ?_ ?_
  · intro n s h
    exact pk_le 8 8 (fun _ => H s h) (fun z => absurd z (by omega))
  · intro n y s hy h hw
    exact pk_le 8 y (fun z => absurd z (by omega)) (fun _ => cv_m87 hy hV bV ho h (fun s' h' => hw s' h'))
theorem cv_m34 {post : St2 → Prop} {M : Nat → Nat → Nat} (ht : ∀ i, i < 16 → a13 i = nI (cv_bk i)) (hM : ∀ j, j < 256 → a10 j = nI (M (j / 16) (j % 16))) (bM : ∀ r c, M r c < 7681) (ho : ∀ y, y < 8 → ∀ x, x < 8 → cv_T2 cv_bk M (y + 2) (x + 2) * 7651 % 7681 ≤ 3840)
    (H : ∀ s p l, (∀ i, i < 64 → s i = nI (cv_T2 cv_bk M (i / 8 + 2) (i % 8 + 2) * 7651 % 7681)) → post (1, 1, f2, 8, a1, a2, s, a4, a5, a6, a7, p, a9, a10, l, a12, a13, a14)) : ∃ n, wX_moveByTransforms_34 post 1 1 f2 8 n 0 a1 a2 a3 a4 a5 a6 a7 a8 a9 a10 a11 a12 a13 a14 := by
  refine pk_loop (fun n i s => wX_moveByTransforms_34 post 1 1 f2 8 n (nI i) a1 a2 a3 a4 a5 a6 a7 s a9 a10 a11 a12 a13 a14) (fun i s => ∀ j, j < i → s j = a10 j) 256 0 a8 (by omega) cv_0 ?_ ?_
  · intro n s h
    exact pk_le 256 256 (fun _ => cv_tr (tb := cv_bk) (M := M) (Or.inr ⟨by decide, ht⟩) cv_bk_lt (cv_deep (fun j hj => (h j hj).trans (hM j hj))) (fun r _ c _ => bM r c) (fun p l hp => cv_power (a := 256) (n := 7679) (by decide) (by decide) cv_pow_s (cv_m77 hp (fun r c => cv_T2_lt _ _ _ _) ho (fun o h' => H o p l h')))) (fun z => absurd z (by omega))
  · intro n i s hi h hw
    exact pk_le 256 i (fun z => absurd z (by omega)) (fun _ => ⟨pk_in i 256 hi, pk_in i 256 hi, nm_e (nm_r (nI_1 i) (hw _ (cv_fill (nI_clamp (by omega)) h (by rw [nI_clamp (by omega)]))))⟩)
theorem cv_transforms {post : St2 → Prop} {pn kn : Nat → Nat} (ht : ∀ i, i < 16 → a12 i = nI (cv_rt i)) (ht' : ∀ i, i < 16 → a13 i = nI (cv_bk i)) (hn : ∀ k, k < 128 → a1 k = nI (pn k)) (bn : ∀ k, pn k < 7681) (hk : ∀ k, k < 18 → a2 k = nI (kn k)) (bk : ∀ k, kn k < 7681)
    (ho : ∀ y, y < 8 → ∀ x, x < 8 → cv_oT pn kn y x ≤ 3840)
    (H : ∀ o p q t l, (∀ i, i < 64 → o i = nI (cv_oT pn kn (i / 8) (i % 8))) → post (1, 1, f2, 8, a1, a2, o, a4, a5, a6, a7, p, q, t, l, a12, a13, a14)) : wpX_moveByTransforms post (1, 1, f2, 8, a1, a2, a3, a4, a5, a6, a7, a8, a9, a10, a11, a12, a13, a14) := by
  refine pk_loop (fun n i s => wX_moveByTransforms_2 post 1 1 f2 8 n (nI i) a1 a2 a3 a4 a5 a6 a7 a8 a9 s a11 a12 a13 a14) (fun i s => ∀ j, j < i → s j = nI 0) 256 0 a10 (by omega) cv_0 ?_ ?_
  · intro n s h
    refine pk_le 256 256 (fun _ => ?_) (fun z => absurd z (by omega))
    refine cv_addT (ch := 0) (pn := pn) (kn := kn) (Z := fun _ => 0) rfl (by decide) ht hn bn hk bk h (fun _ => by decide) (fun p q t l h1 => ?_)
    refine cv_addT (ch := 1) (pn := pn) (kn := kn) (Z := cv_tot0 pn kn) rfl (by decide) ht hn bn hk bk h1 (fun _ => Nat.mod_lt _ (by decide)) (fun p' q' t' l' h2 => ?_)
    exact cv_m34 (M := cv_tot pn kn) ht' h2 (fun r c => Nat.mod_lt _ (by decide)) ho (fun o p3 l3 h' => H o p3 q' t' l3 h')
  · intro n i s hi h hw
    exact pk_le 256 i (fun z => absurd z (by omega)) (fun _ => ⟨pk_in i 256 hi, nm_e (nm_r (nI_1 i) (hw _ (cv_fill (f := fun _ => nI 0) (nI_clamp (by omega)) h rfl)))⟩)
end
/-! one pixel, one number of the kernel -/
def cv_one (P A : Nat) (j : Nat) : Nat := if j = P then A else 0
theorem cv_one_le {P A b : Nat} (h : A ≤ b) (j : Nat) : cv_one P A j ≤ b := by
  unfold cv_one
  split <;> omega
theorem cv_PM0 {P A : Nat} (hP : P < 64) (r c : Nat) (h : ¬ (r = P / 8 + 1 ∧ c = P % 8 + 1)) : cv_PM (cv_one P A) 0 8 0 r c = 0 := by
  unfold cv_PM cv_one
  split
  · rw [if_neg (by omega)]
  · rfl
theorem cv_PM1 {P A : Nat} (hP : P < 64) : cv_PM (cv_one P A) 0 8 0 (P / 8 + 1) (P % 8 + 1) = A := by
  unfold cv_PM cv_one
  rw [if_pos (by omega), if_pos (by omega)]
theorem cv_PM2 {P A : Nat} (hP : P < 64) (r c : Nat) : cv_PM (cv_one P A) 1 8 0 r c = 0 := by
  unfold cv_PM cv_one
  split
  · rw [if_neg (by omega)]
  · rfl
theorem cv_KM0 {K B : Nat} (hK : K < 9) (r c : Nat) (h : ¬ (r = 2 - K / 3 ∧ c = 2 - K % 3)) : cv_KM (cv_one K B) 0 3 0 r c = 0 := by
  unfold cv_KM cv_one
  split
  · rw [if_neg (by omega)]
  · rfl
theorem cv_KM1 {K B : Nat} (hK : K < 9) : cv_KM (cv_one K B) 0 3 0 (2 - K / 3) (2 - K % 3) = B := by
  unfold cv_KM cv_one
  rw [if_pos (by omega), if_pos (by omega)]
theorem cv_tot1 {P A K B : Nat} (hP : P < 64) (hK : K < 9) (r c : Nat) : cv_tot (cv_one P A) (cv_one K B) r c = A * B * cv_rt (r * (P / 8 + 1 + (2 - K / 3)) % 16) * cv_rt (c * (P % 8 + 1 + (2 - K % 3)) % 16) % 7681 := by
  have e1 : cv_X (cv_one P A) 0 r c = A * (cv_rt (c * (P % 8 + 1) % 16) * cv_rt (r * (P / 8 + 1) % 16)) % 7681 := by
    unfold cv_X
    rw [cv_T2_one (r0 := P / 8 + 1) (c0 := P % 8 + 1) (by omega) (by omega) (fun r _ c _ h => cv_PM0 hP r c h), cv_PM1 hP]
  have e2 : cv_Y (cv_one K B) 0 r c = B * (cv_rt (c * (2 - K % 3) % 16) * cv_rt (r * (2 - K / 3) % 16)) % 7681 := by
    unfold cv_Y
    rw [cv_T2_one (r0 := 2 - K / 3) (c0 := 2 - K % 3) (by omega) (by omega) (fun r _ c _ h => cv_KM0 hK r c h), cv_KM1 hK]
  have e3 : cv_X (cv_one P A) 1 r c = 0 := cv_T2_zero (fun r _ c _ => cv_PM2 hP r c) r c
  unfold cv_tot
  rw [e1, e2, e3, Nat.zero_mul, Nat.add_zero, Nat.zero_add, Nat.mod_mod, cv_prod]
theorem cv_oT1 {P A K B : Nat} (hP : P < 64) (hK : K < 9) (hD : A * B < 7681) {y x : Nat} (hy : y < 8) (hx : x < 8) : cv_oT (cv_one P A) (cv_one K B) y x = (if y + 2 = P / 8 + 1 + (2 - K / 3) ∧ x + 2 = P % 8 + 1 + (2 - K % 3) then A * B else 0) := by
  unfold cv_oT
  rw [cv_inv (D := A * B) (R := P / 8 + 1 + (2 - K / 3)) (C := P % 8 + 1 + (2 - K % 3)) (by omega) (by omega) (fun r _ c _ => cv_tot1 hP hK r c) (by omega) (by omega)]
  split
  · exact cv_scale hD
  · rfl
end
section
/-! the first way: tiles. The sums, and why they are the products wanted -/
def cv_b4 (d0 d1 d2 d3 : Int32) : Nat → Int32
  | 0 => d0 - d2
  | 1 => d1 + d2
  | 2 => d2 - d1
  | _ => d1 - d3
def cv_g4 (k0 k1 k2 : Int32) : Nat → Int32
  | 0 => 2 * k0
  | 1 => k0 + k1 + k2
  | 2 => k0 - k1 + k2
  | _ => 2 * k2
theorem cv_1a (d0 d1 d2 d3 k0 k1 k2 : Int32) : cv_b4 d0 d1 d2 d3 0 * cv_g4 k0 k1 k2 0 + cv_b4 d0 d1 d2 d3 1 * cv_g4 k0 k1 k2 1 + cv_b4 d0 d1 d2 d3 2 * cv_g4 k0 k1 k2 2 = 2 * (d0 * k0 + d1 * k1 + d2 * k2) := by
  show (d0 - d2) * (2 * k0) + (d1 + d2) * (k0 + k1 + k2) + (d2 - d1) * (k0 - k1 + k2) = _
  grind
theorem cv_1b (d0 d1 d2 d3 k0 k1 k2 : Int32) : cv_b4 d0 d1 d2 d3 1 * cv_g4 k0 k1 k2 1 - cv_b4 d0 d1 d2 d3 2 * cv_g4 k0 k1 k2 2 - cv_b4 d0 d1 d2 d3 3 * cv_g4 k0 k1 k2 3 = 2 * (d1 * k0 + d2 * k1 + d3 * k2) := by
  show (d1 + d2) * (k0 + k1 + k2) - (d2 - d1) * (k0 - k1 + k2) - (d1 - d3) * (2 * k2) = _
  grind
theorem cv_comb {c0 c1 c2 x0 x1 x2 y0 y1 y2 z0 z1 z2 X Y Z : Int32} (h0 : c0 = 2 * (x0 + y0 + z0)) (h1 : c1 = 2 * (x1 + y1 + z1)) (h2 : c2 = 2 * (x2 + y2 + z2)) (hx : x0 + x1 + x2 = 2 * X) (hy : y0 + y1 + y2 = 2 * Y) (hz : z0 + z1 + z2 = 2 * Z) : c0 + c1 + c2 = 4 * (X + Y + Z) := by
  subst h0 h1 h2
  have e : 2 * (x0 + y0 + z0) + 2 * (x1 + y1 + z1) + 2 * (x2 + y2 + z2) = 2 * ((x0 + x1 + x2) + (y0 + y1 + y2) + (z0 + z1 + z2)) := by grind
  rw [e, hx, hy, hz]
  grind
theorem cv_comd {c0 c1 c2 x0 x1 x2 y0 y1 y2 z0 z1 z2 X Y Z : Int32} (h0 : c0 = 2 * (x0 + y0 + z0)) (h1 : c1 = 2 * (x1 + y1 + z1)) (h2 : c2 = 2 * (x2 + y2 + z2)) (hx : x0 - x1 - x2 = 2 * X) (hy : y0 - y1 - y2 = 2 * Y) (hz : z0 - z1 - z2 = 2 * Z) : c0 - c1 - c2 = 4 * (X + Y + Z) := by
  subst h0 h1 h2
  have e : 2 * (x0 + y0 + z0) - 2 * (x1 + y1 + z1) - 2 * (x2 + y2 + z2) = 2 * ((x0 - x1 - x2) + (y0 - y1 - y2) + (z0 - z1 - z2)) := by grind
  rw [e, hx, hy, hz]
  grind
def cv_R (D : Nat → Nat → Int32) (r i : Nat) : Int32 := cv_b4 (D r 0) (D r 1) (D r 2) (D r 3) i
def cv_P (D : Nat → Nat → Int32) (r i : Nat) : Int32 := cv_b4 (cv_R D 0 i) (cv_R D 1 i) (cv_R D 2 i) (cv_R D 3 i) r
def cv_H (k : Nat → Int32) (j i : Nat) : Int32 := cv_g4 (k (3 * j)) (k (3 * j + 1)) (k (3 * j + 2)) i
def cv_S (k : Nat → Int32) (r i : Nat) : Int32 := cv_g4 (cv_H k 0 i) (cv_H k 1 i) (cv_H k 2 i) r
def cv_Q (D : Nat → Nat → Int32) (k : Nat → Int32) (r i : Nat) : Int32 := cv_P D r i * cv_S k r i
/-- the rows that the tile's last step takes: the columns' sums -/
def cv_M (q : Nat → Nat → Int32) (j i : Nat) : Int32 := if j = 0 then q 0 i + q 1 i + q 2 i else q 1 i - q 2 i - q 3 i
def cv_T9 (D : Nat → Nat → Int32) (k : Nat → Int32) (j i : Nat) : Int32 := (D j i * k 0 + D j (i + 1) * k 1 + D j (i + 2) * k 2) + (D (j + 1) i * k 3 + D (j + 1) (i + 1) * k 4 + D (j + 1) (i + 2) * k 5) + (D (j + 2) i * k 6 + D (j + 2) (i + 1) * k 7 + D (j + 2) (i + 2) * k 8)
section
variable (D : Nat → Nat → Int32) (k : Nat → Int32)
theorem cv_ca (i : Nat) : cv_M (cv_Q D k) 0 i = 2 * (cv_R D 0 i * cv_H k 0 i + cv_R D 1 i * cv_H k 1 i + cv_R D 2 i * cv_H k 2 i) := cv_1a _ _ _ _ _ _ _
theorem cv_cb (i : Nat) : cv_M (cv_Q D k) 1 i = 2 * (cv_R D 1 i * cv_H k 0 i + cv_R D 2 i * cv_H k 1 i + cv_R D 3 i * cv_H k 2 i) := cv_1b _ _ _ _ _ _ _
theorem cv_ra (r j : Nat) : cv_R D r 0 * cv_H k j 0 + cv_R D r 1 * cv_H k j 1 + cv_R D r 2 * cv_H k j 2 = 2 * (D r 0 * k (3 * j) + D r 1 * k (3 * j + 1) + D r 2 * k (3 * j + 2)) := cv_1a _ _ _ _ _ _ _
theorem cv_rb (r j : Nat) : cv_R D r 1 * cv_H k j 1 - cv_R D r 2 * cv_H k j 2 - cv_R D r 3 * cv_H k j 3 = 2 * (D r 1 * k (3 * j) + D r 2 * k (3 * j + 1) + D r 3 * k (3 * j + 2)) := cv_1b _ _ _ _ _ _ _
theorem cv_w00 : cv_M (cv_Q D k) 0 0 + cv_M (cv_Q D k) 0 1 + cv_M (cv_Q D k) 0 2 = 4 * cv_T9 D k 0 0 := cv_comb (cv_ca D k 0) (cv_ca D k 1) (cv_ca D k 2) (cv_ra D k 0 0) (cv_ra D k 1 1) (cv_ra D k 2 2)
theorem cv_w01 : cv_M (cv_Q D k) 0 1 - cv_M (cv_Q D k) 0 2 - cv_M (cv_Q D k) 0 3 = 4 * cv_T9 D k 0 1 := cv_comd (cv_ca D k 1) (cv_ca D k 2) (cv_ca D k 3) (cv_rb D k 0 0) (cv_rb D k 1 1) (cv_rb D k 2 2)
theorem cv_w10 : cv_M (cv_Q D k) 1 0 + cv_M (cv_Q D k) 1 1 + cv_M (cv_Q D k) 1 2 = 4 * cv_T9 D k 1 0 := cv_comb (cv_cb D k 0) (cv_cb D k 1) (cv_cb D k 2) (cv_ra D k 1 0) (cv_ra D k 2 1) (cv_ra D k 3 2)
theorem cv_w11 : cv_M (cv_Q D k) 1 1 - cv_M (cv_Q D k) 1 2 - cv_M (cv_Q D k) 1 3 = 4 * cv_T9 D k 1 1 := cv_comd (cv_cb D k 1) (cv_cb D k 2) (cv_cb D k 3) (cv_rb D k 1 0) (cv_rb D k 2 1) (cv_rb D k 3 2)
end
/-! places read and written -/
theorem cv_rd {a : Nat → Int32} {x : Int32} {k : Nat} (e : x = nI k) (h : k < 2 ^ 31) : a x.toNatClampNeg = a k := by rw [e, nI_clamp h]
theorem cv_up {a : Nat → Int32} {x v : Int32} {k : Nat} (e : x = nI k) (h : k < 2 ^ 31) : upd a x.toNatClampNeg v = upd a k v := by rw [e, nI_clamp h]
theorem cv_up4 {s : Nat → Int32} {p0 p1 p2 p3 : Nat} {v : Nat → Int32} {v0 v1 v2 v3 : Int32} (q : Nat → Nat) (h01 : p0 ≠ p1) (h02 : p0 ≠ p2) (h03 : p0 ≠ p3) (h12 : p1 ≠ p2) (h13 : p1 ≠ p3) (h23 : p2 ≠ p3) (e0 : q 0 = p0) (e1 : q 1 = p1) (e2 : q 2 = p2) (e3 : q 3 = p3) (w0 : v 0 = v0) (w1 : v 1 = v1) (w2 : v 2 = v2) (w3 : v 3 = v3) :
    (∀ i, i < 4 → upd (upd (upd (upd s p0 v0) p1 v1) p2 v2) p3 v3 (q i) = v i) ∧ (∀ j, (∀ i, i < 4 → j ≠ q i) → upd (upd (upd (upd s p0 v0) p1 v1) p2 v2) p3 v3 j = s j) := by
  subst e0 e1 e2 e3 w0 w1 w2 w3
  refine ⟨fun i hi => co_4 (P := fun i => upd (upd (upd (upd s (q 0) (v 0)) (q 1) (v 1)) (q 2) (v 2)) (q 3) (v 3) (q i) = v i) ?_ ?_ ?_ ?_ hi, fun j hj => ?_⟩
  · rw [pk_un h03, pk_un h02, pk_un h01, pk_us]
  · rw [pk_un h13, pk_un h12, pk_us]
  · rw [pk_un h23, pk_us]
  · rw [pk_us]
  · rw [pk_un (hj 3 (by omega)), pk_un (hj 2 (by omega)), pk_un (hj 1 (by omega)), pk_un (hj 0 (by omega))]
theorem cv_ix4 (j i : Nat) : 4 * nI j + nI i = nI (4 * j + i) := by rw [← nI_add, ← pk_mul]; rfl
theorem cv_ix40 (j : Nat) : 4 * nI j = nI (4 * j) := pk_mul 4 j
section
variable {f0 f1 f2 f3 : Int32} {a1 a2 a3 a4 a5 a6 a7 a8 a9 a10 a11 a12 a13 a14 : Nat → Int32}
theorem cv_sk122 {post : St2 → Prop} (H : ∀ s, (∀ r, r < 4 → ∀ i, i < 4 → s (4 * r + i) = cv_g4 (a5 i) (a5 (4 + i)) (a5 (8 + i)) r) → post (f0, f1, f2, f3, a1, a2, a3, a4, a5, s, a7, a8, a9, a10, a11, a12, a13, a14)) : ∃ n, wX_shapeKernel_122 post f0 f1 f2 f3 n 0 a1 a2 a3 a4 a5 a6 a7 a8 a9 a10 a11 a12 a13 a14 := by
  refine pk_loop (fun n i s => wX_shapeKernel_122 post f0 f1 f2 f3 n (nI i) a1 a2 a3 a4 a5 s a7 a8 a9 a10 a11 a12 a13 a14) (fun m s => ∀ i, i < m → ∀ r, r < 4 → s (4 * r + i) = cv_g4 (a5 i) (a5 (4 + i)) (a5 (8 + i)) r) 4 0 a6 (by omega) cv_0 ?_ ?_
  · intro n s h
    exact pk_le 4 4 (fun _ => H s (fun r hr i hi => h i hi r hr)) (fun z => absurd z (by omega))
  · intro n i s hi h hw
    have e4 : 4 + nI i = nI (4 + i) := nI_add 4 i
    have e8 : 8 + nI i = nI (8 + i) := nI_add 8 i
    have e12 : 12 + nI i = nI (12 + i) := nI_add 12 i
    refine pk_le 4 i (fun z => absurd z (by omega)) (fun _ => ⟨pk_in i 16 (by omega), nm_r (cv_rd (k := i) rfl (by omega)) ⟨pk_in (4 + i) 16 (by omega) e4, nm_r (cv_rd e4 (by omega)) ⟨pk_in (8 + i) 16 (by omega) e8, nm_r (cv_rd e8 (by omega)) ⟨pk_in i 16 (by omega), nm_r (cv_up (k := i) rfl (by omega)) ⟨pk_in (4 + i) 16 (by omega) e4, nm_r (cv_up e4 (by omega)) ⟨pk_in (8 + i) 16 (by omega) e8, nm_r (cv_up e8 (by omega)) ⟨pk_in (12 + i) 16 (by omega) e12, nm_r (cv_up e12 (by omega)) (nm_r (nI_1 i) (hw _ ?_))⟩⟩⟩⟩⟩⟩⟩)
    have t := cv_up4 (s := s) (v := cv_g4 (a5 i) (a5 (4 + i)) (a5 (8 + i))) (fun r => 4 * r + i) (p0 := i) (p1 := 4 + i) (p2 := 8 + i) (p3 := 12 + i) (by omega) (by omega) (by omega) (by omega) (by omega) (by omega) (by omega) (by omega) (by omega) (by omega) rfl rfl rfl rfl
    intro i' hi' r hr
    by_cases e : i' = i
    · rw [e]
      exact t.1 r hr
    · exact (t.2 (4 * r + i') (fun q hq => by omega)).trans (h i' (by omega) r hr)
theorem cv_shapeK {post : St2 → Prop} {c : Nat} (hc : c < 2) (H : ∀ p s, (∀ r, r < 4 → ∀ i, i < 4 → s (4 * r + i) = cv_S (fun k => a2 (9 * c + k)) r i) → post (f0, f1, f2, f3, a1, a2, a3, a4, p, s, a7, a8, a9, a10, a11, a12, a13, a14)) : wpX_shapeKernel post (f0, f1, f2, f3, a1, a2, a3, a4, a5, a6, a7, a8, a9, a10, a11, a12, a13, a14) (nI c) := by
  refine pk_loop (fun n j s => wX_shapeKernel_2 post (nI c) f0 f1 f2 f3 n (nI j) a1 a2 a3 a4 s a6 a7 a8 a9 a10 a11 a12 a13 a14) (fun m s => ∀ j, j < m → ∀ i, i < 4 → s (4 * j + i) = cv_H (fun k => a2 (9 * c + k)) j i) 3 0 a5 (by omega) cv_0 ?_ ?_
  · intro n p h
    refine pk_le 3 3 (fun _ => cv_sk122 (fun s hs => H p s (fun r hr i hi => ?_))) (fun z => absurd z (by omega))
    rw [hs r hr i hi, show p i = cv_H (fun k => a2 (9 * c + k)) 0 i from (congrArg p (by omega)).trans (h 0 (by omega) i hi), show p (4 + i) = cv_H (fun k => a2 (9 * c + k)) 1 i from h 1 (by omega) i hi, show p (8 + i) = cv_H (fun k => a2 (9 * c + k)) 2 i from h 2 (by omega) i hi]
    rfl
  · intro n j s hj h hw
    have e0 : 9 * nI c + 3 * nI j = nI (9 * c + 3 * j) := by rw [← nI_add, ← pk_mul, ← pk_mul]; rfl
    have e1 : 9 * nI c + 3 * nI j + 1 = nI (9 * c + 3 * j + 1) := by rw [e0, nI_1]
    have e2 : 9 * nI c + 3 * nI j + 2 = nI (9 * c + 3 * j + 2) := by rw [e0]; exact nI_add _ 2
    have g0 := cv_ix40 j
    have g1 : 4 * nI j + 1 = nI (4 * j + 1) := cv_ix4 j 1
    have g2 : 4 * nI j + 2 = nI (4 * j + 2) := cv_ix4 j 2
    have g3 : 4 * nI j + 3 = nI (4 * j + 3) := cv_ix4 j 3
    refine pk_le 3 j (fun z => absurd z (by omega)) (fun _ => ⟨pk_in _ 18 (by omega) e0, nm_r (cv_rd e0 (by omega)) ⟨pk_in _ 18 (by omega) e1, nm_r (cv_rd e1 (by omega)) ⟨pk_in _ 18 (by omega) e2, nm_r (cv_rd e2 (by omega)) ⟨pk_in _ 16 (by omega) g0, nm_r (cv_up g0 (by omega)) ⟨pk_in _ 16 (by omega) g1, nm_r (cv_up g1 (by omega)) ⟨pk_in _ 16 (by omega) g2, nm_r (cv_up g2 (by omega)) ⟨pk_in _ 16 (by omega) g3, nm_r (cv_up g3 (by omega)) (nm_r (nI_1 j) (hw _ ?_))⟩⟩⟩⟩⟩⟩⟩)
    have t := cv_up4 (s := s) (v := cv_H (fun k => a2 (9 * c + k)) j) (fun i => 4 * j + i) (p0 := 4 * j) (p1 := 4 * j + 1) (p2 := 4 * j + 2) (p3 := 4 * j + 3) (by omega) (by omega) (by omega) (by omega) (by omega) (by omega) rfl rfl rfl rfl rfl rfl rfl rfl
    intro j' hj' i hi
    by_cases e : j' = j
    · rw [e]
      exact t.1 i hi
    · exact (t.2 (4 * j' + i) (fun q hq => by omega)).trans (h j' (by omega) i hi)
theorem cv_sf {post : St2 → Prop} {p q : Nat} {p0 p1 : Int32} (e0 : p0 = nI p) (e1 : p1 = nI q) (hq : 0 < q) (hb : p + 3 * q < 16)
    (H : ∀ s, (∀ i, i < 4 → s (p + i * q) = cv_b4 (a4 p) (a4 (p + q)) (a4 (p + 2 * q)) (a4 (p + 3 * q)) i) → (∀ j, (∀ i, i < 4 → j ≠ p + i * q) → s j = a4 j) → post (f0, f1, f2, f3, a1, a2, a3, s, a5, a6, a7, a8, a9, a10, a11, a12, a13, a14)) : wpX_shapeFour post (f0, f1, f2, f3, a1, a2, a3, a4, a5, a6, a7, a8, a9, a10, a11, a12, a13, a14) p0 p1 := by
  subst e0 e1
  have g1 : nI p + nI q = nI (p + q) := nI_add p q
  have g2 : nI p + 2 * nI q = nI (p + 2 * q) := by rw [← nI_add, ← pk_mul]; rfl
  have g3 : nI p + 3 * nI q = nI (p + 3 * q) := by rw [← nI_add, ← pk_mul]; rfl
  refine And.intro (pk_in p 16 (by omega)) (nm_r (cv_rd (k := p) rfl (by omega)) ⟨pk_in _ 16 (by omega) g1, nm_r (cv_rd g1 (by omega)) ⟨pk_in _ 16 (by omega) g2, nm_r (cv_rd g2 (by omega)) ⟨pk_in _ 16 (by omega) g3, nm_r (cv_rd g3 (by omega)) ⟨pk_in p 16 (by omega), nm_r (cv_up (k := p) rfl (by omega)) ⟨pk_in _ 16 (by omega) g1, nm_r (cv_up g1 (by omega)) ⟨pk_in _ 16 (by omega) g2, nm_r (cv_up g2 (by omega)) ⟨pk_in _ 16 (by omega) g3, nm_r (cv_up g3 (by omega)) ?_⟩⟩⟩⟩⟩⟩⟩)
  have t := cv_up4 (s := a4) (v := cv_b4 (a4 p) (a4 (p + q)) (a4 (p + 2 * q)) (a4 (p + 3 * q))) (fun i => p + i * q) (p0 := p) (p1 := p + q) (p2 := p + 2 * q) (p3 := p + 3 * q) (by omega) (by omega) (by omega) (by omega) (by omega) (by omega) (by omega) (by omega) (by omega) (by omega) rfl rfl rfl rfl
  exact H _ t.1 t.2
theorem cv_add {post : St2 → Prop} {x y : Nat} {p0 p1 v : Int32} (e0 : p0 = nI x) (e1 : p1 = nI y) (hx : x < 8) (hy : y < 8) (H : post (f0, f1, f2, 8, a1, a2, upd a3 (8 * y + x) (a3 (8 * y + x) + v), a4, a5, a6, a7, a8, a9, a10, a11, a12, a13, a14)) : wpX_add post (f0, f1, f2, 8, a1, a2, a3, a4, a5, a6, a7, a8, a9, a10, a11, a12, a13, a14) p0 p1 v := by
  subst e0 e1
  refine pk_le 8 x (fun z => absurd z (by omega)) (fun _ => pk_le 8 y (fun z => absurd z (by omega)) (fun _ => ⟨pk_in (8 * y + x) 64 (by omega) (cv_ix8 y x), pk_in (8 * y + x) 64 (by omega) (cv_ix8 y x), nm_e ?_⟩))
  rw [cv_ix8, nI_clamp (by omega)]
  exact H
end
end
section
/-! addTile, loop by loop -/
section
variable {f0 f1 f2 f3 : Int32} {a1 a2 a3 a4 a5 a6 a7 a8 a9 a10 a11 a12 a13 a14 : Nat → Int32}
theorem cv_t250 {post : St2 → Prop} {x y : Nat} {m w : Nat → Nat → Int32} (hx : x + 2 ≤ 8) (hy : y + 2 ≤ 8) (hm : ∀ j, j < 2 → ∀ i, i < 4 → a7 (4 * j + i) = m j i) (w0 : ∀ j, j < 2 → (m j 0 + m j 1 + m j 2) / 4 = w j 0) (w1 : ∀ j, j < 2 → (m j 1 - m j 2 - m j 3) / 4 = w j 1)
    (H : ∀ s, (∀ i, i < 64 → s i = if y ≤ i / 8 ∧ i / 8 < y + 2 ∧ x ≤ i % 8 ∧ i % 8 < x + 2 then a3 i + w (i / 8 - y) (i % 8 - x) else a3 i) → post (f0, f1, f2, 8, a1, a2, s, a4, a5, a6, a7, a8, a9, a10, a11, a12, a13, a14)) : ∃ n, wX_addTile_250 post (nI x) (nI y) n 0 f0 f1 f2 8 a1 a2 a3 a4 a5 a6 a7 a8 a9 a10 a11 a12 a13 a14 := by
  refine pk_loop (fun n j s => wX_addTile_250 post (nI x) (nI y) n (nI j) f0 f1 f2 8 a1 a2 s a4 a5 a6 a7 a8 a9 a10 a11 a12 a13 a14) (fun j s => ∀ i, i < 64 → s i = if y ≤ i / 8 ∧ i / 8 < y + j ∧ x ≤ i % 8 ∧ i % 8 < x + 2 then a3 i + w (i / 8 - y) (i % 8 - x) else a3 i) 2 0 a3 (by omega) (fun i hi => ?_) ?_ ?_
  · rw [if_neg (by omega)]
  · intro n s h
    exact pk_le 2 2 (fun _ => H s h) (fun z => absurd z (by omega))
  · intro n j s hj h hw
    have g0 := cv_ix40 j
    have g1 : 4 * nI j + 1 = nI (4 * j + 1) := cv_ix4 j 1
    have g2 : 4 * nI j + 2 = nI (4 * j + 2) := cv_ix4 j 2
    have g3 : 4 * nI j + 3 = nI (4 * j + 3) := cv_ix4 j 3
    have r0 : a7 (4 * nI j).toNatClampNeg = m j 0 := (cv_rd g0 (by omega)).trans (hm j hj 0 (by omega))
    have r1 : a7 (4 * nI j + 1).toNatClampNeg = m j 1 := (cv_rd g1 (by omega)).trans (hm j hj 1 (by omega))
    have r2 : a7 (4 * nI j + 2).toNatClampNeg = m j 2 := (cv_rd g2 (by omega)).trans (hm j hj 2 (by omega))
    have r3 : a7 (4 * nI j + 3).toNatClampNeg = m j 3 := (cv_rd g3 (by omega)).trans (hm j hj 3 (by omega))
    refine pk_le 2 j (fun z => absurd z (by omega)) (fun _ => ⟨pk_in _ 16 (by omega) g0, pk_in _ 16 (by omega) g1, pk_in _ 16 (by omega) g2, nm_r (e' := m j 0 + m j 1 + m j 2) (by rw [r0, r1, r2]) ⟨pk_in _ 16 (by omega) g1, pk_in _ 16 (by omega) g2, pk_in _ 16 (by omega) g3, nm_r (e' := m j 1 - m j 2 - m j 3) (by rw [r1, r2, r3]) ⟨by decide, cv_add (x := x) (y := y + j) rfl (nI_add y j) (by omega) (by omega) ⟨by decide, cv_add (x := x + 1) (y := y + j) (nI_1 x) (nI_add y j) (by omega) (by omega) (nm_r (nI_1 j) (hw _ ?_))⟩⟩⟩⟩)
    intro i hi
    rw [w0 j hj, w1 j hj]
    by_cases e1 : i = 8 * (y + j) + (x + 1)
    · have q := h (8 * (y + j) + (x + 1)) (by omega)
      rw [if_neg (by omega)] at q
      rw [e1, pk_us, pk_un (by omega), q, if_pos (by omega), show (8 * (y + j) + (x + 1)) / 8 - y = j by omega, show (8 * (y + j) + (x + 1)) % 8 - x = 1 by omega]
    · rw [pk_un e1]
      by_cases e2 : i = 8 * (y + j) + x
      · have q := h (8 * (y + j) + x) (by omega)
        rw [if_neg (by omega)] at q
        rw [e2, pk_us, q, if_pos (by omega), show (8 * (y + j) + x) / 8 - y = j by omega, show (8 * (y + j) + x) % 8 - x = 0 by omega]
      · rw [pk_un e2, h i hi]
        by_cases e3 : y ≤ i / 8 ∧ i / 8 < y + j ∧ x ≤ i % 8 ∧ i % 8 < x + 2
        · rw [if_pos e3, if_pos (by omega)]
        · rw [if_neg e3, if_neg (by omega)]
theorem cv_t152 {post : St2 → Prop} {x2 x3 : Int32} {q : Nat → Nat → Int32} (hq : ∀ r, r < 4 → ∀ c, c < 4 → a7 (4 * r + c) = q r c)
    (H : ∀ s, (∀ j, j < 2 → ∀ c, c < 4 → s (4 * j + c) = cv_M q j c) → ∃ n, wX_addTile_250 post x2 x3 n 0 f0 f1 f2 f3 a1 a2 a3 a4 a5 a6 s a8 a9 a10 a11 a12 a13 a14) : ∃ n, wX_addTile_152 post x2 x3 f0 f1 f2 f3 n 0 a1 a2 a3 a4 a5 a6 a7 a8 a9 a10 a11 a12 a13 a14 := by
  refine pk_loop (fun n i s => wX_addTile_152 post x2 x3 f0 f1 f2 f3 n (nI i) a1 a2 a3 a4 a5 a6 s a8 a9 a10 a11 a12 a13 a14) (fun i s => ∀ r, r < 4 → ∀ c, c < 4 → s (4 * r + c) = if r < 2 ∧ c < i then cv_M q r c else q r c) 4 0 a7 (by omega) (fun r hr c hc => ?_) ?_ ?_
  · rw [if_neg (by omega)]
    exact hq r hr c hc
  · intro n s h
    refine pk_le 4 4 (fun _ => H s (fun j hj c hc => ?_)) (fun z => absurd z (by omega))
    have t := h j (by omega) c hc
    rw [if_pos ⟨hj, hc⟩] at t
    exact t
  · intro n i s hi h hw
    have e4 : 4 + nI i = nI (4 + i) := nI_add 4 i
    have e8 : 8 + nI i = nI (8 + i) := nI_add 8 i
    have e12 : 12 + nI i = nI (12 + i) := nI_add 12 i
    have v0 : s i = q 0 i := by
      have t := h 0 (by omega) i hi
      rw [if_neg (by omega), show 4 * 0 + i = i by omega] at t
      exact t
    have v1 : s (4 + i) = q 1 i := by
      have t := h 1 (by omega) i hi
      rw [if_neg (by omega)] at t
      exact t
    have v2 : s (8 + i) = q 2 i := by
      have t := h 2 (by omega) i hi
      rw [if_neg (by omega)] at t
      exact t
    have v3 : s (12 + i) = q 3 i := by
      have t := h 3 (by omega) i hi
      rw [if_neg (by omega)] at t
      exact t
    have r0 : s (nI i).toNatClampNeg = q 0 i := (cv_rd (k := i) rfl (by omega)).trans v0
    have r1 : s (4 + nI i).toNatClampNeg = q 1 i := (cv_rd e4 (by omega)).trans v1
    have r2 : s (8 + nI i).toNatClampNeg = q 2 i := (cv_rd e8 (by omega)).trans v2
    have r3 : s (12 + nI i).toNatClampNeg = q 3 i := (cv_rd e12 (by omega)).trans v3
    refine pk_le 4 i (fun z => absurd z (by omega)) (fun _ => ⟨pk_in i 16 (by omega), pk_in _ 16 (by omega) e4, pk_in _ 16 (by omega) e8, nm_r (e' := q 0 i + q 1 i + q 2 i) (by rw [r0, r1, r2]) ⟨pk_in _ 16 (by omega) e4, pk_in _ 16 (by omega) e8, pk_in _ 16 (by omega) e12, nm_r (e' := q 1 i - q 2 i - q 3 i) (by rw [r1, r2, r3]) ⟨pk_in i 16 (by omega), nm_r (cv_up (k := i) rfl (by omega)) ⟨pk_in _ 16 (by omega) e4, nm_r (cv_up e4 (by omega)) (nm_r (nI_1 i) (hw _ ?_))⟩⟩⟩⟩)
    intro r hr c hc
    by_cases c1 : r = 1 ∧ c = i
    · rw [c1.1, c1.2, show 4 * 1 + i = 4 + i by omega, pk_us, if_pos (by omega)]
      rfl
    · rw [pk_un (by omega)]
      by_cases c0 : r = 0 ∧ c = i
      · rw [c0.1, c0.2, show 4 * 0 + i = i by omega, pk_us, if_pos (by omega)]
        rfl
      · rw [pk_un (by omega), h r hr c hc]
        by_cases c2 : r < 2 ∧ c < i
        · rw [if_pos c2, if_pos (by omega)]
        · rw [if_neg c2, if_neg (by omega)]
theorem cv_t114 {post : St2 → Prop} {x2 x3 : Int32} (H : ∀ s, (∀ j, j < 16 → s j = a4 j * a6 j) → ∃ n, wX_addTile_152 post x2 x3 f0 f1 f2 f3 n 0 a1 a2 a3 a4 a5 a6 s a8 a9 a10 a11 a12 a13 a14) : ∃ n, wX_addTile_114 post x2 x3 f0 f1 f2 f3 n 0 a1 a2 a3 a4 a5 a6 a7 a8 a9 a10 a11 a12 a13 a14 :=
  pk_loop (fun n i s => wX_addTile_114 post x2 x3 f0 f1 f2 f3 n (nI i) a1 a2 a3 a4 a5 a6 s a8 a9 a10 a11 a12 a13 a14) (fun i s => ∀ j, j < i → s j = a4 j * a6 j) 16 0 a7 (by omega) cv_0
    (fun n s h => pk_le 16 16 (fun _ => H s h) (fun z => absurd z (by omega)))
    (fun n i s hi h hw => pk_le 16 i (fun z => absurd z (by omega)) (fun _ => ⟨pk_in i 16 hi, pk_in i 16 hi, pk_in i 16 hi, nm_e (nm_r (nI_1 i) (hw _ (cv_fill (f := fun j => a4 j * a6 j) (nI_clamp (by omega)) h (by rw [nI_clamp (by omega)]))))⟩))
theorem cv_t92 {post : St2 → Prop} {x2 x3 : Int32} {R : Nat → Nat → Int32} (hR : ∀ r, r < 4 → ∀ c, c < 4 → a4 (4 * r + c) = R r c)
    (H : ∀ s, (∀ r, r < 4 → ∀ c, c < 4 → s (4 * r + c) = cv_b4 (R 0 c) (R 1 c) (R 2 c) (R 3 c) r) → ∃ n, wX_addTile_114 post x2 x3 f0 f1 f2 f3 n 0 a1 a2 a3 s a5 a6 a7 a8 a9 a10 a11 a12 a13 a14) : ∃ n, wX_addTile_92 post x2 x3 n 0 f0 f1 f2 f3 a1 a2 a3 a4 a5 a6 a7 a8 a9 a10 a11 a12 a13 a14 := by
  refine pk_loop (fun n i s => wX_addTile_92 post x2 x3 n (nI i) f0 f1 f2 f3 a1 a2 a3 s a5 a6 a7 a8 a9 a10 a11 a12 a13 a14) (fun i s => ∀ r, r < 4 → ∀ c, c < 4 → s (4 * r + c) = if c < i then cv_b4 (R 0 c) (R 1 c) (R 2 c) (R 3 c) r else R r c) 4 0 a4 (by omega) (fun r hr c hc => ?_) ?_ ?_
  · rw [if_neg (by omega)]
    exact hR r hr c hc
  · intro n s h
    refine pk_le 4 4 (fun _ => H s (fun r hr c hc => ?_)) (fun z => absurd z (by omega))
    have t := h r hr c hc
    rw [if_pos hc] at t
    exact t
  · intro n i s hi h hw
    have v0 : s i = R 0 i := by
      have t := h 0 (by omega) i hi
      rw [if_neg (by omega), show 4 * 0 + i = i by omega] at t
      exact t
    have v1 : s (i + 4) = R 1 i := by
      have t := h 1 (by omega) i hi
      rw [if_neg (by omega), show 4 * 1 + i = i + 4 by omega] at t
      exact t
    have v2 : s (i + 2 * 4) = R 2 i := by
      have t := h 2 (by omega) i hi
      rw [if_neg (by omega), show 4 * 2 + i = i + 2 * 4 by omega] at t
      exact t
    have v3 : s (i + 3 * 4) = R 3 i := by
      have t := h 3 (by omega) i hi
      rw [if_neg (by omega), show 4 * 3 + i = i + 3 * 4 by omega] at t
      exact t
    refine pk_le 4 i (fun z => absurd z (by omega)) (fun _ => cv_sf (p := i) (q := 4) rfl rfl (by omega) (by omega) (fun s' h1 h2 => nm_r (nI_1 i) (hw s' (fun r hr c hc => ?_))))
    by_cases e : c = i
    · rw [e, if_pos (by omega), show 4 * r + i = i + r * 4 by omega, h1 r hr, v0, v1, v2, v3]
    · rw [h2 _ (fun k hk => by omega), h r hr c hc]
      by_cases e2 : c < i
      · rw [if_pos e2, if_pos (by omega)]
      · rw [if_neg e2, if_neg (by omega)]
theorem cv_t68 {post : St2 → Prop} {x2 x3 : Int32} {D : Nat → Nat → Int32} (hD : ∀ r, r < 4 → ∀ c, c < 4 → a4 (4 * r + c) = D r c)
    (H : ∀ s, (∀ r, r < 4 → ∀ c, c < 4 → s (4 * r + c) = cv_R D r c) → ∃ n, wX_addTile_92 post x2 x3 n 0 f0 f1 f2 f3 a1 a2 a3 s a5 a6 a7 a8 a9 a10 a11 a12 a13 a14) : ∃ n, wX_addTile_68 post x2 x3 n 0 f0 f1 f2 f3 a1 a2 a3 a4 a5 a6 a7 a8 a9 a10 a11 a12 a13 a14 := by
  refine pk_loop (fun n i s => wX_addTile_68 post x2 x3 n (nI i) f0 f1 f2 f3 a1 a2 a3 s a5 a6 a7 a8 a9 a10 a11 a12 a13 a14) (fun i s => ∀ r, r < 4 → ∀ c, c < 4 → s (4 * r + c) = if r < i then cv_R D r c else D r c) 4 0 a4 (by omega) (fun r hr c hc => ?_) ?_ ?_
  · rw [if_neg (by omega)]
    exact hD r hr c hc
  · intro n s h
    refine pk_le 4 4 (fun _ => H s (fun r hr c hc => ?_)) (fun z => absurd z (by omega))
    have t := h r hr c hc
    rw [if_pos hr] at t
    exact t
  · intro n i s hi h hw
    have v0 : s (4 * i) = D i 0 := by
      have t := h i hi 0 (by omega)
      rw [if_neg (by omega)] at t
      exact t
    have v1 : s (4 * i + 1) = D i 1 := by
      have t := h i hi 1 (by omega)
      rw [if_neg (by omega)] at t
      exact t
    have v2 : s (4 * i + 2 * 1) = D i 2 := by
      have t := h i hi 2 (by omega)
      rw [if_neg (by omega)] at t
      exact t
    have v3 : s (4 * i + 3 * 1) = D i 3 := by
      have t := h i hi 3 (by omega)
      rw [if_neg (by omega)] at t
      exact t
    refine pk_le 4 i (fun z => absurd z (by omega)) (fun _ => cv_sf (p := 4 * i) (q := 1) (cv_ix40 i) rfl (by omega) (by omega) (fun s' h1 h2 => nm_r (nI_1 i) (hw s' (fun r hr c hc => ?_))))
    by_cases e : r = i
    · rw [e, if_pos (by omega), show 4 * i + c = 4 * i + c * 1 by omega, h1 c hc, v0, v1, v2, v3]
      rfl
    · rw [h2 _ (fun k hk => by omega), h r hr c hc]
      by_cases e2 : r < i
      · rw [if_pos e2, if_pos (by omega)]
      · rw [if_neg e2, if_neg (by omega)]
theorem cv_t12 {post : St2 → Prop} {J3 : Int32 → (Nat → Int32) → (Nat → Int32) → (Nat → Int32) → (Nat → Int32) → (Nat → Int32) → (Nat → Int32) → (Nat → Int32) → (Nat → Int32) → (Nat → Int32) → (Nat → Int32) → (Nat → Int32) → (Nat → Int32) → (Nat → Int32) → (Nat → Int32) → Prop} {c x y j : Nat} (hc : c < 2) (hx : x < 8) (hy : y < 8) (hj : j < 4) (h0 : ∀ k, k < 4 * j → a4 k = cv_pix a1 c (x + k % 4) (y + k / 4))
    (H : ∀ s, (∀ k, k < 4 * (j + 1) → s k = cv_pix a1 c (x + k % 4) (y + k / 4)) → J3 (nI (j + 1)) a1 a2 a3 s a5 a6 a7 a8 a9 a10 a11 a12 a13 a14) : ∃ n, wX_addTile_12 post J3 (nI c) (nI x) (nI y) (nI j) f0 1 f2 f3 n 0 a1 a2 a3 a4 a5 a6 a7 a8 a9 a10 a11 a12 a13 a14 := by
  refine pk_loop (fun n i s => wX_addTile_12 post J3 (nI c) (nI x) (nI y) (nI j) f0 1 f2 f3 n (nI i) a1 a2 a3 s a5 a6 a7 a8 a9 a10 a11 a12 a13 a14) (fun i s => ∀ k, k < 4 * j + i → s k = cv_pix a1 c (x + k % 4) (y + k / 4)) 4 0 a4 (by omega) h0 ?_ ?_
  · intro n s h
    exact pk_le 4 4 (fun _ => nm_r (nI_1 j) (H s h)) (fun z => absurd z (by omega))
  · intro n i s hi h hw
    refine pk_le 4 i (fun z => absurd z (by omega)) (fun _ => cv_at (x := x + i) (y := y + j) hc (by omega) (by omega) (by rw [nI_add]) (by rw [nI_add]) ⟨pk_in (4 * j + i) 16 (by omega) (cv_ix4 j i), nm_e (nm_r (nI_1 i) (hw _ (cv_fill (i := 4 * j + i) (f := fun k => cv_pix a1 c (x + k % 4) (y + k / 4)) (pk_cl (4 * j + i) (cv_ix4 j i)) h ?_)))⟩)
    show cv_pix a1 c (x + i) (y + j) = cv_pix a1 c (x + (4 * j + i) % 4) (y + (4 * j + i) / 4)
    rw [show (4 * j + i) % 4 = i by omega, show (4 * j + i) / 4 = j by omega]
theorem cv_tile {post : St2 → Prop} {c x y : Nat} {k : Nat → Int32} {w : Nat → Nat → Int32} (hc : c < 2) (hx : x + 2 ≤ 8) (hy : y + 2 ≤ 8) (hS : ∀ r, r < 4 → ∀ i, i < 4 → a6 (4 * r + i) = cv_S k r i)
    (hw : ∀ j, j < 2 → ∀ i, i < 2 → ∀ v, v = 4 * cv_T9 (fun r i => cv_pix a1 c (x + i) (y + r)) k j i → v / 4 = w j i)
    (H : ∀ s p q, (∀ i, i < 64 → s i = if y ≤ i / 8 ∧ i / 8 < y + 2 ∧ x ≤ i % 8 ∧ i % 8 < x + 2 then a3 i + w (i / 8 - y) (i % 8 - x) else a3 i) → post (f0, 1, f2, 8, a1, a2, s, p, a5, a6, q, a8, a9, a10, a11, a12, a13, a14)) : wpX_addTile post (f0, 1, f2, 8, a1, a2, a3, a4, a5, a6, a7, a8, a9, a10, a11, a12, a13, a14) (nI c) (nI x) (nI y) := by
  refine pk_loop (fun n j s => wX_addTile_3 post (nI c) (nI x) (nI y) f0 1 f2 8 n (nI j) a1 a2 a3 s a5 a6 a7 a8 a9 a10 a11 a12 a13 a14) (fun j s => ∀ k, k < 4 * j → s k = cv_pix a1 c (x + k % 4) (y + k / 4)) 4 0 a4 (by omega) cv_0 ?_ ?_
  · intro n s h
    refine pk_le 4 4 (fun _ => ?_) (fun z => absurd z (by omega))
    refine cv_t68 (D := fun r i => cv_pix a1 c (x + i) (y + r)) (fun r hr i hi => ?_) (fun s1 h1 => ?_)
    · rw [h _ (by omega), show (4 * r + i) % 4 = i by omega, show (4 * r + i) / 4 = r by omega]
    refine cv_t92 (R := cv_R (fun r i => cv_pix a1 c (x + i) (y + r))) h1 (fun s2 h2 => ?_)
    refine cv_t114 (fun s3 h3 => ?_)
    refine cv_t152 (q := cv_Q (fun r i => cv_pix a1 c (x + i) (y + r)) k) (fun r hr i hi => ?_) (fun s4 h4 => ?_)
    · rw [h3 _ (by omega), h2 r hr i hi, hS r hr i hi]
      rfl
    refine cv_t250 (w := w) hx hy h4 ?_ ?_ (fun s5 h5 => H s5 s2 s4 h5)
    · intro j hj
      rcases (show j = 0 ∨ j = 1 by omega) with e | e
      · subst e
        exact hw 0 (by omega) 0 (by omega) _ (cv_w00 _ _)
      · subst e
        exact hw 1 (by omega) 0 (by omega) _ (cv_w10 _ _)
    · intro j hj
      rcases (show j = 0 ∨ j = 1 by omega) with e | e
      · subst e
        exact hw 0 (by omega) 1 (by omega) _ (cv_w01 _ _)
      · subst e
        exact hw 1 (by omega) 1 (by omega) _ (cv_w11 _ _)
  · intro n j s hj h hs
    exact pk_le 4 j (fun z => absurd z (by omega)) (fun _ => cv_t12 hc (by omega) (by omega) hj h (fun s' h' => hs s' h'))
end
end
section
/-! the picture in naturals; moveByTiles -/
def cv_pxn (pn : Nat → Nat) (c x y : Nat) : Nat := if 1 ≤ x ∧ x ≤ 8 ∧ 1 ≤ y ∧ y ≤ 8 then pn (64 * c + 8 * (y - 1) + (x - 1)) else 0
def cv_pxl (pn : Nat → Nat) (i j : Nat) : Nat := cv_pxn pn (j / 9) (i % 8 + j % 9 % 3) (i / 8 + j % 9 / 3)
def cv_f (pn kn : Nat → Nat) (i j : Nat) : Nat := cv_pxl pn i j * kn j
def cv_nine (g : Nat → Nat) (c : Nat) : Nat := (g (9 * c) + g (9 * c + 1) + g (9 * c + 2)) + (g (9 * c + 3) + g (9 * c + 4) + g (9 * c + 5)) + (g (9 * c + 6) + g (9 * c + 7) + g (9 * c + 8))
theorem cv_sum9 (g : Nat → Nat) (c : Nat) : cv_sum g (9 * c) + cv_nine g c = cv_sum g (9 * (c + 1)) := by
  have t0 : cv_sum g (9 * c + 1) = cv_sum g (9 * c) + g (9 * c) := rfl
  have t1 : cv_sum g (9 * c + 2) = cv_sum g (9 * c + 1) + g (9 * c + 1) := rfl
  have t2 : cv_sum g (9 * c + 3) = cv_sum g (9 * c + 2) + g (9 * c + 2) := rfl
  have t3 : cv_sum g (9 * c + 4) = cv_sum g (9 * c + 3) + g (9 * c + 3) := rfl
  have t4 : cv_sum g (9 * c + 5) = cv_sum g (9 * c + 4) + g (9 * c + 4) := rfl
  have t5 : cv_sum g (9 * c + 6) = cv_sum g (9 * c + 5) + g (9 * c + 5) := rfl
  have t6 : cv_sum g (9 * c + 7) = cv_sum g (9 * c + 6) + g (9 * c + 6) := rfl
  have t7 : cv_sum g (9 * c + 8) = cv_sum g (9 * c + 7) + g (9 * c + 7) := rfl
  have t8 : cv_sum g (9 * c + 9) = cv_sum g (9 * c + 8) + g (9 * c + 8) := rfl
  rw [show 9 * (c + 1) = 9 * c + 9 by omega]
  unfold cv_nine
  omega
theorem cv_pxn_le {pn : Nat → Nat} {b : Nat} (h : ∀ k, pn k ≤ b) (c x y : Nat) : cv_pxn pn c x y ≤ b := by
  unfold cv_pxn
  split
  · exact h _
  · omega
theorem cv_f_le {pn kn : Nat → Nat} (hp : ∀ k, pn k ≤ 20) (hk : ∀ k, kn k ≤ 9) (i j : Nat) : cv_f pn kn i j ≤ 180 := Nat.mul_le_mul (cv_pxn_le hp _ _ _) (hk j)
theorem cv_nine_le {g : Nat → Nat} (h : ∀ j, g j ≤ 180) (c : Nat) : cv_nine g c ≤ 1620 := by
  have t0 := h (9 * c)
  have t1 := h (9 * c + 1)
  have t2 := h (9 * c + 2)
  have t3 := h (9 * c + 3)
  have t4 := h (9 * c + 4)
  have t5 := h (9 * c + 5)
  have t6 := h (9 * c + 6)
  have t7 := h (9 * c + 7)
  have t8 := h (9 * c + 8)
  unfold cv_nine
  omega
theorem cv_pixn {a : Nat → Int32} {pn : Nat → Nat} (h : ∀ k, k < 128 → a k = nI (pn k)) {c : Nat} (hc : c < 2) (x y : Nat) : cv_pix a c x y = nI (cv_pxn pn c x y) := by
  unfold cv_pix cv_pxn
  split
  · exact h _ (by omega)
  · rfl
theorem cv_term {a1 a2 : Nat → Int32} {pn kn : Nat → Nat} {c x y i j : Nat} (hp : ∀ k, k < 128 → a1 k = nI (pn k)) (hk : ∀ k, k < 18 → a2 k = nI (kn k)) (hc : c < 2) (hx : x + i < 8) (k : Nat) (hk9 : k < 9) : cv_pix a1 c (x + (i + k % 3)) (y + (j + k / 3)) * a2 (9 * c + k) = nI (cv_f pn kn (8 * (y + j) + (x + i)) (9 * c + k)) := by
  rw [cv_pixn hp hc, hk _ (by omega), pk_mul]
  unfold cv_f cv_pxl
  rw [show (9 * c + k) / 9 = c by omega, show (9 * c + k) % 9 = k by omega, show (8 * (y + j) + (x + i)) % 8 = x + i by omega, show (8 * (y + j) + (x + i)) / 8 = y + j by omega, Nat.add_assoc x, Nat.add_assoc y]
theorem cv_T9n {a1 a2 : Nat → Int32} {pn kn : Nat → Nat} {c x y i j : Nat} (hp : ∀ k, k < 128 → a1 k = nI (pn k)) (hk : ∀ k, k < 18 → a2 k = nI (kn k)) (hc : c < 2) (hx : x + i < 8) : cv_T9 (fun r i => cv_pix a1 c (x + i) (y + r)) (fun k => a2 (9 * c + k)) j i = nI (cv_nine (cv_f pn kn (8 * (y + j) + (x + i))) c) := by
  have t0 : cv_pix a1 c (x + i) (y + j) * a2 (9 * c + 0) = nI (cv_f pn kn (8 * (y + j) + (x + i)) (9 * c)) := cv_term hp hk hc hx 0 (by omega)
  have t1 : cv_pix a1 c (x + (i + 1)) (y + j) * a2 (9 * c + 1) = nI (cv_f pn kn (8 * (y + j) + (x + i)) (9 * c + 1)) := cv_term hp hk hc hx 1 (by omega)
  have t2 : cv_pix a1 c (x + (i + 2)) (y + j) * a2 (9 * c + 2) = nI (cv_f pn kn (8 * (y + j) + (x + i)) (9 * c + 2)) := cv_term hp hk hc hx 2 (by omega)
  have t3 : cv_pix a1 c (x + i) (y + (j + 1)) * a2 (9 * c + 3) = nI (cv_f pn kn (8 * (y + j) + (x + i)) (9 * c + 3)) := cv_term hp hk hc hx 3 (by omega)
  have t4 : cv_pix a1 c (x + (i + 1)) (y + (j + 1)) * a2 (9 * c + 4) = nI (cv_f pn kn (8 * (y + j) + (x + i)) (9 * c + 4)) := cv_term hp hk hc hx 4 (by omega)
  have t5 : cv_pix a1 c (x + (i + 2)) (y + (j + 1)) * a2 (9 * c + 5) = nI (cv_f pn kn (8 * (y + j) + (x + i)) (9 * c + 5)) := cv_term hp hk hc hx 5 (by omega)
  have t6 : cv_pix a1 c (x + i) (y + (j + 2)) * a2 (9 * c + 6) = nI (cv_f pn kn (8 * (y + j) + (x + i)) (9 * c + 6)) := cv_term hp hk hc hx 6 (by omega)
  have t7 : cv_pix a1 c (x + (i + 1)) (y + (j + 2)) * a2 (9 * c + 7) = nI (cv_f pn kn (8 * (y + j) + (x + i)) (9 * c + 7)) := cv_term hp hk hc hx 7 (by omega)
  have t8 : cv_pix a1 c (x + (i + 2)) (y + (j + 2)) * a2 (9 * c + 8) = nI (cv_f pn kn (8 * (y + j) + (x + i)) (9 * c + 8)) := cv_term hp hk hc hx 8 (by omega)
  unfold cv_T9
  dsimp only
  rw [t0, t1, t2, t3, t4, t5, t6, t7, t8]
  unfold cv_nine
  rw [← nI_add, ← nI_add, ← nI_add, ← nI_add, ← nI_add, ← nI_add, ← nI_add, ← nI_add]
theorem cv_q4 {v : Int32} {S : Nat} (hS : S < 100000) (h : v = 4 * nI S) : v / 4 = nI S := by
  have e : nI (4 * S) / 4 = nI (4 * S / 4) := pk_div (by omega) (by decide) (by decide)
  rw [h, cv_ix40, e, Nat.mul_div_cancel_left _ (by decide)]
section
variable {f0 f1 f2 f3 : Int32} {a1 a2 a3 a4 a5 a6 a7 a8 a9 a10 a11 a12 a13 a14 : Nat → Int32}
theorem cv_m24 {post : St2 → Prop} {J2 J14 : Int32 → Int32 → Int32 → Int32 → Int32 → (Nat → Int32) → (Nat → Int32) → (Nat → Int32) → (Nat → Int32) → (Nat → Int32) → (Nat → Int32) → (Nat → Int32) → (Nat → Int32) → (Nat → Int32) → (Nat → Int32) → (Nat → Int32) → (Nat → Int32) → (Nat → Int32) → (Nat → Int32) → Prop} {pn kn : Nat → Nat} {c v : Nat} (hc : c < 2) (hv : v < 4) (hp : ∀ k, k < 128 → a1 k = nI (pn k)) (hk : ∀ k, k < 18 → a2 k = nI (kn k)) (bp : ∀ k, pn k ≤ 20) (bk : ∀ k, kn k ≤ 9) (hS : ∀ r, r < 4 → ∀ i, i < 4 → a6 (4 * r + i) = cv_S (fun k => a2 (9 * c + k)) r i)
    (h0 : ∀ i, i < 64 → a3 i = nI (cv_sum (cv_f pn kn i) (if i / 8 < 2 * v ∨ (i / 8 < 2 * v + 2 ∧ i % 8 < 2 * 0) then 9 * (c + 1) else 9 * c)))
    (H : ∀ s p q, (∀ i, i < 64 → s i = nI (cv_sum (cv_f pn kn i) (if i / 8 < 2 * (v + 1) ∨ (i / 8 < 2 * (v + 1) + 2 ∧ i % 8 < 2 * 0) then 9 * (c + 1) else 9 * c))) → J14 (nI (2 * (v + 1))) f0 1 f2 8 a1 a2 s p a5 a6 q a8 a9 a10 a11 a12 a13 a14) :
    ∃ n, wX_moveByTiles_24 post J2 J14 (nI c) (nI (2 * v)) n 0 f0 1 f2 8 a1 a2 a3 a4 a5 a6 a7 a8 a9 a10 a11 a12 a13 a14 := by
  refine pk_loop (σ := (Nat → Int32) × (Nat → Int32) × (Nat → Int32)) (fun n u s => wX_moveByTiles_24 post J2 J14 (nI c) (nI (2 * v)) n (nI (2 * u)) f0 1 f2 8 a1 a2 s.1 s.2.1 a5 a6 s.2.2 a8 a9 a10 a11 a12 a13 a14) (fun u s => ∀ i, i < 64 → s.1 i = nI (cv_sum (cv_f pn kn i) (if i / 8 < 2 * v ∨ (i / 8 < 2 * v + 2 ∧ i % 8 < 2 * u) then 9 * (c + 1) else 9 * c))) 4 0 (a3, a4, a7) (by omega) h0 ?_ ?_
  · intro n s h
    refine pk_le 8 8 (fun _ => nm_r (show nI (2 * v) + 2 = nI (2 * (v + 1)) from nI_add (2 * v) 2) (H s.1 s.2.1 s.2.2 (fun i hi => ?_))) (fun z => absurd z (by omega))
    rw [h i hi]
    exact congrArg (fun t => nI (cv_sum (cv_f pn kn i) t)) (cv_ifc (by omega))
  · intro n u s hu h hw
    obtain ⟨o, p, q⟩ := s
    have h : ∀ i, i < 64 → o i = nI (cv_sum (cv_f pn kn i) (if i / 8 < 2 * v ∨ (i / 8 < 2 * v + 2 ∧ i % 8 < 2 * u) then 9 * (c + 1) else 9 * c)) := h
    refine pk_le 8 (2 * u) (fun z => absurd z (by omega)) (fun _ => cv_tile (k := fun k => a2 (9 * c + k)) (w := fun j i => nI (cv_nine (cv_f pn kn (8 * (2 * v + j) + (2 * u + i))) c)) hc (by omega) (by omega) hS (fun j hj i hi t ht => ?_) (fun s' p' q' h' => nm_r (show nI (2 * u) + 2 = nI (2 * (u + 1)) from nI_add (2 * u) 2) (hw (s', p', q') (fun i hi => ?_))))
    · rw [cv_T9n hp hk hc (by omega)] at ht
      exact cv_q4 (Nat.lt_of_le_of_lt (cv_nine_le (fun j => cv_f_le bp bk _ j) c) (by decide)) ht
    · show s' i = _
      have t := h' i hi
      dsimp only at t
      rw [t, h i hi]
      by_cases e : 2 * v ≤ i / 8 ∧ i / 8 < 2 * v + 2 ∧ 2 * u ≤ i % 8 ∧ i % 8 < 2 * u + 2
      · rw [if_pos e, if_neg (by omega), if_pos (by omega), show 8 * (2 * v + (i / 8 - 2 * v)) + (2 * u + (i % 8 - 2 * u)) = i by omega, nI_add, cv_sum9]
      · rw [if_neg e]
        exact congrArg (fun t => nI (cv_sum (cv_f pn kn i) t)) (cv_ifc (by omega))
theorem cv_m14 {post : St2 → Prop} {J2 : Int32 → Int32 → Int32 → Int32 → Int32 → (Nat → Int32) → (Nat → Int32) → (Nat → Int32) → (Nat → Int32) → (Nat → Int32) → (Nat → Int32) → (Nat → Int32) → (Nat → Int32) → (Nat → Int32) → (Nat → Int32) → (Nat → Int32) → (Nat → Int32) → (Nat → Int32) → (Nat → Int32) → Prop} {pn kn : Nat → Nat} {c : Nat} (hc : c < 2) (hp : ∀ k, k < 128 → a1 k = nI (pn k)) (hk : ∀ k, k < 18 → a2 k = nI (kn k)) (bp : ∀ k, pn k ≤ 20) (bk : ∀ k, kn k ≤ 9) (hS : ∀ r, r < 4 → ∀ i, i < 4 → a6 (4 * r + i) = cv_S (fun k => a2 (9 * c + k)) r i)
    (h0 : ∀ i, i < 64 → a3 i = nI (cv_sum (cv_f pn kn i) (9 * c)))
    (H : ∀ s p q, (∀ i, i < 64 → s i = nI (cv_sum (cv_f pn kn i) (9 * (c + 1)))) → J2 (nI (c + 1)) f0 1 f2 8 a1 a2 s p a5 a6 q a8 a9 a10 a11 a12 a13 a14) :
    ∃ n, wX_moveByTiles_14 post J2 (nI c) n 0 f0 1 f2 8 a1 a2 a3 a4 a5 a6 a7 a8 a9 a10 a11 a12 a13 a14 := by
  refine pk_loop (σ := (Nat → Int32) × (Nat → Int32) × (Nat → Int32)) (fun n v s => wX_moveByTiles_14 post J2 (nI c) n (nI (2 * v)) f0 1 f2 8 a1 a2 s.1 s.2.1 a5 a6 s.2.2 a8 a9 a10 a11 a12 a13 a14) (fun v s => ∀ i, i < 64 → s.1 i = nI (cv_sum (cv_f pn kn i) (if i / 8 < 2 * v ∨ (i / 8 < 2 * v + 2 ∧ i % 8 < 2 * 0) then 9 * (c + 1) else 9 * c))) 4 0 (a3, a4, a7) (by omega) (fun i hi => ?_) ?_ ?_
  · rw [if_neg (by omega)]
    exact h0 i hi
  · intro n s h
    refine pk_le 8 8 (fun _ => nm_r (nI_1 c) (H s.1 s.2.1 s.2.2 (fun i hi => ?_))) (fun z => absurd z (by omega))
    rw [h i hi, if_pos (by omega)]
  · intro n v s hv h hw
    exact pk_le 8 (2 * v) (fun z => absurd z (by omega)) (fun _ => cv_m24 hc hv hp hk bp bk hS h (fun s' p' q' h' => hw (s', p', q') h'))
theorem cv_tiles {post : St2 → Prop} {pn kn : Nat → Nat} (hp : ∀ k, k < 128 → a1 k = nI (pn k)) (hk : ∀ k, k < 18 → a2 k = nI (kn k)) (bp : ∀ k, pn k ≤ 20) (bk : ∀ k, kn k ≤ 9) (h3 : ∀ i, i < 64 → a3 i = 0)
    (H : ∀ s p4 p5 p6 p7, (∀ i, i < 64 → s i = nI (cv_sum (cv_f pn kn i) 18)) → post (f0, 1, f2, 8, a1, a2, s, p4, p5, p6, p7, a8, a9, a10, a11, a12, a13, a14)) : wpX_moveByTiles post (f0, 1, f2, 8, a1, a2, a3, a4, a5, a6, a7, a8, a9, a10, a11, a12, a13, a14) := by
  refine pk_loop (σ := (Nat → Int32) × (Nat → Int32) × (Nat → Int32) × (Nat → Int32) × (Nat → Int32)) (fun n c s => wX_moveByTiles_2 post n (nI c) f0 1 f2 8 a1 a2 s.1 s.2.1 s.2.2.1 s.2.2.2.1 s.2.2.2.2 a8 a9 a10 a11 a12 a13 a14) (fun c s => ∀ i, i < 64 → s.1 i = nI (cv_sum (cv_f pn kn i) (9 * c))) 2 0 (a3, a4, a5, a6, a7) (by omega) (fun i hi => ?_) ?_ ?_
  · show a3 i = nI 0
    exact h3 i hi
  · intro n s h
    exact pk_le 2 2 (fun _ => H s.1 s.2.1 s.2.2.1 s.2.2.2.1 s.2.2.2.2 h) (fun z => absurd z (by omega))
  · intro n c s hc h hw
    exact pk_le 2 c (fun z => absurd z (by omega)) (fun _ => cv_shapeK hc (fun p5 p6 hS => cv_m14 hc hp hk bp bk hS h (fun s' p' q' h' => hw (s', p', p5, p6, q') h')))
end
end
section
/-! one pixel, one number of the kernel: the results are D at place T -/
def cv_T (P K : Nat) : Nat := if K % 3 ≤ P % 8 + 1 ∧ P % 8 + 1 < K % 3 + 8 ∧ K / 3 ≤ P / 8 + 1 ∧ P / 8 + 1 < K / 3 + 8 then 8 * (P / 8 + 1 - K / 3) + (P % 8 + 1 - K % 3) else 64
theorem cv_T_iff {P K i : Nat} (hP : P < 64) (hK : K < 9) (hi : i < 64) : (i / 8 + K / 3 = P / 8 + 1 ∧ i % 8 + K % 3 = P % 8 + 1) ↔ i = cv_T P K := by
  unfold cv_T
  split <;> omega
theorem cv_law9 {P A K B i : Nat} (hP : P < 64) (hK : K < 9) (hi : i < 64) : cv_sum (cv_f (cv_one P A) (cv_one K B) i) 18 = cv_dl (cv_T P K) (A * B) i := by
  rw [cv_sum_one (k := K) (by omega) (fun j _ hn => ?_)]
  · unfold cv_f cv_pxl cv_dl
    rw [show cv_one K B K = B from if_pos rfl, show K / 9 = 0 by omega, show K % 9 = K by omega]
    by_cases e : i / 8 + K / 3 = P / 8 + 1 ∧ i % 8 + K % 3 = P % 8 + 1
    · rw [if_pos ((cv_T_iff hP hK hi).mp e)]
      unfold cv_pxn cv_one
      rw [if_pos (by omega), if_pos (by omega)]
    · rw [if_neg (fun z => e ((cv_T_iff hP hK hi).mpr z))]
      unfold cv_pxn cv_one
      split
      · rw [if_neg (by omega), Nat.zero_mul]
      · rw [Nat.zero_mul]
  · unfold cv_f
    rw [show cv_one K B j = 0 from if_neg hn, Nat.mul_zero]
theorem cv_lawT {P A K B i : Nat} (hP : P < 64) (hK : K < 9) (hD : A * B < 7681) (hi : i < 64) : cv_oT (cv_one P A) (cv_one K B) (i / 8) (i % 8) = cv_dl (cv_T P K) (A * B) i := by
  rw [cv_oT1 hP hK hD (by omega) (by omega)]
  exact cv_ifc (Iff.trans (by omega) (cv_T_iff hP hK hi))
theorem cv_sum_dl {T D : Nat} (h : T < 64) : cv_sum (cv_dl T D) 64 = D := by
  exact (cv_sum_one (f := cv_dl T D) h (fun i _ hn => if_neg hn)).trans (if_pos rfl)
theorem cv_sum_dl0 {D : Nat} : cv_sum (cv_dl 64 D) 64 = 0 := cv_sum_zero (fun i hi => if_neg (by omega))
section
variable {f0 f1 f2 f3 : Int32} {a1 a2 a3 a4 a5 a6 a7 a8 a9 a10 a11 a12 a13 a14 : Nat → Int32}
theorem cv_move {post : Int32 → St2 → Prop} {P A K B w : Nat} (hP : P < 64) (hA : A ≤ 20) (hK : K < 9) (hB : B ≤ 9) (hw : w < 4) (h1 : ∀ k, k < 128 → a1 k = nI (cv_one P A k)) (h2 : ∀ k, k < 18 → a2 k = nI (cv_one K B k)) (ht : ∀ i, i < 16 → a12 i = nI (cv_rt i)) (ht' : ∀ i, i < 16 → a13 i = nI (cv_bk i))
    (H : ∀ o p4 p5 p6 p7 p8 p9 p10 p11 p14, (∀ i, i < 64 → o i = nI (cv_dl (cv_T P K) (A * B) i)) → post 8 (1, 1, nI w, 8, a1, a2, o, p4, p5, p6, p7, p8, p9, p10, p11, a12, a13, p14)) : wpX_move post (1, 1, nI w, f3, a1, a2, a3, a4, a5, a6, a7, a8, a9, a10, a11, a12, a13, a14) := by
  have hD : A * B ≤ 20 * 9 := Nat.mul_le_mul hA hB
  unfold wpX_move
  dsimp only
  refine cv_width ?_
  refine pk_loop (fun n i s => wX_move_10 post 1 1 (nI w) 8 n (nI i) a1 a2 s a4 a5 a6 a7 a8 a9 a10 a11 a12 a13 a14) (fun i s => ∀ j, j < i → s j = 0) 64 0 a3 (by omega) cv_0 ?_ ?_
  · intro n s h
    have tiles : wpX_moveByTiles (fun u => match u with | (f0, f1, f2, f3, a1, a2, a3, a4, a5, a6, a7, a8, a9, a10, a11, a12, a13, a14) => post f3 (f0, f1, f2, f3, a1, a2, a3, a4, a5, a6, a7, a8, a9, a10, a11, a12, a13, a14)) (1, 1, nI w, 8, a1, a2, s, a4, a5, a6, a7, a8, a9, a10, a11, a12, a13, a14) :=
      cv_tiles h1 h2 (cv_one_le hA) (cv_one_le hB) h (fun o p4 p5 p6 p7 h' => H o p4 p5 p6 p7 a8 a9 a10 a11 a14 (fun i hi => (h' i hi).trans (congrArg nI (cv_law9 hP hK hi))))
    have trans : wpX_moveByTransforms (fun u => match u with | (f0, f1, f2, f3, a1, a2, a3, a4, a5, a6, a7, a8, a9, a10, a11, a12, a13, a14) => post f3 (f0, f1, f2, f3, a1, a2, a3, a4, a5, a6, a7, a8, a9, a10, a11, a12, a13, a14)) (1, 1, nI w, 8, a1, a2, s, a4, a5, a6, a7, a8, a9, a10, a11, a12, a13, a14) := by
      refine cv_transforms ht ht' h1 (fun k => Nat.lt_of_le_of_lt (cv_one_le hA k) (by decide)) h2 (fun k => Nat.lt_of_le_of_lt (cv_one_le hB k) (by decide)) (fun y hy x hx => ?_) (fun o p8 p9 p10 p11 h' => H o a4 a5 a6 a7 p8 p9 p10 p11 a14 (fun i hi => (h' i hi).trans (congrArg nI (cv_lawT hP hK (by omega) hi))))
      rw [cv_oT1 hP hK (by omega) hy hx]
      split <;> omega
    have wins : wpX_moveByWindows (fun u => match u with | (f0, f1, f2, f3, a1, a2, a3, a4, a5, a6, a7, a8, a9, a10, a11, a12, a13, a14) => post f3 (f0, f1, f2, f3, a1, a2, a3, a4, a5, a6, a7, a8, a9, a10, a11, a12, a13, a14)) (1, 1, nI w, 8, a1, a2, s, a4, a5, a6, a7, a8, a9, a10, a11, a12, a13, a14) :=
      cv_windows (px := cv_pxl (cv_one P A)) (kn := cv_one K B) (fun i hi j hj => cv_pixn h1 (by omega) _ _) h2 h (fun o p14 h' => H o a4 a5 a6 a7 a8 a9 a10 a11 p14 (fun i hi => (h' i hi).trans (congrArg nI (cv_law9 hP hK hi))))
    refine pk_le 64 64 (fun _ => ?_) (fun z => absurd z (by omega))
    refine pk_eq w 0 (fun z => br_t rfl (br_t rfl tiles)) (fun z => pk_eq w 1 (fun _ => br_t rfl tiles) (fun z1 => pk_eq w 2 (fun _ => trans) (fun _ => wins)))
  · intro n i s hi h hs
    exact pk_le 64 i (fun z => absurd z (by omega)) (fun _ => ⟨pk_in i 64 hi, nm_e (nm_r (nI_1 i) (hs _ (cv_fill (f := fun _ => 0) (nI_clamp (by omega)) h rfl)))⟩)
end
/-! the law -/
theorem cv_way' {post : Int32 → St2 → Prop} {f0 f1 f2 f3 : Int32} {a1 a2 a3 a4 a5 a6 a7 a8 a9 a10 a11 a12 a13 a14 : Nat → Int32} {p0 : Int32} {w : Nat} (e : p0 = nI w) (hw : w < 4) (H : post 0 (f0, f1, nI w, f3, a1, a2, a3, a4, a5, a6, a7, a8, a9, a10, a11, a12, a13, a14)) : wpX_way post (f0, f1, f2, f3, a1, a2, a3, a4, a5, a6, a7, a8, a9, a10, a11, a12, a13, a14) p0 := by
  subst e
  exact cv_way hw H
theorem cv_fin_out {post : Int32 → St0 → Prop} {mc ms kc ks : Nat} {x8 x9 x11 x12 : Int32} (H : post 1 ()) : wL_lawOf_174 post mc ms x8 x9 8 x11 x12 0 0 0 0 0 kc ks := by
  refine br_t rfl ?_
  refine br_t rfl (br_t rfl (br_t rfl (br_t (by decide) ?_)))
  refine br_t rfl (br_t (by decide) ?_)
  exact br_t rfl (br_t rfl H)
theorem cv_fin_in {post : Int32 → St0 → Prop} {mc ms kc ks A B X Y : Nat} (hD : A * B < 10000) (H : post 1 ()) : wL_lawOf_175 post mc ms (nI A) (nI B) 8 (nI X) (nI Y) (nI (A * B)) (nI (A * B)) (nI (if 0 < A * B then 8 * Y + X else 0)) (nI (if 0 < A * B then 1 else 0)) 0 1 kc ks := by
  refine br_f (by decide) ?_
  rw [pk_mul]
  refine br_t rfl (br_t rfl (br_t rfl (pk_le (A * B) 0 (fun z => ?_) (fun z => ?_))))
  · rw [if_neg (by omega), if_neg (by omega)]
    refine br_t rfl (pk_le (A * B) 0 (fun _ => ?_) (fun z => absurd z (by omega)))
    exact br_t rfl (br_t rfl H)
  · rw [if_pos z, if_pos z]
    refine br_t (cv_ix8 Y X).symm (pk_le (A * B) 0 (fun z => absurd z (by omega)) (fun _ => ?_))
    exact br_t rfl (br_t rfl H)
theorem cv_d1 {a b : Nat} (h : b ≤ a + 1) : nI a - nI b + 1 = nI (a + 1 - b) := by
  rw [← pk_sub h, ← nI_1]
  grind
theorem cv_d2 {a b : Nat} (hb : b ≤ 2) (h : ¬ b ≤ a + 1) : nI a - nI b + 1 < 0 := by
  rw [show a = 0 by omega, show b = 2 by omega]
  decide
theorem cv_lawOf {post : Int32 → St0 → Prop} (p0 p1 p2 p3 p4 : Int32) (H : post 1 ()) : wpL_lawOf post 15 2260 () p0 p1 p2 p3 p4 := by
  obtain ⟨P, hP, eP⟩ := pk_andE p0 (m := 63) 6 (by decide)
  obtain ⟨k, hk, ek⟩ := pk_andE p2 (m := 15) 4 (by decide)
  obtain ⟨v, hv, ev⟩ := pk_andE p1 (m := 31) 5 (by decide)
  obtain ⟨u, hu, eu⟩ := pk_andE p3 (m := 15) 4 (by decide)
  obtain ⟨w, hw, ew⟩ := pk_andE p4 (m := 3) 2 (by decide)
  have eK : (p2 &&& 15) - (p2 &&& 15) / 9 * 9 = nI (k % 9) := by
    rw [ek]
    exact pk_rem (by omega) (by decide) (by decide)
  have eA : (p1 &&& 31) - (p1 &&& 31) / 21 * 21 = nI (v % 21) := by
    rw [ev]
    exact pk_rem (by omega) (by decide) (by decide)
  have eB : (p3 &&& 15) - (p3 &&& 15) / 10 * 10 = nI (u % 10) := by
    rw [eu]
    exact pk_rem (by omega) (by decide) (by decide)
  have hK : k % 9 < 9 := by omega
  have hA : v % 21 ≤ 20 := by omega
  have hB : u % 10 ≤ 9 := by omega
  generalize k % 9 = K at *
  generalize v % 21 = A at *
  generalize u % 10 = B at *
  have hP : P < 64 := hP
  have hw : w < 4 := hw
  have hD : A * B ≤ 20 * 9 := Nat.mul_le_mul hA hB
  have ex : (nI P &&& 7) - (nI K - nI K / 3 * 3) + 1 = nI (P % 8) - nI (K % 3) + 1 := by
    rw [show nI P &&& 7 = nI (P % 8) from pk_andN (by omega) 3 (by decide), show nI K - nI K / 3 * 3 = nI (K % 3) from pk_rem (by omega) (by decide) (by decide)]
  have ey : (nI P >>> ((3 : Int32) &&& 31)) - nI K / 3 + 1 = nI (P / 8) - nI (K / 3) + 1 := by
    rw [show nI P >>> ((3 : Int32) &&& 31) = nI (P / 8) from pk_shrN (by omega) _ 3 (by decide), show nI K / 3 = nI (K / 3) from pk_div (by omega) (by decide) (by decide)]
  unfold wpL_lawOf
  refine ⟨by decide, by decide, 14, 2242, by decide, by decide, cv_init (fun r b hr hb => ?_)⟩
  refine nm_r eP ⟨by decide, nm_r eK ⟨by decide, nm_r eA ⟨by decide, nm_r eB ?_⟩⟩⟩
  refine cv_put (by omega) hA ?_
  refine cv_kernel (by omega) hB ?_
  refine cv_way' ew hw ?_
  refine cv_move hP hA hK hB hw (fun j _ => ?_) (fun j _ => ?_) hr hb (fun o p4 p5 p6 p7 p8 p9 p10 p11 p14 ho => ?_)
  · unfold cv_one upd
    split <;> rfl
  · unfold cv_one upd
    split <;> rfl
  refine And.intro (by decide) (nm_r ex ⟨by decide, nm_r ey ?_⟩)
  have h64 : ∀ j, j < 64 → upd (fun _ => (0 : Int32)) P (nI A) (64 + j) = 0 := fun j _ => pk_un (by omega)
  have hpos : ∀ i, i < 64 → 0 ≤ o i := fun i hi => by
    rw [ho i hi]
    refine nI_pos' ?_
    unfold cv_dl
    split <;> omega
  by_cases hin : K % 3 ≤ P % 8 + 1 ∧ P % 8 + 1 < K % 3 + 8 ∧ K / 3 ≤ P / 8 + 1 ∧ P / 8 + 1 < K / 3 + 8
  · have eT : cv_T P K = 8 * (P / 8 + 1 - K / 3) + (P % 8 + 1 - K % 3) := if_pos hin
    rw [cv_d1 hin.1, cv_d1 hin.2.2.1]
    generalize hX : P % 8 + 1 - K % 3 = X at *
    generalize hY : P / 8 + 1 - K / 3 = Y at *
    have hX8 : X < 8 := by omega
    have hY8 : Y < 8 := by omega
    rw [eT] at ho
    refine cv_result hX8 hY8 ?_
    rw [ho _ (by omega), show cv_dl (8 * Y + X) (A * B) (8 * Y + X) = A * B from if_pos rfl]
    refine cv_sumW ho ?_
    rw [cv_sum_dl (by omega)]
    refine cv_peak (by omega) ho ?_
    refine cv_take (by omega) ho h64 (fun a => ?_)
    refine cv_floor hpos ?_
    refine br_f (nI_pos (by omega)) (pk_le 8 X (fun z => absurd z (by omega)) (fun _ => br_f (nI_pos (by omega)) (pk_le 8 Y (fun z => absurd z (by omega)) (fun _ => ?_))))
    have e1 : cv_bp (8 * Y + X) (A * B) 64 = (if 0 < A * B then 8 * Y + X else 0) := cv_ifc (by omega)
    have e2 : cv_ch (8 * Y + X) (A * B) 64 = (if 0 < A * B then 1 else 0) := cv_ifc (by omega)
    rw [e1, e2]
    exact cv_fin_in (by omega) H
  · have eT : cv_T P K = 64 := if_neg hin
    rw [eT] at ho
    have hout : nI (P % 8) - nI (K % 3) + 1 < 0 ∨ 8 ≤ nI (P % 8) - nI (K % 3) + 1 ∨ nI (P / 8) - nI (K / 3) + 1 < 0 ∨ 8 ≤ nI (P / 8) - nI (K / 3) + 1 := by
      by_cases q1 : K % 3 ≤ P % 8 + 1
      · by_cases q2 : K / 3 ≤ P / 8 + 1
        · rw [cv_d1 q1, cv_d1 q2]
          by_cases q3 : P % 8 + 1 < K % 3 + 8
          · exact Or.inr (Or.inr (Or.inr (nI_le (a := 8) (by omega) (by omega))))
          · exact Or.inr (Or.inl (nI_le (a := 8) (by omega) (by omega)))
        · exact Or.inr (Or.inr (Or.inl (cv_d2 (by omega) q2)))
      · exact Or.inl (cv_d2 (by omega) q1)
    generalize nI (P % 8) - nI (K % 3) + 1 = xx at *
    generalize nI (P / 8) - nI (K / 3) + 1 = yy at *
    refine cv_result_out ?_ ?_
    · rcases hout with z | z | z | z
      · exact Or.inl z
      · exact Or.inr (Or.inl z)
      · exact Or.inr (Or.inr (Or.inl z))
      · exact Or.inr (Or.inr (Or.inr (Int32.not_lt.mpr z)))
    refine cv_sumW ho ?_
    rw [cv_sum_dl0]
    refine cv_peak (by omega) ho ?_
    refine cv_take (by omega) ho h64 (fun a => ?_)
    refine cv_floor hpos ?_
    have e1 : cv_bp 64 (A * B) 64 = 0 := if_neg (by omega)
    have e2 : cv_ch 64 (A * B) 64 = 0 := if_neg (by omega)
    rw [e1, e2]
    refine br_c (fun _ => cv_fin_out H) (fun n1 => br_c (fun _ => cv_fin_out H) (fun n2 => br_c (fun _ => cv_fin_out H) (fun n3 => br_c (fun _ => cv_fin_out H) (fun n4 => ?_))))
    rcases hout with z | z | z | z
    · exact absurd z n1
    · exact absurd z n2
    · exact absurd z n3
    · exact absurd z n4
theorem cv_cell {post : Int32 → Prop} {L : Nat} {xs : Nat → Int32} {p1 : Int32} (k : Nat) (e : p1 = nI k) (hk : k < 5) (hL : L ≤ 5) (H : ∀ v, post v) : wpL_cellAt post L xs () p1 :=
  pk_le L k (fun _ => H 0) (fun z => ⟨pk_in k L z e, H _⟩) rfl e
theorem i_vc (xs : Nat → Int32) (L : Nat) (hL : L ≤ 5) : wpL_law (fun r => r = 1) L xs :=
  cv_cell 0 rfl (by omega) hL (fun r1 => cv_cell 1 rfl (by omega) hL (fun r2 => cv_cell 2 rfl (by omega) hL (fun r3 => cv_cell 3 rfl (by omega) hL (fun r4 => cv_cell 4 rfl (by omega) hL (fun r5 => ⟨15, 2260, by decide, by decide, cv_lawOf r1 r2 r3 r4 r5 rfl⟩)))))
end
