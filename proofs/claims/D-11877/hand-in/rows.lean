section
/-! ===== pure rows: sums, bits, counters ===== -/
def sf_sm (f : Nat → Int32) : Nat → Int32
  | 0 => 0
  | n + 1 => sf_sm f n + f n
theorem sf_sm_congr {f g : Nat → Int32} : ∀ n, (∀ v, v < n → f v = g v) → sf_sm f n = sf_sm g n := by
  intro n
  induction n with
  | zero => intro _; rfl
  | succ n ih =>
    intro h
    show sf_sm f n + f n = sf_sm g n + g n
    rw [ih (fun v hv => h v (by omega)), h n (by omega)]
theorem sf_sm_zero {f : Nat → Int32} : ∀ n, (∀ v, v < n → f v = 0) → sf_sm f n = 0 := by
  intro n
  induction n with
  | zero => intro _; rfl
  | succ n ih =>
    intro h
    show sf_sm f n + f n = 0
    rw [ih (fun v hv => h v (by omega)), h n (by omega)]
    rfl
theorem sf_sm_add (f g : Nat → Int32) : ∀ n, sf_sm (fun v => f v + g v) n = sf_sm f n + sf_sm g n := by
  intro n
  induction n with
  | zero => rfl
  | succ n ih =>
    show sf_sm (fun v => f v + g v) n + (f n + g n) = (sf_sm f n + f n) + (sf_sm g n + g n)
    rw [ih]
    grind
theorem sf_sm_swap (f : Nat → Nat → Int32) (m : Nat) : ∀ n, sf_sm (fun i => sf_sm (fun j => f i j) m) n = sf_sm (fun j => sf_sm (fun i => f i j) n) m := by
  intro n
  induction n with
  | zero => exact (sf_sm_zero m (fun _ _ => rfl)).symm
  | succ n ih =>
    show sf_sm (fun i => sf_sm (fun j => f i j) m) n + sf_sm (fun j => f n j) m = sf_sm (fun j => sf_sm (fun i => f i j) n + f n j) m
    rw [sf_sm_add, ih]
theorem sf_sm_tail {f : Nat → Int32} (k : Nat) : ∀ n, k ≤ n → (∀ v, k ≤ v → v < n → f v = 0) → sf_sm f n = sf_sm f k := by
  intro n
  induction n with
  | zero => intro hk _; rw [show k = 0 by omega]
  | succ n ih =>
    intro hk h
    by_cases e : k = n + 1
    · rw [e]
    · show sf_sm f n + f n = sf_sm f k
      rw [ih (by omega) (fun v h1 h2 => h v h1 (by omega)), h n (by omega) (by omega)]
      grind
theorem sf_sm_pick {f : Nat → Int32} (i : Nat) : ∀ n, i < n → (∀ v, v < n → v ≠ i → f v = 0) → sf_sm f n = f i := by
  intro n
  induction n with
  | zero => intro hk _; exact absurd hk (by omega)
  | succ n ih =>
    intro hi h
    show sf_sm f n + f n = f i
    by_cases e : i = n
    · rw [sf_sm_zero n (fun v hv => h v (by omega) (by omega)), e]
      grind
    · rw [ih (by omega) (fun v h1 h2 => h v (by omega) h2), h n (by omega) (by omega)]
      grind
/-- one index takes a number -/
def sf_up (e : Nat → Nat) (p v : Nat) : Nat → Nat := fun q => if q = p then v else e q
theorem sf_up_s (e : Nat → Nat) (p v : Nat) : sf_up e p v p = v := by
  unfold sf_up
  rw [if_pos rfl]
theorem sf_up_n (e : Nat → Nat) {p q : Nat} (v : Nat) (h : q ≠ p) : sf_up e p v q = e q := by
  unfold sf_up
  rw [if_neg h]
theorem sf_up_c (e : Nat → Nat) {p q : Nat} (v w : Nat) (h : p ≠ q) : sf_up (sf_up e p v) q w = sf_up (sf_up e q w) p v := by
  funext x
  unfold sf_up
  by_cases h1 : x = q
  · rw [if_pos h1, if_neg (by omega), if_pos h1]
  · rw [if_neg h1]
    by_cases h2 : x = p
    · rw [if_pos h2, if_pos h2]
    · rw [if_neg h2, if_neg h2, if_neg h1]
/-- the iterated sum over a list of indices -/
def sf_is (sp : Nat → Nat) (g : (Nat → Nat) → Int32) : List Nat → (Nat → Nat) → Int32
  | [], e => g e
  | p :: ps, e => sf_sm (fun v => sf_is sp g ps (sf_up e p v)) (sp p)
theorem sf_is_perm (sp : Nat → Nat) (g : (Nat → Nat) → Int32) {l l' : List Nat} (h : l.Perm l') : l.Nodup → ∀ e, sf_is sp g l e = sf_is sp g l' e := by
  induction h with
  | nil => intro _ _; rfl
  | cons x _ ih =>
    intro hn e
    exact sf_sm_congr _ (fun v _ => ih (List.nodup_cons.mp hn).2 _)
  | swap x y l =>
    intro hn e
    have hxy : y ≠ x := fun z => (List.nodup_cons.mp hn).1 (by rw [z]; exact List.mem_cons_self)
    show sf_sm (fun v => sf_sm (fun w => sf_is sp g l (sf_up (sf_up e y v) x w)) (sp x)) (sp y) = sf_sm (fun v => sf_sm (fun w => sf_is sp g l (sf_up (sf_up e x v) y w)) (sp y)) (sp x)
    rw [sf_sm_swap (fun v w => sf_is sp g l (sf_up (sf_up e y v) x w))]
    refine sf_sm_congr _ (fun v _ => sf_sm_congr _ (fun w _ => ?_))
    show sf_is sp g l (sf_up (sf_up e y w) x v) = sf_is sp g l (sf_up (sf_up e x v) y w)
    rw [sf_up_c e w v hxy]
  | trans h1 _ ih1 ih2 =>
    intro hn e
    rw [ih1 hn e, ih2 (h1.nodup_iff.mp hn) e]
theorem sf_is_zero (sp : Nat → Nat) (g : (Nat → Nat) → Int32) : ∀ (l : List Nat) (e : Nat → Nat), (∀ e', (∀ q, q ∉ l → e' q = e q) → (∀ q, q ∈ l → e' q < sp q) → g e' = 0) → sf_is sp g l e = 0 := by
  intro l
  induction l with
  | nil => intro e h; exact h e (fun _ _ => rfl) (fun q hq => absurd hq (List.not_mem_nil))
  | cons p ps ih =>
    intro e h
    refine sf_sm_zero _ (fun v hv => ih _ (fun e' h1 h2 => ?_))
    by_cases hp : p ∈ ps
    · refine h e' (fun q hq => ?_) (fun q hq => ?_)
      · have hq1 : q ≠ p := fun z => hq (by rw [z]; exact List.mem_cons_self)
        have hq2 : q ∉ ps := fun z => hq (List.mem_cons_of_mem _ z)
        rw [h1 q hq2, sf_up_n _ _ hq1]
      · rcases List.mem_cons.mp hq with z | z
        · rw [z]; exact h2 p hp
        · exact h2 q z
    · refine h e' (fun q hq => ?_) (fun q hq => ?_)
      · have hq1 : q ≠ p := fun z => hq (by rw [z]; exact List.mem_cons_self)
        have hq2 : q ∉ ps := fun z => hq (List.mem_cons_of_mem _ z)
        rw [h1 q hq2, sf_up_n _ _ hq1]
      · rcases List.mem_cons.mp hq with z | z
        · rw [z, h1 p hp, sf_up_s]; exact hv
        · exact h2 q z
theorem sf_is_congr (sp : Nat → Nat) {g g' : (Nat → Nat) → Int32} (h : ∀ e, g e = g' e) (l : List Nat) (e : Nat → Nat) : sf_is sp g l e = sf_is sp g' l e := by
  rw [show g = g' from funext h]
/-! bits of sets below 64 -/
theorem sf_b_low : ∀ S, S < 64 → ∀ v, v < 6 → (((nI S >>> (nI v &&& 31)) &&& 1) = 1 ↔ S.testBit v = true) := by decide +kernel
theorem sf_b_or : ∀ S, S < 64 → ∀ v, v < 6 → (nI S ||| ((1 : Int32) <<< (nI v &&& 31))) = nI (S ||| 2 ^ v) ∧ S ||| 2 ^ v < 64 := by decide +kernel
theorem sf_b_mask : ∀ S, S < 64 → ∀ k, k < 7 → (nI S &&& (((1 : Int32) <<< (nI k &&& 31)) - 1)) = nI (S % 2 ^ k) ∧ S % 2 ^ k < 64 := by decide +kernel
theorem sf_b_oo : ∀ S, S < 64 → ∀ S', S' < 64 → (nI S ||| nI S') = nI (S ||| S') ∧ S ||| S' < 64 := by decide +kernel
theorem sf_b_aa : ∀ S, S < 64 → ∀ S', S' < 64 → (nI S &&& nI S') = nI (S &&& S') ∧ S &&& S' < 64 := by decide +kernel
def sf_lo (S : Nat) : Nat → Nat → Nat
  | 0, v => v
  | k + 1, v => sf_lo S k (if S.testBit k = true then k else v)
theorem sf_b_lo : ∀ S, S < 64 → S ≠ 0 → sf_lo S 6 0 < 6 ∧ S.testBit (sf_lo S 6 0) = true ∧ (nI S &&& (((1 : Int32) <<< (nI (sf_lo S 6 0) &&& 31)) ^^^ (-1))) = nI (S - 2 ^ sf_lo S 6 0) ∧ S - 2 ^ sf_lo S 6 0 < S ∧ ∀ w, w < 6 → (S - 2 ^ sf_lo S 6 0).testBit w = (S.testBit w && !(w == sf_lo S 6 0)) := by decide +kernel
/-- the sum over a set -/
def sf_ss (S : Nat) (f : Nat → Int32) : Int32 := sf_sm (fun v => if S.testBit v = true then f v else 0) 6
theorem sf_ss_0 (f : Nat → Int32) : sf_ss 0 f = 0 := sf_sm_zero 6 (fun v _ => by simp)
theorem sf_ss_lo {S S' v : Nat} (f : Nat → Int32) (hv : v < 6) (h1 : S.testBit v = true) (h2 : ∀ w, w < 6 → S'.testBit w = (S.testBit w && !(w == v))) : sf_ss S f = f v + sf_ss S' f := by
  have e : sf_ss S f = sf_sm (fun w => (if w = v then f v else 0) + (if S'.testBit w = true then f w else 0)) 6 := by
    refine sf_sm_congr 6 (fun w hw => ?_)
    show (if S.testBit w = true then f w else 0) = (if w = v then f v else 0) + (if S'.testBit w = true then f w else 0)
    rw [h2 w hw]
    by_cases hwv : w = v
    · rw [hwv, h1]
      simp
    · rw [if_neg hwv]
      cases S.testBit w <;> simp [hwv]
  rw [e, sf_sm_add (fun w => if w = v then f v else 0)]
  rw [sf_sm_pick (f := fun w => if w = v then f v else 0) v 6 hv (fun w _ hw => if_neg hw)]
  show (if v = v then f v else 0) + sf_ss S' f = f v + sf_ss S' f
  rw [if_pos rfl]
theorem sf_ss_all {S k : Nat} {f : Nat → Int32} (hk : k ≤ 6) (h : ∀ v, v < k → S.testBit v = false → f v = 0) : sf_ss (S % 2 ^ k) f = sf_sm f k := by
  unfold sf_ss
  rw [sf_sm_tail k 6 hk (fun v h1 _ => by rw [Nat.testBit_mod_two_pow, decide_eq_false (by omega)]; simp)]
  refine sf_sm_congr k (fun v hv => ?_)
  show (if (S % 2 ^ k).testBit v = true then f v else 0) = f v
  rw [Nat.testBit_mod_two_pow, decide_eq_true hv]
  by_cases e : S.testBit v = true
  · rw [e]; simp
  · have e' : S.testBit v = false := by revert e; cases S.testBit v <;> simp
    rw [e', h v hv e']; simp
/-! counters -/
def sf_ct (g : Nat → Int32) : Nat → Nat
  | 0 => 0
  | n + 1 => sf_ct g n + (if g n = 0 then 0 else 1)
theorem sf_ct_congr {f g : Nat → Int32} : ∀ n, (∀ v, v < n → f v = g v) → sf_ct f n = sf_ct g n := by
  intro n
  induction n with
  | zero => intro _; rfl
  | succ n ih =>
    intro h
    show sf_ct f n + (if f n = 0 then 0 else 1) = sf_ct g n + (if g n = 0 then 0 else 1)
    rw [ih (fun v hv => h v (by omega)), h n (by omega)]
theorem sf_ct_le (g : Nat → Int32) : ∀ n, sf_ct g n ≤ n := by
  intro n
  induction n with
  | zero => exact Nat.le_refl 0
  | succ n ih =>
    show sf_ct g n + (if g n = 0 then 0 else 1) ≤ n + 1
    split <;> omega
/-! index arithmetic -/
theorem sf_i (c : Nat) {x y : Int32} {a b : Nat} (hc : x = nI c) (ha : y = nI a) (z : Int32) (hz : z = nI b) : x * y + z = nI (c * a + b) := by
  rw [hc, ha, hz, pk_mul, nI_add]
theorem sf_i6 (a b : Nat) : 6 * nI a + nI b = nI (6 * a + b) := sf_i 6 rfl rfl _ rfl
theorem sf_i7 (a b : Nat) : 7 * nI a + nI b = nI (7 * a + b) := sf_i 7 rfl rfl _ rfl
theorem sf_i36 (a b : Nat) : 36 * nI a + nI b = nI (36 * a + b) := sf_i 36 rfl rfl _ rfl
theorem sf_m6 (a : Nat) : 6 * nI a = nI (6 * a) := by
  rw [show (6 : Int32) = nI 6 from rfl, pk_mul]
theorem sf_p6 (a : Nat) : 6 + nI a = nI (6 + a) := by
  rw [show (6 : Int32) = nI 6 from rfl, nI_add]
theorem sf_m1 {n : Nat} (h : n < 2 ^ 31) : ¬ nI n = -1 := by
  intro e
  have e2 := nI_toInt h
  rw [e] at e2
  have e3 : (-1 : Int32).toInt = -1 := by decide
  omega
theorem sf_v {n N : Nat} (h : n < N) (hN : N < 2 ^ 31 := by omega) : vp_in (nI n) N := vp_in_nI h hN
end
section
/-! ===== the picture of a slot ===== -/
def sf_lc (R n m f : Nat) : Nat := if R < 2 then 1 else if 4 ≤ f then m else n
def sf_ll (R n m f : Nat) : Nat := if R < 2 then n else if 4 ≤ f then n else m
def sf_ix (R f l p : Nat) : Nat := if R < 2 then 6 * p else if 4 ≤ f then 6 * p + l else 6 * l + p
def sf_dm (R n m f : Nat) : Prop := 1 ≤ n ∧ n ≤ 6 ∧ 1 ≤ m ∧ m ≤ 6 ∧ ((R = 0 ∧ n = 1 ∧ m = 1 ∧ f = 0) ∨ (R = 1 ∧ m = 1 ∧ f ≤ 1) ∨ (R = 2 ∧ f ≤ 7))
def sf_Z (n m : Nat) (T : Nat → Int32) : Prop := ∀ x, x < 36 → ¬ (x / 6 < n ∧ x % 6 < m) → T x = 0
def sf_sl (R f : Nat) : Bool := decide (R = 2) && decide (f / 2 % 2 = 1)
def sf_sp (R f : Nat) : Bool := decide (0 < R) && decide (f % 2 = 1)
/-- how many places of a line below k are listed, and how many of its numbers are other than 0 -/
def sf_wp (R f : Nat) (T : Nat → Int32) (l : Nat) : Nat → Nat
  | 0 => 0
  | p + 1 => sf_wp R f T l p + (if T (sf_ix R f l p) = 0 ∧ sf_sp R f = true then 0 else 1)
def sf_zp (R f : Nat) (T : Nat → Int32) (l : Nat) : Nat → Nat
  | 0 => 0
  | p + 1 => sf_zp R f T l p + (if T (sf_ix R f l p) = 0 then 0 else 1)
def sf_wl (R f L : Nat) (T : Nat → Int32) : Nat → Nat
  | 0 => 0
  | l + 1 => sf_wl R f L T l + (if sf_sl R f = true ∧ sf_zp R f T l L = 0 then 0 else sf_wp R f T l L)
def sf_zl (R f L : Nat) (T : Nat → Int32) : Nat → Nat
  | 0 => 0
  | l + 1 => sf_zl R f L T l + (if sf_sl R f = true ∧ sf_zp R f T l L = 0 then 0 else sf_zp R f T l L)
/-- the room and the count of what is packed -/
def sf_W (R n m f : Nat) (T : Nat → Int32) : Nat := sf_wl R f (sf_ll R n m f) T (sf_lc R n m f)
def sf_N (R n m f : Nat) (T : Nat → Int32) : Nat := sf_zl R f (sf_ll R n m f) T (sf_lc R n m f)
/-- the heading of a slot -/
def sf_hd (a1 a2 a3 a4 : Nat → Int32) (s R n m f : Nat) : Prop := s < 13 ∧ a1 s = nI R ∧ a2 s = nI n ∧ a3 s = nI m ∧ a4 s = nI f ∧ sf_dm R n m f
/-- the places below q of a line that are listed at b .. e-1 -/
def sf_sg (a8 a9 : Nat → Int32) (s : Nat) (V : Nat → Int32) (q b e : Nat) : Prop := b ≤ e ∧ e ≤ b + q ∧ ∃ PA : Nat → Nat, (∀ x, b ≤ x → x < e → a8 (36 * s + x) = nI (PA x) ∧ PA x < q ∧ a9 (36 * s + x) = V (PA x)) ∧ (∀ x y, b ≤ x → x < y → y < e → PA x < PA y) ∧ (∀ p, p < q → V p ≠ 0 → ∃ x, b ≤ x ∧ x < e ∧ PA x = p)
/-- the lines below i that are listed: K of them, w places, z numbers other than 0 -/
def sf_ps (a6 a7 a8 a9 : Nat → Int32) (s R f L : Nat) (T : Nat → Int32) (i K w z : Nat) : Prop := K ≤ i ∧ (sf_sl R f = false → K = i) ∧ ∃ LA LB : Nat → Nat, LB 0 = 0 ∧ LB K = w ∧ (∀ k, k ≤ K → LB k ≤ 6 * k) ∧ (∀ k, k < K → a6 (6 * s + k) = nI (LA k) ∧ LA k < i ∧ a7 (7 * s + k) = nI (LB k) ∧ sf_sg a8 a9 s (fun p => T (sf_ix R f (LA k) p)) L (LB k) (LB (k + 1))) ∧ (∀ j k, j < k → k < K → LA j < LA k) ∧ (∀ l, l < i → (∃ k, k < K ∧ LA k = l) ∨ ∀ p, p < L → T (sf_ix R f l p) = 0) ∧ sf_ct (fun e => a9 (36 * s + e)) w = z
def sf_slot (a1 a2 a3 a4 a5 a6 a7 a8 a9 : Nat → Int32) (s R n m f : Nat) (T : Nat → Int32) (w z : Nat) : Prop := sf_hd a1 a2 a3 a4 s R n m f ∧ sf_Z n m T ∧ ∃ K, a5 s = nI K ∧ a7 (7 * s + K) = nI w ∧ sf_ps a6 a7 a8 a9 s R f (sf_ll R n m f) T (sf_lc R n m f) K w z
/-- all other slots are as they were -/
def sf_fr (s : Nat) (a1 a2 a3 a4 a5 a6 a7 a8 a9 b1 b2 b3 b4 b5 b6 b7 b8 b9 : Nat → Int32) : Prop := ∀ t, t ≠ s → b1 t = a1 t ∧ b2 t = a2 t ∧ b3 t = a3 t ∧ b4 t = a4 t ∧ b5 t = a5 t ∧ (∀ k, k < 6 → b6 (6 * t + k) = a6 (6 * t + k)) ∧ (∀ k, k < 7 → b7 (7 * t + k) = a7 (7 * t + k)) ∧ (∀ k, k < 36 → b8 (36 * t + k) = a8 (36 * t + k)) ∧ (∀ k, k < 36 → b9 (36 * t + k) = a9 (36 * t + k))
def sf_kp (s : Nat) (a1 a2 a3 a4 a5 a6 a7 a8 a9 b1 b2 b3 b4 b5 b6 b7 b8 b9 : Nat → Int32) : Prop := ∀ t R n m f T w z, t ≠ s → sf_slot a1 a2 a3 a4 a5 a6 a7 a8 a9 t R n m f T w z → sf_slot b1 b2 b3 b4 b5 b6 b7 b8 b9 t R n m f T w z
theorem sf_dm_b {R n m f : Nat} (h : sf_dm R n m f) : R ≤ 2 ∧ f ≤ 7 ∧ sf_lc R n m f ≤ 6 ∧ 1 ≤ sf_lc R n m f ∧ sf_ll R n m f ≤ 6 ∧ 1 ≤ sf_ll R n m f ∧ ∀ l p, l < sf_lc R n m f → p < sf_ll R n m f → sf_ix R f l p < 36 ∧ sf_ix R f l p / 6 < n ∧ sf_ix R f l p % 6 < m := by
  obtain ⟨h1, h2, h3, h4, h5⟩ := h
  unfold sf_lc sf_ll sf_ix
  refine ⟨by omega, by omega, ?_⟩
  by_cases hR : R < 2
  · simp only [if_pos hR]
    refine ⟨by omega, by omega, by omega, by omega, fun l p hl hp => ?_⟩
    omega
  · by_cases hf : 4 ≤ f
    · simp only [if_neg hR, if_pos hf]
      refine ⟨by omega, by omega, by omega, by omega, fun l p hl hp => ?_⟩
      omega
    · simp only [if_neg hR, if_neg hf]
      refine ⟨by omega, by omega, by omega, by omega, fun l p hl hp => ?_⟩
      omega
theorem sf_ix_inj {R n m f : Nat} (h : sf_dm R n m f) {l p l' p' : Nat} (hl : l < sf_lc R n m f) (hp : p < sf_ll R n m f) (hl' : l' < sf_lc R n m f) (hp' : p' < sf_ll R n m f) (e : sf_ix R f l p = sf_ix R f l' p') : l = l' ∧ p = p' := by
  obtain ⟨h1, h2, h3, h4, h5⟩ := h
  unfold sf_lc at hl hl'
  unfold sf_ll at hp hp'
  unfold sf_ix at e
  by_cases hR : R < 2
  · simp only [if_pos hR] at *
    omega
  · by_cases hf : 4 ≤ f
    · simp only [if_neg hR, if_pos hf] at *
      omega
    · simp only [if_neg hR, if_neg hf] at *
      omega
theorem sf_ix_sur {R n m f : Nat} (h : sf_dm R n m f) {x : Nat} (hx : x < 36) (h1 : x / 6 < n) (h2 : x % 6 < m) : ∃ l p, l < sf_lc R n m f ∧ p < sf_ll R n m f ∧ sf_ix R f l p = x := by
  obtain ⟨g1, g2, g3, g4, g5⟩ := h
  unfold sf_lc sf_ll sf_ix
  by_cases hR : R < 2
  · simp only [if_pos hR]
    exact ⟨0, x / 6, by omega, by omega, by omega⟩
  · by_cases hf : 4 ≤ f
    · simp only [if_neg hR, if_pos hf]
      exact ⟨x % 6, x / 6, by omega, by omega, by omega⟩
    · simp only [if_neg hR, if_neg hf]
      exact ⟨x / 6, x % 6, by omega, by omega, by omega⟩
theorem sf_sg_keep {a8 a9 b8 b9 : Nat → Int32} {s q b e : Nat} {V : Nat → Int32} (h : sf_sg a8 a9 s V q b e) (k8 : ∀ x, x < e → b8 (36 * s + x) = a8 (36 * s + x)) (k9 : ∀ x, x < e → b9 (36 * s + x) = a9 (36 * s + x)) : sf_sg b8 b9 s V q b e := by
  obtain ⟨h1, h2, PA, h3, h4, h5⟩ := h
  exact ⟨h1, h2, PA, fun x hx hx' => by rw [k8 x hx', k9 x hx']; exact h3 x hx hx', h4, h5⟩
theorem sf_ps_LB {a6 a7 a8 a9 : Nat → Int32} {s R f L : Nat} {T : Nat → Int32} {i K : Nat} {LA LB : Nat → Nat} (h : ∀ k, k < K → a6 (6 * s + k) = nI (LA k) ∧ LA k < i ∧ a7 (7 * s + k) = nI (LB k) ∧ sf_sg a8 a9 s (fun p => T (sf_ix R f (LA k) p)) L (LB k) (LB (k + 1))) : ∀ j k, j ≤ k → k ≤ K → LB j ≤ LB k := by
  intro j k
  induction k with
  | zero => intro h1 _; rw [show j = 0 by omega]; exact Nat.le_refl _
  | succ k ih =>
    intro h1 h2
    by_cases e : j = k + 1
    · rw [e]; exact Nat.le_refl _
    · exact Nat.le_trans (ih (by omega) (by omega)) (h k (by omega)).2.2.2.1
theorem sf_ps_keep {a6 a7 a8 a9 b6 b7 b8 b9 : Nat → Int32} {s R f L : Nat} {T : Nat → Int32} {i K w z : Nat} (h : sf_ps a6 a7 a8 a9 s R f L T i K w z) (k6 : ∀ x, x < K → b6 (6 * s + x) = a6 (6 * s + x)) (k7 : ∀ x, x < K → b7 (7 * s + x) = a7 (7 * s + x)) (k8 : ∀ x, x < w → b8 (36 * s + x) = a8 (36 * s + x)) (k9 : ∀ x, x < w → b9 (36 * s + x) = a9 (36 * s + x)) : sf_ps b6 b7 b8 b9 s R f L T i K w z := by
  obtain ⟨h1, h1b, LA, LB, h2, h3, h4, h5, h6, h7, h8⟩ := h
  have M := sf_ps_LB h5
  refine ⟨h1, h1b, LA, LB, h2, h3, h4, fun k hk => ?_, h6, h7, ?_⟩
  · obtain ⟨g1, g2, g3, g4⟩ := h5 k hk
    have m1 := M (k + 1) K (by omega) (by omega)
    exact ⟨by rw [k6 k hk]; exact g1, g2, by rw [k7 k hk]; exact g3, sf_sg_keep g4 (fun x hx => k8 x (by omega)) (fun x hx => k9 x (by omega))⟩
  · rw [← h8]
    exact sf_ct_congr w (fun x hx => k9 x hx)
theorem sf_ps_w {a6 a7 a8 a9 : Nat → Int32} {s R f L : Nat} {T : Nat → Int32} {i K w z : Nat} (h : sf_ps a6 a7 a8 a9 s R f L T i K w z) : K ≤ i ∧ w ≤ 6 * K := by
  obtain ⟨h1, h1b, LA, LB, h2, h3, h4, h5, h6, h7, h8⟩ := h
  have := h4 K (Nat.le_refl _)
  exact ⟨h1, by omega⟩
theorem sf_slot_fr {s t R n m f w z : Nat} {T : Nat → Int32} {a1 a2 a3 a4 a5 a6 a7 a8 a9 b1 b2 b3 b4 b5 b6 b7 b8 b9 : Nat → Int32} (hf : sf_fr s a1 a2 a3 a4 a5 a6 a7 a8 a9 b1 b2 b3 b4 b5 b6 b7 b8 b9) (ht : t ≠ s) (h : sf_slot a1 a2 a3 a4 a5 a6 a7 a8 a9 t R n m f T w z) : sf_slot b1 b2 b3 b4 b5 b6 b7 b8 b9 t R n m f T w z := by
  obtain ⟨⟨g0, g1, g2, g3, g4, g5⟩, hz, K, hK, hw, hps⟩ := h
  obtain ⟨f1, f2, f3, f4, f5, f6, f7, f8, f9⟩ := hf t ht
  have B := sf_dm_b g5
  have W := sf_ps_w hps
  refine ⟨⟨g0, by rw [f1]; exact g1, by rw [f2]; exact g2, by rw [f3]; exact g3, by rw [f4]; exact g4, g5⟩, hz, K, by rw [f5]; exact hK, by rw [f7 K (by omega)]; exact hw, ?_⟩
  exact sf_ps_keep hps (fun x hx => f6 x (by omega)) (fun x hx => f7 x (by omega)) (fun x hx => f8 x (by omega)) (fun x hx => f9 x (by omega))
theorem sf_kp_fr {s : Nat} {a1 a2 a3 a4 a5 a6 a7 a8 a9 b1 b2 b3 b4 b5 b6 b7 b8 b9 : Nat → Int32} (hf : sf_fr s a1 a2 a3 a4 a5 a6 a7 a8 a9 b1 b2 b3 b4 b5 b6 b7 b8 b9) : sf_kp s a1 a2 a3 a4 a5 a6 a7 a8 a9 b1 b2 b3 b4 b5 b6 b7 b8 b9 :=
  fun _ _ _ _ _ _ _ _ ht h => sf_slot_fr hf ht h
end
section
/-! ===== walks: small helpers, clearPlain, packLine, lineFilled, pack ===== -/
theorem sf_isTurned {post : Int32 → Prop} {fp fa fh fl : Int32} {a1 a2 a3 a4 a5 a6 a7 a8 a9 a10 a11 a12 a13 a14 a15 a16 a17 a18 a19 a20 a21 a22 a23 a24 a25 a26 a27 a28 : Nat → Int32} {s R f : Nat} (hs : s < 13) (h1 : a1 s = nI R) (h4 : a4 s = nI f) (hR : R ≤ 2) (hf : f ≤ 7) (hp0 : ¬ (R = 2 ∧ 4 ≤ f) → post 0) (hp1 : R = 2 ∧ 4 ≤ f → post 1) : wpX_isTurned post (fp, fa, fh, fl, a1, a2, a3, a4, a5, a6, a7, a8, a9, a10, a11, a12, a13, a14, a15, a16, a17, a18, a19, a20, a21, a22, a23, a24, a25, a26, a27, a28) (nI s) := by
  unfold wpX_isTurned
  try dsimp only
  rw [nI_clamp (show s < 2 ^ 31 by omega), h1, h4]
  exact ⟨pk_in s 13 hs, pk_eq R 2 (fun e => ⟨pk_in s 13 hs, pk_lt f 4 (fun z => hp0 (by omega)) (fun z => hp1 ⟨e, z⟩)⟩) (fun e => hp0 (by omega))⟩
theorem sf_lineCount {post : Int32 → Prop} {fp fa fh fl : Int32} {a1 a2 a3 a4 a5 a6 a7 a8 a9 a10 a11 a12 a13 a14 a15 a16 a17 a18 a19 a20 a21 a22 a23 a24 a25 a26 a27 a28 : Nat → Int32} {s R n m f : Nat} (h : sf_hd a1 a2 a3 a4 s R n m f) (hp : post (nI (sf_lc R n m f))) : wpX_lineCount post (fp, fa, fh, fl, a1, a2, a3, a4, a5, a6, a7, a8, a9, a10, a11, a12, a13, a14, a15, a16, a17, a18, a19, a20, a21, a22, a23, a24, a25, a26, a27, a28) (nI s) := by
  obtain ⟨hs, h1, h2, h3, h4, hd⟩ := h
  have B := sf_dm_b hd
  unfold wpX_lineCount
  try dsimp only
  rw [nI_clamp (show s < 2 ^ 31 by omega), h1, h2, h3]
  unfold sf_lc at hp
  refine ⟨pk_in s 13 hs, pk_le 2 R (fun z => ?_) (fun z => ?_)⟩
  · rw [if_neg (by omega)] at hp
    refine sf_isTurned hs h1 h4 (by omega) (by omega) (fun t => ?_) (fun t => ?_)
    · rw [if_neg (by omega)] at hp
      exact br_t rfl ⟨pk_in s 13 hs, hp⟩
    · rw [if_pos t.2] at hp
      exact br_f (by decide) ⟨pk_in s 13 hs, hp⟩
  · rw [if_pos z] at hp
    exact hp
theorem sf_lineLength {post : Int32 → Prop} {fp fa fh fl : Int32} {a1 a2 a3 a4 a5 a6 a7 a8 a9 a10 a11 a12 a13 a14 a15 a16 a17 a18 a19 a20 a21 a22 a23 a24 a25 a26 a27 a28 : Nat → Int32} {s R n m f : Nat} (h : sf_hd a1 a2 a3 a4 s R n m f) (hp : post (nI (sf_ll R n m f))) : wpX_lineLength post (fp, fa, fh, fl, a1, a2, a3, a4, a5, a6, a7, a8, a9, a10, a11, a12, a13, a14, a15, a16, a17, a18, a19, a20, a21, a22, a23, a24, a25, a26, a27, a28) (nI s) := by
  obtain ⟨hs, h1, h2, h3, h4, hd⟩ := h
  have B := sf_dm_b hd
  unfold wpX_lineLength
  try dsimp only
  rw [nI_clamp (show s < 2 ^ 31 by omega), h1, h2, h3]
  unfold sf_ll at hp
  refine ⟨pk_in s 13 hs, pk_le 2 R (fun z => ?_) (fun z => ?_)⟩
  · rw [if_neg (by omega)] at hp
    refine sf_isTurned hs h1 h4 (by omega) (by omega) (fun t => ?_) (fun t => ?_)
    · rw [if_neg (by omega)] at hp
      exact br_t rfl ⟨pk_in s 13 hs, hp⟩
    · rw [if_pos t.2] at hp
      exact br_f (by decide) ⟨pk_in s 13 hs, hp⟩
  · rw [if_pos z] at hp
    exact ⟨pk_in s 13 hs, hp⟩
theorem sf_f2 : ∀ f, f < 8 → (nI f &&& 2 = 0 ↔ f / 2 % 2 ≠ 1) := by decide +kernel
theorem sf_f1 : ∀ f, f < 8 → (nI f &&& 1 = 0 ↔ f % 2 ≠ 1) := by decide +kernel
/-- a truth as an int -/
def sf_b (b : Bool) : Int32 := if b = true then 1 else 0
theorem sf_skipsLines {post : Int32 → Prop} {fp fa fh fl : Int32} {a1 a2 a3 a4 a5 a6 a7 a8 a9 a10 a11 a12 a13 a14 a15 a16 a17 a18 a19 a20 a21 a22 a23 a24 a25 a26 a27 a28 : Nat → Int32} {s R n m f : Nat} (h : sf_hd a1 a2 a3 a4 s R n m f) (hp : post (sf_b (sf_sl R f))) : wpX_skipsLines post (fp, fa, fh, fl, a1, a2, a3, a4, a5, a6, a7, a8, a9, a10, a11, a12, a13, a14, a15, a16, a17, a18, a19, a20, a21, a22, a23, a24, a25, a26, a27, a28) (nI s) := by
  obtain ⟨hs, h1, h2, h3, h4, hd⟩ := h
  have B := sf_dm_b hd
  unfold wpX_skipsLines
  try dsimp only
  rw [nI_clamp (show s < 2 ^ 31 by omega), h1, h4]
  unfold sf_sl at hp
  refine ⟨pk_in s 13 hs, pk_eq R 2 (fun z => ⟨pk_in s 13 hs, ek_if (sf_f2 f (by omega)) (fun z2 => ?_) (fun z2 => ?_)⟩) (fun z => ?_)⟩
  · rw [decide_eq_true z, decide_eq_false z2] at hp
    exact hp
  · rw [decide_eq_true z, decide_eq_true (by omega)] at hp
    exact hp
  · rw [decide_eq_false z] at hp
    exact hp
theorem sf_skipsPlaces {post : Int32 → Prop} {fp fa fh fl : Int32} {a1 a2 a3 a4 a5 a6 a7 a8 a9 a10 a11 a12 a13 a14 a15 a16 a17 a18 a19 a20 a21 a22 a23 a24 a25 a26 a27 a28 : Nat → Int32} {s R n m f : Nat} (h : sf_hd a1 a2 a3 a4 s R n m f) (hp : post (sf_b (sf_sp R f))) : wpX_skipsPlaces post (fp, fa, fh, fl, a1, a2, a3, a4, a5, a6, a7, a8, a9, a10, a11, a12, a13, a14, a15, a16, a17, a18, a19, a20, a21, a22, a23, a24, a25, a26, a27, a28) (nI s) := by
  obtain ⟨hs, h1, h2, h3, h4, hd⟩ := h
  have B := sf_dm_b hd
  unfold wpX_skipsPlaces
  try dsimp only
  rw [nI_clamp (show s < 2 ^ 31 by omega), h1, h4]
  unfold sf_sp at hp
  refine ⟨pk_in s 13 hs, pk_le R 0 (fun z => ?_) (fun z => ⟨pk_in s 13 hs, ek_if (sf_f1 f (by omega)) (fun z2 => ?_) (fun z2 => ?_)⟩)⟩
  · rw [decide_eq_false (by omega)] at hp
    exact hp
  · rw [decide_eq_true z, decide_eq_false z2] at hp
    exact hp
  · rw [decide_eq_true z, decide_eq_true (by omega)] at hp
    exact hp
theorem sf_plainAt {post : Int32 → Prop} {fp fa fh fl : Int32} {a1 a2 a3 a4 a5 a6 a7 a8 a9 a10 a11 a12 a13 a14 a15 a16 a17 a18 a19 a20 a21 a22 a23 a24 a25 a26 a27 a28 : Nat → Int32} {s R n m f l p : Nat} (h : sf_hd a1 a2 a3 a4 s R n m f) (hl : l < sf_lc R n m f) (hq : p < sf_ll R n m f) (hp : post (a18 (sf_ix R f l p))) : wpX_plainAt post (fp, fa, fh, fl, a1, a2, a3, a4, a5, a6, a7, a8, a9, a10, a11, a12, a13, a14, a15, a16, a17, a18, a19, a20, a21, a22, a23, a24, a25, a26, a27, a28) (nI s) (nI l) (nI p) := by
  obtain ⟨hs, h1, h2, h3, h4, hd⟩ := h
  have B := sf_dm_b hd
  have X := (B.2.2.2.2.2.2 l p hl hq).1
  unfold wpX_plainAt
  try dsimp only
  rw [nI_clamp (show s < 2 ^ 31 by omega), h1]
  unfold sf_ix at hp X
  refine ⟨pk_in s 13 hs, pk_le 2 R (fun z => ?_) (fun z => ?_)⟩
  · rw [if_neg (by omega)] at hp X
    refine sf_isTurned hs h1 h4 (by omega) (by omega) (fun t => ?_) (fun t => ?_)
    · rw [if_neg (by omega)] at hp X
      refine br_t rfl ?_
      rw [sf_i6, nI_clamp (by omega)]
      exact ⟨sf_v X, hp⟩
    · rw [if_pos t.2] at hp X
      refine br_f (by decide) ?_
      rw [sf_i6, nI_clamp (by omega)]
      exact ⟨sf_v X, hp⟩
  · rw [if_pos z] at hp X
    rw [sf_m6, nI_clamp (by omega)]
    exact ⟨sf_v X, hp⟩
theorem sf_clearPlain {post : St2 → Prop} {fp fa fh fl : Int32} {a1 a2 a3 a4 a5 a6 a7 a8 a9 a10 a11 a12 a13 a14 a15 a16 a17 a18 a19 a20 a21 a22 a23 a24 a25 a26 a27 a28 : Nat → Int32} (hp : ∀ b18 : Nat → Int32, (∀ x, x < 36 → b18 x = 0) → post (fp, fa, fh, fl, a1, a2, a3, a4, a5, a6, a7, a8, a9, a10, a11, a12, a13, a14, a15, a16, a17, b18, a19, a20, a21, a22, a23, a24, a25, a26, a27, a28)) : wpX_clearPlain post (fp, fa, fh, fl, a1, a2, a3, a4, a5, a6, a7, a8, a9, a10, a11, a12, a13, a14, a15, a16, a17, a18, a19, a20, a21, a22, a23, a24, a25, a26, a27, a28) := by
  unfold wpX_clearPlain
  try dsimp only
  refine pk_loop (fun n i s => wX_clearPlain_2 post fp fa fh fl n (nI i) a1 a2 a3 a4 a5 a6 a7 a8 a9 a10 a11 a12 a13 a14 a15 a16 a17 s a19 a20 a21 a22 a23 a24 a25 a26 a27 a28) (fun i s => ∀ x, x < i → s x = 0) 36 0 a18 (by omega) (fun j hj => absurd hj (by omega)) (fun n s h => ?_) (fun n i s hi h hw => ?_)
  · exact pk_le 36 36 (fun _ => hp s h) (fun z => absurd z (by omega))
  · refine pk_le 36 i (fun z => absurd z (by omega)) (fun _ => ⟨pk_in i 36 hi, nm_e (nm_r (nI_1 i) (hw _ (fun x hx => ?_)))⟩)
    rw [nI_clamp (by omega)]
    by_cases e : x = i
    · rw [e, pk_us]
    · rw [pk_un e]
      exact h x (by omega)
theorem sf_lineFilled {post : Int32 → Prop} {fp fa fh fl : Int32} {a1 a2 a3 a4 a5 a6 a7 a8 a9 a10 a11 a12 a13 a14 a15 a16 a17 a18 a19 a20 a21 a22 a23 a24 a25 a26 a27 a28 : Nat → Int32} {s R n m f l : Nat} {T : Nat → Int32} (h : sf_hd a1 a2 a3 a4 s R n m f) (hT : ∀ x, x < 36 → a18 x = T x) (hl : l < sf_lc R n m f) (hp0 : sf_zp R f T l (sf_ll R n m f) = 0 → post 0) (hp1 : sf_zp R f T l (sf_ll R n m f) ≠ 0 → post 1) : wpX_lineFilled post (fp, fa, fh, fl, a1, a2, a3, a4, a5, a6, a7, a8, a9, a10, a11, a12, a13, a14, a15, a16, a17, a18, a19, a20, a21, a22, a23, a24, a25, a26, a27, a28) (nI s) (nI l) := by
  have B := sf_dm_b h.2.2.2.2.2
  unfold wpX_lineFilled
  try dsimp only
  refine sf_lineLength h ?_
  refine pk_loop (σ := Unit) (fun k i _ => wX_lineFilled_12 post (nI s) (nI l) (nI (sf_ll R n m f)) fp fa fh fl a1 a2 a3 a4 a5 a6 a7 a8 a9 a10 a11 a12 a13 a14 a15 a16 a17 a18 a19 a20 a21 a22 a23 a24 a25 a26 a27 a28 k (if sf_zp R f T l i = 0 then 0 else 1) (nI i)) (fun _ _ => True) (sf_ll R n m f) 0 () (by omega) trivial (fun k _ _ => ?_) (fun k i _ hi _ hw => ?_)
  · refine pk_le (sf_ll R n m f) (sf_ll R n m f) (fun _ => ?_) (fun z => absurd z (by omega))
    by_cases e : sf_zp R f T l (sf_ll R n m f) = 0
    · rw [if_pos e]
      exact ⟨rfl, hp0 e⟩
    · rw [if_neg e]
      exact ⟨rfl, hp1 e⟩
  · have hw' := hw () trivial
    have X := (B.2.2.2.2.2.2 l i hl hi).1
    have hz : sf_zp R f T l (i + 1) = sf_zp R f T l i + (if T (sf_ix R f l i) = 0 then 0 else 1) := rfl
    refine pk_le (sf_ll R n m f) i (fun z => absurd z (by omega)) (fun _ => ?_)
    by_cases e : sf_zp R f T l i = 0
    · rw [if_pos e]
      refine br_t rfl (sf_plainAt h hl hi ?_)
      rw [hT _ X]
      by_cases g : T (sf_ix R f l i) = 0
      · rw [if_pos g] at hz
        rw [if_pos (by omega)] at hw'
        exact br_t g (nm_r (nI_1 i) hw')
      · rw [if_neg g] at hz
        rw [if_neg (by omega)] at hw'
        exact br_f g (nm_r (nI_1 i) hw')
    · rw [if_neg e]
      rw [if_neg (by omega)] at hw'
      exact br_f (by decide) (nm_r (nI_1 i) hw')
theorem sf_sg_add {a8 a9 : Nat → Int32} {s q b e : Nat} {V : Nat → Int32} (h : sf_sg a8 a9 s V q b e) : sf_sg (upd a8 (36 * s + e) (nI q)) (upd a9 (36 * s + e) (V q)) s V (q + 1) b (e + 1) := by
  obtain ⟨h1, h2, PA, h3, h4, h5⟩ := h
  refine ⟨by omega, by omega, fun x => if x = e then q else PA x, fun x hx hx' => ?_, fun x y hx hxy hy => ?_, fun p hp hV => ?_⟩
  · dsimp only
    by_cases g : x = e
    · rw [if_pos g, g, pk_us, pk_us]
      exact ⟨rfl, by omega, rfl⟩
    · rw [if_neg g, pk_un (by omega), pk_un (by omega)]
      obtain ⟨g1, g2, g3⟩ := h3 x hx (by omega)
      exact ⟨g1, by omega, g3⟩
  · show (if x = e then q else PA x) < (if y = e then q else PA y)
    rw [if_neg (by omega)]
    by_cases g : y = e
    · rw [if_pos g]
      exact (h3 x hx (by omega)).2.1
    · rw [if_neg g]
      exact h4 x y hx hxy (by omega)
  · by_cases g : p = q
    · exact ⟨e, by omega, by omega, by show (if e = e then q else PA e) = p; rw [if_pos rfl, g]⟩
    · obtain ⟨x, x1, x2, x3⟩ := h5 p (by omega) hV
      exact ⟨x, x1, by omega, by show (if x = e then q else PA x) = p; rw [if_neg (by omega), x3]⟩
theorem sf_sg_skip {a8 a9 : Nat → Int32} {s q b e : Nat} {V : Nat → Int32} (h : sf_sg a8 a9 s V q b e) (hV : V q = 0) : sf_sg a8 a9 s V (q + 1) b e := by
  obtain ⟨h1, h2, PA, h3, h4, h5⟩ := h
  refine ⟨h1, by omega, PA, fun x hx hx' => ?_, h4, fun p hp hV' => ?_⟩
  · obtain ⟨g1, g2, g3⟩ := h3 x hx hx'
    exact ⟨g1, by omega, g3⟩
  · by_cases g : p = q
    · rw [g] at hV'
      exact absurd hV hV'
    · exact h5 p (by omega) hV'
theorem sf_sg_0 (a8 a9 : Nat → Int32) (s b : Nat) (V : Nat → Int32) : sf_sg a8 a9 s V 0 b b :=
  ⟨Nat.le_refl _, Nat.le_refl _, fun _ => 0, fun x h1 h2 => absurd h1 (by omega), fun x y h1 h2 h3 => absurd h1 (by omega), fun p h => absurd h (by omega)⟩
theorem sf_packLine {post : Int32 → St2 → Prop} {fp fa fh fl : Int32} {a1 a2 a3 a4 a5 a6 a7 a8 a9 a10 a11 a12 a13 a14 a15 a16 a17 a18 a19 a20 a21 a22 a23 a24 a25 a26 a27 a28 : Nat → Int32} {s R n m f l b : Nat} {T : Nat → Int32} (h : sf_hd a1 a2 a3 a4 s R n m f) (hT : ∀ x, x < 36 → a18 x = T x) (hl : l < sf_lc R n m f) (hb : b ≤ 30)
    (hp : ∀ (b8 b9 : Nat → Int32) (e : Nat), sf_sg b8 b9 s (fun p => T (sf_ix R f l p)) (sf_ll R n m f) b e → e = b + sf_wp R f T l (sf_ll R n m f) → sf_ct (fun x => b9 (36 * s + x)) e = sf_ct (fun x => a9 (36 * s + x)) b + sf_zp R f T l (sf_ll R n m f) → (∀ y, y < 36 * s + b ∨ 36 * s + 36 ≤ y → b8 y = a8 y ∧ b9 y = a9 y) → post (nI e) (fp, fa, fh, fl, a1, a2, a3, a4, a5, a6, a7, b8, b9, a10, a11, a12, a13, a14, a15, a16, a17, a18, a19, a20, a21, a22, a23, a24, a25, a26, a27, a28)) : wpX_packLine post (fp, fa, fh, fl, a1, a2, a3, a4, a5, a6, a7, a8, a9, a10, a11, a12, a13, a14, a15, a16, a17, a18, a19, a20, a21, a22, a23, a24, a25, a26, a27, a28) (nI s) (nI l) (nI b) := by
  have B := sf_dm_b h.2.2.2.2.2
  have hs := h.1
  unfold wpX_packLine
  try dsimp only
  refine sf_lineLength h (sf_skipsPlaces h ?_)
  refine pk_loop (σ := Nat × (Nat → Int32) × (Nat → Int32)) (fun k i t => wX_packLine_20 post (nI s) (nI l) (nI (sf_ll R n m f)) (sf_b (sf_sp R f)) fp fa fh fl k (nI t.1) (nI i) a1 a2 a3 a4 a5 a6 a7 t.2.1 t.2.2 a10 a11 a12 a13 a14 a15 a16 a17 a18 a19 a20 a21 a22 a23 a24 a25 a26 a27 a28)
    (fun i t => sf_sg t.2.1 t.2.2 s (fun p => T (sf_ix R f l p)) i b t.1 ∧ t.1 = b + sf_wp R f T l i ∧ sf_ct (fun x => t.2.2 (36 * s + x)) t.1 = sf_ct (fun x => a9 (36 * s + x)) b + sf_zp R f T l i ∧ (∀ y, y < 36 * s + b ∨ 36 * s + 36 ≤ y → t.2.1 y = a8 y ∧ t.2.2 y = a9 y))
    (sf_ll R n m f) 0 (b, a8, a9) (by omega) ⟨sf_sg_0 _ _ _ _ _, rfl, rfl, fun y _ => ⟨rfl, rfl⟩⟩ (fun k t ht => ?_) (fun k i t hi ht hw => ?_)
  · exact pk_le (sf_ll R n m f) (sf_ll R n m f) (fun _ => hp t.2.1 t.2.2 t.1 ht.1 ht.2.1 ht.2.2.1 ht.2.2.2) (fun z => absurd z (by omega))
  · obtain ⟨e, c8, c9⟩ := t
    obtain ⟨g1, g2, g3, g4⟩ := ht
    have X := (B.2.2.2.2.2.2 l i hl hi).1
    have hle : e ≤ b + i := g1.2.1
    have hbe : b ≤ e := g1.1
    have hwp : sf_wp R f T l (i + 1) = sf_wp R f T l i + (if T (sf_ix R f l i) = 0 ∧ sf_sp R f = true then 0 else 1) := rfl
    have hzp : sf_zp R f T l (i + 1) = sf_zp R f T l i + (if T (sf_ix R f l i) = 0 then 0 else 1) := rfl
    have st : ¬ (T (sf_ix R f l i) = 0 ∧ sf_sp R f = true) → wX_packLine_47 post (wX_packLine_20 post (nI s) (nI l) (nI (sf_ll R n m f)) (sf_b (sf_sp R f)) fp fa fh fl k) (nI s) (nI l) (nI e) (nI (sf_ll R n m f)) (sf_b (sf_sp R f)) (nI i) (T (sf_ix R f l i)) fp fa fh fl a1 a2 a3 a4 a5 a6 a7 c8 c9 a10 a11 a12 a13 a14 a15 a16 a17 a18 a19 a20 a21 a22 a23 a24 a25 a26 a27 a28 := by
      intro hc
      unfold wX_packLine_47
      rw [sf_i36, nI_clamp (show 36 * s + e < 2 ^ 31 by omega)]
      refine ⟨sf_v (by omega), nm_e ⟨sf_v (by omega), nm_e (nm_r (nI_1 e) (nm_r (nI_1 i) (hw (e + 1, upd c8 (36 * s + e) (nI i), upd c9 (36 * s + e) (T (sf_ix R f l i))) ⟨?_, ?_, ?_, ?_⟩)))⟩⟩
      · exact sf_sg_add (V := fun p => T (sf_ix R f l p)) g1
      · show e + 1 = b + sf_wp R f T l (i + 1)
        rw [hwp, if_neg hc]
        have : e = b + sf_wp R f T l i := g2
        omega
      · show sf_ct (fun x => upd c9 (36 * s + e) (T (sf_ix R f l i)) (36 * s + x)) e + (if upd c9 (36 * s + e) (T (sf_ix R f l i)) (36 * s + e) = 0 then 0 else 1) = sf_ct (fun x => a9 (36 * s + x)) b + sf_zp R f T l (i + 1)
        rw [sf_ct_congr (g := fun x => c9 (36 * s + x)) e (fun v hv => pk_un (by omega)), pk_us, hzp]
        have : sf_ct (fun x => c9 (36 * s + x)) e = sf_ct (fun x => a9 (36 * s + x)) b + sf_zp R f T l i := g3
        omega
      · intro y hy
        show upd c8 (36 * s + e) (nI i) y = a8 y ∧ upd c9 (36 * s + e) (T (sf_ix R f l i)) y = a9 y
        rw [pk_un (by omega), pk_un (by omega)]
        exact g4 y hy
    refine pk_le (sf_ll R n m f) i (fun z => absurd z (by omega)) (fun _ => sf_plainAt (a8 := c8) (a9 := c9) h hl hi ?_)
    rw [hT _ X]
    refine br_c (fun z => ?_) (fun z => st (fun t => z t.1))
    by_cases hsp : sf_sp R f = true
    · have e1 : sf_b (sf_sp R f) = 1 := by rw [hsp]; rfl
      refine br_f (by rw [e1]; decide) (nm_r (nI_1 i) (hw (e, c8, c9) ⟨sf_sg_skip g1 z, ?_, ?_, g4⟩))
      · show e = b + sf_wp R f T l (i + 1)
        rw [hwp, if_pos ⟨z, hsp⟩]
        exact g2
      · show sf_ct (fun x => c9 (36 * s + x)) e = sf_ct (fun x => a9 (36 * s + x)) b + sf_zp R f T l (i + 1)
        rw [hzp, if_pos z]
        exact g3
    · have e0 : sf_b (sf_sp R f) = 0 := by unfold sf_b; rw [if_neg hsp]
      exact br_t e0 (st (fun t => hsp t.2))
end
section
/-! ===== pack ===== -/
theorem sf_zp_0 {R f l : Nat} {T : Nat → Int32} : ∀ q, sf_zp R f T l q = 0 → ∀ p, p < q → T (sf_ix R f l p) = 0 := by
  intro q
  induction q with
  | zero => intro _ p hp; exact absurd hp (by omega)
  | succ q ih =>
    intro h p hp
    have h' : sf_zp R f T l q + (if T (sf_ix R f l q) = 0 then 0 else 1) = 0 := h
    by_cases g : T (sf_ix R f l q) = 0
    · by_cases e : p = q
      · rw [e]; exact g
      · exact ih (by omega) p (by omega)
    · rw [if_neg g] at h'
      omega
theorem sf_ps_0 (a6 a7 a8 a9 : Nat → Int32) (s R f L : Nat) (T : Nat → Int32) : sf_ps a6 a7 a8 a9 s R f L T 0 0 0 0 :=
  ⟨Nat.le_refl _, fun _ => rfl, fun _ => 0, fun _ => 0, rfl, rfl, fun k hk => Nat.zero_le _, fun k hk => absurd hk (by omega), fun j k _ hk => absurd hk (by omega), fun l hl => absurd hl (by omega), rfl⟩
theorem sf_ps_skip {a6 a7 a8 a9 : Nat → Int32} {s R f L : Nat} {T : Nat → Int32} {i K w z : Nat} (h : sf_ps a6 a7 a8 a9 s R f L T i K w z) (hsl : sf_sl R f = true) (h0 : ∀ p, p < L → T (sf_ix R f i p) = 0) : sf_ps a6 a7 a8 a9 s R f L T (i + 1) K w z := by
  obtain ⟨h1, h1b, LA, LB, h2, h3, h4, h5, h6, h7, h8⟩ := h
  refine ⟨by omega, fun t => absurd (hsl.symm.trans t) (by decide), LA, LB, h2, h3, h4, fun k hk => ?_, h6, fun l hl => ?_, h8⟩
  · obtain ⟨g1, g2, g3, g4⟩ := h5 k hk
    exact ⟨g1, by omega, g3, g4⟩
  · by_cases e : l = i
    · rw [e]; exact Or.inr h0
    · exact h7 l (by omega)
theorem sf_ps_add {a6 a7 a8 a9 b8 b9 : Nat → Int32} {s R f L : Nat} {T : Nat → Int32} {i K w z e zz : Nat} (h : sf_ps a6 a7 a8 a9 s R f L T i K w z) (hL : L ≤ 6) (hsg : sf_sg b8 b9 s (fun p => T (sf_ix R f i p)) L w e) (hfr : ∀ y, y < 36 * s + w ∨ 36 * s + 36 ≤ y → b8 y = a8 y ∧ b9 y = a9 y) (hct : sf_ct (fun x => b9 (36 * s + x)) e = sf_ct (fun x => a9 (36 * s + x)) w + zz) : sf_ps (upd a6 (6 * s + K) (nI i)) (upd a7 (7 * s + K) (nI w)) b8 b9 s R f L T (i + 1) (K + 1) e (z + zz) := by
  obtain ⟨h1, h1b, LA, LB, h2, h3, h4, h5, h6, h7, h8⟩ := h
  have M := sf_ps_LB h5
  have hwK := h4 K (Nat.le_refl _)
  have hs1 := hsg.1
  have hs2 := hsg.2.1
  have A1 : ∀ k, k < K → (if k = K then i else LA k) = LA k := fun k hk => if_neg (by omega)
  have B1 : ∀ k, k ≤ K → (if k = K + 1 then e else LB k) = LB k := fun k hk => if_neg (by omega)
  have A2 : (if K = K then i else LA K) = i := if_pos rfl
  have B2 : (if K + 1 = K + 1 then e else LB (K + 1)) = e := if_pos rfl
  refine ⟨by omega, fun t => by rw [h1b t], fun k => if k = K then i else LA k, fun k => if k = K + 1 then e else LB k, ?_, B2, fun k hk => ?_, fun k hk => ?_, fun j k hjk hk => ?_, fun l hl => ?_, ?_⟩
  · show (if 0 = K + 1 then e else LB 0) = 0
    rw [B1 0 (by omega), h2]
  · show (if k = K + 1 then e else LB k) ≤ 6 * k
    by_cases g : k = K + 1
    · rw [if_pos g]; omega
    · rw [if_neg g]; exact h4 k (by omega)
  · show upd a6 (6 * s + K) (nI i) (6 * s + k) = nI (if k = K then i else LA k) ∧ (if k = K then i else LA k) < i + 1 ∧ upd a7 (7 * s + K) (nI w) (7 * s + k) = nI (if k = K + 1 then e else LB k) ∧ sf_sg b8 b9 s (fun p => T (sf_ix R f (if k = K then i else LA k) p)) L (if k = K + 1 then e else LB k) (if k + 1 = K + 1 then e else LB (k + 1))
    by_cases g : k = K
    · subst g
      rw [A2, B1 k (by omega), B2, pk_us, pk_us, h3]
      exact ⟨rfl, by omega, rfl, hsg⟩
    · obtain ⟨g1, g2, g3, g4⟩ := h5 k (by omega)
      have m1 := M (k + 1) K (by omega) (by omega)
      rw [A1 k (by omega), B1 k (by omega), B1 (k + 1) (by omega), pk_un (by omega), pk_un (by omega)]
      exact ⟨g1, by omega, g3, sf_sg_keep g4 (fun x hx => (hfr _ (by omega)).1) (fun x hx => (hfr _ (by omega)).2)⟩
  · show (if j = K then i else LA j) < (if k = K then i else LA k)
    rw [A1 j (by omega)]
    by_cases g : k = K
    · rw [if_pos g]; exact (h5 j (by omega)).2.1
    · rw [if_neg g]; exact h6 j k hjk (by omega)
  · by_cases g : l = i
    · exact Or.inl ⟨K, by omega, A2.trans g.symm⟩
    · rcases h7 l (by omega) with ⟨k, k1, k2⟩ | z
      · exact Or.inl ⟨k, by omega, (A1 k k1).trans k2⟩
      · exact Or.inr z
  · rw [hct, h8]
theorem sf_pack57 {post : St2 → Prop} {fp fa fh fl : Int32} {a1 a2 a3 a4 a5 a6 a7 a8 a9 a10 a11 a12 a13 a14 a15 a16 a17 a18 a19 a20 a21 a22 a23 a24 a25 a26 a27 a28 : Nat → Int32} {s R n m f : Nat} {T : Nat → Int32} (h : sf_hd a1 a2 a3 a4 s R n m f) (hZ : sf_Z n m T) (hT : ∀ x, x < 36 → a18 x = T x) (h5 : a5 s = nI 0)
    (hp : ∀ b5 b6 b7 b8 b9 : Nat → Int32, sf_slot a1 a2 a3 a4 b5 b6 b7 b8 b9 s R n m f T (sf_W R n m f T) (sf_N R n m f T) → sf_fr s a1 a2 a3 a4 a5 a6 a7 a8 a9 a1 a2 a3 a4 b5 b6 b7 b8 b9 → post (fp, fa, fh, fl, a1, a2, a3, a4, b5, b6, b7, b8, b9, a10, a11, a12, a13, a14, a15, a16, a17, a18, a19, a20, a21, a22, a23, a24, a25, a26, a27, a28)) : ∃ fu, wX_pack_57 post (nI s) (nI (sf_lc R n m f)) (sf_b (sf_sl R f)) fu 0 0 fp fa fh fl a1 a2 a3 a4 a5 a6 a7 a8 a9 a10 a11 a12 a13 a14 a15 a16 a17 a18 a19 a20 a21 a22 a23 a24 a25 a26 a27 a28 := by
  have B := sf_dm_b h.2.2.2.2.2
  have hs := h.1
  refine pk_loop (σ := Nat × (Nat → Int32) × (Nat → Int32) × (Nat → Int32) × (Nat → Int32) × (Nat → Int32))
    (fun k i t => wX_pack_57 post (nI s) (nI (sf_lc R n m f)) (sf_b (sf_sl R f)) k (nI t.1) (nI i) fp fa fh fl a1 a2 a3 a4 t.2.1 t.2.2.1 t.2.2.2.1 t.2.2.2.2.1 t.2.2.2.2.2 a10 a11 a12 a13 a14 a15 a16 a17 a18 a19 a20 a21 a22 a23 a24 a25 a26 a27 a28)
    (fun i t => (∃ K, t.2.1 s = nI K ∧ sf_ps t.2.2.1 t.2.2.2.1 t.2.2.2.2.1 t.2.2.2.2.2 s R f (sf_ll R n m f) T i K t.1 (sf_zl R f (sf_ll R n m f) T i)) ∧ t.1 = sf_wl R f (sf_ll R n m f) T i ∧ sf_fr s a1 a2 a3 a4 a5 a6 a7 a8 a9 a1 a2 a3 a4 t.2.1 t.2.2.1 t.2.2.2.1 t.2.2.2.2.1 t.2.2.2.2.2)
    (sf_lc R n m f) 0 (0, a5, a6, a7, a8, a9) (by omega) ⟨⟨0, h5, sf_ps_0 _ _ _ _ _ _ _ _ _⟩, rfl, fun t _ => ⟨rfl, rfl, rfl, rfl, rfl, fun _ _ => rfl, fun _ _ => rfl, fun _ _ => rfl, fun _ _ => rfl⟩⟩ (fun k t ht => ?_) (fun k i t hi ht hw => ?_)
  · obtain ⟨w, c5, c6, c7, c8, c9⟩ := t
    obtain ⟨⟨K, hK, hps⟩, hwl, hfr⟩ := ht
    have W := sf_ps_w hps
    have hK' : c5 s = nI K := hK
    have hwl' : w = sf_W R n m f T := hwl
    refine pk_le (sf_lc R n m f) (sf_lc R n m f) (fun _ => ?_) (fun z => absurd z (by omega))
    show vp_in (nI s) 13 ∧ (vp_in (7 * nI s + c5 (nI s).toNatClampNeg) 91 ∧ ∀ c7' : Nat → Int32, c7' = upd c7 (7 * nI s + c5 (nI s).toNatClampNeg).toNatClampNeg (nI w) → post (fp, fa, fh, fl, a1, a2, a3, a4, c5, c6, c7', c8, c9, a10, a11, a12, a13, a14, a15, a16, a17, a18, a19, a20, a21, a22, a23, a24, a25, a26, a27, a28))
    rw [nI_clamp (show s < 2 ^ 31 by omega), hK', sf_i7, nI_clamp (show 7 * s + K < 2 ^ 31 by omega)]
    refine ⟨pk_in s 13 hs, sf_v (by omega), nm_e (hp c5 c6 _ c8 c9 ⟨h, hZ, K, hK', by rw [pk_us, hwl'], ?_⟩ (fun t ht => ?_))⟩
    · rw [← hwl']
      exact sf_ps_keep hps (fun _ _ => rfl) (fun x hx => pk_un (by omega)) (fun _ _ => rfl) (fun _ _ => rfl)
    · obtain ⟨f1, f2, f3, f4, f5, f6, f7, f8, f9⟩ := hfr t ht
      exact ⟨f1, f2, f3, f4, f5, f6, fun k hk => by rw [pk_un (by omega)]; exact f7 k hk, f8, f9⟩
  · obtain ⟨w, c5, c6, c7, c8, c9⟩ := t
    obtain ⟨⟨K, hK, hps⟩, hwl, hfr⟩ := ht
    have W := sf_ps_w hps
    have hK' : c5 s = nI K := hK
    have hwl' : w = sf_wl R f (sf_ll R n m f) T i := hwl
    have hps' : sf_ps c6 c7 c8 c9 s R f (sf_ll R n m f) T i K w (sf_zl R f (sf_ll R n m f) T i) := hps
    have ew : sf_wl R f (sf_ll R n m f) T (i + 1) = sf_wl R f (sf_ll R n m f) T i + (if sf_sl R f = true ∧ sf_zp R f T i (sf_ll R n m f) = 0 then 0 else sf_wp R f T i (sf_ll R n m f)) := rfl
    have ez : sf_zl R f (sf_ll R n m f) T (i + 1) = sf_zl R f (sf_ll R n m f) T i + (if sf_sl R f = true ∧ sf_zp R f T i (sf_ll R n m f) = 0 then 0 else sf_zp R f T i (sf_ll R n m f)) := rfl
    have st : ¬ (sf_sl R f = true ∧ sf_zp R f T i (sf_ll R n m f) = 0) → wX_pack_79 post (wX_pack_57 post (nI s) (nI (sf_lc R n m f)) (sf_b (sf_sl R f)) k) (nI s) (nI (sf_lc R n m f)) (sf_b (sf_sl R f)) (nI w) (nI i) fp fa fh fl a1 a2 a3 a4 c5 c6 c7 c8 c9 a10 a11 a12 a13 a14 a15 a16 a17 a18 a19 a20 a21 a22 a23 a24 a25 a26 a27 a28 := by
      intro hc
      unfold wX_pack_79
      rw [nI_clamp (show s < 2 ^ 31 by omega), hK', sf_i6, sf_i7, nI_clamp (show 6 * s + K < 2 ^ 31 by omega), nI_clamp (show 7 * s + K < 2 ^ 31 by omega)]
      refine ⟨pk_in s 13 hs, sf_v (by omega), nm_e ⟨pk_in s 13 hs, sf_v (by omega), nm_e (sf_packLine h hT hi (by omega) (fun b8 b9 e hsg he hct hf => ?_))⟩⟩
      refine ⟨pk_in s 13 hs, pk_in s 13 hs, nm_r (e' := upd c5 s (nI (K + 1))) (by rw [hK', nI_1]) (nm_r (nI_1 i) (hw (e, upd c5 s (nI (K + 1)), upd c6 (6 * s + K) (nI i), upd c7 (7 * s + K) (nI w), b8, b9) ⟨⟨K + 1, pk_us, ?_⟩, ?_, fun t ht => ?_⟩))⟩
      · rw [ez, if_neg hc]
        exact sf_ps_add hps' B.2.2.2.2.1 hsg hf hct
      · show e = sf_wl R f (sf_ll R n m f) T (i + 1)
        rw [ew, if_neg hc, ← hwl']
        exact he
      · obtain ⟨f1, f2, f3, f4, f5, f6, f7, f8, f9⟩ := hfr t ht
        refine ⟨f1, f2, f3, f4, by rw [← f5]; exact pk_un ht, fun k hk => ?_, fun k hk => ?_, fun k hk => ?_, fun k hk => ?_⟩
        · rw [← f6 k hk]; exact pk_un (by omega)
        · rw [← f7 k hk]; exact pk_un (by omega)
        · rw [← f8 k hk]; exact (hf _ (by omega)).1
        · rw [← f9 k hk]; exact (hf _ (by omega)).2
    refine pk_le (sf_lc R n m f) i (fun z => absurd z (by omega)) (fun _ => ?_)
    by_cases hsl : sf_sl R f = true
    · have e1 : sf_b (sf_sl R f) = 1 := by rw [hsl]; rfl
      refine br_f (by rw [e1]; decide) (sf_lineFilled h hT hi (fun z => ?_) (fun z => ?_))
      · refine br_t rfl (nm_r (nI_1 i) (hw (w, c5, c6, c7, c8, c9) ⟨⟨K, hK', ?_⟩, ?_, hfr⟩))
        · rw [ez, if_pos ⟨hsl, z⟩]
          exact sf_ps_skip hps' hsl (sf_zp_0 _ z)
        · show w = sf_wl R f (sf_ll R n m f) T (i + 1)
          rw [ew, if_pos ⟨hsl, z⟩]
          exact hwl'
      · exact br_f (by decide) (st (fun t => z t.2))
    · have e0 : sf_b (sf_sl R f) = 0 := by unfold sf_b; rw [if_neg hsl]
      exact br_t e0 (st (fun t => hsl t.1))
theorem sf_pack {post : St2 → Prop} {fp fa fh fl : Int32} {a1 a2 a3 a4 a5 a6 a7 a8 a9 a10 a11 a12 a13 a14 a15 a16 a17 a18 a19 a20 a21 a22 a23 a24 a25 a26 a27 a28 : Nat → Int32} {s R n m f : Nat} {T : Nat → Int32} (hs : s < 13) (hd : sf_dm R n m f) (hZ : sf_Z n m T) (hT : ∀ x, x < 36 → a18 x = T x)
    (hp : ∀ b1 b2 b3 b4 b5 b6 b7 b8 b9 : Nat → Int32, sf_slot b1 b2 b3 b4 b5 b6 b7 b8 b9 s R n m f T (sf_W R n m f T) (sf_N R n m f T) → sf_kp s a1 a2 a3 a4 a5 a6 a7 a8 a9 b1 b2 b3 b4 b5 b6 b7 b8 b9 → post (fp, fa, fh, fl, b1, b2, b3, b4, b5, b6, b7, b8, b9, a10, a11, a12, a13, a14, a15, a16, a17, a18, a19, a20, a21, a22, a23, a24, a25, a26, a27, a28)) : wpX_pack post (fp, fa, fh, fl, a1, a2, a3, a4, a5, a6, a7, a8, a9, a10, a11, a12, a13, a14, a15, a16, a17, a18, a19, a20, a21, a22, a23, a24, a25, a26, a27, a28) (nI s) (nI R) (nI n) (nI m) (nI f) := by
  unfold wpX_pack
  try dsimp only
  rw [nI_clamp (show s < 2 ^ 31 by omega)]
  have h : sf_hd (upd a1 s (nI R)) (upd a2 s (nI n)) (upd a3 s (nI m)) (upd a4 s (nI f)) s R n m f := ⟨hs, pk_us, pk_us, pk_us, pk_us, hd⟩
  refine ⟨pk_in s 13 hs, nm_e ⟨pk_in s 13 hs, nm_e ⟨pk_in s 13 hs, nm_e ⟨pk_in s 13 hs, nm_e ⟨pk_in s 13 hs, nm_e (sf_lineCount h (sf_skipsLines h (sf_pack57 h hZ hT pk_us (fun b5 b6 b7 b8 b9 h1 h2 => hp _ _ _ _ b5 b6 b7 b8 b9 h1 (sf_kp_fr (fun t ht => ?_))))))⟩⟩⟩⟩⟩
  obtain ⟨f1, f2, f3, f4, f5, f6, f7, f8, f9⟩ := h2 t ht
  exact ⟨pk_un ht, pk_un ht, pk_un ht, pk_un ht, by rw [f5]; exact pk_un ht, f6, f7, f8, f9⟩
end
section
/-! ===== a slot laid open; unpack; search by halves ===== -/
theorem sf_open {a1 a2 a3 a4 a5 a6 a7 a8 a9 : Nat → Int32} {s R n m f w z : Nat} {T : Nat → Int32} (h : sf_slot a1 a2 a3 a4 a5 a6 a7 a8 a9 s R n m f T w z) : ∃ (K : Nat) (LA LB : Nat → Nat), a5 s = nI K ∧ K ≤ sf_lc R n m f ∧ LB 0 = 0 ∧ LB K = w ∧ (∀ k, k ≤ K → LB k ≤ 6 * k ∧ a7 (7 * s + k) = nI (LB k)) ∧ (∀ j k, j ≤ k → k ≤ K → LB j ≤ LB k) ∧ (∀ k, k < K → a6 (6 * s + k) = nI (LA k) ∧ LA k < sf_lc R n m f ∧ sf_sg a8 a9 s (fun p => T (sf_ix R f (LA k) p)) (sf_ll R n m f) (LB k) (LB (k + 1))) ∧ (∀ j k, j < k → k < K → LA j < LA k) ∧ (∀ l, l < sf_lc R n m f → (∃ k, k < K ∧ LA k = l) ∨ ∀ p, p < sf_ll R n m f → T (sf_ix R f l p) = 0) ∧ sf_ct (fun e => a9 (36 * s + e)) w = z := by
  obtain ⟨hh, hz, K, hK, hw, h1, h1b, LA, LB, h2, h3, h4, h5, h6, h7, h8⟩ := h
  refine ⟨K, LA, LB, hK, h1, h2, h3, fun k hk => ⟨h4 k hk, ?_⟩, sf_ps_LB h5, fun k hk => ⟨(h5 k hk).1, (h5 k hk).2.1, (h5 k hk).2.2.2⟩, h6, h7, h8⟩
  by_cases e : k = K
  · rw [e, hw, h3]
  · exact (h5 k (by omega)).2.2.1
theorem sf_T_upd {T c : Nat → Int32} {x y : Nat} (h : c y = T y) : upd c x (T x) y = T y := by
  by_cases e : y = x
  · rw [e, pk_us]
  · rw [pk_un e, h]
theorem sf_unpack {post : St2 → Prop} {fp fa fh fl : Int32} {a1 a2 a3 a4 a5 a6 a7 a8 a9 a10 a11 a12 a13 a14 a15 a16 a17 a18 a19 a20 a21 a22 a23 a24 a25 a26 a27 a28 : Nat → Int32} {s R n m f w z : Nat} {T : Nat → Int32} (h : sf_slot a1 a2 a3 a4 a5 a6 a7 a8 a9 s R n m f T w z) (hp : ∀ b18 : Nat → Int32, (∀ x, x < 36 → b18 x = T x) → post (fp, fa, fh, fl, a1, a2, a3, a4, a5, a6, a7, a8, a9, a10, a11, a12, a13, a14, a15, a16, a17, b18, a19, a20, a21, a22, a23, a24, a25, a26, a27, a28)) : wpX_unpack post (fp, fa, fh, fl, a1, a2, a3, a4, a5, a6, a7, a8, a9, a10, a11, a12, a13, a14, a15, a16, a17, a18, a19, a20, a21, a22, a23, a24, a25, a26, a27, a28) (nI s) := by
  have hZ := h.2.1
  obtain ⟨hs, e1, e2, e3, e4, hd⟩ := h.1
  have B := sf_dm_b hd
  obtain ⟨K, LA, LB, hK, hKl, hB0, hBK, hB, hM, hS, hO, hC, hct⟩ := sf_open h
  unfold wpX_unpack
  try dsimp only
  refine sf_clearPlain (fun b18 hb => ?_)
  refine pk_loop (fun k i c => wX_unpack_6 post (nI s) fp fa fh fl k (nI i) a1 a2 a3 a4 a5 a6 a7 a8 a9 a10 a11 a12 a13 a14 a15 a16 a17 c a19 a20 a21 a22 a23 a24 a25 a26 a27 a28) (fun i c => (∀ x, x < 36 → c x = T x ∨ c x = 0) ∧ (∀ j, j < i → ∀ p, p < sf_ll R n m f → c (sf_ix R f (LA j) p) = T (sf_ix R f (LA j) p))) K 0 b18 (by omega) ⟨fun x hx => Or.inr (hb x hx), fun j hj => absurd hj (by omega)⟩ (fun k c hc => ?_) (fun k i c hi hc hw => ?_)
  · show vp_in (nI s) 13 ∧ ((a5 (nI s).toNatClampNeg ≤ nI K → post (fp, fa, fh, fl, a1, a2, a3, a4, a5, a6, a7, a8, a9, a10, a11, a12, a13, a14, a15, a16, a17, c, a19, a20, a21, a22, a23, a24, a25, a26, a27, a28)) ∧ _)
    rw [nI_clamp (show s < 2 ^ 31 by omega), hK]
    refine ⟨pk_in s 13 hs, pk_le K K (fun _ => hp c (fun x hx => ?_)) (fun t => absurd t (by omega))⟩
    by_cases hr : x / 6 < n ∧ x % 6 < m
    · obtain ⟨l, p, hl, hq, hix⟩ := sf_ix_sur hd hx hr.1 hr.2
      rcases hC l hl with ⟨k, k1, k2⟩ | g
      · have := hc.2 k k1 p hq
        rw [k2, hix] at this
        exact this
      · have g' := g p hq
        rw [hix] at g'
        rcases hc.1 x hx with t | t
        · exact t
        · rw [t, g']
    · rcases hc.1 x hx with t | t
      · exact t
      · rw [t, hZ x hx hr]
  · obtain ⟨g1, g2, g3⟩ := hS i hi
    obtain ⟨q1, q2, PA, q3, q4, q5⟩ := g3
    have b1 := hB i (by omega)
    have b2 := hB (i + 1) (by omega)
    show vp_in (nI s) 13 ∧ ((a5 (nI s).toNatClampNeg ≤ nI i → _) ∧ _)
    rw [nI_clamp (show s < 2 ^ 31 by omega), hK, sf_i6, sf_i7, nI_1, nI_clamp (show 6 * s + i < 2 ^ 31 by omega), nI_clamp (show 7 * s + i < 2 ^ 31 by omega), nI_clamp (show 7 * s + i + 1 < 2 ^ 31 by omega), g1, b1.2, show 7 * s + i + 1 = 7 * s + (i + 1) by omega, b2.2]
    refine ⟨pk_in s 13 hs, pk_le K i (fun t => absurd t (by omega)) (fun _ => ⟨sf_v (by omega), nm_e ⟨sf_v (by omega), nm_e ⟨sf_v (by omega), nm_e ?_⟩⟩⟩)⟩
    refine pk_loop (fun kk x c => wX_unpack_56 post (wX_unpack_6 post (nI s) fp fa fh fl k) (nI s) (nI i) (nI (LA i)) (nI (LB (i + 1))) fp fa fh fl kk (nI x) a1 a2 a3 a4 a5 a6 a7 a8 a9 a10 a11 a12 a13 a14 a15 a16 a17 c a19 a20 a21 a22 a23 a24 a25 a26 a27 a28)
      (fun x c => LB i ≤ x ∧ ((∀ x, x < 36 → c x = T x ∨ c x = 0) ∧ (∀ j, j < i → ∀ p, p < sf_ll R n m f → c (sf_ix R f (LA j) p) = T (sf_ix R f (LA j) p))) ∧ (∀ t, LB i ≤ t → t < x → c (sf_ix R f (LA i) (PA t)) = T (sf_ix R f (LA i) (PA t))))
      (LB (i + 1)) (LB i) c q1 ⟨Nat.le_refl _, hc, fun t t1 t2 => absurd t1 (by omega)⟩ (fun kk c hc => ?_) (fun kk x c hx hc hw2 => ?_)
    · obtain ⟨hc0, hc1, hc2⟩ := hc
      refine pk_le (LB (i + 1)) (LB (i + 1)) (fun _ => nm_r (nI_1 i) (hw c ⟨hc1.1, fun j hj p hp' => ?_⟩)) (fun t => absurd t (by omega))
      by_cases ej : j = i
      · subst ej
        by_cases eT : T (sf_ix R f (LA j) p) = 0
        · rcases hc1.1 _ (B.2.2.2.2.2.2 (LA j) p g2 hp').1 with t | t
          · exact t
          · rw [t, eT]
        · obtain ⟨x, x1, x2, x3⟩ := q5 p hp' eT
          rw [← x3]
          exact hc2 x x1 x2
      · exact hc1.2 j (by omega) p hp'
    · obtain ⟨hc0, hc1, hc2⟩ := hc
      obtain ⟨p1, p2, p3⟩ := q3 x hc0 hx
      have X := (B.2.2.2.2.2.2 (LA i) (PA x) g2 p2).1
      have st : ∀ z0, z0 = nI (sf_ix R f (LA i) (PA x)) → wX_unpack_120 post (wX_unpack_6 post (nI s) fp fa fh fl k) (wX_unpack_56 post (wX_unpack_6 post (nI s) fp fa fh fl k) (nI s) (nI i) (nI (LA i)) (nI (LB (i + 1))) fp fa fh fl kk) (nI s) (nI i) (nI (LA i)) (nI (LB (i + 1))) (nI x) z0 fp fa fh fl a1 a2 a3 a4 a5 a6 a7 a8 a9 a10 a11 a12 a13 a14 a15 a16 a17 c a19 a20 a21 a22 a23 a24 a25 a26 a27 a28 := by
        intro z0 hz0
        rw [hz0]
        unfold wX_unpack_120
        rw [sf_i36, nI_clamp (show 36 * s + x < 2 ^ 31 by omega), nI_clamp (show sf_ix R f (LA i) (PA x) < 2 ^ 31 by omega), p3]
        refine ⟨sf_v (by omega), sf_v X, nm_e (nm_r (nI_1 x) (hw2 _ ⟨by omega, ⟨fun y hy => ?_, fun j hj p hp' => sf_T_upd (hc1.2 j hj p hp')⟩, fun t t1 t2 => ?_⟩))⟩
        · by_cases ey : y = sf_ix R f (LA i) (PA x)
          · rw [ey, pk_us]; exact Or.inl rfl
          · rw [pk_un ey]; exact hc1.1 y hy
        · by_cases et : t = x
          · rw [et, pk_us]
          · exact sf_T_upd (hc2 t t1 (by omega))
      refine pk_le (LB (i + 1)) x (fun t => absurd t (by omega)) (fun _ => ?_)
      rw [sf_i36, nI_clamp (show 36 * s + x < 2 ^ 31 by omega), p1]
      refine ⟨sf_v (by omega), nm_e ⟨pk_in s 13 hs, ?_⟩⟩
      rw [nI_clamp (show s < 2 ^ 31 by omega), e1]
      unfold sf_ix at st
      refine pk_le 2 R (fun t => sf_isTurned hs e1 e4 (by omega) (by omega) (fun g => br_t rfl (st _ ?_)) (fun g => br_f (by decide) (st _ ?_))) (fun t => st _ ?_)
      · rw [if_neg (by omega), if_neg (by omega), sf_i6]
      · rw [if_neg (by omega), if_pos g.2, sf_i6]
      · rw [if_pos t, sf_m6]
theorem sf_hm {h lo : Nat} (hh : h < 1000) (hl : lo < 1000) : nI h - 1 < nI lo ↔ h ≤ lo := by
  cases h with
  | zero =>
    have e : nI 0 - 1 < nI lo := by
      rw [Int32.lt_iff_toInt_lt, nI_toInt (by omega)]
      have e3 : (nI 0 - 1).toInt = -1 := by decide
      omega
    exact ⟨fun _ => by omega, fun _ => e⟩
  | succ h =>
    rw [nI_pred, nI_ltI (by omega) (by omega)]
    omega
theorem sf_mid {h lo : Nat} (hh : h < 1000) (hl : lo < h) : (nI lo + (nI h - 1)) >>> ((1 : Int32) &&& 31) = nI ((lo + h - 1) / 2) := by
  obtain ⟨h', rfl⟩ : ∃ h', h = h' + 1 := ⟨h - 1, by omega⟩
  rw [nI_pred, nI_add, pk_shrN (by omega) _ 1 (by decide)]
  rfl
theorem sf_bin {post : Int32 → Prop} (W : Nat → Int32 → Int32 → Int32 → Prop) (A : Nat → Nat) (b e v : Nat) (hbe : b ≤ e) (he : e ≤ b + 6) (hA : ∀ x y, b ≤ x → x < y → y < e → A x < A y)
    (hs : ∀ k lo h r, b ≤ lo → lo ≤ h → h ≤ e → r < 4 → (h ≤ lo → post (-1)) → (∀ mid, lo ≤ mid → mid < h → mid = (lo + h - 1) / 2 → (A mid = v → post (nI mid)) ∧ (A mid < v → W k (nI (mid + 1)) (nI h - 1) (nI (r + 1))) ∧ (v < A mid → W k (nI lo) (nI mid - 1) (nI (r + 1)))) → W (k + 1) (nI lo) (nI h - 1) (nI r))
    (hn : (∀ x, b ≤ x → x < e → A x ≠ v) → post (-1)) (hy : ∀ x, b ≤ x → x < e → A x = v → post (nI x)) : W 4 (nI b) (nI e - 1) (nI 0) := by
  have step : ∀ r d k, (∀ lo h, b ≤ lo → lo ≤ h → h ≤ e → h - lo ≤ d / 2 → (∀ x, b ≤ x → x < e → A x = v → lo ≤ x ∧ x < h) → W k (nI lo) (nI h - 1) (nI (r + 1))) → r < 4 → ∀ lo h, b ≤ lo → lo ≤ h → h ≤ e → h - lo ≤ d → (∀ x, b ≤ x → x < e → A x = v → lo ≤ x ∧ x < h) → W (k + 1) (nI lo) (nI h - 1) (nI r) := by
    intro r d k ih hr lo h h1 h2 h3 h4 h5
    refine hs k lo h r h1 h2 h3 hr (fun z => hn (fun x x1 x2 x3 => ?_)) (fun mid m1 m2 m3 => ⟨fun z => hy mid (by omega) (by omega) z, fun z => ?_, fun z => ?_⟩)
    · have := h5 x x1 x2 x3
      omega
    · refine ih (mid + 1) h (by omega) (by omega) h3 (by omega) (fun x x1 x2 x3 => ?_)
      have t := h5 x x1 x2 x3
      have : mid < x := by
        rcases Nat.lt_or_ge mid x with g | g
        · exact g
        · rcases Nat.lt_or_ge x mid with g2 | g2
          · have := hA x mid x1 g2 (by omega)
            omega
          · have : x = mid := by omega
            rw [this] at x3
            omega
      omega
    · refine ih lo mid h1 m1 (by omega) (by omega) (fun x x1 x2 x3 => ?_)
      have t := h5 x x1 x2 x3
      have : x < mid := by
        rcases Nat.lt_or_ge x mid with g | g
        · exact g
        · rcases Nat.lt_or_ge mid x with g2 | g2
          · have := hA mid x (by omega) g2 x2
            omega
          · have : x = mid := by omega
            rw [this] at x3
            omega
      omega
  have base : ∀ lo h, b ≤ lo → lo ≤ h → h ≤ e → h - lo ≤ 1 / 2 → (∀ x, b ≤ x → x < e → A x = v → lo ≤ x ∧ x < h) → W 1 (nI lo) (nI h - 1) (nI 3) := by
    intro lo h h1 h2 h3 h4 h5
    have e0 : h = lo := by omega
    refine hs 0 lo h 3 h1 h2 h3 (by omega) (fun z => hn (fun x x1 x2 x3 => ?_)) (fun mid m1 m2 _ => absurd m1 (by omega))
    have := h5 x x1 x2 x3
    omega
  have s2 := step 2 1 1 base (by omega)
  have s1 := step 1 3 2 (fun lo h h1 h2 h3 h4 h5 => s2 lo h h1 h2 h3 (by omega) h5) (by omega)
  have s0 := step 0 6 3 (fun lo h h1 h2 h3 h4 h5 => s1 lo h h1 h2 h3 (by omega) h5) (by omega)
  exact s0 b e (Nat.le_refl _) hbe (Nat.le_refl _) (by omega) (fun x x1 x2 _ => ⟨x1, x2⟩)
/-- what findLine finds -/
def sf_fl (a5 a6 : Nat → Int32) (s R f L : Nat) (T : Nat → Int32) (v : Nat) (r : Int32) : Prop := (r = -1 ∧ ∀ p, p < L → T (sf_ix R f v p) = 0) ∨ (∃ k K, r = nI k ∧ a5 s = nI K ∧ k < K ∧ K ≤ 6 ∧ a6 (6 * s + k) = nI v)
theorem sf_findLine {post : Int32 → Prop} {fp fa fh fl : Int32} {a1 a2 a3 a4 a5 a6 a7 a8 a9 a10 a11 a12 a13 a14 a15 a16 a17 a18 a19 a20 a21 a22 a23 a24 a25 a26 a27 a28 : Nat → Int32} {s R n m f w z v : Nat} {T : Nat → Int32} (h : sf_slot a1 a2 a3 a4 a5 a6 a7 a8 a9 s R n m f T w z) (hv : v < sf_lc R n m f) (hp : ∀ r, sf_fl a5 a6 s R f (sf_ll R n m f) T v r → post r) : wpX_findLine post (fp, fa, fh, fl, a1, a2, a3, a4, a5, a6, a7, a8, a9, a10, a11, a12, a13, a14, a15, a16, a17, a18, a19, a20, a21, a22, a23, a24, a25, a26, a27, a28) (nI s) (nI v) := by
  obtain ⟨hs, e1, e2, e3, e4, hd⟩ := h.1
  have B := sf_dm_b hd
  obtain ⟨K, LA, LB, hK, hKl, hB0, hBK, hB, hM, hS, hO, hC, hct⟩ := sf_open h
  unfold wpX_findLine
  try dsimp only
  rw [nI_clamp (show s < 2 ^ 31 by omega), hK]
  refine ⟨pk_in s 13 hs, nm_e ⟨4, sf_bin (post := post) (fun k lo h r => wX_findLine_15 post (nI s) (nI v) fp fa fh fl a1 a2 a3 a4 a5 a6 a7 a8 a9 a10 a11 a12 a13 a14 a15 a16 a17 a18 a19 a20 a21 a22 a23 a24 a25 a26 a27 a28 k lo h r) LA 0 K v (by omega) (by omega) (fun x y _ h1 h2 => hO x y h1 h2) (fun k lo h r h1 h2 h3 hr hn hm => ?_) (fun hn => hp _ (Or.inl ⟨rfl, ?_⟩)) (fun x _ x2 x3 => hp _ (Or.inr ⟨x, K, rfl, hK, x2, by omega, by rw [(hS x x2).1, x3]⟩))⟩⟩
  · refine pk_le 4 r (fun t => absurd t (by omega)) (fun _ => ek_if (sf_hm (by omega) (by omega)) hn (fun t => ?_))
    have t' : lo < h := by omega
    have e5 : lo + h - 1 < 2 * h := by omega
    have e6 : (lo + h - 1) / 2 < h := by omega
    have e7 : lo ≤ (lo + h - 1) / 2 := by omega
    obtain ⟨m1, m2, m3⟩ := hm ((lo + h - 1) / 2) e7 e6 rfl
    have hLA := (hS ((lo + h - 1) / 2) (by omega)).1
    have hLB := (hS ((lo + h - 1) / 2) (by omega)).2.1
    rw [sf_mid (by omega) t']
    generalize hmid : (lo + h - 1) / 2 = mid at *
    refine nm_e ?_
    rw [sf_i6, nI_clamp (show 6 * s + mid < 2 ^ 31 by omega), hLA]
    refine ⟨sf_v (by omega), nm_e (pk_eq (LA mid) v (fun g => m1 g) (fun g => pk_le v (LA mid) (fun g2 => ?_) (fun g2 => ?_)))⟩
    · unfold wX_findLine_72
      exact pk_le (LA mid) v (fun g3 => absurd g3 (by omega)) (fun g3 => nm_e (nm_r (nI_1 r) (m3 (by omega))))
    · unfold wX_findLine_72
      rw [nI_1 mid]
      exact pk_le (LA mid) v (fun g3 => nm_r (nI_1 r) (m2 (by omega))) (fun g3 => absurd g3 (by omega))
  · rcases hC v hv with ⟨k, k1, k2⟩ | g
    · exact absurd k2 (hn k (by omega) k1)
    · exact g
/-- what findPlace finds in a line that is there -/
def sf_fq (a7 a8 a9 : Nat → Int32) (s k : Nat) (V : Int32) (v : Nat) (r : Int32) : Prop := (r = -1 ∧ V = 0) ∨ (∃ x b e, r = nI x ∧ x < 36 ∧ a9 (36 * s + x) = V ∧ a7 (7 * s + k) = nI b ∧ a7 (7 * s + (k + 1)) = nI e ∧ b ≤ x ∧ x < e ∧ e ≤ 36 ∧ a8 (36 * s + x) = nI v)
theorem sf_findPlace {post : Int32 → Prop} {fp fa fh fl : Int32} {a1 a2 a3 a4 a5 a6 a7 a8 a9 a10 a11 a12 a13 a14 a15 a16 a17 a18 a19 a20 a21 a22 a23 a24 a25 a26 a27 a28 : Nat → Int32} {s R n m f w z v k K l : Nat} {T : Nat → Int32} (h : sf_slot a1 a2 a3 a4 a5 a6 a7 a8 a9 s R n m f T w z) (hK : a5 s = nI K) (hK6 : K ≤ 6) (hk : k < K) (hkl : a6 (6 * s + k) = nI l) (hl : l < sf_lc R n m f) (hv : v < sf_ll R n m f) (hp : ∀ r, sf_fq a7 a8 a9 s k (T (sf_ix R f l v)) v r → post r) : wpX_findPlace post (fp, fa, fh, fl, a1, a2, a3, a4, a5, a6, a7, a8, a9, a10, a11, a12, a13, a14, a15, a16, a17, a18, a19, a20, a21, a22, a23, a24, a25, a26, a27, a28) (nI s) (nI k) (nI v) := by
  obtain ⟨hs, e1, e2, e3, e4, hd⟩ := h.1
  have B := sf_dm_b hd
  obtain ⟨K', LA, LB, hK', hKl, hB0, hBK, hB, hM, hS, hO, hC, hct⟩ := sf_open h
  have eK : K' = K := (nI_eq (by omega) (by omega)).mp (by rw [← hK', hK])
  subst eK
  obtain ⟨g1, g2, g3⟩ := hS k hk
  have el : LA k = l := (nI_eq (by omega) (by omega)).mp (by rw [← g1, hkl])
  rw [el] at g3
  obtain ⟨q1, q2, PA, q3, q4, q5⟩ := g3
  have b1 := hB k (by omega)
  have b2 := hB (k + 1) (by omega)
  unfold wpX_findPlace
  try dsimp only
  rw [sf_i7, nI_1, nI_clamp (show 7 * s + k < 2 ^ 31 by omega), nI_clamp (show 7 * s + k + 1 < 2 ^ 31 by omega), b1.2, show 7 * s + k + 1 = 7 * s + (k + 1) by omega, b2.2]
  refine ⟨sf_v (by omega), nm_e ⟨sf_v (by omega), nm_e ⟨4, sf_bin (post := post) (fun k lo h r => wX_findPlace_33 post (nI s) (nI v) fp fa fh fl a1 a2 a3 a4 a5 a6 a7 a8 a9 a10 a11 a12 a13 a14 a15 a16 a17 a18 a19 a20 a21 a22 a23 a24 a25 a26 a27 a28 k lo h r) PA (LB k) (LB (k + 1)) v q1 (by omega) q4 (fun kk lo h r h1 h2 h3 hr hn hm => ?_) (fun hn => hp _ (Or.inl ⟨rfl, ?_⟩)) (fun x x1 x2 x3 => hp _ (Or.inr ⟨x, LB k, LB (k + 1), rfl, by omega, ?_, b1.2, b2.2, x1, x2, by omega, ?_⟩))⟩⟩⟩
  · refine pk_le 4 r (fun t => absurd t (by omega)) (fun _ => ek_if (sf_hm (by omega) (by omega)) hn (fun t => ?_))
    have t' : lo < h := by omega
    have e5 : lo + h - 1 < 2 * h := by omega
    have e6 : (lo + h - 1) / 2 < h := by omega
    have e7 : lo ≤ (lo + h - 1) / 2 := by omega
    obtain ⟨m1, m2, m3⟩ := hm ((lo + h - 1) / 2) e7 e6 rfl
    obtain ⟨hPA, hPB, _⟩ := q3 ((lo + h - 1) / 2) (by omega) (by omega)
    rw [sf_mid (by omega) t']
    generalize hmid : (lo + h - 1) / 2 = mid at *
    refine nm_e ?_
    rw [sf_i36, nI_clamp (show 36 * s + mid < 2 ^ 31 by omega), hPA]
    refine ⟨sf_v (by omega), nm_e (pk_eq (PA mid) v (fun g => m1 g) (fun g => pk_le v (PA mid) (fun g2 => ?_) (fun g2 => ?_)))⟩
    · unfold wX_findPlace_93
      exact pk_le (PA mid) v (fun g3 => absurd g3 (by omega)) (fun g3 => nm_e (nm_r (nI_1 r) (m3 (by omega))))
    · unfold wX_findPlace_93
      rw [nI_1 mid]
      exact pk_le (PA mid) v (fun g3 => nm_r (nI_1 r) (m2 (by omega))) (fun g3 => absurd g3 (by omega))
  · by_cases eT : T (sf_ix R f l v) = 0
    · exact eT
    · obtain ⟨x, x1, x2, x3⟩ := q5 v hv eT
      exact absurd x3 (hn x x1 x2)
  · rw [(q3 x x1 x2).2.2, x3]
  · rw [(q3 x x1 x2).1, x3]
end
section
/-! ===== position, get, put ===== -/
theorem sf_ct_congr2 {f g : Nat → Int32} : ∀ n, (∀ v, v < n → (f v = 0 ↔ g v = 0)) → sf_ct f n = sf_ct g n := by
  intro n
  induction n with
  | zero => intro _; rfl
  | succ n ih =>
    intro h
    show sf_ct f n + (if f n = 0 then 0 else 1) = sf_ct g n + (if g n = 0 then 0 else 1)
    rw [ih (fun v hv => h v (by omega))]
    by_cases e : f n = 0
    · rw [if_pos e, if_pos ((h n (by omega)).mp e)]
    · rw [if_neg e, if_neg (fun t => e ((h n (by omega)).mpr t))]
theorem sf_sg_congr {a8 a9 b9 : Nat → Int32} {s q b e : Nat} {V V' : Nat → Int32} (h : sf_sg a8 a9 s V q b e) (k9 : ∀ x, b ≤ x → x < e → b9 (36 * s + x) = a9 (36 * s + x)) (hV : ∀ p, p < q → V' p = V p) : sf_sg a8 b9 s V' q b e := by
  obtain ⟨h1, h2, PA, h3, h4, h5⟩ := h
  refine ⟨h1, h2, PA, fun x hx hx' => ?_, h4, fun p hp hp' => h5 p hp (by rw [← hV p hp]; exact hp')⟩
  obtain ⟨g1, g2, g3⟩ := h3 x hx hx'
  exact ⟨g1, g2, by rw [k9 x hx hx', hV _ g2]; exact g3⟩
theorem sf_slot_put {a1 a2 a3 a4 a5 a6 a7 a8 a9 : Nat → Int32} {s R n m f w z l v k K x b e : Nat} {T : Nat → Int32} {y : Int32} (h : sf_slot a1 a2 a3 a4 a5 a6 a7 a8 a9 s R n m f T w z) (hK : a5 s = nI K) (hK6 : K ≤ 6) (hk : k < K) (hkl : a6 (6 * s + k) = nI l) (hl : l < sf_lc R n m f) (hv : v < sf_ll R n m f) (hb : a7 (7 * s + k) = nI b) (he : a7 (7 * s + (k + 1)) = nI e) (hbx : b ≤ x) (hxe : x < e) (he36 : e ≤ 36) (hx8 : a8 (36 * s + x) = nI v) (hT : T (sf_ix R f l v) ≠ 0) (hy : y ≠ 0) :
    sf_slot a1 a2 a3 a4 a5 a6 a7 a8 (upd a9 (36 * s + x) y) s R n m f (upd T (sf_ix R f l v) y) w z := by
  obtain ⟨hh, hZ, K', hK', hw, h1, h1b, LA, LB, h2, h3, h4, h5, h6, h7, h8⟩ := h
  have hd := hh.2.2.2.2.2
  have B := sf_dm_b hd
  have eK : K' = K := (nI_eq (by omega) (by omega)).mp (by rw [← hK', hK])
  subst eK
  have M := sf_ps_LB h5
  obtain ⟨g1, g2, g3, g4⟩ := h5 k hk
  have el : LA k = l := (nI_eq (by omega) (by omega)).mp (by rw [← g1, hkl])
  have q0 := h4 k (by omega)
  have eb : LB k = b := (nI_eq (by omega) (by omega)).mp (by rw [← g3, hb])
  have ee : LB (k + 1) = e := by
    have q1 := h4 (k + 1) (by omega)
    refine (nI_eq (by omega) (by omega)).mp ?_
    rw [← he]
    by_cases ek : k + 1 = K'
    · rw [ek, h3, hw]
    · exact ((h5 (k + 1) (by omega)).2.2.1).symm
  have X := B.2.2.2.2.2.2 l v hl hv
  have hxw : x < w := by
    have := M (k + 1) K' (by omega) (Nat.le_refl _)
    omega
  refine ⟨hh, fun y' hy1 hy2 => ?_, K', hK', hw, h1, h1b, LA, LB, h2, h3, h4, fun k' hk' => ?_, h6, fun l' hl' => ?_, ?_⟩
  · rw [pk_un]
    · exact hZ y' hy1 hy2
    · intro z
      rw [z] at hy2
      exact hy2 ⟨X.2.1, X.2.2⟩
  · obtain ⟨i1, i2, i3, i4⟩ := h5 k' hk'
    refine ⟨i1, i2, i3, ?_⟩
    by_cases ek : k' = k
    · subst ek
      obtain ⟨q1, q2, PA, q3, q4, q5⟩ := i4
      have hPx : PA x = v := (nI_eq (by have := (q3 x (by omega) (by omega)).2.1; omega) (by omega)).mp (by rw [← (q3 x (by omega) (by omega)).1, hx8])
      refine ⟨q1, q2, PA, fun x' x1 x2 => ?_, q4, fun p hp hp' => ?_⟩
      · obtain ⟨j1, j2, j3⟩ := q3 x' x1 x2
        refine ⟨j1, j2, ?_⟩
        show upd a9 (36 * s + x) y (36 * s + x') = upd T (sf_ix R f l v) y (sf_ix R f (LA k') (PA x'))
        by_cases ex : x' = x
        · rw [ex, pk_us, hPx, el, pk_us]
        · rw [pk_un (by omega), pk_un]
          · exact j3
          · intro z
            rw [el] at z
            have := (sf_ix_inj hd hl j2 hl hv z).2
            rcases Nat.lt_or_ge x' x with t | t
            · have := q4 x' x x1 t (by omega)
              omega
            · have := q4 x x' (by omega) (by omega) x2
              omega
      · by_cases ep : p = v
        · exact ⟨x, by omega, by omega, by rw [hPx, ep]⟩
        · refine q5 p hp ?_
          have hp'' : upd T (sf_ix R f l v) y (sf_ix R f (LA k') p) ≠ 0 := hp'
          rw [pk_un] at hp''
          · exact hp''
          · intro z
            rw [el] at z
            exact ep (sf_ix_inj hd hl hp hl hv z).2
    · refine sf_sg_congr i4 (fun x' x1 x2 => pk_un ?_) (fun p hp => pk_un ?_)
      · rcases Nat.lt_or_ge k' k with t | t
        · have := M (k' + 1) k (by omega) (by omega)
          omega
        · have := M (k + 1) k' (by omega) (by omega)
          omega
      · intro z
        have := (sf_ix_inj hd i2 hp hl hv z).1
        rcases Nat.lt_or_ge k' k with t | t
        · have := h6 k' k t hk
          omega
        · have := h6 k k' (by omega) hk'
          omega
  · by_cases e0 : l' = l
    · exact Or.inl ⟨k, hk, by rw [el, e0]⟩
    · rcases h7 l' hl' with t | t
      · exact Or.inl t
      · refine Or.inr (fun p hp => ?_)
        rw [pk_un]
        · exact t p hp
        · intro z
          exact e0 (sf_ix_inj hd hl' hp hl hv z).1
  · rw [← h8]
    refine sf_ct_congr2 w (fun x' hx' => ?_)
    show upd a9 (36 * s + x) y (36 * s + x') = 0 ↔ a9 (36 * s + x') = 0
    by_cases ex : x' = x
    · rw [ex, pk_us]
      obtain ⟨q1, q2, PA, q3, q4, q5⟩ := g4
      have j := q3 x (by omega) (by omega)
      have hPx : PA x = v := (nI_eq (by have := j.2.1; omega) (by omega)).mp (by rw [← j.1, hx8])
      have j3 : a9 (36 * s + x) = T (sf_ix R f (LA k) (PA x)) := j.2.2
      rw [hPx, el] at j3
      rw [j3]
      exact ⟨fun t => absurd t hy, fun t => absurd t hT⟩
    · rw [pk_un (by omega)]
/-- where the number at idx stands -/
def sf_po (a1 a2 a3 a4 a5 a6 a7 a8 a9 : Nat → Int32) (s R n m f : Nat) (T : Nat → Int32) (w z idx : Nat) (r : Int32) : Prop := (r = -1 ∧ T idx = 0) ∨ (∃ x, r = nI x ∧ x < 36 ∧ a9 (36 * s + x) = T idx ∧ (T idx ≠ 0 → ∀ y, y ≠ 0 → sf_slot a1 a2 a3 a4 a5 a6 a7 a8 (upd a9 (36 * s + x) y) s R n m f (upd T idx y) w z))
theorem sf_pos52 {post : Int32 → Prop} {fp fa fh fl : Int32} {a1 a2 a3 a4 a5 a6 a7 a8 a9 a10 a11 a12 a13 a14 a15 a16 a17 a18 a19 a20 a21 a22 a23 a24 a25 a26 a27 a28 : Nat → Int32} {s R n m f w z l p : Nat} {T : Nat → Int32} (h : sf_slot a1 a2 a3 a4 a5 a6 a7 a8 a9 s R n m f T w z) (hl : l < sf_lc R n m f) (hq : p < sf_ll R n m f) (hp : ∀ r, sf_po a1 a2 a3 a4 a5 a6 a7 a8 a9 s R n m f T w z (sf_ix R f l p) r → post r) : wX_position_52 post (nI s) (nI l) (nI p) fp fa fh fl a1 a2 a3 a4 a5 a6 a7 a8 a9 a10 a11 a12 a13 a14 a15 a16 a17 a18 a19 a20 a21 a22 a23 a24 a25 a26 a27 a28 := by
  unfold wX_position_52
  refine sf_findLine h hl (fun r hr => ?_)
  rcases hr with ⟨r1, r2⟩ | ⟨k, K, r1, r2, r3, r4, r5⟩
  · rw [r1]
    exact br_t rfl (hp _ (Or.inl ⟨rfl, r2 p hq⟩))
  · rw [r1]
    refine br_f (sf_m1 (by omega)) (sf_findPlace h r2 r4 r3 r5 hl hq (fun r' hr' => hp r' ?_))
    rcases hr' with ⟨t1, t2⟩ | ⟨x, b, e, t1, t2, t3, t4, t5, t6, t7, t8, t9⟩
    · exact Or.inl ⟨t1, t2⟩
    · exact Or.inr ⟨x, t1, t2, t3, fun hT y hy => sf_slot_put h r2 r4 r3 r5 hl hq t4 t5 t6 t7 t8 t9 hT hy⟩
theorem sf_position {post : Int32 → Prop} {fp fa fh fl : Int32} {a1 a2 a3 a4 a5 a6 a7 a8 a9 a10 a11 a12 a13 a14 a15 a16 a17 a18 a19 a20 a21 a22 a23 a24 a25 a26 a27 a28 : Nat → Int32} {s R n m f w z i j : Nat} {T : Nat → Int32} (h : sf_slot a1 a2 a3 a4 a5 a6 a7 a8 a9 s R n m f T w z) (hi : i < n) (hj : j < m) (hp : ∀ r, sf_po a1 a2 a3 a4 a5 a6 a7 a8 a9 s R n m f T w z (6 * i + j) r → post r) : wpX_position post (fp, fa, fh, fl, a1, a2, a3, a4, a5, a6, a7, a8, a9, a10, a11, a12, a13, a14, a15, a16, a17, a18, a19, a20, a21, a22, a23, a24, a25, a26, a27, a28) (nI s) (nI i) (nI j) := by
  obtain ⟨hs, e1, e2, e3, e4, hd⟩ := h.1
  have B := sf_dm_b hd
  have hd' := hd
  obtain ⟨d1, d2, d3, d4, d5⟩ := hd'
  unfold wpX_position
  try dsimp only
  rw [nI_clamp (show s < 2 ^ 31 by omega), e1]
  refine ⟨pk_in s 13 hs, pk_le 2 R (fun t => sf_isTurned hs e1 e4 (by omega) (by omega) (fun g => br_t rfl ?_) (fun g => br_f (by decide) ?_)) (fun t => ?_)⟩
  · unfold wX_position_27
    rw [nI_clamp (show s < 2 ^ 31 by omega), e1]
    refine ⟨pk_in s 13 hs, pk_lt R 2 (fun t' => absurd t' (by omega)) (fun _ => sf_isTurned hs e1 e4 (by omega) (by omega) (fun _ => br_t rfl ?_) (fun g' => absurd g' g))⟩
    refine sf_pos52 h (by unfold sf_lc; rw [if_neg (by omega), if_neg (by omega)]; exact hi) (by unfold sf_ll; rw [if_neg (by omega), if_neg (by omega)]; exact hj) ?_
    rw [show sf_ix R f i j = 6 * i + j by unfold sf_ix; rw [if_neg (by omega), if_neg (by omega)]]
    exact hp
  · unfold wX_position_27
    rw [nI_clamp (show s < 2 ^ 31 by omega), e1]
    refine ⟨pk_in s 13 hs, pk_lt R 2 (fun t' => absurd t' (by omega)) (fun _ => sf_isTurned hs e1 e4 (by omega) (by omega) (fun g' => absurd g g') (fun _ => br_f (by decide) ?_))⟩
    unfold wX_position_47
    refine sf_pos52 h (by unfold sf_lc; rw [if_neg (by omega), if_pos g.2]; exact hj) (by unfold sf_ll; rw [if_neg (by omega), if_pos g.2]; exact hi) ?_
    rw [show sf_ix R f j i = 6 * i + j by unfold sf_ix; rw [if_neg (by omega), if_pos g.2]]
    exact hp
  · unfold wX_position_27
    rw [nI_clamp (show s < 2 ^ 31 by omega), e1]
    refine ⟨pk_in s 13 hs, pk_lt R 2 (fun _ => ?_) (fun t' => absurd t' (by omega))⟩
    unfold wX_position_47
    refine sf_pos52 (l := 0) h (by omega) (by unfold sf_ll; rw [if_pos t]; exact hi) ?_
    rw [show sf_ix R f 0 i = 6 * i + j by unfold sf_ix; rw [if_pos t]; omega]
    exact hp
theorem sf_badRegister {post : Int32 → Prop} {u : St2} {r : Nat} (hr : r < 6) (hp : post 0) : wpX_badRegister post u (nI r) := by
  unfold wpX_badRegister
  try dsimp only
  exact br_f (nI_pos (by omega)) (pk_lt r 6 (fun _ => hp) (fun t => absurd t (by omega)))
theorem sf_noPlace0 {post : Int32 → Prop} {fp fa fh fl : Int32} {a1 a2 a3 a4 a5 a6 a7 a8 a9 a10 a11 a12 a13 a14 a15 a16 a17 a18 a19 a20 a21 a22 a23 a24 a25 a26 a27 a28 : Nat → Int32} {s R n m f i j : Nat} (h : sf_hd a1 a2 a3 a4 s R n m f) (hi : i < n) (hj : j < m) (hp : post 0) : wpX_noPlace post (fp, fa, fh, fl, a1, a2, a3, a4, a5, a6, a7, a8, a9, a10, a11, a12, a13, a14, a15, a16, a17, a18, a19, a20, a21, a22, a23, a24, a25, a26, a27, a28) (nI s) (nI i) (nI j) := by
  obtain ⟨hs, e1, e2, e3, e4, hd⟩ := h
  obtain ⟨d1, d2, d3, d4, d5⟩ := hd
  unfold wpX_noPlace
  try dsimp only
  rw [nI_clamp (show s < 2 ^ 31 by omega), e2, e3]
  exact br_f (nI_pos (by omega)) ⟨pk_in s 13 hs, pk_le n i (fun t => absurd t (by omega)) (fun _ => br_f (nI_pos (by omega)) ⟨pk_in s 13 hs, pk_lt j m (fun _ => hp) (fun t => absurd t (by omega))⟩)⟩
theorem sf_noPlace1 {post : Int32 → Prop} {fp fa fh fl : Int32} {a1 a2 a3 a4 a5 a6 a7 a8 a9 a10 a11 a12 a13 a14 a15 a16 a17 a18 a19 a20 a21 a22 a23 a24 a25 a26 a27 a28 : Nat → Int32} {s R n m f i : Nat} {j : Int32} (h : sf_hd a1 a2 a3 a4 s R n m f) (hi : n ≤ i) (hi2 : i < 2 ^ 31) (hp : post 1) : wpX_noPlace post (fp, fa, fh, fl, a1, a2, a3, a4, a5, a6, a7, a8, a9, a10, a11, a12, a13, a14, a15, a16, a17, a18, a19, a20, a21, a22, a23, a24, a25, a26, a27, a28) (nI s) (nI i) j := by
  obtain ⟨hs, e1, e2, e3, e4, hd⟩ := h
  obtain ⟨d1, d2, d3, d4, d5⟩ := hd
  unfold wpX_noPlace
  try dsimp only
  rw [nI_clamp (show s < 2 ^ 31 by omega), e2, e3]
  exact br_f (nI_pos (by omega)) ⟨pk_in s 13 hs, pk_le n i (fun _ => hp) (fun t => absurd t (by omega))⟩
theorem sf_get {post : Int32 → Prop} {fp fa fh fl : Int32} {a1 a2 a3 a4 a5 a6 a7 a8 a9 a10 a11 a12 a13 a14 a15 a16 a17 a18 a19 a20 a21 a22 a23 a24 a25 a26 a27 a28 : Nat → Int32} {r R n m f w z i j : Nat} {T : Nat → Int32} (hr : r < 6) (h : sf_slot a1 a2 a3 a4 a5 a6 a7 a8 a9 r R n m f T w z) (hi : i < n) (hj : j < m) (hp : post (T (6 * i + j))) : wpX_get post (fp, fa, fh, fl, a1, a2, a3, a4, a5, a6, a7, a8, a9, a10, a11, a12, a13, a14, a15, a16, a17, a18, a19, a20, a21, a22, a23, a24, a25, a26, a27, a28) (nI r) (nI i) (nI j) := by
  unfold wpX_get
  try dsimp only
  refine sf_badRegister hr (br_t rfl (sf_noPlace0 h.1 hi hj (br_t rfl (sf_position h hi hj (fun q hq => ?_)))))
  rcases hq with ⟨q1, q2⟩ | ⟨x, q1, q2, q3, _⟩
  · rw [q2] at hp
    exact br_t q1 hp
  · rw [q1]
    refine br_f (sf_m1 (by omega)) ?_
    rw [sf_i36, nI_clamp (by omega), q3]
    exact ⟨sf_v (by omega), hp⟩
theorem sf_get_none {post : Int32 → Prop} {fp fa fh fl : Int32} {a1 a2 a3 a4 a5 a6 a7 a8 a9 a10 a11 a12 a13 a14 a15 a16 a17 a18 a19 a20 a21 a22 a23 a24 a25 a26 a27 a28 : Nat → Int32} {r R n m f i : Nat} {j : Int32} (hr : r < 6) (h : sf_hd a1 a2 a3 a4 r R n m f) (hi : n ≤ i) (hi2 : i < 2 ^ 31) (hp : post (-1000000004)) : wpX_get post (fp, fa, fh, fl, a1, a2, a3, a4, a5, a6, a7, a8, a9, a10, a11, a12, a13, a14, a15, a16, a17, a18, a19, a20, a21, a22, a23, a24, a25, a26, a27, a28) (nI r) (nI i) j := by
  unfold wpX_get
  try dsimp only
  exact sf_badRegister hr (br_t rfl (sf_noPlace1 h hi hi2 (br_f (by decide) hp)))
theorem sf_upd_id (T : Nat → Int32) (k : Nat) : upd T k (T k) = T := by
  funext x
  by_cases e : x = k
  · rw [e, pk_us]
  · rw [pk_un e]
theorem sf_kp_refl (s : Nat) (a1 a2 a3 a4 a5 a6 a7 a8 a9 : Nat → Int32) : sf_kp s a1 a2 a3 a4 a5 a6 a7 a8 a9 a1 a2 a3 a4 a5 a6 a7 a8 a9 := fun _ _ _ _ _ _ _ _ _ h => h
theorem sf_put {post : Int32 → St2 → Prop} {fp fa fh fl : Int32} {a1 a2 a3 a4 a5 a6 a7 a8 a9 a10 a11 a12 a13 a14 a15 a16 a17 a18 a19 a20 a21 a22 a23 a24 a25 a26 a27 a28 : Nat → Int32} {r R n m f w z i j : Nat} {T : Nat → Int32} {x : Int32} (hr : r < 6) (h : sf_slot a1 a2 a3 a4 a5 a6 a7 a8 a9 r R n m f T w z) (hi : i < n) (hj : j < m)
    (hp : ∀ (b1 b2 b3 b4 b5 b6 b7 b8 b9 b18 : Nat → Int32) (w' z' : Nat), sf_slot b1 b2 b3 b4 b5 b6 b7 b8 b9 r R n m f (upd T (6 * i + j) x) w' z' → sf_kp r a1 a2 a3 a4 a5 a6 a7 a8 a9 b1 b2 b3 b4 b5 b6 b7 b8 b9 → ((T (6 * i + j) = 0 ∨ x = 0) → T (6 * i + j) ≠ x → w' = sf_W R n m f (upd T (6 * i + j) x) ∧ z' = sf_N R n m f (upd T (6 * i + j) x)) → post (T (6 * i + j)) (fp, fa, fh, fl, b1, b2, b3, b4, b5, b6, b7, b8, b9, a10, a11, a12, a13, a14, a15, a16, a17, b18, a19, a20, a21, a22, a23, a24, a25, a26, a27, a28)) : wpX_put post (fp, fa, fh, fl, a1, a2, a3, a4, a5, a6, a7, a8, a9, a10, a11, a12, a13, a14, a15, a16, a17, a18, a19, a20, a21, a22, a23, a24, a25, a26, a27, a28) (nI r) (nI i) (nI j) x := by
  obtain ⟨hs, e1, e2, e3, e4, hd⟩ := h.1
  have B := sf_dm_b hd
  have hd' := hd
  obtain ⟨d1, d2, d3, d4, d5⟩ := hd'
  have s84 : (T (6 * i + j) = 0 ∨ x = 0) → wX_put_84 post (nI r) (nI i) (nI j) x (T (6 * i + j)) fp fa fh fl a1 a2 a3 a4 a5 a6 a7 a8 a9 a10 a11 a12 a13 a14 a15 a16 a17 a18 a19 a20 a21 a22 a23 a24 a25 a26 a27 a28 := by
    intro h0
    unfold wX_put_84
    refine br_c (fun t => ?_) (fun t => ?_)
    · have hT : upd T (6 * i + j) x = T := by rw [← t]; exact sf_upd_id T _
      exact hp _ _ _ _ _ _ _ _ _ a18 w z (by rw [hT]; exact h) (sf_kp_refl _ _ _ _ _ _ _ _ _ _) (fun _ g => absurd t g)
    · refine sf_unpack h (fun b18 hb => ?_)
      dsimp only
      rw [sf_i6, nI_clamp (show 6 * i + j < 2 ^ 31 by omega), nI_clamp (show r < 2 ^ 31 by omega), e1, e2, e3, e4]
      refine ⟨sf_v (by omega), nm_e ⟨pk_in r 13 hs, pk_in r 13 hs, pk_in r 13 hs, pk_in r 13 hs, sf_pack (T := upd T (6 * i + j) x) hs hd (fun y hy1 hy2 => ?_) (fun y hy => ?_) (fun b1 b2 b3 b4 b5 b6 b7 b8 b9 k1 k2 => hp b1 b2 b3 b4 b5 b6 b7 b8 b9 _ _ _ k1 k2 (fun _ _ => ⟨rfl, rfl⟩))⟩⟩
      · rw [pk_un (by omega)]
        exact h.2.1 y hy1 hy2
      · by_cases e : y = 6 * i + j
        · rw [e, pk_us, pk_us]
        · rw [pk_un e, pk_un e]
          exact hb y hy
  unfold wpX_put
  try dsimp only
  refine sf_badRegister hr (br_t rfl (sf_noPlace0 h.1 hi hj (br_t rfl (sf_position h hi hj (fun q hq => ?_)))))
  rcases hq with ⟨q1, q2⟩ | ⟨y, q1, q2, q3, q4⟩
  · refine br_t q1 ?_
    unfold wX_put_55
    refine br_t rfl ?_
    rw [← q2]
    exact s84 (Or.inl q2)
  · rw [q1]
    refine br_f (sf_m1 (by omega)) ?_
    rw [sf_i36, nI_clamp (show 36 * r + y < 2 ^ 31 by omega), q3]
    refine ⟨sf_v (by omega), ?_⟩
    unfold wX_put_55
    refine br_c (fun t => s84 (Or.inl t)) (fun t => br_c (fun t2 => s84 (Or.inr t2)) (fun t2 => ?_))
    rw [sf_i36, nI_clamp (show 36 * r + y < 2 ^ 31 by omega)]
    refine ⟨sf_v (by omega), nm_e (hp _ _ _ _ _ _ _ _ _ a18 w z (q4 t x t2) (sf_kp_fr (fun t' ht => ⟨rfl, rfl, rfl, rfl, rfl, fun _ _ => rfl, fun _ _ => rfl, fun _ _ => rfl, fun k hk => pk_un (by omega)⟩)) (fun g => ?_))⟩
    rcases g with g | g
    · exact absurd g t
    · exact absurd g t2
end
section
/-! ===== make, format, room, filled, length, pattern, turn, same, digest, init, copy ===== -/
theorem sf_badFormat0 {post : Int32 → Prop} {u : St2} {R f : Nat} (h : (R = 0 ∧ f = 0) ∨ (R = 1 ∧ f ≤ 1) ∨ (R = 2 ∧ f ≤ 7)) (hp : post 0) : wpX_badFormat post u (nI R) (nI f) := by
  unfold wpX_badFormat
  try dsimp only
  refine pk_eq R 0 (fun e => ?_) (fun e => pk_eq R 1 (fun e' => ?_) (fun e' => ?_))
  · unfold wX_badFormat_19
    exact br_f (nI_pos (by omega)) (pk_le f 0 (fun _ => hp) (fun t => absurd t (by omega)))
  · unfold wX_badFormat_19
    exact br_f (nI_pos (by omega)) (pk_le f 1 (fun _ => hp) (fun t => absurd t (by omega)))
  · unfold wX_badFormat_19
    exact br_f (nI_pos (by omega)) (pk_le f 7 (fun _ => hp) (fun t => absurd t (by omega)))
theorem sf_badFormat1 {post : Int32 → Prop} {u : St2} {R f : Nat} (hf : f < 100) (h : (R = 0 ∧ 0 < f) ∨ (R = 1 ∧ 1 < f) ∨ (R = 2 ∧ 7 < f)) (hp : post 1) : wpX_badFormat post u (nI R) (nI f) := by
  unfold wpX_badFormat
  try dsimp only
  refine pk_eq R 0 (fun e => ?_) (fun e => pk_eq R 1 (fun e' => ?_) (fun e' => ?_))
  · unfold wX_badFormat_19
    exact br_f (nI_pos (by omega)) (pk_le f 0 (fun t => absurd t (by omega)) (fun _ => hp))
  · unfold wX_badFormat_19
    exact br_f (nI_pos (by omega)) (pk_le f 1 (fun t => absurd t (by omega)) (fun _ => hp))
  · unfold wX_badFormat_19
    exact br_f (nI_pos (by omega)) (pk_le f 7 (fun t => absurd t (by omega)) (fun _ => hp))
theorem sf_dm_f {R n m f : Nat} (h : sf_dm R n m f) : (R = 0 ∧ f = 0) ∨ (R = 1 ∧ f ≤ 1) ∨ (R = 2 ∧ f ≤ 7) := by
  obtain ⟨d1, d2, d3, d4, d5⟩ := h
  omega
theorem sf_make {post : Int32 → St2 → Prop} {fp fa fh fl : Int32} {a1 a2 a3 a4 a5 a6 a7 a8 a9 a10 a11 a12 a13 a14 a15 a16 a17 a18 a19 a20 a21 a22 a23 a24 a25 a26 a27 a28 : Nat → Int32} {r n m f R n' m' : Nat} (hr : r < 6) (hn : n ≤ 6) (hm : m ≤ 6) (hR : (n = 0 ∧ m = 0 ∧ R = 0 ∧ n' = 1 ∧ m' = 1) ∨ (0 < n ∧ m = 0 ∧ R = 1 ∧ n' = n ∧ m' = 1) ∨ (0 < n ∧ 0 < m ∧ R = 2 ∧ n' = n ∧ m' = m)) (hd : sf_dm R n' m' f)
    (hp : ∀ (b1 b2 b3 b4 b5 b6 b7 b8 b9 b18 : Nat → Int32), sf_slot b1 b2 b3 b4 b5 b6 b7 b8 b9 r R n' m' f (fun _ => 0) (sf_W R n' m' f (fun _ => 0)) (sf_N R n' m' f (fun _ => 0)) → sf_kp r a1 a2 a3 a4 a5 a6 a7 a8 a9 b1 b2 b3 b4 b5 b6 b7 b8 b9 → post (nI R) (fp, fa, fh, fl, b1, b2, b3, b4, b5, b6, b7, b8, b9, a10, a11, a12, a13, a14, a15, a16, a17, b18, a19, a20, a21, a22, a23, a24, a25, a26, a27, a28)) : wpX_make post (fp, fa, fh, fl, a1, a2, a3, a4, a5, a6, a7, a8, a9, a10, a11, a12, a13, a14, a15, a16, a17, a18, a19, a20, a21, a22, a23, a24, a25, a26, a27, a28) (nI r) (nI n) (nI m) (nI f) := by
  have B := sf_dm_b hd
  have k107 : ∀ b18 : Nat → Int32, (∀ x, x < 36 → b18 x = 0) → ∀ Q : St2 → Prop, (∀ (b1 b2 b3 b4 b5 b6 b7 b8 b9 : Nat → Int32), post (nI R) (fp, fa, fh, fl, b1, b2, b3, b4, b5, b6, b7, b8, b9, a10, a11, a12, a13, a14, a15, a16, a17, b18, a19, a20, a21, a22, a23, a24, a25, a26, a27, a28) → Q (fp, fa, fh, fl, b1, b2, b3, b4, b5, b6, b7, b8, b9, a10, a11, a12, a13, a14, a15, a16, a17, b18, a19, a20, a21, a22, a23, a24, a25, a26, a27, a28)) → wpX_pack Q (fp, fa, fh, fl, a1, a2, a3, a4, a5, a6, a7, a8, a9, a10, a11, a12, a13, a14, a15, a16, a17, b18, a19, a20, a21, a22, a23, a24, a25, a26, a27, a28) (nI r) (nI R) (nI n') (nI m') (nI f) := by
    intro b18 hb Q hQ
    exact sf_pack (T := fun _ => 0) (by omega) hd (fun _ _ _ => rfl) hb (fun b1 b2 b3 b4 b5 b6 b7 b8 b9 h1 h2 => hQ b1 b2 b3 b4 b5 b6 b7 b8 b9 (hp b1 b2 b3 b4 b5 b6 b7 b8 b9 b18 h1 h2))
  have k60 : wX_make_60 post (nI r) (nI n) (nI m) (nI f) 0 (nI R) fp fa fh fl a1 a2 a3 a4 a5 a6 a7 a8 a9 a10 a11 a12 a13 a14 a15 a16 a17 a18 a19 a20 a21 a22 a23 a24 a25 a26 a27 a28 := by
    unfold wX_make_60
    refine br_t rfl (sf_badFormat0 (sf_dm_f hd) (br_t rfl (sf_clearPlain (fun b18 hb => ?_))))
    have k := k107 b18 hb
    refine pk_eq n 0 (fun e => ?_) (fun e => ?_)
    · unfold wX_make_98
      refine pk_eq m 0 (fun e' => ?_) (fun e' => absurd e' (by omega))
      rw [show n' = 1 by omega, show m' = 1 by omega] at k
      unfold wX_make_107
      exact k _ (fun _ _ _ _ _ _ _ _ _ h => h)
    · unfold wX_make_98
      refine pk_eq m 0 (fun e' => ?_) (fun e' => ?_)
      · rw [show n' = n by omega, show m' = 1 by omega] at k
        unfold wX_make_107
        exact k _ (fun _ _ _ _ _ _ _ _ _ h => h)
      · rw [show n' = n by omega, show m' = m by omega] at k
        unfold wX_make_107
        exact k _ (fun _ _ _ _ _ _ _ _ _ h => h)
  have k41 : wX_make_41 post (nI r) (nI n) (nI m) (nI f) 0 fp fa fh fl a1 a2 a3 a4 a5 a6 a7 a8 a9 a10 a11 a12 a13 a14 a15 a16 a17 a18 a19 a20 a21 a22 a23 a24 a25 a26 a27 a28 := by
    unfold wX_make_41
    refine pk_eq n 0 (fun e => ?_) (fun e => pk_eq m 0 (fun e' => ?_) (fun e' => ?_))
    · rw [show R = 0 by omega] at k60
      exact k60
    · rw [show R = 1 by omega] at k60
      exact k60
    · rw [show R = 2 by omega] at k60
      exact k60
  unfold wpX_make
  try dsimp only
  refine sf_badRegister hr (br_t rfl (br_f (nI_pos (by omega)) (pk_lt 6 n (fun t => absurd t (by omega)) (fun _ => br_f (nI_pos (by omega)) (pk_lt 6 m (fun t => absurd t (by omega)) (fun _ => pk_eq n 0 (fun e => pk_le m 0 (fun _ => ?_) (fun t => absurd t (by omega))) (fun e => ?_)))))))
  · exact k41
  · exact k41
theorem sf_roomOf {post : Int32 → Prop} {fp fa fh fl : Int32} {a1 a2 a3 a4 a5 a6 a7 a8 a9 a10 a11 a12 a13 a14 a15 a16 a17 a18 a19 a20 a21 a22 a23 a24 a25 a26 a27 a28 : Nat → Int32} {s R n m f w z : Nat} {T : Nat → Int32} (h : sf_slot a1 a2 a3 a4 a5 a6 a7 a8 a9 s R n m f T w z) (hp : post (nI w)) : wpX_roomOf post (fp, fa, fh, fl, a1, a2, a3, a4, a5, a6, a7, a8, a9, a10, a11, a12, a13, a14, a15, a16, a17, a18, a19, a20, a21, a22, a23, a24, a25, a26, a27, a28) (nI s) := by
  obtain ⟨hh, hZ, K, hK, hw, hps⟩ := h
  have W := sf_ps_w hps
  have B := sf_dm_b hh.2.2.2.2.2
  have hs := hh.1
  unfold wpX_roomOf
  try dsimp only
  rw [nI_clamp (show s < 2 ^ 31 by omega), hK, sf_i7, nI_clamp (show 7 * s + K < 2 ^ 31 by omega), hw]
  exact ⟨pk_in s 13 hs, sf_v (by omega), hp⟩
theorem sf_slot_w {a1 a2 a3 a4 a5 a6 a7 a8 a9 : Nat → Int32} {s R n m f w z : Nat} {T : Nat → Int32} (h : sf_slot a1 a2 a3 a4 a5 a6 a7 a8 a9 s R n m f T w z) : w ≤ 36 := by
  obtain ⟨hh, hZ, K, hK, hw, hps⟩ := h
  have W := sf_ps_w hps
  have B := sf_dm_b hh.2.2.2.2.2
  omega
theorem sf_room {post : Int32 → Prop} {fp fa fh fl : Int32} {a1 a2 a3 a4 a5 a6 a7 a8 a9 a10 a11 a12 a13 a14 a15 a16 a17 a18 a19 a20 a21 a22 a23 a24 a25 a26 a27 a28 : Nat → Int32} {r R n m f w z : Nat} {T : Nat → Int32} (hr : r < 6) (h : sf_slot a1 a2 a3 a4 a5 a6 a7 a8 a9 r R n m f T w z) (hp : post (nI w)) : wpX_room post (fp, fa, fh, fl, a1, a2, a3, a4, a5, a6, a7, a8, a9, a10, a11, a12, a13, a14, a15, a16, a17, a18, a19, a20, a21, a22, a23, a24, a25, a26, a27, a28) (nI r) := by
  unfold wpX_room
  try dsimp only
  exact sf_badRegister hr (br_t rfl (sf_roomOf h hp))
theorem sf_filled {post : Int32 → Prop} {fp fa fh fl : Int32} {a1 a2 a3 a4 a5 a6 a7 a8 a9 a10 a11 a12 a13 a14 a15 a16 a17 a18 a19 a20 a21 a22 a23 a24 a25 a26 a27 a28 : Nat → Int32} {r R n m f w z : Nat} {T : Nat → Int32} (hr : r < 6) (h : sf_slot a1 a2 a3 a4 a5 a6 a7 a8 a9 r R n m f T w z) (hp : post (nI z)) : wpX_filled post (fp, fa, fh, fl, a1, a2, a3, a4, a5, a6, a7, a8, a9, a10, a11, a12, a13, a14, a15, a16, a17, a18, a19, a20, a21, a22, a23, a24, a25, a26, a27, a28) (nI r) := by
  have hw := sf_slot_w h
  obtain ⟨K, LA, LB, _, _, _, _, _, _, _, _, _, hct⟩ := sf_open h
  unfold wpX_filled
  try dsimp only
  refine sf_badRegister hr (br_t rfl (sf_roomOf h ?_))
  refine pk_loop (σ := Unit) (fun k i _ => wX_filled_22 post (nI r) (nI w) fp fa fh fl a1 a2 a3 a4 a5 a6 a7 a8 a9 a10 a11 a12 a13 a14 a15 a16 a17 a18 a19 a20 a21 a22 a23 a24 a25 a26 a27 a28 k (nI (sf_ct (fun e => a9 (36 * r + e)) i)) (nI i)) (fun _ _ => True) w 0 () (by omega) trivial (fun k _ _ => ?_) (fun k i _ hi _ hwk => ?_)
  · refine pk_le w w (fun _ => ?_) (fun t => absurd t (by omega))
    rw [hct]
    exact hp
  · have hk := hwk () trivial
    refine pk_le w i (fun t => absurd t (by omega)) (fun _ => ?_)
    rw [sf_i36, nI_clamp (show 36 * r + i < 2 ^ 31 by omega)]
    have e : sf_ct (fun e => a9 (36 * r + e)) (i + 1) = sf_ct (fun e => a9 (36 * r + e)) i + (if a9 (36 * r + i) = 0 then 0 else 1) := rfl
    refine ⟨sf_v (by omega), br_c (fun t => ?_) (fun t => ?_)⟩
    · rw [if_pos t] at e
      rw [e] at hk
      exact nm_r (nI_1 i) hk
    · rw [if_neg t] at e
      rw [e] at hk
      exact nm_r (nI_1 _) (nm_r (nI_1 i) hk)
theorem sf_format {post : Int32 → St2 → Prop} {fp fa fh fl : Int32} {a1 a2 a3 a4 a5 a6 a7 a8 a9 a10 a11 a12 a13 a14 a15 a16 a17 a18 a19 a20 a21 a22 a23 a24 a25 a26 a27 a28 : Nat → Int32} {r R n m f f' w z : Nat} {T : Nat → Int32} (hr : r < 6) (h : sf_slot a1 a2 a3 a4 a5 a6 a7 a8 a9 r R n m f T w z) (hd : sf_dm R n m f')
    (hp : ∀ (b1 b2 b3 b4 b5 b6 b7 b8 b9 b18 : Nat → Int32), sf_slot b1 b2 b3 b4 b5 b6 b7 b8 b9 r R n m f' T (sf_W R n m f' T) (sf_N R n m f' T) → sf_kp r a1 a2 a3 a4 a5 a6 a7 a8 a9 b1 b2 b3 b4 b5 b6 b7 b8 b9 → post (nI (sf_W R n m f' T)) (fp, fa, fh, fl, b1, b2, b3, b4, b5, b6, b7, b8, b9, a10, a11, a12, a13, a14, a15, a16, a17, b18, a19, a20, a21, a22, a23, a24, a25, a26, a27, a28)) : wpX_format post (fp, fa, fh, fl, a1, a2, a3, a4, a5, a6, a7, a8, a9, a10, a11, a12, a13, a14, a15, a16, a17, a18, a19, a20, a21, a22, a23, a24, a25, a26, a27, a28) (nI r) (nI f') := by
  obtain ⟨hs, e1, e2, e3, e4, _⟩ := h.1
  unfold wpX_format
  try dsimp only
  refine sf_badRegister hr (br_t rfl ?_)
  rw [nI_clamp (show r < 2 ^ 31 by omega), e1]
  refine ⟨pk_in r 13 hs, sf_badFormat0 (sf_dm_f hd) (br_t rfl (sf_unpack h (fun b18 hb => ?_)))⟩
  dsimp only
  rw [e1, e2, e3]
  refine ⟨pk_in r 13 hs, pk_in r 13 hs, pk_in r 13 hs, sf_pack hs hd h.2.1 hb (fun b1 b2 b3 b4 b5 b6 b7 b8 b9 h1 h2 => ?_)⟩
  exact sf_roomOf h1 (hp b1 b2 b3 b4 b5 b6 b7 b8 b9 b18 h1 h2)
theorem sf_format_bad {post : Int32 → St2 → Prop} {fp fa fh fl : Int32} {a1 a2 a3 a4 a5 a6 a7 a8 a9 a10 a11 a12 a13 a14 a15 a16 a17 a18 a19 a20 a21 a22 a23 a24 a25 a26 a27 a28 : Nat → Int32} {r R n m f f' : Nat} (hr : r < 6) (h : sf_hd a1 a2 a3 a4 r R n m f) (hf : f' < 100) (hb : (R = 0 ∧ 0 < f') ∨ (R = 1 ∧ 1 < f') ∨ (R = 2 ∧ 7 < f')) (hp : post (-1000000001) (fp, fa, fh, fl, a1, a2, a3, a4, a5, a6, a7, a8, a9, a10, a11, a12, a13, a14, a15, a16, a17, a18, a19, a20, a21, a22, a23, a24, a25, a26, a27, a28)) : wpX_format post (fp, fa, fh, fl, a1, a2, a3, a4, a5, a6, a7, a8, a9, a10, a11, a12, a13, a14, a15, a16, a17, a18, a19, a20, a21, a22, a23, a24, a25, a26, a27, a28) (nI r) (nI f') := by
  obtain ⟨hs, e1, e2, e3, e4, _⟩ := h
  unfold wpX_format
  try dsimp only
  refine sf_badRegister hr (br_t rfl ?_)
  rw [nI_clamp (show r < 2 ^ 31 by omega), e1]
  exact ⟨pk_in r 13 hs, sf_badFormat1 hf hb (br_f (by decide) hp)⟩
theorem sf_length0 {post : Int32 → Prop} {fp fa fh fl : Int32} {a1 a2 a3 a4 a5 a6 a7 a8 a9 a10 a11 a12 a13 a14 a15 a16 a17 a18 a19 a20 a21 a22 a23 a24 a25 a26 a27 a28 : Nat → Int32} {r R n m f : Nat} (hr : r < 6) (h : sf_hd a1 a2 a3 a4 r R n m f) (hp : post (nI n)) : wpX_length post (fp, fa, fh, fl, a1, a2, a3, a4, a5, a6, a7, a8, a9, a10, a11, a12, a13, a14, a15, a16, a17, a18, a19, a20, a21, a22, a23, a24, a25, a26, a27, a28) (nI r) 0 := by
  obtain ⟨hs, e1, e2, e3, e4, _⟩ := h
  unfold wpX_length
  try dsimp only
  rw [nI_clamp (show r < 2 ^ 31 by omega), e2]
  exact sf_badRegister hr (br_t rfl (br_f (by decide) (br_t (by decide) (br_t rfl ⟨pk_in r 13 hs, hp⟩))))
theorem sf_length1 {post : Int32 → Prop} {fp fa fh fl : Int32} {a1 a2 a3 a4 a5 a6 a7 a8 a9 a10 a11 a12 a13 a14 a15 a16 a17 a18 a19 a20 a21 a22 a23 a24 a25 a26 a27 a28 : Nat → Int32} {r R n m f : Nat} (hr : r < 6) (h : sf_hd a1 a2 a3 a4 r R n m f) (hp : post (nI m)) : wpX_length post (fp, fa, fh, fl, a1, a2, a3, a4, a5, a6, a7, a8, a9, a10, a11, a12, a13, a14, a15, a16, a17, a18, a19, a20, a21, a22, a23, a24, a25, a26, a27, a28) (nI r) 1 := by
  obtain ⟨hs, e1, e2, e3, e4, _⟩ := h
  unfold wpX_length
  try dsimp only
  rw [nI_clamp (show r < 2 ^ 31 by omega), e3]
  exact sf_badRegister hr (br_t rfl (br_f (by decide) (br_t (by decide) (br_f (by decide) ⟨pk_in r 13 hs, hp⟩))))
theorem sf_length2 {post : Int32 → Prop} {u : St2} {r : Nat} (hr : r < 6) (hp : post (-1000000001)) : wpX_length post u (nI r) 2 := by
  unfold wpX_length
  try dsimp only
  exact sf_badRegister hr (br_t rfl (br_f (by decide) (br_f (by decide) hp)))
def sf_pt (T : Nat → Int32) (i : Nat) : Nat → Int32
  | 0 => 0
  | j + 1 => if T (6 * i + j) = 0 then sf_pt T i j else sf_pt T i j ||| ((1 : Int32) <<< (nI j &&& 31))
theorem sf_pattern {post : Int32 → Prop} {fp fa fh fl : Int32} {a1 a2 a3 a4 a5 a6 a7 a8 a9 a10 a11 a12 a13 a14 a15 a16 a17 a18 a19 a20 a21 a22 a23 a24 a25 a26 a27 a28 : Nat → Int32} {r R n m f w z i : Nat} {T : Nat → Int32} (hr : r < 6) (h : sf_slot a1 a2 a3 a4 a5 a6 a7 a8 a9 r R n m f T w z) (hi : i < n) (hp : post (sf_pt T i m)) : wpX_pattern post (fp, fa, fh, fl, a1, a2, a3, a4, a5, a6, a7, a8, a9, a10, a11, a12, a13, a14, a15, a16, a17, a18, a19, a20, a21, a22, a23, a24, a25, a26, a27, a28) (nI r) (nI i) := by
  obtain ⟨hs, e1, e2, e3, e4, hd⟩ := h.1
  obtain ⟨d1, d2, d3, d4, d5⟩ := hd
  unfold wpX_pattern
  try dsimp only
  rw [nI_clamp (show r < 2 ^ 31 by omega), e2]
  refine sf_badRegister hr (br_t rfl (br_f (nI_pos (by omega)) ⟨pk_in r 13 hs, pk_lt i n (fun _ => ?_) (fun t => absurd t (by omega))⟩))
  refine pk_loop (σ := Unit) (fun k j _ => wX_pattern_33 post (nI r) (nI i) fp fa fh fl a1 a2 a3 a4 a5 a6 a7 a8 a9 a10 a11 a12 a13 a14 a15 a16 a17 a18 a19 a20 a21 a22 a23 a24 a25 a26 a27 a28 k (sf_pt T i j) (nI j)) (fun _ _ => True) m 0 () (by omega) trivial (fun k _ _ => ?_) (fun k j _ hj _ hwk => ?_)
  · show vp_in (nI r) 13 ∧ ((a3 (nI r).toNatClampNeg ≤ nI m → post (sf_pt T i m)) ∧ _)
    rw [nI_clamp (show r < 2 ^ 31 by omega), e3]
    exact ⟨pk_in r 13 hs, pk_le m m (fun _ => hp) (fun t => absurd t (by omega))⟩
  · have hk := hwk () trivial
    show vp_in (nI r) 13 ∧ ((a3 (nI r).toNatClampNeg ≤ nI j → post (sf_pt T i j)) ∧ _)
    rw [nI_clamp (show r < 2 ^ 31 by omega), e3]
    have e : sf_pt T i (j + 1) = if T (6 * i + j) = 0 then sf_pt T i j else sf_pt T i j ||| ((1 : Int32) <<< (nI j &&& 31)) := rfl
    refine ⟨pk_in r 13 hs, pk_le m j (fun t => absurd t (by omega)) (fun _ => sf_get hr h hi hj (br_c (fun t => ?_) (fun t => ?_)))⟩
    · rw [if_pos t] at e
      rw [e] at hk
      exact nm_r (nI_1 j) hk
    · rw [if_neg t] at e
      rw [e] at hk
      exact nm_e (nm_r (nI_1 j) hk)
theorem sf_turn_none {post : Int32 → St2 → Prop} {fp fa fh fl : Int32} {a1 a2 a3 a4 a5 a6 a7 a8 a9 a10 a11 a12 a13 a14 a15 a16 a17 a18 a19 a20 a21 a22 a23 a24 a25 a26 a27 a28 : Nat → Int32} {r R n m f : Nat} (hr : r < 6) (h : sf_hd a1 a2 a3 a4 r R n m f) (hR : R < 2) (hp : post (-1000000004) (fp, fa, fh, fl, a1, a2, a3, a4, a5, a6, a7, a8, a9, a10, a11, a12, a13, a14, a15, a16, a17, a18, a19, a20, a21, a22, a23, a24, a25, a26, a27, a28)) : wpX_turn post (fp, fa, fh, fl, a1, a2, a3, a4, a5, a6, a7, a8, a9, a10, a11, a12, a13, a14, a15, a16, a17, a18, a19, a20, a21, a22, a23, a24, a25, a26, a27, a28) (nI r) := by
  obtain ⟨hs, e1, e2, e3, e4, _⟩ := h
  unfold wpX_turn
  try dsimp only
  rw [nI_clamp (show r < 2 ^ 31 by omega), e1]
  exact sf_badRegister hr (br_t rfl ⟨pk_in r 13 hs, pk_eq R 2 (fun t => absurd t (by omega)) (fun _ => hp)⟩)
/-- the numbers, rows for columns -/
def sf_tr (T : Nat → Int32) : Nat → Int32 := fun x => T (6 * (x % 6) + x / 6)
theorem sf_f4 : ∀ f, f < 8 → nI f ^^^ 4 = nI (f ^^^ 4) ∧ f ^^^ 4 < 8 ∧ (4 ≤ f ^^^ 4 ↔ ¬ 4 ≤ f) ∧ (f ^^^ 4) % 2 = f % 2 ∧ (f ^^^ 4) / 2 % 2 = f / 2 % 2 := by decide +kernel
theorem sf_turn {post : Int32 → St2 → Prop} {fp fa fh fl : Int32} {a1 a2 a3 a4 a5 a6 a7 a8 a9 a10 a11 a12 a13 a14 a15 a16 a17 a18 a19 a20 a21 a22 a23 a24 a25 a26 a27 a28 : Nat → Int32} {r n m f w z : Nat} {T : Nat → Int32} (hr : r < 6) (h : sf_slot a1 a2 a3 a4 a5 a6 a7 a8 a9 r 2 n m f T w z)
    (hp : ∀ b2 b3 b4 : Nat → Int32, sf_slot a1 b2 b3 b4 a5 a6 a7 a8 a9 r 2 m n (f ^^^ 4) (sf_tr T) w z → sf_kp r a1 a2 a3 a4 a5 a6 a7 a8 a9 a1 b2 b3 b4 a5 a6 a7 a8 a9 → post (nI m) (fp, fa, fh, fl, a1, b2, b3, b4, a5, a6, a7, a8, a9, a10, a11, a12, a13, a14, a15, a16, a17, a18, a19, a20, a21, a22, a23, a24, a25, a26, a27, a28)) : wpX_turn post (fp, fa, fh, fl, a1, a2, a3, a4, a5, a6, a7, a8, a9, a10, a11, a12, a13, a14, a15, a16, a17, a18, a19, a20, a21, a22, a23, a24, a25, a26, a27, a28) (nI r) := by
  obtain ⟨⟨hs, e1, e2, e3, e4, hd⟩, hZ, K, hK, hw, hps⟩ := h
  obtain ⟨d1, d2, d3, d4, d5⟩ := hd
  have F := sf_f4 f (by omega)
  unfold wpX_turn
  try dsimp only
  rw [nI_clamp (show r < 2 ^ 31 by omega), e1, e2, e3, e4, F.1]
  have F4 := F.2.2.1
  have n2 : ¬ 2 < 2 := by omega
  have el : sf_ll 2 m n (f ^^^ 4) = sf_ll 2 n m f := by
    unfold sf_ll
    rw [if_neg n2, if_neg n2]
    by_cases g : 4 ≤ f
    · rw [if_neg (fun t => F4.mp t g), if_pos g]
    · rw [if_pos (F4.mpr g), if_neg g]
  have ec : sf_lc 2 m n (f ^^^ 4) = sf_lc 2 n m f := by
    unfold sf_lc
    rw [if_neg n2, if_neg n2]
    by_cases g : 4 ≤ f
    · rw [if_neg (fun t => F4.mp t g), if_pos g]
    · rw [if_pos (F4.mpr g), if_neg g]
  have ex : ∀ l p, l < 6 → p < 6 → sf_tr T (sf_ix 2 (f ^^^ 4) l p) = T (sf_ix 2 f l p) := by
    intro l p hl hp'
    unfold sf_tr sf_ix
    rw [if_neg n2, if_neg n2]
    by_cases g : 4 ≤ f
    · rw [if_neg (fun t => F4.mp t g), if_pos g]
      congr 1
      omega
    · rw [if_pos (F4.mpr g), if_neg g]
      congr 1
      omega
  have hlc : sf_lc 2 n m f ≤ 6 := by
    unfold sf_lc
    rw [if_neg (by omega)]
    split <;> omega
  have hll : sf_ll 2 n m f ≤ 6 := by
    unfold sf_ll
    rw [if_neg (by omega)]
    split <;> omega
  refine sf_badRegister hr (br_t rfl ⟨pk_in r 13 hs, br_t rfl ⟨pk_in r 13 hs, nm_e ⟨pk_in r 13 hs, pk_in r 13 hs, nm_e ⟨pk_in r 13 hs, nm_e ⟨pk_in r 13 hs, pk_in r 13 hs, nm_e ⟨pk_in r 13 hs, ?_⟩⟩⟩⟩⟩⟩)
  rw [pk_us]
  refine hp _ _ _ ⟨⟨hs, e1, pk_us, pk_us, pk_us, d3, d4, d1, d2, Or.inr (Or.inr ⟨rfl, by omega⟩)⟩, fun x hx hx' => ?_, K, hK, hw, ?_⟩ (sf_kp_fr (fun t ht => ⟨rfl, pk_un ht, pk_un ht, pk_un ht, rfl, fun _ _ => rfl, fun _ _ => rfl, fun _ _ => rfl, fun _ _ => rfl⟩))
  · refine hZ _ (by omega) ?_
    omega
  · rw [el, ec]
    obtain ⟨h1, h1b, LA, LB, h2, h3, h4, h5, h6, h7, h8⟩ := hps
    refine ⟨h1, fun t => h1b (by unfold sf_sl at t ⊢; rw [← F.2.2.2.2]; exact t), LA, LB, h2, h3, h4, fun k hk => ?_, h6, fun l hl => ?_, h8⟩
    · obtain ⟨g1, g2, g3, g4⟩ := h5 k hk
      exact ⟨g1, g2, g3, sf_sg_congr g4 (fun _ _ _ => rfl) (fun p hp' => ex (LA k) p (by omega) (by omega))⟩
    · rcases h7 l hl with t | t
      · exact Or.inl t
      · exact Or.inr (fun p hp' => by rw [ex l p (by omega) (by omega)]; exact t p hp')
theorem sf_same0 {post : Int32 → Prop} {fp fa fh fl : Int32} {a1 a2 a3 a4 a5 a6 a7 a8 a9 a10 a11 a12 a13 a14 a15 a16 a17 a18 a19 a20 a21 a22 a23 a24 a25 a26 a27 a28 : Nat → Int32} {r s R R' n n' m m' f f' : Nat} (hr : r < 6) (hs6 : s < 6) (h : sf_hd a1 a2 a3 a4 r R n m f) (h' : sf_hd a1 a2 a3 a4 s R' n' m' f') (hR : R ≠ R') (hp : post 0) : wpX_same post (fp, fa, fh, fl, a1, a2, a3, a4, a5, a6, a7, a8, a9, a10, a11, a12, a13, a14, a15, a16, a17, a18, a19, a20, a21, a22, a23, a24, a25, a26, a27, a28) (nI r) (nI s) := by
  obtain ⟨hs, e1, e2, e3, e4, hd⟩ := h
  obtain ⟨gs, g1, g2, g3, g4, gd⟩ := h'
  have B := sf_dm_b hd
  have B' := sf_dm_b gd
  unfold wpX_same
  try dsimp only
  rw [nI_clamp (show r < 2 ^ 31 by omega), nI_clamp (show s < 2 ^ 31 by omega), e1, g1]
  exact sf_badRegister hr (br_t rfl (sf_badRegister hs6 (br_t rfl ⟨pk_in r 13 hs, pk_in s 13 gs, pk_eq R R' (fun t => absurd t hR) (fun _ => hp)⟩)))
theorem sf_same1 {post : Int32 → Prop} {fp fa fh fl : Int32} {a1 a2 a3 a4 a5 a6 a7 a8 a9 a10 a11 a12 a13 a14 a15 a16 a17 a18 a19 a20 a21 a22 a23 a24 a25 a26 a27 a28 : Nat → Int32} {r R n m f w z : Nat} {T : Nat → Int32} (hr : r < 6) (h : sf_slot a1 a2 a3 a4 a5 a6 a7 a8 a9 r R n m f T w z) (hp : post 1) : wpX_same post (fp, fa, fh, fl, a1, a2, a3, a4, a5, a6, a7, a8, a9, a10, a11, a12, a13, a14, a15, a16, a17, a18, a19, a20, a21, a22, a23, a24, a25, a26, a27, a28) (nI r) (nI r) := by
  obtain ⟨hs, e1, e2, e3, e4, hd⟩ := h.1
  obtain ⟨d1, d2, d3, d4, d5⟩ := hd
  unfold wpX_same
  try dsimp only
  rw [nI_clamp (show r < 2 ^ 31 by omega)]
  refine sf_badRegister hr (br_t rfl (sf_badRegister hr (br_t rfl ⟨pk_in r 13 hs, pk_in r 13 hs, br_t rfl ⟨pk_in r 13 hs, pk_in r 13 hs, br_t rfl ⟨pk_in r 13 hs, pk_in r 13 hs, br_t rfl ?_⟩⟩⟩)))
  refine pk_loop (σ := Unit) (fun k i _ => wX_same_68 post (nI r) (nI r) fp fa fh fl a1 a2 a3 a4 a5 a6 a7 a8 a9 a10 a11 a12 a13 a14 a15 a16 a17 a18 a19 a20 a21 a22 a23 a24 a25 a26 a27 a28 k 1 (nI i)) (fun _ _ => True) n 0 () (by omega) trivial (fun k _ _ => ?_) (fun k i _ hi _ hwk => ?_)
  · show vp_in (nI r) 13 ∧ ((a2 (nI r).toNatClampNeg ≤ nI n → _) ∧ _)
    rw [nI_clamp (show r < 2 ^ 31 by omega), e2]
    exact ⟨pk_in r 13 hs, pk_le n n (fun _ => ⟨rfl, hp⟩) (fun t => absurd t (by omega))⟩
  · show vp_in (nI r) 13 ∧ ((a2 (nI r).toNatClampNeg ≤ nI i → _) ∧ _)
    rw [nI_clamp (show r < 2 ^ 31 by omega), e2]
    refine ⟨pk_in r 13 hs, pk_le n i (fun t => absurd t (by omega)) (fun _ => ?_)⟩
    refine pk_loop (σ := Unit) (fun kk j _ => wX_same_82 post (wX_same_68 post (nI r) (nI r) fp fa fh fl a1 a2 a3 a4 a5 a6 a7 a8 a9 a10 a11 a12 a13 a14 a15 a16 a17 a18 a19 a20 a21 a22 a23 a24 a25 a26 a27 a28 k) (nI r) (nI r) (nI i) fp fa fh fl a1 a2 a3 a4 a5 a6 a7 a8 a9 a10 a11 a12 a13 a14 a15 a16 a17 a18 a19 a20 a21 a22 a23 a24 a25 a26 a27 a28 kk 1 (nI j)) (fun _ _ => True) m 0 () (by omega) trivial (fun kk _ _ => ?_) (fun kk j _ hj _ hwk2 => ?_)
    · show vp_in (nI r) 13 ∧ ((a3 (nI r).toNatClampNeg ≤ nI m → _) ∧ _)
      rw [nI_clamp (show r < 2 ^ 31 by omega), e3]
      exact ⟨pk_in r 13 hs, pk_le m m (fun _ => nm_r (nI_1 i) (hwk () trivial)) (fun t => absurd t (by omega))⟩
    · show vp_in (nI r) 13 ∧ ((a3 (nI r).toNatClampNeg ≤ nI j → _) ∧ _)
      rw [nI_clamp (show r < 2 ^ 31 by omega), e3]
      exact ⟨pk_in r 13 hs, pk_le m j (fun t => absurd t (by omega)) (fun _ => sf_get hr h hi hj (sf_get hr h hi hj (br_f (by decide) (br_t rfl (nm_r (nI_1 j) (hwk2 () trivial))))))⟩
def sf_dg (T : Nat → Int32) : Nat → Int32
  | 0 => 0
  | k + 1 => sf_dg T k + nI (7 * (k / 6) + k % 6 + 1) * T k
theorem sf_digest {post : Int32 → St2 → Prop} {fp fa fh fl : Int32} {a1 a2 a3 a4 a5 a6 a7 a8 a9 a10 a11 a12 a13 a14 a15 a16 a17 a18 a19 a20 a21 a22 a23 a24 a25 a26 a27 a28 : Nat → Int32} {r R n m f w z : Nat} {T : Nat → Int32} (hr : r < 6) (h : sf_slot a1 a2 a3 a4 a5 a6 a7 a8 a9 r R n m f T w z) (hp : ∀ b18 : Nat → Int32, post (sf_dg T 36) (fp, fa, fh, fl, a1, a2, a3, a4, a5, a6, a7, a8, a9, a10, a11, a12, a13, a14, a15, a16, a17, b18, a19, a20, a21, a22, a23, a24, a25, a26, a27, a28)) : wpX_digest post (fp, fa, fh, fl, a1, a2, a3, a4, a5, a6, a7, a8, a9, a10, a11, a12, a13, a14, a15, a16, a17, a18, a19, a20, a21, a22, a23, a24, a25, a26, a27, a28) (nI r) := by
  unfold wpX_digest
  try dsimp only
  refine sf_badRegister hr (br_t rfl (sf_unpack h (fun b18 hb => ?_)))
  refine pk_loop (σ := Unit) (fun k i _ => wX_digest_20 post fp fa fh fl a1 a2 a3 a4 a5 a6 a7 a8 a9 a10 a11 a12 a13 a14 a15 a16 a17 b18 a19 a20 a21 a22 a23 a24 a25 a26 a27 a28 k (sf_dg T i) (nI i)) (fun _ _ => True) 36 0 () (by omega) trivial (fun k _ _ => ?_) (fun k i _ hi _ hwk => ?_)
  · exact pk_le 36 36 (fun _ => hp b18) (fun t => absurd t (by omega))
  · refine pk_le 36 i (fun t => absurd t (by omega)) (fun _ => ⟨by decide, by decide, pk_in i 36 hi, nm_r ?_ (nm_r (nI_1 i) (hwk () trivial))⟩)
    rw [nI_clamp (show i < 2 ^ 31 by omega), hb i hi, show (6 : Int32) = nI 6 from rfl, pk_rem (by omega) (by omega) (by omega), pk_div (by omega) (by omega) (by omega), sf_i7, nI_1]
    rfl
theorem sf_init {post : St2 → Prop} {mc ms : Nat} (hc : 28 ≤ mc) (hs : 1400 ≤ ms) (hp : ∀ a1 a2 a3 a4 a5 a6 a7 a8 a9 a10 a11 a12 a13 a14 a15 a16 a17 a18 a19 a20 a21 a22 a23 a24 a25 a26 a27 a28 : Nat → Int32, post (0, 0, 0, 0, a1, a2, a3, a4, a5, a6, a7, a8, a9, a10, a11, a12, a13, a14, a15, a16, a17, a18, a19, a20, a21, a22, a23, a24, a25, a26, a27, a28)) : wpX_init post mc ms (0, 0, 0, 0) := by
  unfold wpX_init
  try dsimp only
  repeat' (first | refine And.intro (by omega) ?_)
  refine pk_loop (σ := St2) (fun k i t => wX_init_228 post mc ms 28 1400 k (nI i) t.1 t.2.1 t.2.2.1 t.2.2.2.1 t.2.2.2.2.1 t.2.2.2.2.2.1 t.2.2.2.2.2.2.1 t.2.2.2.2.2.2.2.1 t.2.2.2.2.2.2.2.2.1 t.2.2.2.2.2.2.2.2.2.1 t.2.2.2.2.2.2.2.2.2.2.1 t.2.2.2.2.2.2.2.2.2.2.2.1 t.2.2.2.2.2.2.2.2.2.2.2.2.1 t.2.2.2.2.2.2.2.2.2.2.2.2.2.1 t.2.2.2.2.2.2.2.2.2.2.2.2.2.2.1 t.2.2.2.2.2.2.2.2.2.2.2.2.2.2.2.1 t.2.2.2.2.2.2.2.2.2.2.2.2.2.2.2.2.1 t.2.2.2.2.2.2.2.2.2.2.2.2.2.2.2.2.2.1 t.2.2.2.2.2.2.2.2.2.2.2.2.2.2.2.2.2.2.1 t.2.2.2.2.2.2.2.2.2.2.2.2.2.2.2.2.2.2.2.1 t.2.2.2.2.2.2.2.2.2.2.2.2.2.2.2.2.2.2.2.2.1 t.2.2.2.2.2.2.2.2.2.2.2.2.2.2.2.2.2.2.2.2.2.1 t.2.2.2.2.2.2.2.2.2.2.2.2.2.2.2.2.2.2.2.2.2.2.1 t.2.2.2.2.2.2.2.2.2.2.2.2.2.2.2.2.2.2.2.2.2.2.2.1 t.2.2.2.2.2.2.2.2.2.2.2.2.2.2.2.2.2.2.2.2.2.2.2.2.1 t.2.2.2.2.2.2.2.2.2.2.2.2.2.2.2.2.2.2.2.2.2.2.2.2.2.1 t.2.2.2.2.2.2.2.2.2.2.2.2.2.2.2.2.2.2.2.2.2.2.2.2.2.2.1 t.2.2.2.2.2.2.2.2.2.2.2.2.2.2.2.2.2.2.2.2.2.2.2.2.2.2.2.1 t.2.2.2.2.2.2.2.2.2.2.2.2.2.2.2.2.2.2.2.2.2.2.2.2.2.2.2.2.1 t.2.2.2.2.2.2.2.2.2.2.2.2.2.2.2.2.2.2.2.2.2.2.2.2.2.2.2.2.2.1 t.2.2.2.2.2.2.2.2.2.2.2.2.2.2.2.2.2.2.2.2.2.2.2.2.2.2.2.2.2.2.1 t.2.2.2.2.2.2.2.2.2.2.2.2.2.2.2.2.2.2.2.2.2.2.2.2.2.2.2.2.2.2.2) (fun _ t => t.1 = 0 ∧ t.2.1 = 0 ∧ t.2.2.1 = 0 ∧ t.2.2.2.1 = 0) 6 0 (0, 0, 0, 0, fun _ => 0, fun _ => 0, fun _ => 0, fun _ => 0, fun _ => 0, fun _ => 0, fun _ => 0, fun _ => 0, fun _ => 0, fun _ => 0, fun _ => 0, fun _ => 0, fun _ => 0, fun _ => 0, fun _ => 0, fun _ => 0, fun _ => 0, fun _ => 0, fun _ => 0, fun _ => 0, fun _ => 0, fun _ => 0, fun _ => 0, fun _ => 0, fun _ => 0, fun _ => 0, fun _ => 0, fun _ => 0) (by omega) ⟨rfl, rfl, rfl, rfl⟩ (fun k t ht => ?_) (fun k i t hi ht hwk => ?_)
  · obtain ⟨fp, fa, fh, fl, a1, a2, a3, a4, a5, a6, a7, a8, a9, a10, a11, a12, a13, a14, a15, a16, a17, a18, a19, a20, a21, a22, a23, a24, a25, a26, a27, a28⟩ := t
    obtain ⟨t1, t2, t3, t4⟩ := ht
    have t1' : fp = 0 := t1
    have t2' : fa = 0 := t2
    have t3' : fh = 0 := t3
    have t4' : fl = 0 := t4
    subst t1' t2' t3' t4'
    exact pk_le 6 6 (fun _ => hp a1 a2 a3 a4 a5 a6 a7 a8 a9 a10 a11 a12 a13 a14 a15 a16 a17 a18 a19 a20 a21 a22 a23 a24 a25 a26 a27 a28) (fun t => absurd t (by omega))
  · obtain ⟨fp, fa, fh, fl, a1, a2, a3, a4, a5, a6, a7, a8, a9, a10, a11, a12, a13, a14, a15, a16, a17, a18, a19, a20, a21, a22, a23, a24, a25, a26, a27, a28⟩ := t
    refine pk_le 6 i (fun t => absurd t (by omega)) (fun _ => sf_clearPlain (fun b18 hb => sf_pack (s := i) (R := 0) (n := 1) (m := 1) (f := 0) (T := fun _ => 0) (by omega) ⟨by omega, by omega, by omega, by omega, Or.inl ⟨rfl, rfl, rfl, rfl⟩⟩ (fun _ _ _ => rfl) hb (fun b1 b2 b3 b4 b5 b6 b7 b8 b9 _ _ => nm_r (nI_1 i) (hwk (fp, fa, fh, fl, b1, b2, b3, b4, b5, b6, b7, b8, b9, a10, a11, a12, a13, a14, a15, a16, a17, b18, a19, a20, a21, a22, a23, a24, a25, a26, a27, a28) ht))))
theorem sf_copy {post : St2 → Prop} {fp fa fh fl : Int32} {a1 a2 a3 a4 a5 a6 a7 a8 a9 a10 a11 a12 a13 a14 a15 a16 a17 a18 a19 a20 a21 a22 a23 a24 a25 a26 a27 a28 : Nat → Int32} {r s R n m f w z : Nat} {T : Nat → Int32} (hs : s < 13) (h : sf_slot a1 a2 a3 a4 a5 a6 a7 a8 a9 r R n m f T w z)
    (hp : ∀ (b1 b2 b3 b4 b5 b6 b7 b8 b9 b18 : Nat → Int32), sf_slot b1 b2 b3 b4 b5 b6 b7 b8 b9 s R n m f T (sf_W R n m f T) (sf_N R n m f T) → sf_kp s a1 a2 a3 a4 a5 a6 a7 a8 a9 b1 b2 b3 b4 b5 b6 b7 b8 b9 → post (fp, fa, fh, fl, b1, b2, b3, b4, b5, b6, b7, b8, b9, a10, a11, a12, a13, a14, a15, a16, a17, b18, a19, a20, a21, a22, a23, a24, a25, a26, a27, a28)) : wpX_copy post (fp, fa, fh, fl, a1, a2, a3, a4, a5, a6, a7, a8, a9, a10, a11, a12, a13, a14, a15, a16, a17, a18, a19, a20, a21, a22, a23, a24, a25, a26, a27, a28) (nI r) (nI s) := by
  obtain ⟨hr, e1, e2, e3, e4, hd⟩ := h.1
  unfold wpX_copy
  try dsimp only
  refine sf_unpack h (fun b18 hb => ?_)
  dsimp only
  rw [nI_clamp (show r < 2 ^ 31 by omega), e1, e2, e3, e4]
  exact ⟨pk_in r 13 hr, pk_in r 13 hr, pk_in r 13 hr, pk_in r 13 hr, sf_pack hs hd h.2.1 hb (fun b1 b2 b3 b4 b5 b6 b7 b8 b9 h1 h2 => hp b1 b2 b3 b4 b5 b6 b7 b8 b9 b18 h1 h2)⟩
end
section
/-! ===== parts of formulas: part, negate, join, constant, array ===== -/
theorem sf_part {post : Int32 → St2 → Prop} {fa fh fl : Int32} {a1 a2 a3 a4 a5 a6 a7 a8 a9 a10 a11 a12 a13 a14 a15 a16 a17 a18 a19 a20 a21 a22 a23 a24 a25 a26 a27 a28 : Nat → Int32} {c : Nat} {p0 p1 p2 p3 : Int32} (hc : c < 20) (hp : post (nI c) (nI (c + 1), fa, fh, fl, a1, a2, a3, a4, a5, a6, a7, a8, a9, upd a10 c p0, upd a11 c p1, upd a12 c p2, upd a13 c p3, a14, a15, a16, a17, a18, a19, a20, a21, a22, a23, a24, a25, a26, a27, a28)) : wpX_part post (nI c, fa, fh, fl, a1, a2, a3, a4, a5, a6, a7, a8, a9, a10, a11, a12, a13, a14, a15, a16, a17, a18, a19, a20, a21, a22, a23, a24, a25, a26, a27, a28) p0 p1 p2 p3 := by
  unfold wpX_part
  try dsimp only
  rw [nI_clamp (show c < 2 ^ 31 by omega)]
  refine ⟨pk_in c 20 hc, nm_e ⟨pk_in c 20 hc, nm_e ⟨pk_in c 20 hc, nm_e ⟨pk_in c 20 hc, nm_e (nm_r (nI_1 c) ?_)⟩⟩⟩⟩
  rw [nI_pred]
  exact hp
theorem sf_negate {post : Int32 → St2 → Prop} {fa fl : Int32} {a1 a2 a3 a4 a5 a6 a7 a8 a9 a10 a11 a12 a13 a14 a15 a16 a17 a18 a19 a20 a21 a22 a23 a24 a25 a26 a27 a28 : Nat → Int32} {c h : Nat} (hc : c < 20) (hh : h < 6) (hp : post (nI (h + 1)) (nI (c + 1), fa, nI (h + 1), fl, a1, a2, a3, a4, a5, a6, a7, a8, a9, upd a10 c 2, upd a11 c 0, upd a12 c (a16 h), upd a13 c (-1), a14, a15, upd a16 h (nI c), a17, a18, a19, a20, a21, a22, a23, a24, a25, a26, a27, a28)) : wpX_negate post (nI c, fa, nI (h + 1), fl, a1, a2, a3, a4, a5, a6, a7, a8, a9, a10, a11, a12, a13, a14, a15, a16, a17, a18, a19, a20, a21, a22, a23, a24, a25, a26, a27, a28) := by
  unfold wpX_negate
  try dsimp only
  rw [nI_pred, nI_clamp (show h < 2 ^ 31 by omega)]
  refine pk_eq c 20 (fun t => absurd t (by omega)) (fun _ => pk_eq (h + 1) 0 (fun t => absurd t (by omega)) (fun _ => ⟨pk_in h 6 hh, sf_part hc ?_⟩))
  exact ⟨pk_in h 6 hh, nm_e hp⟩
theorem sf_negate_full {post : Int32 → St2 → Prop} {fp fa fh fl : Int32} {a1 a2 a3 a4 a5 a6 a7 a8 a9 a10 a11 a12 a13 a14 a15 a16 a17 a18 a19 a20 a21 a22 a23 a24 a25 a26 a27 a28 : Nat → Int32} (hc : fp = 20) (hp : post (-1000000002) (fp, fa, fh, fl, a1, a2, a3, a4, a5, a6, a7, a8, a9, a10, a11, a12, a13, a14, a15, a16, a17, a18, a19, a20, a21, a22, a23, a24, a25, a26, a27, a28)) : wpX_negate post (fp, fa, fh, fl, a1, a2, a3, a4, a5, a6, a7, a8, a9, a10, a11, a12, a13, a14, a15, a16, a17, a18, a19, a20, a21, a22, a23, a24, a25, a26, a27, a28) := by
  unfold wpX_negate
  try dsimp only
  exact br_t hc hp
theorem sf_negate_few {post : Int32 → St2 → Prop} {fp fa fh fl : Int32} {a1 a2 a3 a4 a5 a6 a7 a8 a9 a10 a11 a12 a13 a14 a15 a16 a17 a18 a19 a20 a21 a22 a23 a24 a25 a26 a27 a28 : Nat → Int32} (hc : fp = 0) (hh : fh = 0) (hp : post (-1000000003) (fp, fa, fh, fl, a1, a2, a3, a4, a5, a6, a7, a8, a9, a10, a11, a12, a13, a14, a15, a16, a17, a18, a19, a20, a21, a22, a23, a24, a25, a26, a27, a28)) : wpX_negate post (fp, fa, fh, fl, a1, a2, a3, a4, a5, a6, a7, a8, a9, a10, a11, a12, a13, a14, a15, a16, a17, a18, a19, a20, a21, a22, a23, a24, a25, a26, a27, a28) := by
  unfold wpX_negate
  try dsimp only
  exact br_f (by rw [hc]; decide) (br_t hh hp)
theorem sf_join {post : Int32 → St2 → Prop} {fa fl : Int32} {a1 a2 a3 a4 a5 a6 a7 a8 a9 a10 a11 a12 a13 a14 a15 a16 a17 a18 a19 a20 a21 a22 a23 a24 a25 a26 a27 a28 : Nat → Int32} {c h o : Nat} (hc : c < 20) (hh : h < 5) (ho : o < 3) (hp : post (nI (h + 1)) (nI (c + 1), fa, nI (h + 1), fl, a1, a2, a3, a4, a5, a6, a7, a8, a9, upd a10 c (nI (3 + o)), upd a11 c 0, upd a12 c (a16 h), upd a13 c (a16 (h + 1)), a14, a15, upd a16 h (nI c), a17, a18, a19, a20, a21, a22, a23, a24, a25, a26, a27, a28)) : wpX_join post (nI c, fa, nI (h + 2), fl, a1, a2, a3, a4, a5, a6, a7, a8, a9, a10, a11, a12, a13, a14, a15, a16, a17, a18, a19, a20, a21, a22, a23, a24, a25, a26, a27, a28) (nI o) := by
  unfold wpX_join
  try dsimp only
  refine br_f (nI_pos (by omega)) (pk_le o 2 (fun _ => pk_eq c 20 (fun t => absurd t (by omega)) (fun _ => pk_le 2 (h + 2) (fun _ => nm_r (nI_pred (h + 1)) ?_) (fun t => absurd t (by omega)))) (fun t => absurd t (by omega)))
  rw [nI_pred, nI_clamp (show h < 2 ^ 31 by omega), nI_clamp (show h + 1 < 2 ^ 31 by omega), show (3 : Int32) = nI 3 from rfl, nI_add]
  refine ⟨pk_in h 6 (by omega), pk_in (h + 1) 6 (by omega), sf_part hc ?_⟩
  exact ⟨pk_in h 6 (by omega), nm_e hp⟩
theorem sf_join_full {post : Int32 → St2 → Prop} {fp fa fh fl : Int32} {a1 a2 a3 a4 a5 a6 a7 a8 a9 a10 a11 a12 a13 a14 a15 a16 a17 a18 a19 a20 a21 a22 a23 a24 a25 a26 a27 a28 : Nat → Int32} (hc : fp = 20) (hp : post (-1000000002) (fp, fa, fh, fl, a1, a2, a3, a4, a5, a6, a7, a8, a9, a10, a11, a12, a13, a14, a15, a16, a17, a18, a19, a20, a21, a22, a23, a24, a25, a26, a27, a28)) : wpX_join post (fp, fa, fh, fl, a1, a2, a3, a4, a5, a6, a7, a8, a9, a10, a11, a12, a13, a14, a15, a16, a17, a18, a19, a20, a21, a22, a23, a24, a25, a26, a27, a28) 0 := by
  unfold wpX_join
  try dsimp only
  exact br_f (by decide) (br_t (by decide) (br_t hc hp))
theorem sf_join_bad {post : Int32 → St2 → Prop} {fp fa fh fl : Int32} {a1 a2 a3 a4 a5 a6 a7 a8 a9 a10 a11 a12 a13 a14 a15 a16 a17 a18 a19 a20 a21 a22 a23 a24 a25 a26 a27 a28 : Nat → Int32} (hp : post (-1000000001) (fp, fa, fh, fl, a1, a2, a3, a4, a5, a6, a7, a8, a9, a10, a11, a12, a13, a14, a15, a16, a17, a18, a19, a20, a21, a22, a23, a24, a25, a26, a27, a28)) : wpX_join post (fp, fa, fh, fl, a1, a2, a3, a4, a5, a6, a7, a8, a9, a10, a11, a12, a13, a14, a15, a16, a17, a18, a19, a20, a21, a22, a23, a24, a25, a26, a27, a28) 3 := by
  unfold wpX_join
  try dsimp only
  exact br_f (by decide) (br_f (by decide) hp)
theorem sf_constant {post : Int32 → St2 → Prop} {fa fl : Int32} {a1 a2 a3 a4 a5 a6 a7 a8 a9 a10 a11 a12 a13 a14 a15 a16 a17 a18 a19 a20 a21 a22 a23 a24 a25 a26 a27 a28 : Nat → Int32} {c h k : Nat} (hc : c < 20) (hh : h < 6) (hk : k ≤ 99) (hp : post (nI (h + 1)) (nI (c + 1), fa, nI (h + 1), fl, a1, a2, a3, a4, a5, a6, a7, a8, a9, upd a10 c 0, upd a11 c (nI k), upd a12 c (-1), upd a13 c (-1), a14, a15, upd a16 h (nI c), a17, a18, a19, a20, a21, a22, a23, a24, a25, a26, a27, a28)) : wpX_constant post (nI c, fa, nI h, fl, a1, a2, a3, a4, a5, a6, a7, a8, a9, a10, a11, a12, a13, a14, a15, a16, a17, a18, a19, a20, a21, a22, a23, a24, a25, a26, a27, a28) (nI k) := by
  unfold wpX_constant
  try dsimp only
  rw [nI_clamp (show h < 2 ^ 31 by omega)]
  have e : ¬ nI k < -99 := by
    intro t
    rw [Int32.lt_iff_toInt_lt, nI_toInt (by omega)] at t
    have e3 : (-99 : Int32).toInt = -99 := by decide
    omega
  refine br_f e (pk_le k 99 (fun _ => pk_eq c 20 (fun t => absurd t (by omega)) (fun _ => pk_eq h 6 (fun t => absurd t (by omega)) (fun _ => sf_part hc ?_))) (fun t => absurd t (by omega)))
  exact ⟨pk_in h 6 hh, nm_e (nm_r (nI_1 h) hp)⟩
theorem sf_constant_full {post : Int32 → St2 → Prop} {fa fh fl : Int32} {a1 a2 a3 a4 a5 a6 a7 a8 a9 a10 a11 a12 a13 a14 a15 a16 a17 a18 a19 a20 a21 a22 a23 a24 a25 a26 a27 a28 : Nat → Int32} {c : Nat} (hc : c < 20) (hh : fh = 6) (hp : post (-1000000002) (nI c, fa, fh, fl, a1, a2, a3, a4, a5, a6, a7, a8, a9, a10, a11, a12, a13, a14, a15, a16, a17, a18, a19, a20, a21, a22, a23, a24, a25, a26, a27, a28)) : wpX_constant post (nI c, fa, fh, fl, a1, a2, a3, a4, a5, a6, a7, a8, a9, a10, a11, a12, a13, a14, a15, a16, a17, a18, a19, a20, a21, a22, a23, a24, a25, a26, a27, a28) 1 := by
  unfold wpX_constant
  try dsimp only
  exact br_f (by decide) (br_t (by decide) (pk_eq c 20 (fun t => absurd t (by omega)) (fun _ => br_t hh hp)))
theorem sf_constant_bad {post : Int32 → St2 → Prop} {fp fa fh fl : Int32} {a1 a2 a3 a4 a5 a6 a7 a8 a9 a10 a11 a12 a13 a14 a15 a16 a17 a18 a19 a20 a21 a22 a23 a24 a25 a26 a27 a28 : Nat → Int32} (hp : post (-1000000001) (fp, fa, fh, fl, a1, a2, a3, a4, a5, a6, a7, a8, a9, a10, a11, a12, a13, a14, a15, a16, a17, a18, a19, a20, a21, a22, a23, a24, a25, a26, a27, a28)) : wpX_constant post (fp, fa, fh, fl, a1, a2, a3, a4, a5, a6, a7, a8, a9, a10, a11, a12, a13, a14, a15, a16, a17, a18, a19, a20, a21, a22, a23, a24, a25, a26, a27, a28) 100 := by
  unfold wpX_constant
  try dsimp only
  exact br_f (by decide) (br_f (by decide) hp)
/-- an index or none -/
abbrev sf_in (p : Int32) : Prop := p = -1 ∨ ∃ q, q < 3 ∧ p = nI q
theorem sf_badIndex {post : Int32 → Prop} {u : St2} {p : Int32} (h : sf_in p) (hp : post 0) : wpX_badIndex post u p := by
  unfold wpX_badIndex
  try dsimp only
  rcases h with h | ⟨q, hq, h⟩
  · rw [h]
    exact br_f (by decide) (br_t (by decide) hp)
  · rw [h]
    have e : ¬ nI q < -1 := by
      intro t
      rw [Int32.lt_iff_toInt_lt, nI_toInt (by omega)] at t
      have e3 : (-1 : Int32).toInt = -1 := by decide
      omega
    exact br_f e (pk_le q 2 (fun _ => hp) (fun t => absurd t (by omega)))
/-- the indices that fit a rank -/
def sf_ri (R : Nat) (p q : Int32) : Prop := (R = 0 ∧ p = -1 ∧ q = -1) ∨ (R = 1 ∧ (∃ p', p' < 3 ∧ p = nI p') ∧ q = -1) ∨ (R = 2 ∧ ∃ p' q', p' < 3 ∧ q' < 3 ∧ p' ≠ q' ∧ p = nI p' ∧ q = nI q')
theorem sf_ri_in {R : Nat} {p q : Int32} (h : sf_ri R p q) : sf_in p ∧ sf_in q := by
  rcases h with ⟨_, h1, h2⟩ | ⟨_, ⟨p', h0, h1⟩, h2⟩ | ⟨_, p', q', h0, h1, _, h3, h4⟩
  · exact ⟨Or.inl h1, Or.inl h2⟩
  · exact ⟨Or.inr ⟨p', h0, h1⟩, Or.inl h2⟩
  · exact ⟨Or.inr ⟨p', h0, h3⟩, Or.inr ⟨q', h1, h4⟩⟩
theorem sf_array_in {post : Int32 → St2 → Prop} {fp fa fh fl : Int32} {a1 a2 a3 a4 a5 a6 a7 a8 a9 a10 a11 a12 a13 a14 a15 a16 a17 a18 a19 a20 a21 a22 a23 a24 a25 a26 a27 a28 : Nat → Int32} {r R n m f : Nat} {p q : Int32} (hr : r < 6) (h : sf_hd a1 a2 a3 a4 r R n m f) (hpq : sf_ri R p q) (hp : wX_array_103 post (nI r) p q fp fa fh fl a1 a2 a3 a4 a5 a6 a7 a8 a9 a10 a11 a12 a13 a14 a15 a16 a17 a18 a19 a20 a21 a22 a23 a24 a25 a26 a27 a28) : wpX_array post (fp, fa, fh, fl, a1, a2, a3, a4, a5, a6, a7, a8, a9, a10, a11, a12, a13, a14, a15, a16, a17, a18, a19, a20, a21, a22, a23, a24, a25, a26, a27, a28) (nI r) p q := by
  obtain ⟨hs, e1, e2, e3, e4, hd⟩ := h
  have B := sf_dm_b hd
  have I := sf_ri_in hpq
  unfold wpX_array
  try dsimp only
  rw [nI_clamp (show r < 2 ^ 31 by omega), e1]
  refine sf_badRegister hr (br_t rfl (sf_badIndex I.1 (br_t rfl (sf_badIndex I.2 (br_t rfl ⟨pk_in r 13 hs, ?_⟩)))))
  rcases hpq with ⟨g1, g2, g3⟩ | ⟨g1, ⟨p', g2, g3⟩, g4⟩ | ⟨g1, p', q', g2, g3, g4, g5, g6⟩
  · refine pk_le R 0 (fun _ => ?_) (fun t => absurd t (by omega))
    unfold wX_array_41
    rw [nI_clamp (show r < 2 ^ 31 by omega), e1]
    refine ⟨pk_in r 13 hs, pk_eq R 2 (fun t => absurd t (by omega)) (fun _ => ?_)⟩
    unfold wX_array_58
    refine br_t g2 ?_
    unfold wX_array_72
    refine br_t rfl (br_t g3 ?_)
    unfold wX_array_87
    exact br_t rfl (br_t rfl hp)
  · refine pk_le R 0 (fun t => absurd t (by omega)) (fun _ => ?_)
    unfold wX_array_41
    rw [nI_clamp (show r < 2 ^ 31 by omega), e1]
    refine ⟨pk_in r 13 hs, pk_eq R 2 (fun t => absurd t (by omega)) (fun _ => ?_)⟩
    unfold wX_array_58
    refine br_f (by rw [g3]; exact sf_m1 (by omega)) ?_
    unfold wX_array_72
    refine br_t rfl (br_t g4 ?_)
    unfold wX_array_87
    exact br_t rfl (br_t rfl hp)
  · refine pk_le R 0 (fun t => absurd t (by omega)) (fun _ => ?_)
    unfold wX_array_41
    rw [nI_clamp (show r < 2 ^ 31 by omega), e1]
    refine ⟨pk_in r 13 hs, pk_eq R 2 (fun _ => ?_) (fun t => absurd g1 t)⟩
    unfold wX_array_58
    refine br_f (by rw [g5]; exact sf_m1 (by omega)) ?_
    unfold wX_array_72
    refine br_t rfl (br_f (by rw [g6]; exact sf_m1 (by omega)) ?_)
    unfold wX_array_87
    refine br_t rfl (br_f (by decide) (br_f ?_ hp))
    rw [g5, g6]
    intro t
    exact g4 ((nI_eq (by omega) (by omega)).mp t)
theorem sf_array {post : Int32 → St2 → Prop} {fl : Int32} {a1 a2 a3 a4 a5 a6 a7 a8 a9 a10 a11 a12 a13 a14 a15 a16 a17 a18 a19 a20 a21 a22 a23 a24 a25 a26 a27 a28 : Nat → Int32} {r R n m f w z c na h : Nat} {T : Nat → Int32} {p q : Int32} (hr : r < 6) (hs : sf_slot a1 a2 a3 a4 a5 a6 a7 a8 a9 r R n m f T w z) (hpq : sf_ri R p q) (hc : c < 20) (hna : na < 6) (hh : h < 6)
    (hp : ∀ (b1 b2 b3 b4 b5 b6 b7 b8 b9 b18 : Nat → Int32) (w' z' : Nat), sf_slot b1 b2 b3 b4 b5 b6 b7 b8 b9 (6 + na) R n m f T w' z' → sf_kp (6 + na) a1 a2 a3 a4 a5 a6 a7 a8 a9 b1 b2 b3 b4 b5 b6 b7 b8 b9 → post (nI (h + 1)) (nI (c + 1), nI (na + 1), nI (h + 1), fl, b1, b2, b3, b4, b5, b6, b7, b8, b9, upd a10 c 1, upd a11 c (nI na), upd a12 c (-1), upd a13 c (-1), upd a14 na p, upd a15 na q, upd a16 h (nI c), a17, b18, a19, a20, a21, a22, a23, a24, a25, a26, a27, a28)) : wpX_array post (nI c, nI na, nI h, fl, a1, a2, a3, a4, a5, a6, a7, a8, a9, a10, a11, a12, a13, a14, a15, a16, a17, a18, a19, a20, a21, a22, a23, a24, a25, a26, a27, a28) (nI r) p q := by
  refine sf_array_in hr hs.1 hpq ?_
  unfold wX_array_103
  refine pk_eq c 20 (fun t => absurd t (by omega)) (fun _ => pk_eq na 6 (fun t => absurd t (by omega)) (fun _ => pk_eq h 6 (fun t => absurd t (by omega)) (fun _ => ?_)))
  rw [sf_p6]
  refine sf_copy (by omega) hs (fun b1 b2 b3 b4 b5 b6 b7 b8 b9 b18 h1 h2 => ?_)
  dsimp only
  rw [nI_clamp (show na < 2 ^ 31 by omega)]
  refine ⟨pk_in na 6 hna, nm_e ⟨pk_in na 6 hna, nm_e (sf_part hc ?_)⟩⟩
  dsimp only
  rw [nI_clamp (show h < 2 ^ 31 by omega)]
  exact ⟨pk_in h 6 hh, nm_e (nm_r (nI_1 na) (nm_r (nI_1 h) (hp b1 b2 b3 b4 b5 b6 b7 b8 b9 b18 _ _ h1 h2)))⟩
theorem sf_array_full {post : Int32 → St2 → Prop} {fa fh fl : Int32} {a1 a2 a3 a4 a5 a6 a7 a8 a9 a10 a11 a12 a13 a14 a15 a16 a17 a18 a19 a20 a21 a22 a23 a24 a25 a26 a27 a28 : Nat → Int32} {r R n m f c : Nat} {p q : Int32} (hr : r < 6) (hs : sf_hd a1 a2 a3 a4 r R n m f) (hpq : sf_ri R p q) (hc : c < 20) (ha : fa = 6) (hp : post (-1000000002) (nI c, fa, fh, fl, a1, a2, a3, a4, a5, a6, a7, a8, a9, a10, a11, a12, a13, a14, a15, a16, a17, a18, a19, a20, a21, a22, a23, a24, a25, a26, a27, a28)) : wpX_array post (nI c, fa, fh, fl, a1, a2, a3, a4, a5, a6, a7, a8, a9, a10, a11, a12, a13, a14, a15, a16, a17, a18, a19, a20, a21, a22, a23, a24, a25, a26, a27, a28) (nI r) p q := by
  refine sf_array_in hr hs hpq ?_
  unfold wX_array_103
  exact pk_eq c 20 (fun t => absurd t (by omega)) (fun _ => br_t ha hp)
theorem sf_scrap {post : St2 → Prop} {fp fa fh fl : Int32} {a1 a2 a3 a4 a5 a6 a7 a8 a9 a10 a11 a12 a13 a14 a15 a16 a17 a18 a19 a20 a21 a22 a23 a24 a25 a26 a27 a28 : Nat → Int32} (hp : post (0, 0, 0, fl, a1, a2, a3, a4, a5, a6, a7, a8, a9, a10, a11, a12, a13, a14, a15, a16, a17, a18, a19, a20, a21, a22, a23, a24, a25, a26, a27, a28)) : wpX_scrap post (fp, fa, fh, fl, a1, a2, a3, a4, a5, a6, a7, a8, a9, a10, a11, a12, a13, a14, a15, a16, a17, a18, a19, a20, a21, a22, a23, a24, a25, a26, a27, a28) := by
  unfold wpX_scrap
  try dsimp only
  exact hp
end
section
/-! ===== markParts, findSpans, span ===== -/
/-- a formula that has been made, as the commands need it -/
abbrev sf_fo (a10 a11 a12 a13 a14 a15 : Nat → Int32) (top na : Nat) : Prop := (∀ k, k ≤ top → (a12 k = -1 ∨ ∃ j, j < k ∧ a12 k = nI j) ∧ (a13 k = -1 ∨ ∃ j, j < k ∧ a13 k = nI j)) ∧ (∀ k, k < top → ∃ k', k' ≤ top ∧ k < k' ∧ (a12 k' = nI k ∨ a13 k' = nI k)) ∧ (∀ k, k ≤ top → a10 k = 1 → ∃ a, a < na ∧ a11 k = nI a ∧ sf_in (a14 a) ∧ sf_in (a15 a))
theorem sf_fo_N {a10 a11 a12 a13 a14 a15 : Nat → Int32} {top na : Nat} (hna : na ≤ 6) (h : sf_fo a10 a11 a12 a13 a14 a15 top na) : ∀ k, k ≤ top → a10 k = 1 → ∃ a, a < 6 ∧ a11 k = nI a ∧ sf_in (a14 a) ∧ sf_in (a15 a) := by
  intro k hk h1
  obtain ⟨a, g1, g2⟩ := h.2.2 k hk h1
  exact ⟨a, by omega, g2⟩
theorem sf_fo_congr {a10 a11 a12 a13 a14 a15 b10 b11 b12 b13 b14 b15 : Nat → Int32} {top na : Nat} (h10 : ∀ k, k ≤ top → a10 k = b10 k) (h11 : ∀ k, k ≤ top → a11 k = b11 k) (h12 : ∀ k, k ≤ top → a12 k = b12 k) (h13 : ∀ k, k ≤ top → a13 k = b13 k) (h14 : ∀ k, k < na → a14 k = b14 k) (h15 : ∀ k, k < na → a15 k = b15 k) (h : sf_fo b10 b11 b12 b13 b14 b15 top na) : sf_fo a10 a11 a12 a13 a14 a15 top na := by
  refine ⟨fun k hk => ?_, fun k hk => ?_, fun k hk hk1 => ?_⟩
  · rw [h12 k hk, h13 k hk]
    exact h.1 k hk
  · obtain ⟨k', k1, k2, k3⟩ := h.2.1 k hk
    exact ⟨k', k1, k2, by rw [h12 k' k1, h13 k' k1]; exact k3⟩
  · rw [h10 k hk] at hk1
    obtain ⟨a, g1, g2, g3, g4⟩ := h.2.2 k hk hk1
    exact ⟨a, g1, by rw [h11 k hk]; exact g2, by rw [h14 a g1]; exact g3, by rw [h15 a g1]; exact g4⟩
theorem sf_markParts {post : St2 → Prop} {fa fh fl : Int32} {a1 a2 a3 a4 a5 a6 a7 a8 a9 a10 a11 a12 a13 a14 a15 a16 a17 a18 a19 a20 a21 a22 a23 a24 a25 a26 a27 a28 : Nat → Int32} {c top : Nat} (hc : c ≤ 20) (ht : top < c) (hA : ∀ k, k ≤ top → (a12 k = -1 ∨ ∃ j, j < k ∧ a12 k = nI j) ∧ (a13 k = -1 ∨ ∃ j, j < k ∧ a13 k = nI j)) (hP : ∀ k, k < top → ∃ k', k' ≤ top ∧ k < k' ∧ (a12 k' = nI k ∨ a13 k' = nI k))
    (hp : ∀ b17 : Nat → Int32, (∀ k, k ≤ top → b17 k = 1) → post (nI c, fa, fh, fl, a1, a2, a3, a4, a5, a6, a7, a8, a9, a10, a11, a12, a13, a14, a15, a16, b17, a18, a19, a20, a21, a22, a23, a24, a25, a26, a27, a28)) : wpX_markParts post (nI c, fa, fh, fl, a1, a2, a3, a4, a5, a6, a7, a8, a9, a10, a11, a12, a13, a14, a15, a16, a17, a18, a19, a20, a21, a22, a23, a24, a25, a26, a27, a28) (nI top) := by
  unfold wpX_markParts
  try dsimp only
  refine pk_loop (fun n i s => wX_markParts_2 post (nI top) (nI c) fa fh fl n (nI i) a1 a2 a3 a4 a5 a6 a7 a8 a9 a10 a11 a12 a13 a14 a15 a16 s a18 a19 a20 a21 a22 a23 a24 a25 a26 a27 a28) (fun i s => top < i → s top = 1) c 0 a17 (by omega) (fun t => absurd t (by omega)) (fun n s h => ?_) (fun n i s hi h hw => ?_)
  · refine pk_le c c (fun _ => ?_) (fun t => absurd t (by omega))
    have D := pk_loopD (fun n i s => wX_markParts_34 post (nI c) fa fh fl n (nI i + (-1)) a1 a2 a3 a4 a5 a6 a7 a8 a9 a10 a11 a12 a13 a14 a15 a16 s a18 a19 a20 a21 a22 a23 a24 a25 a26 a27 a28) (fun i s => i ≤ top + 1 ∧ s top = 1 ∧ ∀ q, i ≤ q → q ≤ top → s q = 1 ∧ (∀ j, j < q → a12 q = nI j → s j = 1) ∧ (∀ j, j < q → a13 q = nI j → s j = 1)) (fun n s hs => ?_) (fun n i s hs hw => ?_) (top + 1) s ⟨by omega, h ht, fun q h1 h2 => absurd h1 (by omega)⟩
    · refine ⟨top + 1 + 1, ?_⟩
      have D' : wX_markParts_34 post (nI c) fa fh fl (top + 1 + 1) (nI (top + 1) + (-1)) a1 a2 a3 a4 a5 a6 a7 a8 a9 a10 a11 a12 a13 a14 a15 a16 s a18 a19 a20 a21 a22 a23 a24 a25 a26 a27 a28 := D
      rw [pk_m1] at D'
      exact D'
    · exact br_t (by decide) (hp s (fun k hk => (hs.2.2 k (by omega) hk).1))
    · obtain ⟨h1, h2, h3⟩ := hs
      have hi : i ≤ top := by omega
      have si : s i = 1 := by
        by_cases e : i = top
        · rw [e]; exact h2
        · obtain ⟨k', k2, k1, k3⟩ := hP i (by omega)
          rcases k3 with k3 | k3
          · exact (h3 k' (by omega) k2).2.1 i k1 k3
          · exact (h3 k' (by omega) k2).2.2 i k1 k3
      have keep : ∀ (s' : Nat → Int32), (∀ q, s q = 1 → s' q = 1) → (∀ j, j < i → a12 i = nI j → s' j = 1) → (∀ j, j < i → a13 i = nI j → s' j = 1) → wX_markParts_34 post (nI c) fa fh fl n (nI i + (-1)) a1 a2 a3 a4 a5 a6 a7 a8 a9 a10 a11 a12 a13 a14 a15 a16 s' a18 a19 a20 a21 a22 a23 a24 a25 a26 a27 a28 := by
        intro s' g1 g2 g3
        refine hw s' ⟨by omega, g1 _ h2, fun q q1 q2 => ?_⟩
        by_cases e : q = i
        · rw [e]; exact ⟨g1 _ si, g2, g3⟩
        · obtain ⟨r1, r2, r3⟩ := h3 q (by omega) q2
          exact ⟨g1 _ r1, fun j hj hj' => g1 _ (r2 j hj hj'), fun j hj hj' => g1 _ (r3 j hj hj')⟩
      have k69 : ∀ (s' : Nat → Int32), (∀ q, s q = 1 → s' q = 1) → (∀ j, j < i → a12 i = nI j → s' j = 1) → wX_markParts_69 post (wX_markParts_34 post (nI c) fa fh fl n) (nI i) (nI c) fa fh fl a1 a2 a3 a4 a5 a6 a7 a8 a9 a10 a11 a12 a13 a14 a15 a16 s' a18 a19 a20 a21 a22 a23 a24 a25 a26 a27 a28 := by
        intro s' g1 g2
        unfold wX_markParts_69
        rw [nI_clamp (show i < 2 ^ 31 by omega)]
        refine ⟨pk_in i 20 (by omega), br_f (by rw [g1 _ si]; decide) ⟨pk_in i 20 (by omega), br_c (fun t => nm_e (keep s' g1 g2 (fun j hj hj' => ?_))) (fun t => ?_)⟩⟩
        · rw [t] at hj'
          exact absurd hj'.symm (sf_m1 (by omega))
        · rcases (hA i hi).2 with t' | ⟨j, j1, j2⟩
          · exact absurd t' t
          · rw [j2, nI_clamp (show j < 2 ^ 31 by omega)]
            refine ⟨pk_in i 20 (by omega), pk_in j 20 (by omega), nm_e (nm_e (keep _ (fun q hq => ?_) (fun j' hj hj' => ?_) (fun j' hj hj' => ?_)))⟩
            · by_cases e : q = j
              · rw [e, pk_us]
              · rw [pk_un e]; exact g1 q hq
            · by_cases e : j' = j
              · rw [e, pk_us]
              · rw [pk_un e]; exact g2 j' hj hj'
            · have e : j' = j := (nI_eq (by omega) (by omega)).mp (by rw [← hj', j2])
              rw [e, pk_us]
      show wX_markParts_34 post (nI c) fa fh fl (n + 1) (nI (i + 1) + (-1)) a1 a2 a3 a4 a5 a6 a7 a8 a9 a10 a11 a12 a13 a14 a15 a16 s a18 a19 a20 a21 a22 a23 a24 a25 a26 a27 a28
      rw [pk_m1]
      refine br_f (nI_pos (by omega)) ?_
      rw [nI_clamp (show i < 2 ^ 31 by omega)]
      refine ⟨pk_in i 20 (by omega), br_f (by rw [si]; decide) ⟨pk_in i 20 (by omega), br_c (fun t => k69 s (fun _ hq => hq) (fun j hj hj' => ?_)) (fun t => ?_)⟩⟩
      · rw [t] at hj'
        exact absurd hj'.symm (sf_m1 (by omega))
      · rcases (hA i hi).1 with t' | ⟨j, j1, j2⟩
        · exact absurd t' t
        · rw [j2, nI_clamp (show j < 2 ^ 31 by omega)]
          refine ⟨pk_in i 20 (by omega), pk_in j 20 (by omega), nm_e (k69 _ (fun q hq => ?_) (fun j' hj hj' => ?_))⟩
          · by_cases e : q = j
            · rw [e, pk_us]
            · rw [pk_un e]; exact hq
          · have e : j' = j := (nI_eq (by omega) (by omega)).mp (by rw [← hj', j2])
            rw [e, pk_us]
  · refine pk_le c i (fun t => absurd t (by omega)) (fun _ => ?_)
    rw [nI_clamp (show i < 2 ^ 31 by omega)]
    refine pk_eq i top (fun e => ⟨pk_in i 20 (by omega), nm_e (nm_r (nI_1 i) (hw _ (fun _ => ?_)))⟩) (fun e => ⟨pk_in i 20 (by omega), nm_e (nm_r (nI_1 i) (hw _ (fun t => ?_)))⟩)
    · rw [e, pk_us]
    · rw [pk_un (by omega)]
      exact h (by omega)
/-- a length is added to an index's -/
def sf_as (g : Nat → Int32) (p len : Int32) : Nat → Int32 := if p = -1 then g else upd g p.toNatClampNeg (if g p.toNatClampNeg = 0 ∨ g p.toNatClampNeg = len then len else -1000000005)
/-- the lengths of the indices of the first parts -/
def sf_fs (kd nm ia ib rz cz : Nat → Int32) : Nat → Nat → Int32
  | 0 => fun _ => 0
  | k + 1 => if kd k = 1 then sf_as (sf_as (sf_fs kd nm ia ib rz cz k) (ia (nm k).toNatClampNeg) (rz (6 + (nm k).toNatClampNeg))) (ib (nm k).toNatClampNeg) (cz (6 + (nm k).toNatClampNeg)) else sf_fs kd nm ia ib rz cz k
theorem sf_fs_congr {kd nm ia ib rz cz kd' nm' ia' ib' rz' cz' : Nat → Int32} {na : Nat} (hA : ∀ a, a < na → ia a = ia' a ∧ ib a = ib' a ∧ rz (6 + a) = rz' (6 + a) ∧ cz (6 + a) = cz' (6 + a)) : ∀ c, (∀ k, k < c → kd k = kd' k ∧ nm k = nm' k ∧ (kd' k = 1 → (nm' k).toNatClampNeg < na)) → sf_fs kd nm ia ib rz cz c = sf_fs kd' nm' ia' ib' rz' cz' c := by
  intro c
  induction c with
  | zero => intro _; rfl
  | succ c ih =>
    intro h
    obtain ⟨h1, h2, h3⟩ := h c (by omega)
    show (if kd c = 1 then _ else _) = (if kd' c = 1 then _ else _)
    rw [ih (fun k hk => h k (by omega)), h1, h2]
    by_cases e : kd' c = 1
    · rw [if_pos e, if_pos e]
      obtain ⟨g1, g2, g3, g4⟩ := hA _ (h3 e)
      rw [g1, g2, g3, g4]
    · rw [if_neg e, if_neg e]
theorem sf_as_congr {g g' : Nat → Int32} {p len : Int32} (hp : sf_in p) (h : ∀ q, q < 3 → g q = g' q) : ∀ q, q < 3 → sf_as g p len q = sf_as g' p len q := by
  intro q hq
  unfold sf_as
  rcases hp with e | ⟨p', e1, e2⟩
  · rw [if_pos e, if_pos e]
    exact h q hq
  · have e3 : ¬ p = -1 := by rw [e2]; exact sf_m1 (by omega)
    rw [if_neg e3, if_neg e3, e2, nI_clamp (by omega), h p' e1]
    by_cases e : q = p'
    · rw [e, pk_us, pk_us]
    · rw [pk_un e, pk_un e]
      exact h q hq
theorem sf_addSpan {post : St2 → Prop} {fp fa fh fl : Int32} {a1 a2 a3 a4 a5 a6 a7 a8 a9 a10 a11 a12 a13 a14 a15 a16 a17 a18 a19 a20 a21 a22 a23 a24 a25 a26 a27 a28 : Nat → Int32} {p len : Int32} (hp' : sf_in p) (hp : post (fp, fa, fh, fl, a1, a2, a3, a4, a5, a6, a7, a8, a9, a10, a11, a12, a13, a14, a15, a16, a17, a18, a19, sf_as a20 p len, a21, a22, a23, a24, a25, a26, a27, a28)) : wpX_addSpan post (fp, fa, fh, fl, a1, a2, a3, a4, a5, a6, a7, a8, a9, a10, a11, a12, a13, a14, a15, a16, a17, a18, a19, a20, a21, a22, a23, a24, a25, a26, a27, a28) p len := by
  unfold wpX_addSpan
  try dsimp only
  unfold sf_as at hp
  rcases hp' with e | ⟨p', e1, e2⟩
  · rw [if_pos e] at hp
    exact br_t e hp
  · have e3 : ¬ p = -1 := by rw [e2]; exact sf_m1 (by omega)
    rw [if_neg e3] at hp
    have v : vp_in p 3 := by rw [e2]; exact pk_in p' 3 e1
    refine br_f e3 ⟨v, br_c (fun t => ?_) (fun t => ⟨v, br_c (fun t2 => ?_) (fun t2 => ?_)⟩)⟩
    · rw [if_pos (Or.inl t)] at hp
      exact ⟨v, nm_e hp⟩
    · rw [if_pos (Or.inr t2)] at hp
      exact ⟨v, nm_e hp⟩
    · rw [if_neg (fun t3 => t3.elim t t2)] at hp
      exact ⟨v, nm_e hp⟩
theorem sf_findSpans {post : St2 → Prop} {fa fh fl : Int32} {a1 a2 a3 a4 a5 a6 a7 a8 a9 a10 a11 a12 a13 a14 a15 a16 a17 a18 a19 a20 a21 a22 a23 a24 a25 a26 a27 a28 : Nat → Int32} {c top : Nat} (hc : c ≤ 20) (ht : top < c) (hA : ∀ k, k ≤ top → (a12 k = -1 ∨ ∃ j, j < k ∧ a12 k = nI j) ∧ (a13 k = -1 ∨ ∃ j, j < k ∧ a13 k = nI j)) (hP : ∀ k, k < top → ∃ k', k' ≤ top ∧ k < k' ∧ (a12 k' = nI k ∨ a13 k' = nI k))
    (hN : ∀ k, k ≤ top → a10 k = 1 → ∃ a, a < 6 ∧ a11 k = nI a ∧ sf_in (a14 a) ∧ sf_in (a15 a))
    (hp : ∀ b17 b20 : Nat → Int32, (∀ k, k ≤ top → b17 k = 1) → (∀ q, q < 3 → b20 q = sf_fs a10 a11 a14 a15 a2 a3 (top + 1) q) → post (nI c, fa, fh, fl, a1, a2, a3, a4, a5, a6, a7, a8, a9, a10, a11, a12, a13, a14, a15, a16, b17, a18, a19, b20, a21, a22, a23, a24, a25, a26, a27, a28)) : wpX_findSpans post (nI c, fa, fh, fl, a1, a2, a3, a4, a5, a6, a7, a8, a9, a10, a11, a12, a13, a14, a15, a16, a17, a18, a19, a20, a21, a22, a23, a24, a25, a26, a27, a28) (nI top) := by
  unfold wpX_findSpans
  try dsimp only
  refine sf_markParts hc ht hA hP (fun b17 hb => ?_)
  refine pk_loop (fun n i s => wX_findSpans_7 post (nI top) (nI c) fa fh fl n (nI i) a1 a2 a3 a4 a5 a6 a7 a8 a9 a10 a11 a12 a13 a14 a15 a16 b17 a18 a19 s a21 a22 a23 a24 a25 a26 a27 a28) (fun i s => ∀ q, q < i → s q = 0) 3 0 a20 (by omega) (fun q hq => absurd hq (by omega)) (fun n s h => ?_) (fun n i s hi h hw => ?_)
  · refine pk_le 3 3 (fun _ => ?_) (fun t => absurd t (by omega))
    refine pk_loop (fun n i s => wX_findSpans_27 post (nI top) n (nI i) (nI c) fa fh fl a1 a2 a3 a4 a5 a6 a7 a8 a9 a10 a11 a12 a13 a14 a15 a16 b17 a18 a19 s a21 a22 a23 a24 a25 a26 a27 a28) (fun i s => ∀ q, q < 3 → s q = sf_fs a10 a11 a14 a15 a2 a3 i q) (top + 1) 0 s (by omega) h (fun n s h => ?_) (fun n i s hi h hw => ?_)
    · exact pk_lt top (top + 1) (fun _ => hp b17 s hb h) (fun t => absurd t (by omega))
    · refine pk_lt top i (fun t => absurd t (by omega)) (fun _ => ?_)
      rw [nI_clamp (show i < 2 ^ 31 by omega)]
      have e : sf_fs a10 a11 a14 a15 a2 a3 (i + 1) = if a10 i = 1 then sf_as (sf_as (sf_fs a10 a11 a14 a15 a2 a3 i) (a14 (a11 i).toNatClampNeg) (a2 (6 + (a11 i).toNatClampNeg))) (a15 (a11 i).toNatClampNeg) (a3 (6 + (a11 i).toNatClampNeg)) else sf_fs a10 a11 a14 a15 a2 a3 i := rfl
      refine ⟨pk_in i 20 (by omega), br_f (by rw [hb i (by omega)]; decide) ⟨pk_in i 20 (by omega), br_c (fun t => ⟨pk_in i 20 (by omega), ?_⟩) (fun t => nm_r (nI_1 i) (hw s ?_))⟩⟩
      · obtain ⟨a, k1, k2, k3, k4⟩ := hN i (by omega) t
        rw [if_pos t, k2, nI_clamp (show a < 2 ^ 31 by omega)] at e
        refine nm_r k2 ?_
        rw [sf_p6, nI_clamp (show a < 2 ^ 31 by omega), nI_clamp (show 6 + a < 2 ^ 31 by omega)]
        refine ⟨pk_in a 6 k1, sf_v (by omega), sf_addSpan k3 ?_⟩
        refine ⟨pk_in a 6 k1, sf_v (by omega), sf_addSpan k4 ?_⟩
        refine nm_r (nI_1 i) (hw _ (fun q hq => ?_))
        rw [e]
        exact sf_as_congr k4 (sf_as_congr k3 h) q hq
      · rw [e, if_neg t]
        exact h
  · refine pk_le 3 i (fun t => absurd t (by omega)) (fun _ => ⟨pk_in i 3 hi, nm_e (nm_r (nI_1 i) (hw _ (fun q hq => ?_)))⟩)
    rw [nI_clamp (by omega)]
    by_cases e : q = i
    · rw [e, pk_us]
    · rw [pk_un e]
      exact h q (by omega)
theorem sf_span {post : Int32 → St2 → Prop} {fa fl : Int32} {a1 a2 a3 a4 a5 a6 a7 a8 a9 a10 a11 a12 a13 a14 a15 a16 a17 a18 a19 a20 a21 a22 a23 a24 a25 a26 a27 a28 : Nat → Int32} {c top p na : Nat} (hp3 : p < 3) (hst : a16 0 = nI top) (hc : c ≤ 20) (ht : top < c) (hna : na ≤ 6) (hfo : sf_fo a10 a11 a12 a13 a14 a15 top na)
    (hp : ∀ b17 b20 : Nat → Int32, post (if sf_fs a10 a11 a14 a15 a2 a3 (top + 1) p = 0 then -1000000004 else sf_fs a10 a11 a14 a15 a2 a3 (top + 1) p) (nI c, fa, 1, fl, a1, a2, a3, a4, a5, a6, a7, a8, a9, a10, a11, a12, a13, a14, a15, a16, b17, a18, a19, b20, a21, a22, a23, a24, a25, a26, a27, a28)) : wpX_span post (nI c, fa, 1, fl, a1, a2, a3, a4, a5, a6, a7, a8, a9, a10, a11, a12, a13, a14, a15, a16, a17, a18, a19, a20, a21, a22, a23, a24, a25, a26, a27, a28) (nI p) := by
  unfold wpX_span
  try dsimp only
  refine br_f (nI_pos (by omega)) (pk_le p 2 (fun _ => br_f (by decide) ⟨pk_in 0 6 (by omega), ?_⟩) (fun t => absurd t (by omega)))
  rw [show (1 - 1 : Int32).toNatClampNeg = 0 by decide, hst]
  refine sf_findSpans hc ht hfo.1 hfo.2.1 (sf_fo_N hna hfo) (fun b17 b20 h1 h2 => ?_)
  dsimp only
  have k := hp b17 b20
  rw [nI_clamp (show p < 2 ^ 31 by omega), h2 p hp3]
  refine ⟨pk_in p 3 hp3, br_c (fun t => ?_) (fun t => ⟨pk_in p 3 hp3, ?_⟩)⟩
  · rw [if_pos t] at k
    exact k
  · rw [if_neg t] at k
    exact k
theorem sf_span_none {post : Int32 → St2 → Prop} {fp fa fh fl : Int32} {a1 a2 a3 a4 a5 a6 a7 a8 a9 a10 a11 a12 a13 a14 a15 a16 a17 a18 a19 a20 a21 a22 a23 a24 a25 a26 a27 a28 : Nat → Int32} {p : Nat} (hp3 : p < 3) (hh : fh = 0) (hp : post (-1000000004) (fp, fa, fh, fl, a1, a2, a3, a4, a5, a6, a7, a8, a9, a10, a11, a12, a13, a14, a15, a16, a17, a18, a19, a20, a21, a22, a23, a24, a25, a26, a27, a28)) : wpX_span post (fp, fa, fh, fl, a1, a2, a3, a4, a5, a6, a7, a8, a9, a10, a11, a12, a13, a14, a15, a16, a17, a18, a19, a20, a21, a22, a23, a24, a25, a26, a27, a28) (nI p) := by
  unfold wpX_span
  try dsimp only
  exact br_f (nI_pos (by omega)) (pk_le p 2 (fun _ => br_t hh hp) (fun t => absurd t (by omega)))
theorem sf_span_bad {post : Int32 → St2 → Prop} {fp fa fh fl : Int32} {a1 a2 a3 a4 a5 a6 a7 a8 a9 a10 a11 a12 a13 a14 a15 a16 a17 a18 a19 a20 a21 a22 a23 a24 a25 a26 a27 a28 : Nat → Int32} (hp : post (-1000000001) (fp, fa, fh, fl, a1, a2, a3, a4, a5, a6, a7, a8, a9, a10, a11, a12, a13, a14, a15, a16, a17, a18, a19, a20, a21, a22, a23, a24, a25, a26, a27, a28)) : wpX_span post (fp, fa, fh, fl, a1, a2, a3, a4, a5, a6, a7, a8, a9, a10, a11, a12, a13, a14, a15, a16, a17, a18, a19, a20, a21, a22, a23, a24, a25, a26, a27, a28) 3 := by
  unfold wpX_span
  try dsimp only
  exact br_f (by decide) (br_f (by decide) hp)
end
section
/-! ===== working a formula out: what stands still ===== -/
/-- the number that an index has; 0 for none -/
def sf_ei (e : Nat → Nat) (p : Int32) : Nat := if p = -1 then 0 else e p.toNatClampNeg
theorem sf_ei_0 (e : Nat → Nat) : sf_ei e (-1) = 0 := rfl
theorem sf_ei_q (e : Nat → Nat) {q : Nat} (h : q < 3) : sf_ei e (nI q) = e q := by
  unfold sf_ei
  rw [if_neg (sf_m1 (by omega)), nI_clamp (by omega)]
def sf_li (R f : Nat) (p q : Int32) : Int32 := if R < 2 then -1 else if 4 ≤ f then q else p
def sf_pi (R f : Nat) (p q : Int32) : Int32 := if R < 2 then p else if 4 ≤ f then p else q
/-- the formula's equations -/
def sf_eq (kd nm pa pb : Nat → Int32) (top na : Nat) (E : (Nat → Int32) → Nat → Int32) : Prop := ∀ k, k ≤ top → (kd k = 0 ∧ ∀ V, E V k = nm k) ∨ (kd k = 1 ∧ ∃ a, a < na ∧ nm k = nI a ∧ ∀ V, E V k = V a) ∨ (kd k = 2 ∧ ∃ j, j < k ∧ pa k = nI j ∧ ∀ V, E V k = - E V j) ∨ (kd k = 3 ∧ ∃ i j, i < k ∧ j < k ∧ pa k = nI i ∧ pb k = nI j ∧ ∀ V, E V k = E V i + E V j) ∨ (kd k = 4 ∧ ∃ i j, i < k ∧ j < k ∧ pa k = nI i ∧ pb k = nI j ∧ ∀ V, E V k = E V i - E V j) ∨ (kd k = 5 ∧ ∃ i j, i < k ∧ j < k ∧ pa k = nI i ∧ pb k = nI j ∧ ∀ V, E V k = E V i * E V j)
/-- the value of an array -/
def sf_av (ia ib : Nat → Int32) (Tt : Nat → Nat → Int32) (e : Nat → Nat) (a : Nat) : Int32 := Tt a (6 * sf_ei e (ia a) + sf_ei e (ib a))
def sf_cx (a1 a2 a3 a4 a5 a6 a7 a8 a9 a10 a11 a12 a13 a14 a15 a17 a19 a20 a21 a22 : Nat → Int32) (na top : Nat) (Rk Nr Mc Fo : Nat → Nat) (Tt : Nat → Nat → Int32) (E : (Nat → Int32) → Nat → Int32) (sp : Nat → Nat) (L : Nat) (lp od : Nat → Nat) (tl : Nat → List Nat) : Prop :=
  (na ≤ 6 ∧ top < 20 ∧ L ≤ 3) ∧
  (∀ a, a < na → (∃ w z, sf_slot a1 a2 a3 a4 a5 a6 a7 a8 a9 (6 + a) (Rk a) (Nr a) (Mc a) (Fo a) (Tt a) w z) ∧ sf_ri (Rk a) (a14 a) (a15 a) ∧ a21 a = sf_li (Rk a) (Fo a) (a14 a) (a15 a) ∧ a22 a = sf_pi (Rk a) (Fo a) (a14 a) (a15 a)) ∧
  (∀ k, k ≤ top → a17 k = 1) ∧ sf_eq a10 a11 a12 a13 top na E ∧
  (∀ j, j < L → lp j < 3 ∧ od (lp j) = j ∧ a19 j = nI (lp j) ∧ 1 ≤ sp (lp j) ∧ sp (lp j) ≤ 6 ∧ a20 (lp j) = nI (sp (lp j))) ∧
  (∀ a, a < na → ∀ q, q < 3 → (a14 a = nI q → od q < L ∧ lp (od q) = q ∧ Nr a = sp q) ∧ (a15 a = nI q → od q < L ∧ lp (od q) = q ∧ Mc a = sp q)) ∧
  (∀ a, a < na → ∀ q q', q < 3 → q' < 3 → a21 a = nI q → a22 a = nI q' → od q < od q') ∧
  (tl L = [] ∧ ∀ d, d < L → tl d = lp d :: tl (d + 1))
theorem sf_cx_l {a1 a2 a3 a4 a5 a6 a7 a8 a9 a10 a11 a12 a13 a14 a15 a17 a19 a20 a21 a22 : Nat → Int32} {na top : Nat} {Rk Nr Mc Fo : Nat → Nat} {Tt : Nat → Nat → Int32} {E : (Nat → Int32) → Nat → Int32} {sp : Nat → Nat} {L : Nat} {lp od : Nat → Nat} {tl : Nat → List Nat} (hc : sf_cx a1 a2 a3 a4 a5 a6 a7 a8 a9 a10 a11 a12 a13 a14 a15 a17 a19 a20 a21 a22 na top Rk Nr Mc Fo Tt E sp L lp od tl) {a : Nat} (ha : a < na) :
    ((a21 a = -1 ∧ Rk a < 2) ∨ ∃ q, q < 3 ∧ a21 a = nI q ∧ od q < L ∧ lp (od q) = q ∧ sf_lc (Rk a) (Nr a) (Mc a) (Fo a) = sp q ∧ Rk a = 2) ∧ ((a22 a = -1 ∧ Rk a = 0) ∨ ∃ q, q < 3 ∧ a22 a = nI q ∧ od q < L ∧ lp (od q) = q ∧ sf_ll (Rk a) (Nr a) (Mc a) (Fo a) = sp q) ∧ (∀ e, sf_av a14 a15 Tt e a = Tt a (sf_ix (Rk a) (Fo a) (sf_ei e (a21 a)) (sf_ei e (a22 a)))) := by
  obtain ⟨c0, c1, c2, c3, c4, c5, c6, c7⟩ := hc
  obtain ⟨⟨w, z, hs⟩, hri, hli, hpi⟩ := c1 a ha
  have x5 := c5 a ha
  rw [hli, hpi]
  unfold sf_av sf_li sf_pi sf_lc sf_ll sf_ix
  rcases hri with ⟨g1, g2, g3⟩ | ⟨g1, ⟨p', g2, g3⟩, g4⟩ | ⟨g1, p', q', g2, g3, g4, g5, g6⟩
  · rw [g1]
    simp only [if_pos (show 0 < 2 by omega)]
    refine ⟨Or.inl ⟨trivial, by omega⟩, Or.inl ⟨g2, trivial⟩, fun e => ?_⟩
    rw [g2, g3, sf_ei_0]
  · rw [g1]
    simp only [if_pos (show 1 < 2 by omega)]
    have y := (x5 p' g2).1 g3
    refine ⟨Or.inl ⟨trivial, by omega⟩, Or.inr ⟨p', g2, g3, y.1, y.2.1, y.2.2⟩, fun e => ?_⟩
    rw [g4, sf_ei_0]
    rfl
  · rw [g1]
    simp only [if_neg (show ¬ 2 < 2 by omega)]
    have y := (x5 p' g2).1 g5
    have y' := (x5 q' g3).2 g6
    by_cases hf : 4 ≤ Fo a
    · simp only [if_pos hf]
      exact ⟨Or.inr ⟨q', g3, g6, y'.1, y'.2.1, y'.2.2, trivial⟩, Or.inr ⟨p', g2, g5, y.1, y.2.1, y.2.2⟩, fun e => trivial⟩
    · simp only [if_neg hf]
      exact ⟨Or.inr ⟨p', g2, g5, y.1, y.2.1, y.2.2, trivial⟩, Or.inr ⟨q', g3, g6, y'.1, y'.2.1, y'.2.2⟩, fun e => trivial⟩
/-- an index that outer loops have set -/
def sf_kn (od : Nat → Nat) (d : Nat) (p : Int32) : Prop := p = -1 ∨ ∃ q, q < 3 ∧ p = nI q ∧ od q < d
/-- where a value stands -/
def sf_pv (a9 : Nat → Int32) (s : Nat) (V r : Int32) : Prop := (r = -1 ∧ V = 0) ∨ (∃ x, x < 36 ∧ r = nI x ∧ a9 (36 * s + x) = V)
/-- what outer loops have come to -/
def sf_dy (a5 a6 a9 a14 a15 a21 a22 a23 a24 : Nat → Int32) (na : Nat) (Rk Nr Mc Fo : Nat → Nat) (Tt : Nat → Nat → Int32) (od : Nat → Nat) (d : Nat) (e : Nat → Nat) : Prop := ∀ a, a < na → (sf_kn od d (a21 a) → sf_fl a5 a6 (6 + a) (Rk a) (Fo a) (sf_ll (Rk a) (Nr a) (Mc a) (Fo a)) (Tt a) (sf_ei e (a21 a)) (a23 a)) ∧ (sf_kn od d (a22 a) → sf_pv a9 (6 + a) (sf_av a14 a15 Tt e a) (a24 a))
theorem sf_loopOf {post : Int32 → Prop} {fp fa fh fl : Int32} {a1 a2 a3 a4 a5 a6 a7 a8 a9 a10 a11 a12 a13 a14 a15 a16 a17 a18 a19 a20 a21 a22 a23 a24 a25 a26 a27 a28 : Nat → Int32} {L : Nat} {lp od : Nat → Nat} {q : Nat} (hL : L ≤ 3) (h : ∀ j, j < L → lp j < 3 ∧ od (lp j) = j ∧ a19 j = nI (lp j)) (hq : od q < L ∧ lp (od q) = q) (hp : post (nI (od q))) : wpX_loopOf post (fp, fa, fh, fl, a1, a2, a3, a4, a5, a6, a7, a8, a9, a10, a11, a12, a13, a14, a15, a16, a17, a18, a19, a20, a21, a22, a23, a24, a25, a26, a27, a28) (nI q) := by
  unfold wpX_loopOf
  try dsimp only
  have h1 := h (od q) hq.1
  rw [hq.2] at h1
  have ne : ∀ j, j < od q → ¬ a19 j = nI q := by
    intro j hj t
    have g := h j (by omega)
    rw [g.2.2] at t
    have e := (nI_eq (by omega) (by omega)).mp t
    rw [e] at g
    omega
  by_cases e0 : od q = 0
  · rw [e0] at h1 hp
    exact br_t h1.2.2 hp
  · by_cases e1 : od q = 1
    · rw [e1] at h1 hp
      exact br_f (ne 0 (by omega)) (br_t h1.2.2 hp)
    · have e2 : od q = 2 := by omega
      rw [e2] at hp
      exact br_f (ne 0 (by omega)) (br_f (ne 1 (by omega)) hp)
theorem sf_heldLines {post : Int32 → Prop} {fp fa fh fl : Int32} {a1 a2 a3 a4 a5 a6 a7 a8 a9 a10 a11 a12 a13 a14 a15 a16 a17 a18 a19 a20 a21 a22 a23 a24 a25 a26 a27 a28 : Nat → Int32} {s R n m f w z : Nat} {T : Nat → Int32} (h : sf_slot a1 a2 a3 a4 a5 a6 a7 a8 a9 s R n m f T w z) (hp : ∀ S, S < 64 → (∀ v, v < sf_lc R n m f → S.testBit v = false → ∀ p, p < sf_ll R n m f → T (sf_ix R f v p) = 0) → post (nI S)) : wpX_heldLines post (fp, fa, fh, fl, a1, a2, a3, a4, a5, a6, a7, a8, a9, a10, a11, a12, a13, a14, a15, a16, a17, a18, a19, a20, a21, a22, a23, a24, a25, a26, a27, a28) (nI s) := by
  obtain ⟨hs, e1, e2, e3, e4, hd⟩ := h.1
  have B := sf_dm_b hd
  obtain ⟨K, LA, LB, hK, hKl, hB0, hBK, hB, hM, hS, hO, hC, hct⟩ := sf_open h
  unfold wpX_heldLines
  try dsimp only
  refine pk_loop (σ := Nat) (fun k i S => wX_heldLines_4 post (nI s) fp fa fh fl a1 a2 a3 a4 a5 a6 a7 a8 a9 a10 a11 a12 a13 a14 a15 a16 a17 a18 a19 a20 a21 a22 a23 a24 a25 a26 a27 a28 k (nI S) (nI i)) (fun i S => S < 64 ∧ ∀ j, j < i → S.testBit (LA j) = true) K 0 0 (by omega) ⟨by omega, fun j hj => absurd hj (by omega)⟩ (fun k S hh => ?_) (fun k i S hi hh hw => ?_)
  · show vp_in (nI s) 13 ∧ ((a5 (nI s).toNatClampNeg ≤ nI K → _) ∧ _)
    rw [nI_clamp (show s < 2 ^ 31 by omega), hK]
    refine ⟨pk_in s 13 hs, pk_le K K (fun _ => hp S hh.1 (fun v hv hb => ?_)) (fun t => absurd t (by omega))⟩
    rcases hC v hv with ⟨k, k1, k2⟩ | g
    · have t := hh.2 k k1
      rw [k2, hb] at t
      exact absurd t (by decide)
    · exact g
  · obtain ⟨g1, g2, g3⟩ := hS i hi
    have b := sf_b_or S hh.1 (LA i) (by omega)
    show vp_in (nI s) 13 ∧ ((a5 (nI s).toNatClampNeg ≤ nI i → _) ∧ _)
    rw [nI_clamp (show s < 2 ^ 31 by omega), hK, sf_i6, nI_clamp (show 6 * s + i < 2 ^ 31 by omega), g1]
    refine ⟨pk_in s 13 hs, pk_le K i (fun t => absurd t (by omega)) (fun _ => ⟨sf_v (by omega), nm_r b.1 (nm_r (nI_1 i) (hw _ ⟨b.2, fun j hj => ?_⟩))⟩)⟩
    rw [Nat.testBit_or]
    by_cases e : j = i
    · rw [e, Nat.testBit_two_pow_self]; simp
    · rw [hh.2 j (by omega)]; simp
theorem sf_heldPlaces {post : Int32 → Prop} {fp fa fh fl : Int32} {a1 a2 a3 a4 a5 a6 a7 a8 a9 a10 a11 a12 a13 a14 a15 a16 a17 a18 a19 a20 a21 a22 a23 a24 a25 a26 a27 a28 : Nat → Int32} {s R n m f w z l : Nat} {T : Nat → Int32} {r : Int32} (h : sf_slot a1 a2 a3 a4 a5 a6 a7 a8 a9 s R n m f T w z) (hl : l < sf_lc R n m f) (hfl : sf_fl a5 a6 s R f (sf_ll R n m f) T l r) (hp : ∀ S, S < 64 → (∀ v, v < sf_ll R n m f → S.testBit v = false → T (sf_ix R f l v) = 0) → post (nI S)) : wpX_heldPlaces post (fp, fa, fh, fl, a1, a2, a3, a4, a5, a6, a7, a8, a9, a10, a11, a12, a13, a14, a15, a16, a17, a18, a19, a20, a21, a22, a23, a24, a25, a26, a27, a28) (nI s) r := by
  obtain ⟨hs, e1, e2, e3, e4, hd⟩ := h.1
  have B := sf_dm_b hd
  obtain ⟨K, LA, LB, hK, hKl, hB0, hBK, hB, hM, hS, hO, hC, hct⟩ := sf_open h
  unfold wpX_heldPlaces
  try dsimp only
  rcases hfl with ⟨r1, r2⟩ | ⟨k, K', r1, r2, r3, r4, r5⟩
  · exact br_t r1 (hp 0 (by omega) (fun v hv _ => r2 v hv))
  · have eK : K' = K := (nI_eq (by omega) (by omega)).mp (by rw [← hK, r2])
    subst eK
    obtain ⟨g1, g2, g3⟩ := hS k r3
    have el : LA k = l := (nI_eq (by omega) (by omega)).mp (by rw [← g1, r5])
    rw [el] at g3
    obtain ⟨q1, q2, PA, q3, q4, q5⟩ := g3
    have b1 := hB k (by omega)
    have b2 := hB (k + 1) (by omega)
    rw [r1, sf_i7, nI_1, nI_clamp (show 7 * s + k < 2 ^ 31 by omega), nI_clamp (show 7 * s + k + 1 < 2 ^ 31 by omega), b1.2, show 7 * s + k + 1 = 7 * s + (k + 1) by omega, b2.2]
    refine br_f (sf_m1 (by omega)) ⟨sf_v (by omega), nm_e ⟨sf_v (by omega), nm_e ?_⟩⟩
    refine pk_loop (σ := Nat) (fun kk i S => wX_heldPlaces_35 post (nI s) (nI (LB (k + 1))) fp fa fh fl a1 a2 a3 a4 a5 a6 a7 a8 a9 a10 a11 a12 a13 a14 a15 a16 a17 a18 a19 a20 a21 a22 a23 a24 a25 a26 a27 a28 kk (nI S) (nI i)) (fun i S => LB k ≤ i ∧ S < 64 ∧ ∀ j, LB k ≤ j → j < i → S.testBit (PA j) = true) (LB (k + 1)) (LB k) 0 q1 ⟨Nat.le_refl _, by omega, fun j h1 h2 => absurd h1 (by omega)⟩ (fun kk S hh => ?_) (fun kk i S hi hh hw => ?_)
    · refine pk_le (LB (k + 1)) (LB (k + 1)) (fun _ => hp S hh.2.1 (fun v hv hb => ?_)) (fun t => absurd t (by omega))
      by_cases eT : T (sf_ix R f l v) = 0
      · exact eT
      · obtain ⟨x, x1, x2, x3⟩ := q5 v hv eT
        have t := hh.2.2 x x1 x2
        rw [x3, hb] at t
        exact absurd t (by decide)
    · obtain ⟨p1, p2, p3⟩ := q3 i hh.1 hi
      have b := sf_b_or S hh.2.1 (PA i) (by omega)
      refine pk_le (LB (k + 1)) i (fun t => absurd t (by omega)) (fun _ => ?_)
      rw [sf_i36, nI_clamp (show 36 * s + i < 2 ^ 31 by omega), p1]
      refine ⟨sf_v (by omega), nm_r b.1 (nm_r (nI_1 i) (hw _ ⟨by omega, b.2, fun j h1 h2 => ?_⟩))⟩
      rw [Nat.testBit_or]
      by_cases e : j = i
      · rw [e, Nat.testBit_two_pow_self]; simp
      · rw [hh.2.2 j h1 (by omega)]; simp
/-- a numbering of the indices that goes on from e, inside the lengths -/
def sf_ex (sp : Nat → Nat) (L : Nat) (lp : Nat → Nat) (d : Nat) (e e' : Nat → Nat) : Prop := (∀ j, j < d → e' (lp j) = e (lp j)) ∧ (∀ j, j < L → e' (lp j) < sp (lp j))
theorem sf_ei_ex {od lp : Nat → Nat} {e e' : Nat → Nat} {d : Nat} {p : Int32} (h : ∀ j, j < d → e' (lp j) = e (lp j)) (hk : sf_kn od d p) (hl : ∀ q, q < 3 → p = nI q → lp (od q) = q) : sf_ei e' p = sf_ei e p := by
  rcases hk with k | ⟨q, k1, k2, k3⟩
  · rw [k]
    rfl
  · have := h (od q) k3
    rw [hl q k1 k2] at this
    rw [k2, sf_ei_q _ k1, sf_ei_q _ k1, this]
theorem sf_63 : ∀ v, v < 6 → (63 : Nat).testBit v = true := by decide
theorem sf_arraySupport {post : Int32 → Prop} {fp fa fh fl : Int32} {a1 a2 a3 a4 a5 a6 a7 a8 a9 a10 a11 a12 a13 a14 a15 a16 a17 a18 a19 a20 a21 a22 a23 a24 a25 a26 a27 a28 : Nat → Int32} {na top : Nat} {Rk Nr Mc Fo : Nat → Nat} {Tt : Nat → Nat → Int32} {E : (Nat → Int32) → Nat → Int32} {sp : Nat → Nat} {L : Nat} {lp od : Nat → Nat} {tl : Nat → List Nat} {d a : Nat} {e : Nat → Nat} (hc : sf_cx a1 a2 a3 a4 a5 a6 a7 a8 a9 a10 a11 a12 a13 a14 a15 a17 a19 a20 a21 a22 na top Rk Nr Mc Fo Tt E sp L lp od tl) (hdy : sf_dy a5 a6 a9 a14 a15 a21 a22 a23 a24 na Rk Nr Mc Fo Tt od d e) (hbd : ∀ j, j < d → e (lp j) < sp (lp j)) (hd : d < L) (ha : a < na)
    (hp : ∀ S, S < 64 → (∀ v, v < 6 → S.testBit v = false → ∀ e', sf_ex sp L lp d e e' → e' (lp d) = v → sf_av a14 a15 Tt e' a = 0) → post (nI S)) : wpX_arraySupport post (fp, fa, fh, fl, a1, a2, a3, a4, a5, a6, a7, a8, a9, a10, a11, a12, a13, a14, a15, a16, a17, a18, a19, a20, a21, a22, a23, a24, a25, a26, a27, a28) (nI a) (nI (lp d)) := by
  obtain ⟨x1, x2, x3⟩ := sf_cx_l hc ha
  have hc' := hc
  obtain ⟨⟨c01, c02, c03⟩, c1, c2, c3, c4, c5, c6, c7⟩ := hc'
  obtain ⟨⟨w, z, hs⟩, hri, hli, hpi⟩ := c1 a ha
  obtain ⟨y1, y2⟩ := hdy a ha
  have hd4 := c4 d hd
  have B := sf_dm_b hs.1.2.2.2.2.2
  have bl : ∀ e', sf_ex sp L lp d e e' → sf_ei e' (a21 a) < sf_lc (Rk a) (Nr a) (Mc a) (Fo a) := by
    intro e' he
    rcases x1 with ⟨g1, g2⟩ | ⟨q, g1, g2, g3, g4, g5, g6⟩
    · rw [g1, sf_ei_0]; omega
    · have := he.2 (od q) g3
      rw [g4] at this
      rw [g2, sf_ei_q _ g1, g5]; exact this
  have bp : ∀ e', sf_ex sp L lp d e e' → sf_ei e' (a22 a) < sf_ll (Rk a) (Nr a) (Mc a) (Fo a) := by
    intro e' he
    rcases x2 with ⟨g1, g2⟩ | ⟨q, g1, g2, g3, g4, g5⟩
    · rw [g1, sf_ei_0]; omega
    · have := he.2 (od q) g3
      rw [g4] at this
      rw [g2, sf_ei_q _ g1, g5]; exact this
  have l1 : ∀ q, q < 3 → a21 a = nI q → lp (od q) = q := by
    intro q hq t
    rcases x1 with ⟨g1, g2⟩ | ⟨q', g1, g2, g3, g4, g5, g6⟩
    · rw [g1] at t; exact absurd t.symm (sf_m1 (by omega))
    · have : q' = q := (nI_eq (by omega) (by omega)).mp (by rw [← g2, t])
      rw [← this]; exact g4
  have l2 : ∀ q, q < 3 → a22 a = nI q → lp (od q) = q := by
    intro q hq t
    rcases x2 with ⟨g1, g2⟩ | ⟨q', g1, g2, g3, g4, g5⟩
    · rw [g1] at t; exact absurd t.symm (sf_m1 (by omega))
    · have : q' = q := (nI_eq (by omega) (by omega)).mp (by rw [← g2, t])
      rw [← this]; exact g4
  have p63 : post 63 := hp 63 (by omega) (fun v hv t => absurd ((sf_63 v hv).symm.trans t) (by decide))
  have kd : ∀ q, q < 3 → od q < L → lp (od q) = q → od q < d → sf_kn od d (nI q) := fun q q1 _ _ q2 => Or.inr ⟨q, q1, rfl, q2⟩
  unfold wpX_arraySupport
  try dsimp only
  rw [sf_p6, nI_clamp (show a < 2 ^ 31 by omega)]
  refine nm_e ⟨pk_in a 6 (by omega), br_c (fun t => ?_) (fun t => ⟨pk_in a 6 (by omega), br_c (fun t2 => ⟨pk_in a 6 (by omega), ?_⟩) (fun t2 => ⟨pk_in a 6 (by omega), ?_⟩)⟩)⟩
  · refine sf_heldLines hs (fun S hS hh => hp S hS (fun v hv hb e' he hv' => ?_))
    rw [x3 e']
    have b1 := bl e' he
    have b2 := bp e' he
    have e1 : sf_ei e' (a21 a) = v := by rw [t, sf_ei_q _ hd4.1]; exact hv'
    rw [e1] at b1
    rw [e1]
    exact hh v b1 hb _ b2
  · have kl : sf_kn od d (a21 a) := by
      rcases x1 with ⟨g1, g2⟩ | ⟨q, g1, g2, g3, g4, g5, g6⟩
      · exact Or.inl g1
      · have := c6 a ha q (lp d) g1 hd4.1 g2 t2
        rw [hd4.2.1] at this
        exact Or.inr ⟨q, g1, g2, this⟩
    have Y := y1 kl
    have hl : sf_ei e (a21 a) < sf_lc (Rk a) (Nr a) (Mc a) (Fo a) := by
      rcases x1 with ⟨g1, g2⟩ | ⟨q, g1, g2, g3, g4, g5, g6⟩
      · rw [g1, sf_ei_0]; omega
      · have := c6 a ha q (lp d) g1 hd4.1 g2 t2
        rw [hd4.2.1] at this
        have := hbd (od q) this
        rw [g4] at this
        rw [g2, sf_ei_q _ g1, g5]; exact this
    refine sf_heldPlaces hs hl Y (fun S hS hh => hp S hS (fun v hv hb e' he hv' => ?_))
    rw [x3 e', sf_ei_ex he.1 kl l1]
    have b2 := bp e' he
    have e1 : sf_ei e' (a22 a) = v := by rw [t2, sf_ei_q _ hd4.1]; exact hv'
    rw [e1] at b2
    rw [e1]
    exact hh v b2 hb
  · have p0 : (∀ e', sf_ex sp L lp d e e' → sf_av a14 a15 Tt e' a = 0) → post 0 := fun g => hp 0 (by omega) (fun v _ _ e' he _ => g e' he)
    have k131 : ∀ z0 z1 : Int32, (z0 = 0 → z1 = 0 ∨ post 0) → (z0 = 0 ∨ post 0) → wX_arraySupport_131 post z0 z1 fp fa fh fl a1 a2 a3 a4 a5 a6 a7 a8 a9 a10 a11 a12 a13 a14 a15 a16 a17 a18 a19 a20 a21 a22 a23 a24 a25 a26 a27 a28 := by
      intro z0 z1 g1 g2
      unfold wX_arraySupport_131
      refine br_c (fun u => br_c (fun _ => p63) (fun u2 => ?_)) (fun u => ?_)
      · rcases g1 u with g | g
        · exact absurd g u2
        · exact g
      · rcases g2 with g | g
        · exact absurd g u
        · exact g
    have k130 : ∀ z0 : Int32, (z0 = 0 ∨ post 0) → wX_arraySupport_130 post z0 fp fa fh fl a1 a2 a3 a4 a5 a6 a7 a8 a9 a10 a11 a12 a13 a14 a15 a16 a17 a18 a19 a20 a21 a22 a23 a24 a25 a26 a27 a28 := by
      intro z0 g
      unfold wX_arraySupport_130
      exact k131 z0 0 (fun _ => Or.inl rfl) g
    have h4 : ∀ j, j < L → lp j < 3 ∧ od (lp j) = j ∧ a19 j = nI (lp j) := fun j hj => ⟨(c4 j hj).1, (c4 j hj).2.1, (c4 j hj).2.2.1⟩
    have hod : od (lp d) < L ∧ lp (od (lp d)) = lp d := by rw [hd4.2.1]; exact ⟨hd, rfl⟩
    have k86 : ∀ z0 : Int32, (z0 = 0 ∨ post 0) → wX_arraySupport_86 post (nI a) (nI (lp d)) z0 fp fa fh fl a1 a2 a3 a4 a5 a6 a7 a8 a9 a10 a11 a12 a13 a14 a15 a16 a17 a18 a19 a20 a21 a22 a23 a24 a25 a26 a27 a28 := by
      intro z0 g
      unfold wX_arraySupport_86
      rw [nI_clamp (show a < 2 ^ 31 by omega)]
      refine ⟨pk_in a 6 (by omega), br_c (fun _ => k130 z0 g) (fun t3 => ⟨pk_in a 6 (by omega), ?_⟩)⟩
      rcases x2 with ⟨g1, g2⟩ | ⟨q, g1, g2, g3, g4, g5⟩
      · exact absurd g1 t3
      · rw [g2]
        refine sf_loopOf c03 h4 ⟨g3, g4⟩ (sf_loopOf c03 h4 hod ?_)
        rw [hd4.2.1]
        refine pk_le d (od q) (fun _ => k130 z0 g) (fun u => ⟨pk_in a 6 (by omega), br_c (fun t4 => k131 z0 1 (fun _ => Or.inr (p0 (fun e' he => ?_))) g) (fun _ => k130 z0 g)⟩)
        have kp' : sf_kn od d (a22 a) := Or.inr ⟨q, g1, g2, u⟩
        have kl' : sf_kn od d (a21 a) := by
          rcases x1 with ⟨i1, i2⟩ | ⟨q', i1, i2, i3, i4, i5, i6⟩
          · exact Or.inl i1
          · have := c6 a ha q' q i1 g1 i2 g2
            exact Or.inr ⟨q', i1, i2, by omega⟩
        rw [x3 e', sf_ei_ex he.1 kl' l1, sf_ei_ex he.1 kp' l2, ← x3 e]
        rcases y2 kp' with ⟨_, i2⟩ | ⟨x, i1, i2, _⟩
        · exact i2
        · rw [t4] at i2
          exact absurd i2.symm (sf_m1 (by omega))
    have k85 : wX_arraySupport_85 post (nI a) (nI (lp d)) fp fa fh fl a1 a2 a3 a4 a5 a6 a7 a8 a9 a10 a11 a12 a13 a14 a15 a16 a17 a18 a19 a20 a21 a22 a23 a24 a25 a26 a27 a28 := by
      unfold wX_arraySupport_85
      exact k86 0 (Or.inl rfl)
    refine br_c (fun _ => k85) (fun t3 => ⟨pk_in a 6 (by omega), ?_⟩)
    rcases x1 with ⟨g1, g2⟩ | ⟨q, g1, g2, g3, g4, g5, g6⟩
    · exact absurd g1 t3
    · rw [g2]
      refine sf_loopOf c03 h4 ⟨g3, g4⟩ (sf_loopOf c03 h4 hod ?_)
      rw [hd4.2.1]
      refine pk_le d (od q) (fun _ => k85) (fun u => ⟨pk_in a 6 (by omega), br_c (fun t4 => k86 1 (Or.inr (p0 (fun e' he => ?_)))) (fun _ => k85)⟩)
      have kl' : sf_kn od d (a21 a) := Or.inr ⟨q, g1, g2, u⟩
      rw [x3 e', sf_ei_ex he.1 kl' l1]
      rcases y1 kl' with ⟨_, i2⟩ | ⟨k, K, i1, _, i3, i4, _⟩
      · exact i2 _ (bp e' he)
      · rw [t4] at i1
        exact absurd i1.symm (sf_m1 (by omega))
end
section
/-! ===== findSupport, findValue, lowestOf, enter, moveTo, addValue, startArrays ===== -/
/-- what a support says of a part -/
def sf_su (E : (Nat → Int32) → Nat → Int32) (AD : Nat → (Nat → Int32) → Prop) (k : Nat) (r : Int32) : Prop := ∃ S, S < 64 ∧ r = nI S ∧ ∀ v, v < 6 → S.testBit v = false → ∀ V, AD v V → E V k = 0
theorem sf_findSupport {post : Int32 → St2 → Prop} {fp fa fh fl : Int32} {a1 a2 a3 a4 a5 a6 a7 a8 a9 a10 a11 a12 a13 a14 a15 a16 a17 a18 a19 a20 a21 a22 a23 a24 a25 a26 a27 a28 : Nat → Int32} {na top : Nat} {E : (Nat → Int32) → Nat → Int32} {AD : Nat → (Nat → Int32) → Prop} {p : Int32} (ht : top < 20) (hna : na ≤ 6) (hi : ∀ k, k ≤ top → a17 k = 1) (hE : sf_eq a10 a11 a12 a13 top na E)
    (hA : ∀ (b25 : Nat → Int32) (ps : Int32 → Prop) (a : Nat), a < na → (∀ S, S < 64 → (∀ v, v < 6 → S.testBit v = false → ∀ V, AD v V → V a = 0) → ps (nI S)) → wpX_arraySupport ps (fp, fa, fh, fl, a1, a2, a3, a4, a5, a6, a7, a8, a9, a10, a11, a12, a13, a14, a15, a16, a17, a18, a19, a20, a21, a22, a23, a24, b25, a26, a27, a28) (nI a) p)
    (hp : ∀ (b25 : Nat → Int32) (r : Int32), sf_su E AD top r → post r (fp, fa, fh, fl, a1, a2, a3, a4, a5, a6, a7, a8, a9, a10, a11, a12, a13, a14, a15, a16, a17, a18, a19, a20, a21, a22, a23, a24, b25, a26, a27, a28)) : wpX_findSupport post (fp, fa, fh, fl, a1, a2, a3, a4, a5, a6, a7, a8, a9, a10, a11, a12, a13, a14, a15, a16, a17, a18, a19, a20, a21, a22, a23, a24, a25, a26, a27, a28) (nI top) p := by
  unfold wpX_findSupport
  try dsimp only
  refine pk_loop (fun n i s => wX_findSupport_2 post (nI top) p fp fa fh fl n (nI i) a1 a2 a3 a4 a5 a6 a7 a8 a9 a10 a11 a12 a13 a14 a15 a16 a17 a18 a19 a20 a21 a22 a23 a24 s a26 a27 a28) (fun i s => ∀ k, k < i → sf_su E AD k (s k)) (top + 1) 0 a25 (by omega) (fun q hq => absurd hq (by omega)) (fun n s h => ?_) (fun n i s hi' h hw => ?_)
  · refine pk_lt top (top + 1) (fun _ => ?_) (fun t => absurd t (by omega))
    rw [nI_clamp (show top < 2 ^ 31 by omega)]
    exact ⟨pk_in top 20 ht, hp s _ (h top (by omega))⟩
  · have nx : ∀ x : Int32, sf_su E AD i x → wX_findSupport_2 post (nI top) p fp fa fh fl n (nI i + 1) a1 a2 a3 a4 a5 a6 a7 a8 a9 a10 a11 a12 a13 a14 a15 a16 a17 a18 a19 a20 a21 a22 a23 a24 (upd s i x) a26 a27 a28 := by
      intro x hx
      rw [nI_1]
      refine hw _ (fun k hk => ?_)
      by_cases e : k = i
      · rw [e, pk_us]; exact hx
      · rw [pk_un e]; exact h k (by omega)
    have v : vp_in (nI i) 20 := pk_in i 20 (by omega)
    refine pk_lt top i (fun t => absurd t (by omega)) (fun _ => ?_)
    rw [nI_clamp (show i < 2 ^ 31 by omega)]
    refine ⟨v, br_f (by rw [hi i (by omega)]; decide) ⟨v, ?_⟩⟩
    rcases hE i (by omega) with ⟨g1, g2⟩ | ⟨g1, a, g2, g3, g4⟩ | ⟨g1, j, g2, g3, g4⟩ | ⟨g1, j, j', g2, g2', g3, g3', g4⟩ | ⟨g1, j, j', g2, g2', g3, g3', g4⟩ | ⟨g1, j, j', g2, g2', g3, g3', g4⟩
    · refine nm_r g1 (br_t rfl ⟨v, br_c (fun t => ⟨v, nm_e (nm_e (nx 0 ⟨0, by omega, rfl, fun _ _ _ V _ => ?_⟩))⟩) (fun t => ⟨v, nm_e (nm_e (nx 63 ⟨63, by omega, rfl, fun w hw' hb => absurd ((sf_63 w hw').symm.trans hb) (by decide)⟩))⟩)⟩)
      rw [g2 V, t]
    · refine nm_r g1 (br_f (by decide) (br_t rfl ⟨v, ?_⟩))
      rw [g3]
      refine hA s _ a g2 (fun S hS hh => ⟨v, nm_e (nm_e (nx _ ⟨S, hS, rfl, fun w hw' hb V hV => ?_⟩))⟩)
      rw [g4 V]
      exact hh w hw' hb V hV
    · obtain ⟨S, hS, eS, hh⟩ := h j g2
      refine nm_r g1 (br_f (by decide) (br_f (by decide) (br_t rfl ⟨v, ?_⟩)))
      rw [g3, nI_clamp (show j < 2 ^ 31 by omega)]
      refine ⟨pk_in j 20 (by omega), v, nm_e (nm_e (nx _ ⟨S, hS, eS, fun w hw' hb V hV => ?_⟩))⟩
      rw [g4 V, hh w hw' hb V hV]
      rfl
    · obtain ⟨S, hS, eS, hh⟩ := h j g2
      obtain ⟨S', hS', eS', hh'⟩ := h j' g2'
      have b := sf_b_oo S hS S' hS'
      refine nm_r g1 (br_f (by decide) (br_f (by decide) (br_f (by decide) (br_f (by decide) ⟨v, ?_⟩))))
      rw [g3, nI_clamp (show j < 2 ^ 31 by omega), g3', nI_clamp (show j' < 2 ^ 31 by omega)]
      refine ⟨pk_in j 20 (by omega), v, pk_in j' 20 (by omega), v, nm_e (nm_e (nx _ ⟨S ||| S', b.2, by rw [eS, eS', b.1], fun w hw' hb V hV => ?_⟩))⟩
      rw [Nat.testBit_or] at hb
      have hb1 : S.testBit w = false := by revert hb; cases S.testBit w <;> simp
      have hb2 : S'.testBit w = false := by revert hb; cases S'.testBit w <;> simp
      rw [g4 V, hh w hw' hb1 V hV, hh' w hw' hb2 V hV]
      rfl
    · obtain ⟨S, hS, eS, hh⟩ := h j g2
      obtain ⟨S', hS', eS', hh'⟩ := h j' g2'
      have b := sf_b_oo S hS S' hS'
      refine nm_r g1 (br_f (by decide) (br_f (by decide) (br_f (by decide) (br_f (by decide) ⟨v, ?_⟩))))
      rw [g3, nI_clamp (show j < 2 ^ 31 by omega), g3', nI_clamp (show j' < 2 ^ 31 by omega)]
      refine ⟨pk_in j 20 (by omega), v, pk_in j' 20 (by omega), v, nm_e (nm_e (nx _ ⟨S ||| S', b.2, by rw [eS, eS', b.1], fun w hw' hb V hV => ?_⟩))⟩
      rw [Nat.testBit_or] at hb
      have hb1 : S.testBit w = false := by revert hb; cases S.testBit w <;> simp
      have hb2 : S'.testBit w = false := by revert hb; cases S'.testBit w <;> simp
      rw [g4 V, hh w hw' hb1 V hV, hh' w hw' hb2 V hV]
      rfl
    · obtain ⟨S, hS, eS, hh⟩ := h j g2
      obtain ⟨S', hS', eS', hh'⟩ := h j' g2'
      have b := sf_b_aa S hS S' hS'
      refine nm_r g1 (br_f (by decide) (br_f (by decide) (br_f (by decide) (br_t rfl ⟨v, ?_⟩))))
      rw [g3, nI_clamp (show j < 2 ^ 31 by omega), g3', nI_clamp (show j' < 2 ^ 31 by omega)]
      refine ⟨pk_in j 20 (by omega), v, pk_in j' 20 (by omega), v, nm_e (nm_e (nx _ ⟨S &&& S', b.2, by rw [eS, eS', b.1], fun w hw' hb V hV => ?_⟩))⟩
      rw [Nat.testBit_and] at hb
      rw [g4 V]
      by_cases hb1 : S.testBit w = false
      · rw [hh w hw' hb1 V hV]
        grind
      · have hb2 : S'.testBit w = false := by revert hb hb1; cases S.testBit w <;> simp
        rw [hh' w hw' hb2 V hV]
        grind
theorem sf_arrayValue {post : Int32 → Prop} {fp fa fh fl : Int32} {a1 a2 a3 a4 a5 a6 a7 a8 a9 a10 a11 a12 a13 a14 a15 a16 a17 a18 a19 a20 a21 a22 a23 a24 a25 a26 a27 a28 : Nat → Int32} {a : Nat} {V : Int32} (ha : a < 6) (h : sf_pv a9 (6 + a) V (a24 a)) (hp : post V) : wpX_arrayValue post (fp, fa, fh, fl, a1, a2, a3, a4, a5, a6, a7, a8, a9, a10, a11, a12, a13, a14, a15, a16, a17, a18, a19, a20, a21, a22, a23, a24, a25, a26, a27, a28) (nI a) := by
  unfold wpX_arrayValue
  try dsimp only
  rw [nI_clamp (show a < 2 ^ 31 by omega)]
  rcases h with ⟨h1, h2⟩ | ⟨x, h1, h2, h3⟩
  · rw [h2] at hp
    exact ⟨pk_in a 6 ha, br_t h1 hp⟩
  · rw [h2, sf_p6, sf_i36, nI_clamp (show 36 * (6 + a) + x < 2 ^ 31 by omega), h3]
    exact ⟨pk_in a 6 ha, br_f (sf_m1 (by omega)) ⟨pk_in a 6 ha, sf_v (by omega), hp⟩⟩
theorem sf_findValue {post : Int32 → St2 → Prop} {fp fa fh fl : Int32} {a1 a2 a3 a4 a5 a6 a7 a8 a9 a10 a11 a12 a13 a14 a15 a16 a17 a18 a19 a20 a21 a22 a23 a24 a25 a26 a27 a28 : Nat → Int32} {na top : Nat} {E : (Nat → Int32) → Nat → Int32} {V : Nat → Int32} (ht : top < 20) (hna : na ≤ 6) (hi : ∀ k, k ≤ top → a17 k = 1) (hE : sf_eq a10 a11 a12 a13 top na E) (hV : ∀ a, a < na → sf_pv a9 (6 + a) (V a) (a24 a))
    (hp : ∀ b26 : Nat → Int32, post (E V top) (fp, fa, fh, fl, a1, a2, a3, a4, a5, a6, a7, a8, a9, a10, a11, a12, a13, a14, a15, a16, a17, a18, a19, a20, a21, a22, a23, a24, a25, b26, a27, a28)) : wpX_findValue post (fp, fa, fh, fl, a1, a2, a3, a4, a5, a6, a7, a8, a9, a10, a11, a12, a13, a14, a15, a16, a17, a18, a19, a20, a21, a22, a23, a24, a25, a26, a27, a28) (nI top) := by
  unfold wpX_findValue
  try dsimp only
  refine pk_loop (fun n i s => wX_findValue_2 post (nI top) fp fa fh fl n (nI i) a1 a2 a3 a4 a5 a6 a7 a8 a9 a10 a11 a12 a13 a14 a15 a16 a17 a18 a19 a20 a21 a22 a23 a24 a25 s a27 a28) (fun i s => ∀ k, k < i → s k = E V k) (top + 1) 0 a26 (by omega) (fun q hq => absurd hq (by omega)) (fun n s h => ?_) (fun n i s hi' h hw => ?_)
  · refine pk_lt top (top + 1) (fun _ => ?_) (fun t => absurd t (by omega))
    rw [nI_clamp (show top < 2 ^ 31 by omega), h top (by omega)]
    exact ⟨pk_in top 20 ht, hp s⟩
  · have nx : ∀ x : Int32, x = E V i → wX_findValue_2 post (nI top) fp fa fh fl n (nI i + 1) a1 a2 a3 a4 a5 a6 a7 a8 a9 a10 a11 a12 a13 a14 a15 a16 a17 a18 a19 a20 a21 a22 a23 a24 a25 (upd s i x) a27 a28 := by
      intro x hx
      rw [nI_1]
      refine hw _ (fun k hk => ?_)
      by_cases e : k = i
      · rw [e, pk_us]; exact hx
      · rw [pk_un e]; exact h k (by omega)
    have v : vp_in (nI i) 20 := pk_in i 20 (by omega)
    refine pk_lt top i (fun t => absurd t (by omega)) (fun _ => ?_)
    rw [nI_clamp (show i < 2 ^ 31 by omega)]
    refine ⟨v, br_f (by rw [hi i (by omega)]; decide) ⟨v, ?_⟩⟩
    rcases hE i (by omega) with ⟨g1, g2⟩ | ⟨g1, a, g2, g3, g4⟩ | ⟨g1, j, g2, g3, g4⟩ | ⟨g1, j, j', g2, g2', g3, g3', g4⟩ | ⟨g1, j, j', g2, g2', g3, g3', g4⟩ | ⟨g1, j, j', g2, g2', g3, g3', g4⟩
    · exact nm_r g1 (br_t rfl ⟨v, v, nm_e (nm_e (nx _ (g2 V).symm))⟩)
    · refine nm_r g1 (br_f (by decide) (br_t rfl ⟨v, ?_⟩))
      rw [g3]
      exact sf_arrayValue (a26 := s) (by omega) (hV a g2) ⟨v, nm_e (nm_e (nx _ (g4 V).symm))⟩
    · refine nm_r g1 (br_f (by decide) (br_f (by decide) (br_t rfl ⟨v, ?_⟩)))
      rw [g3, nI_clamp (show j < 2 ^ 31 by omega)]
      exact ⟨pk_in j 20 (by omega), v, nm_e (nm_e (nx _ (by rw [g4 V, h j g2])))⟩
    · refine nm_r g1 (br_f (by decide) (br_f (by decide) (br_f (by decide) (br_t rfl ⟨v, ?_⟩))))
      rw [g3, nI_clamp (show j < 2 ^ 31 by omega), g3', nI_clamp (show j' < 2 ^ 31 by omega)]
      exact ⟨pk_in j 20 (by omega), v, pk_in j' 20 (by omega), v, nm_e (nm_e (nx _ (by rw [g4 V, h j g2, h j' g2'])))⟩
    · refine nm_r g1 (br_f (by decide) (br_f (by decide) (br_f (by decide) (br_f (by decide) (br_t rfl ⟨v, ?_⟩)))))
      rw [g3, nI_clamp (show j < 2 ^ 31 by omega), g3', nI_clamp (show j' < 2 ^ 31 by omega)]
      exact ⟨pk_in j 20 (by omega), v, pk_in j' 20 (by omega), v, nm_e (nm_e (nx _ (by rw [g4 V, h j g2, h j' g2'])))⟩
    · refine nm_r g1 (br_f (by decide) (br_f (by decide) (br_f (by decide) (br_f (by decide) (br_f (by decide) ⟨v, ?_⟩)))))
      rw [g3, nI_clamp (show j < 2 ^ 31 by omega), g3', nI_clamp (show j' < 2 ^ 31 by omega)]
      exact ⟨pk_in j 20 (by omega), v, pk_in j' 20 (by omega), v, nm_e (nm_e (nx _ (by rw [g4 V, h j g2, h j' g2'])))⟩
theorem sf_lowestOf {post : Int32 → Prop} {fp fa fh fl : Int32} {a1 a2 a3 a4 a5 a6 a7 a8 a9 a10 a11 a12 a13 a14 a15 a16 a17 a18 a19 a20 a21 a22 a23 a24 a25 a26 a27 a28 : Nat → Int32} {S : Nat} (hS : S < 64) (hp : post (nI (sf_lo S 6 0))) : wpX_lowestOf post (fp, fa, fh, fl, a1, a2, a3, a4, a5, a6, a7, a8, a9, a10, a11, a12, a13, a14, a15, a16, a17, a18, a19, a20, a21, a22, a23, a24, a25, a26, a27, a28) (nI S) := by
  have D : ∀ k v, k ≤ 6 → post (nI (sf_lo S k v)) → wX_lowestOf_4 post (nI S) fp fa fh fl a1 a2 a3 a4 a5 a6 a7 a8 a9 a10 a11 a12 a13 a14 a15 a16 a17 a18 a19 a20 a21 a22 a23 a24 a25 a26 a27 a28 (k + 1) (nI v) (nI k + (-1)) := by
    intro k
    induction k with
    | zero => intro v _ h; exact br_t (by decide) h
    | succ k ih =>
      intro v hk h
      rw [pk_m1]
      refine br_f (nI_pos (by omega)) (ek_if (sf_b_low S hS k (by omega)) (fun t => nm_e (ih k (by omega) ?_)) (fun t => nm_e (ih v (by omega) ?_)))
      · have h' : post (nI (sf_lo S k (if S.testBit k = true then k else v))) := h
        rw [if_pos t] at h'
        exact h'
      · have h' : post (nI (sf_lo S k (if S.testBit k = true then k else v))) := h
        rw [if_neg t] at h'
        exact h'
  unfold wpX_lowestOf
  try dsimp only
  exact ⟨7, D 6 0 (by omega) hp⟩
end
section
/-! ===== moveTo, startArrays, addValue, enter ===== -/
theorem sf_kn_s {od lp : Nat → Nat} {e : Nat → Nat} {d v : Nat} {p : Int32} (hl : ∀ q, q < 3 → p = nI q → lp (od q) = q) (hne : ¬ p = nI (lp d)) (hk : sf_kn od (d + 1) p) : sf_kn od d p ∧ sf_ei (sf_up e (lp d) v) p = sf_ei e p := by
  rcases hk with k | ⟨q, k1, k2, k3⟩
  · exact ⟨Or.inl k, by rw [k]; rfl⟩
  · have l := hl q k1 k2
    have hq : q ≠ lp d := fun t => hne (by rw [k2, t])
    have ho : od q ≠ d := fun t => hq (by rw [t] at l; exact l.symm)
    exact ⟨Or.inr ⟨q, k1, k2, by omega⟩, by rw [k2, sf_ei_q _ k1, sf_ei_q _ k1, sf_up_n _ _ hq]⟩
theorem sf_dy_down {a1 a2 a3 a4 a5 a6 a7 a8 a9 a10 a11 a12 a13 a14 a15 a17 a19 a20 a21 a22 a23 a24 : Nat → Int32} {na top : Nat} {Rk Nr Mc Fo : Nat → Nat} {Tt : Nat → Nat → Int32} {E : (Nat → Int32) → Nat → Int32} {sp : Nat → Nat} {L : Nat} {lp od : Nat → Nat} {tl : Nat → List Nat} {d v : Nat} {e : Nat → Nat} (hc : sf_cx a1 a2 a3 a4 a5 a6 a7 a8 a9 a10 a11 a12 a13 a14 a15 a17 a19 a20 a21 a22 na top Rk Nr Mc Fo Tt E sp L lp od tl) (hd : d < L) (h : sf_dy a5 a6 a9 a14 a15 a21 a22 a23 a24 na Rk Nr Mc Fo Tt od (d + 1) (sf_up e (lp d) v)) : sf_dy a5 a6 a9 a14 a15 a21 a22 a23 a24 na Rk Nr Mc Fo Tt od d e := by
  intro a ha
  obtain ⟨x1, x2, x3⟩ := sf_cx_l hc ha
  obtain ⟨⟨c01, c02, c03⟩, c1, c2, c3, c4, c5, c6, c7⟩ := hc
  obtain ⟨y1, y2⟩ := h a ha
  have up : ∀ p, sf_kn od d p → sf_kn od (d + 1) p := by
    intro p hp
    rcases hp with k | ⟨q, k1, k2, k3⟩
    · exact Or.inl k
    · exact Or.inr ⟨q, k1, k2, by omega⟩
  have ee : ∀ p, sf_kn od d p → sf_ei (sf_up e (lp d) v) p = sf_ei e p := by
    intro p hp
    rcases hp with k | ⟨q, k1, k2, k3⟩
    · rw [k]; rfl
    · have hq : q ≠ lp d := fun t => by rw [t, (c4 d hd).2.1] at k3; omega
      rw [k2, sf_ei_q _ k1, sf_ei_q _ k1, sf_up_n _ _ hq]
  refine ⟨fun k => ?_, fun k => ?_⟩
  · have := y1 (up _ k)
    rw [ee _ k] at this
    exact this
  · have := y2 (up _ k)
    have kl : sf_kn od d (a21 a) := by
      rcases x1 with ⟨g1, g2⟩ | ⟨q, g1, g2, g3, g4, g5, g6⟩
      · exact Or.inl g1
      · rcases k with k | ⟨q', k1, k2, k3⟩
        · rcases x2 with ⟨i1, i2⟩ | ⟨q', i1, i2, i3, i4, i5⟩
          · omega
          · rw [k] at i2; exact absurd i2.symm (sf_m1 (by omega))
        · have := c6 a ha q q' g1 k1 g2 k2
          exact Or.inr ⟨q, g1, g2, by omega⟩
    rw [x3, ee _ k, ee _ kl, ← x3] at this
    exact this
theorem sf_single {a1 a2 a3 a4 a5 a6 a7 a8 a9 : Nat → Int32} {s R n m f w z : Nat} {T : Nat → Int32} (h : sf_slot a1 a2 a3 a4 a5 a6 a7 a8 a9 s R n m f T w z) (hR : R < 2) : sf_fl a5 a6 s R f (sf_ll R n m f) T 0 0 := by
  obtain ⟨hh, hZ, K, hK, hw, h1, h1b, LA, LB, h2, h3, h4, h5, h6, h7, h8⟩ := h
  have e : sf_lc R n m f = 1 := by unfold sf_lc; rw [if_pos hR]
  have eK : K = 1 := by
    have := h1b (by unfold sf_sl; rw [decide_eq_false (show ¬ R = 2 by omega)]; rfl)
    omega
  subst eK
  have g := h5 0 (by omega)
  refine Or.inr ⟨0, 1, rfl, hK, by omega, by omega, ?_⟩
  rw [g.1, show LA 0 = 0 by have := g.2.1; omega]
theorem sf_pv_fq {a7 a8 a9 : Nat → Int32} {s k : Nat} {V : Int32} {v : Nat} {r : Int32} (h : sf_fq a7 a8 a9 s k V v r) : sf_pv a9 s V r := by
  rcases h with h | ⟨x, b, e, h1, h2, h3, _⟩
  · exact Or.inl h
  · exact Or.inr ⟨x, h2, h1, h3⟩
theorem sf_moveTo {post : St2 → Prop} {fp fh fl : Int32} {a1 a2 a3 a4 a5 a6 a7 a8 a9 a10 a11 a12 a13 a14 a15 a16 a17 a18 a19 a20 a21 a22 a23 a24 a25 a26 a27 a28 : Nat → Int32} {na top : Nat} {Rk Nr Mc Fo : Nat → Nat} {Tt : Nat → Nat → Int32} {E : (Nat → Int32) → Nat → Int32} {sp : Nat → Nat} {L : Nat} {lp od : Nat → Nat} {tl : Nat → List Nat} {d v : Nat} {e : Nat → Nat} (hc : sf_cx a1 a2 a3 a4 a5 a6 a7 a8 a9 a10 a11 a12 a13 a14 a15 a17 a19 a20 a21 a22 na top Rk Nr Mc Fo Tt E sp L lp od tl) (hdy : sf_dy a5 a6 a9 a14 a15 a21 a22 a23 a24 na Rk Nr Mc Fo Tt od d e) (hbd : ∀ j, j < d → e (lp j) < sp (lp j)) (hd : d < L) (hv : v < sp (lp d))
    (hp : ∀ b23 b24 : Nat → Int32, sf_dy a5 a6 a9 a14 a15 a21 a22 b23 b24 na Rk Nr Mc Fo Tt od (d + 1) (sf_up e (lp d) v) → post (fp, nI na, fh, fl, a1, a2, a3, a4, a5, a6, a7, a8, a9, a10, a11, a12, a13, a14, a15, a16, a17, a18, a19, a20, a21, a22, b23, b24, a25, a26, upd a27 (lp d) (nI v), a28)) : wpX_moveTo post (fp, nI na, fh, fl, a1, a2, a3, a4, a5, a6, a7, a8, a9, a10, a11, a12, a13, a14, a15, a16, a17, a18, a19, a20, a21, a22, a23, a24, a25, a26, a27, a28) (nI (lp d)) (nI v) := by
  have hc' := hc
  obtain ⟨⟨c01, c02, c03⟩, c1, c2, c3, c4, c5, c6, c7⟩ := hc'
  have hd4 := c4 d hd
  unfold wpX_moveTo
  try dsimp only
  rw [nI_clamp (show lp d < 2 ^ 31 by omega)]
  refine ⟨sf_v hd4.1, nm_e ?_⟩
  refine pk_loop (σ := (Nat → Int32) × (Nat → Int32)) (fun n i t => wX_moveTo_9 post (nI (lp d)) (nI v) fp (nI na) fh fl n (nI i) a1 a2 a3 a4 a5 a6 a7 a8 a9 a10 a11 a12 a13 a14 a15 a16 a17 a18 a19 a20 a21 a22 t.1 t.2 a25 a26 (upd a27 (lp d) (nI v)) a28)
    (fun i t => (∀ a, a < i → a < na → (sf_kn od (d + 1) (a21 a) → sf_fl a5 a6 (6 + a) (Rk a) (Fo a) (sf_ll (Rk a) (Nr a) (Mc a) (Fo a)) (Tt a) (sf_ei (sf_up e (lp d) v) (a21 a)) (t.1 a)) ∧ (sf_kn od (d + 1) (a22 a) → sf_pv a9 (6 + a) (sf_av a14 a15 Tt (sf_up e (lp d) v) a) (t.2 a))) ∧ (∀ a, i ≤ a → t.1 a = a23 a ∧ t.2 a = a24 a))
    na 0 (a23, a24) (by omega) ⟨fun a h => absurd h (by omega), fun a _ => ⟨rfl, rfl⟩⟩ (fun n t h => ?_) (fun n i t hi h hw => ?_)
  · exact pk_le na na (fun _ => hp t.1 t.2 (fun a ha => h.1 a ha ha)) (fun z => absurd z (by omega))
  · obtain ⟨s23, s24⟩ := t
    obtain ⟨h1, h2⟩ := h
    obtain ⟨x1, x2, x3⟩ := sf_cx_l hc hi
    obtain ⟨⟨w, z, hs⟩, hri, hli, hpi⟩ := c1 i hi
    obtain ⟨y1, y2⟩ := hdy i hi
    have B := sf_dm_b hs.1.2.2.2.2.2
    have o23 : s23 i = a23 i := (h2 i (Nat.le_refl _)).1
    have o24 : s24 i = a24 i := (h2 i (Nat.le_refl _)).2
    have l1 : ∀ q, q < 3 → a21 i = nI q → lp (od q) = q := by
      intro q hq t
      rcases x1 with ⟨g1, g2⟩ | ⟨q', g1, g2, g3, g4, g5, g6⟩
      · rw [g1] at t; exact absurd t.symm (sf_m1 (by omega))
      · have : q' = q := (nI_eq (by omega) (by omega)).mp (by rw [← g2, t])
        rw [← this]; exact g4
    have l2 : ∀ q, q < 3 → a22 i = nI q → lp (od q) = q := by
      intro q hq t
      rcases x2 with ⟨g1, g2⟩ | ⟨q', g1, g2, g3, g4, g5⟩
      · rw [g1] at t; exact absurd t.symm (sf_m1 (by omega))
      · have : q' = q := (nI_eq (by omega) (by omega)).mp (by rw [← g2, t])
        rw [← this]; exact g4
    have vi : vp_in (nI i) 6 := pk_in i 6 (by omega)
    have nx : ∀ r23 r24 : Nat → Int32, (∀ a, a ≠ i → r23 a = s23 a ∧ r24 a = s24 a) → ((sf_kn od (d + 1) (a21 i) → sf_fl a5 a6 (6 + i) (Rk i) (Fo i) (sf_ll (Rk i) (Nr i) (Mc i) (Fo i)) (Tt i) (sf_ei (sf_up e (lp d) v) (a21 i)) (r23 i)) ∧ (sf_kn od (d + 1) (a22 i) → sf_pv a9 (6 + i) (sf_av a14 a15 Tt (sf_up e (lp d) v) i) (r24 i))) → wX_moveTo_9 post (nI (lp d)) (nI v) fp (nI na) fh fl n (nI i + 1) a1 a2 a3 a4 a5 a6 a7 a8 a9 a10 a11 a12 a13 a14 a15 a16 a17 a18 a19 a20 a21 a22 r23 r24 a25 a26 (upd a27 (lp d) (nI v)) a28 := by
      intro r23 r24 g1 g2
      rw [nI_1]
      refine hw (r23, r24) ⟨fun a ha ha' => ?_, fun a ha => ?_⟩
      · by_cases ea : a = i
        · rw [ea]; exact g2
        · have t := h1 a (by omega) ha'
          have g := g1 a ea
          show (sf_kn od (d + 1) (a21 a) → sf_fl a5 a6 (6 + a) (Rk a) (Fo a) (sf_ll (Rk a) (Nr a) (Mc a) (Fo a)) (Tt a) (sf_ei (sf_up e (lp d) v) (a21 a)) (r23 a)) ∧ (sf_kn od (d + 1) (a22 a) → sf_pv a9 (6 + a) (sf_av a14 a15 Tt (sf_up e (lp d) v) a) (r24 a))
          rw [g.1, g.2]
          exact t
      · have g := g1 a (by omega)
        have t := h2 a (by omega)
        exact ⟨g.1.trans t.1, g.2.trans t.2⟩
    refine pk_le na i (fun t => absurd t (by omega)) (fun _ => ?_)
    rw [sf_p6, nI_clamp (show i < 2 ^ 31 by omega)]
    refine nm_e ⟨vi, br_c (fun t => ?_) (fun t => ?_)⟩
    · rcases x1 with ⟨g1, g2⟩ | ⟨q, g1, g2, g3, g4, g5, g6⟩
      · rw [g1] at t; exact absurd t.symm (sf_m1 (by omega))
      · have eq : q = lp d := (nI_eq (by omega) (by omega)).mp (by rw [← g2, t])
        subst eq
        have nep : ¬ a22 i = nI (lp d) := by
          intro t2
          have := c6 i hi (lp d) (lp d) g1 g1 t t2
          omega
        refine sf_findLine (v := v) hs (by rw [g5]; exact hv) (fun r hr => ⟨vi, nm_e ?_⟩)
        unfold wX_moveTo_46
        rw [nI_clamp (show i < 2 ^ 31 by omega)]
        refine ⟨vi, br_f nep (nm_e (nx _ _ (fun a ha => ⟨pk_un ha, rfl⟩) ⟨fun _ => ?_, fun k => ?_⟩))⟩
        · rw [pk_us, t, sf_ei_q _ g1, sf_up_s]
          exact hr
        · rcases k with k | ⟨q', k1, k2, k3⟩
          · rcases x2 with ⟨i1, i2⟩ | ⟨q', i1, i2, i3, i4, i5⟩
            · omega
            · rw [k] at i2; exact absurd i2.symm (sf_m1 (by omega))
          · have := c6 i hi (lp d) q' g1 k1 t k2
            omega
    · unfold wX_moveTo_46
      rw [nI_clamp (show i < 2 ^ 31 by omega)]
      refine ⟨vi, br_c (fun t2 => ⟨vi, ?_⟩) (fun t2 => nm_e (nx s23 s24 (fun _ _ => ⟨rfl, rfl⟩) ⟨fun k => ?_, fun k => ?_⟩))⟩
      · have kl : sf_kn od d (a21 i) := by
          rcases x1 with ⟨g1, g2⟩ | ⟨q, g1, g2, g3, g4, g5, g6⟩
          · exact Or.inl g1
          · have := c6 i hi q (lp d) g1 hd4.1 g2 t2
            exact Or.inr ⟨q, g1, g2, by omega⟩
        have hl : sf_ei e (a21 i) < sf_lc (Rk i) (Nr i) (Mc i) (Fo i) := by
          rcases x1 with ⟨g1, g2⟩ | ⟨q, g1, g2, g3, g4, g5, g6⟩
          · rw [g1, sf_ei_0]; omega
          · have := c6 i hi q (lp d) g1 hd4.1 g2 t2
            have := hbd (od q) (by omega)
            rw [g4] at this
            rw [g2, sf_ei_q _ g1, g5]; exact this
        have hvl : v < sf_ll (Rk i) (Nr i) (Mc i) (Fo i) := by
          rcases x2 with ⟨g1, g2⟩ | ⟨q, g1, g2, g3, g4, g5⟩
          · rw [g1] at t2; exact absurd t2.symm (sf_m1 (by omega))
          · have eq : q = lp d := (nI_eq (by omega) (by omega)).mp (by rw [← g2, t2])
            rw [g5, eq]; exact hv
        have el : ∀ k, sf_kn od (d + 1) (a21 i) → sf_ei (sf_up e (lp d) v) (a21 i) = k → sf_ei e (a21 i) = k := fun k hk hk2 => by rw [← hk2]; exact ((sf_kn_s l1 t hk).2).symm
        have kl1 : sf_kn od (d + 1) (a21 i) := by
          rcases kl with k | ⟨q, k1, k2, k3⟩
          · exact Or.inl k
          · exact Or.inr ⟨q, k1, k2, by omega⟩
        have ev : sf_av a14 a15 Tt (sf_up e (lp d) v) i = Tt i (sf_ix (Rk i) (Fo i) (sf_ei e (a21 i)) v) := by
          rw [x3, (sf_kn_s l1 t kl1).2, t2, sf_ei_q _ hd4.1, sf_up_s]
        have Y := y1 kl
        dsimp only
        rw [o23]
        rcases Y with ⟨i1, i2⟩ | ⟨k, K, i1, i2, i3, i4, i5⟩
        · refine br_t i1 ⟨vi, nm_e (nm_e (nx _ _ (fun a ha => ⟨rfl, pk_un ha⟩) ⟨fun k => ?_, fun _ => ?_⟩))⟩
          · rw [(sf_kn_s l1 t k).2, o23]
            exact Or.inl ⟨i1, i2⟩
          · rw [pk_us, ev]
            exact Or.inl ⟨rfl, i2 v hvl⟩
        · rw [i1]
          refine br_f (sf_m1 (by omega)) ⟨vi, sf_findPlace (a23 := s23) (a24 := s24) hs i2 i4 i3 i5 hl hvl (fun r hr => ⟨vi, nm_e (nm_e (nx _ _ (fun a ha => ⟨rfl, pk_un ha⟩) ⟨fun k => ?_, fun _ => ?_⟩))⟩)⟩
          · rw [(sf_kn_s l1 t k).2, o23]
            exact Or.inr ⟨_, K, i1, i2, i3, i4, i5⟩
          · rw [pk_us, ev]
            exact sf_pv_fq hr
      · have g := sf_kn_s (v := v) (e := e) l1 t k
        rw [g.2, o23]
        exact y1 g.1
      · have g := sf_kn_s (v := v) (e := e) l2 t2 k
        have kl : sf_kn od d (a21 i) := by
          rcases x1 with ⟨g1, g2⟩ | ⟨q, g1, g2, g3, g4, g5, g6⟩
          · exact Or.inl g1
          · rcases g.1 with k | ⟨q', k1, k2, k3⟩
            · rcases x2 with ⟨i1, i2⟩ | ⟨q', i1, i2, i3, i4, i5⟩
              · omega
              · rw [k] at i2; exact absurd i2.symm (sf_m1 (by omega))
            · have := c6 i hi q q' g1 k1 g2 k2
              exact Or.inr ⟨q, g1, g2, by omega⟩
        have kl1 : sf_kn od (d + 1) (a21 i) := by
          rcases kl with k | ⟨q, k1, k2, k3⟩
          · exact Or.inl k
          · exact Or.inr ⟨q, k1, k2, by omega⟩
        rw [x3, g.2, (sf_kn_s l1 t kl1).2, ← x3, o24]
        exact y2 g.1
theorem sf_startArrays {post : St2 → Prop} {fp fh fl : Int32} {a1 a2 a3 a4 a5 a6 a7 a8 a9 a10 a11 a12 a13 a14 a15 a16 a17 a18 a19 a20 a21 a22 a23 a24 a25 a26 a27 a28 : Nat → Int32} {na top : Nat} {Rk Nr Mc Fo : Nat → Nat} {Tt : Nat → Nat → Int32} {E : (Nat → Int32) → Nat → Int32} {sp : Nat → Nat} {L : Nat} {lp od : Nat → Nat} {tl : Nat → List Nat} {e : Nat → Nat} (hc : sf_cx a1 a2 a3 a4 a5 a6 a7 a8 a9 a10 a11 a12 a13 a14 a15 a17 a19 a20 a21 a22 na top Rk Nr Mc Fo Tt E sp L lp od tl)
    (hp : ∀ b23 b24 : Nat → Int32, sf_dy a5 a6 a9 a14 a15 a21 a22 b23 b24 na Rk Nr Mc Fo Tt od 0 e → post (fp, nI na, fh, fl, a1, a2, a3, a4, a5, a6, a7, a8, a9, a10, a11, a12, a13, a14, a15, a16, a17, a18, a19, a20, a21, a22, b23, b24, a25, a26, a27, a28)) : wpX_startArrays post (fp, nI na, fh, fl, a1, a2, a3, a4, a5, a6, a7, a8, a9, a10, a11, a12, a13, a14, a15, a16, a17, a18, a19, a20, a21, a22, a23, a24, a25, a26, a27, a28) := by
  have hc' := hc
  obtain ⟨⟨c01, c02, c03⟩, c1, c2, c3, c4, c5, c6, c7⟩ := hc'
  unfold wpX_startArrays
  try dsimp only
  refine pk_loop (σ := (Nat → Int32) × (Nat → Int32)) (fun n i t => wX_startArrays_2 post fp (nI na) fh fl n (nI i) a1 a2 a3 a4 a5 a6 a7 a8 a9 a10 a11 a12 a13 a14 a15 a16 a17 a18 a19 a20 a21 a22 t.1 t.2 a25 a26 a27 a28)
    (fun i t => ∀ a, a < i → a < na → (sf_kn od 0 (a21 a) → sf_fl a5 a6 (6 + a) (Rk a) (Fo a) (sf_ll (Rk a) (Nr a) (Mc a) (Fo a)) (Tt a) (sf_ei e (a21 a)) (t.1 a)) ∧ (sf_kn od 0 (a22 a) → sf_pv a9 (6 + a) (sf_av a14 a15 Tt e a) (t.2 a)))
    na 0 (a23, a24) (by omega) (fun a h => absurd h (by omega)) (fun n t h => ?_) (fun n i t hi h hw => ?_)
  · exact pk_le na na (fun _ => hp t.1 t.2 (fun a ha => h a ha ha)) (fun z => absurd z (by omega))
  · obtain ⟨s23, s24⟩ := t
    obtain ⟨x1, x2, x3⟩ := sf_cx_l hc hi
    obtain ⟨⟨w, z, hs⟩, hri, hli, hpi⟩ := c1 i hi
    have B := sf_dm_b hs.1.2.2.2.2.2
    have vi : vp_in (nI i) 6 := pk_in i 6 (by omega)
    have k0 : ∀ p, sf_kn od 0 p → p = -1 := by
      intro p hk
      rcases hk with k | ⟨q, k1, k2, k3⟩
      · exact k
      · omega
    have nx : ∀ r s : Int32, ((sf_kn od 0 (a21 i) → sf_fl a5 a6 (6 + i) (Rk i) (Fo i) (sf_ll (Rk i) (Nr i) (Mc i) (Fo i)) (Tt i) (sf_ei e (a21 i)) r) ∧ (sf_kn od 0 (a22 i) → sf_pv a9 (6 + i) (sf_av a14 a15 Tt e i) s)) → wX_startArrays_2 post fp (nI na) fh fl n (nI i + 1) a1 a2 a3 a4 a5 a6 a7 a8 a9 a10 a11 a12 a13 a14 a15 a16 a17 a18 a19 a20 a21 a22 (upd s23 i r) (upd s24 i s) a25 a26 a27 a28 := by
      intro r s g
      rw [nI_1]
      refine hw (upd s23 i r, upd s24 i s) (fun a ha ha' => ?_)
      show (sf_kn od 0 (a21 a) → sf_fl a5 a6 (6 + a) (Rk a) (Fo a) (sf_ll (Rk a) (Nr a) (Mc a) (Fo a)) (Tt a) (sf_ei e (a21 a)) (upd s23 i r a)) ∧ (sf_kn od 0 (a22 a) → sf_pv a9 (6 + a) (sf_av a14 a15 Tt e a) (upd s24 i s a))
      by_cases ea : a = i
      · rw [ea, pk_us, pk_us]; exact g
      · rw [pk_un ea, pk_un ea]; exact h a (by omega) ha'
    refine pk_le na i (fun t => absurd t (by omega)) (fun _ => ?_)
    rw [nI_clamp (show i < 2 ^ 31 by omega)]
    refine ⟨vi, br_c (fun t => ?_) (fun t => ?_)⟩
    · have hR : Rk i < 2 := by
        rcases x1 with ⟨g1, g2⟩ | ⟨q, g1, g2, g3, g4, g5, g6⟩
        · exact g2
        · rw [g2] at t; exact absurd t (sf_m1 (by omega))
      have FL := sf_single hs hR
      unfold wX_startArrays_25
      refine br_f (by decide) ?_
      unfold wX_startArrays_40
      rw [nI_clamp (show i < 2 ^ 31 by omega)]
      refine ⟨vi, nm_e (br_f (by decide) ⟨vi, br_c (fun t2 => ?_) (fun t2 => ?_)⟩)⟩
      · unfold wX_startArrays_60
        rw [sf_p6, nI_clamp (show i < 2 ^ 31 by omega)]
        refine br_f (by decide) ?_
        rcases FL with ⟨i1, i2⟩ | ⟨k, K, i1, i2, i3, i4, i5⟩
        · exact absurd i1 (by decide)
        · have ek : k = 0 := (nI_eq (by omega) (by omega)).mp i1.symm
          subst ek
          refine sf_findPlace (v := 0) (k := 0) hs i2 i4 i3 i5 (by omega) (by omega) (fun r hr => ⟨vi, nm_e (nm_e (nx 0 r ⟨fun _ => ?_, fun _ => ?_⟩))⟩)
          · rw [t]
            exact sf_single hs hR
          · rw [x3, t, t2]
            exact sf_pv_fq hr
      · unfold wX_startArrays_59 wX_startArrays_60
        rw [nI_clamp (show i < 2 ^ 31 by omega)]
        refine br_t rfl ⟨vi, nm_e (nm_e (nx 0 (-1) ⟨fun _ => ?_, fun k => absurd (k0 _ k) t2⟩))⟩
        rw [t]
        exact FL
    · unfold wX_startArrays_25
      refine br_t rfl ?_
      unfold wX_startArrays_40
      rw [nI_clamp (show i < 2 ^ 31 by omega)]
      refine ⟨vi, nm_e (br_t rfl ?_)⟩
      unfold wX_startArrays_59 wX_startArrays_60
      rw [nI_clamp (show i < 2 ^ 31 by omega)]
      refine br_t rfl ⟨vi, nm_e (nm_e (nx (-1) (-1) ⟨fun k => absurd (k0 _ k) t, fun k => ?_⟩))⟩
      have k2 := k0 _ k
      rcases x1 with ⟨g1, g2⟩ | ⟨q, g1, g2, g3, g4, g5, g6⟩
      · exact absurd g1 t
      · rcases x2 with ⟨i1, i2⟩ | ⟨q', i1, i2, i3, i4, i5⟩
        · omega
        · rw [k2] at i2; exact absurd i2.symm (sf_m1 (by omega))
/-- an output index whose number is known -/
def sf_ow (a27 : Nat → Int32) (e : Nat → Nat) (p : Int32) : Prop := p = -1 ∨ ∃ q, q < 3 ∧ p = nI q ∧ a27 q = nI (e q) ∧ e q < 6
theorem sf_addValue {post : St2 → Prop} {fp fa fh fl : Int32} {a1 a2 a3 a4 a5 a6 a7 a8 a9 a10 a11 a12 a13 a14 a15 a16 a17 a18 a19 a20 a21 a22 a23 a24 a25 a26 a27 a28 : Nat → Int32} {na top : Nat} {E : (Nat → Int32) → Nat → Int32} {V : Nat → Int32} {e : Nat → Nat} {p q : Int32} (ht : top < 20) (hna : na ≤ 6) (hi : ∀ k, k ≤ top → a17 k = 1) (hE : sf_eq a10 a11 a12 a13 top na E) (hV : ∀ a, a < na → sf_pv a9 (6 + a) (V a) (a24 a)) (ho : sf_ow a27 e p) (ho' : sf_ow a27 e q)
    (hp : ∀ b26 : Nat → Int32, post (fp, fa, fh, fl, a1, a2, a3, a4, a5, a6, a7, a8, a9, a10, a11, a12, a13, a14, a15, a16, a17, upd a18 (6 * sf_ei e p + sf_ei e q) (a18 (6 * sf_ei e p + sf_ei e q) + E V top), a19, a20, a21, a22, a23, a24, a25, b26, a27, a28)) : wpX_addValue post (fp, fa, fh, fl, a1, a2, a3, a4, a5, a6, a7, a8, a9, a10, a11, a12, a13, a14, a15, a16, a17, a18, a19, a20, a21, a22, a23, a24, a25, a26, a27, a28) (nI top) p q := by
  have b1 : sf_ei e p < 6 := by
    rcases ho with g | ⟨x, g1, g2, g3, g4⟩
    · rw [g, sf_ei_0]; omega
    · rw [g2, sf_ei_q _ g1]; exact g4
  have b2 : sf_ei e q < 6 := by
    rcases ho' with g | ⟨x, g1, g2, g3, g4⟩
    · rw [g, sf_ei_0]; omega
    · rw [g2, sf_ei_q _ g1]; exact g4
  have k33 : wX_addValue_33 post (nI top) (nI (sf_ei e q)) (6 * nI (sf_ei e p)) fp fa fh fl a1 a2 a3 a4 a5 a6 a7 a8 a9 a10 a11 a12 a13 a14 a15 a16 a17 a18 a19 a20 a21 a22 a23 a24 a25 a26 a27 a28 := by
    unfold wX_addValue_33
    rw [sf_i6]
    refine nm_e ⟨sf_v (by omega), sf_findValue ht hna hi hE hV (fun b26 => ?_)⟩
    dsimp only
    rw [nI_clamp (by omega)]
    exact ⟨sf_v (by omega), nm_e (hp b26)⟩
  have k17 : wX_addValue_17 post (nI top) q (nI (sf_ei e p)) 6 fp fa fh fl a1 a2 a3 a4 a5 a6 a7 a8 a9 a10 a11 a12 a13 a14 a15 a16 a17 a18 a19 a20 a21 a22 a23 a24 a25 a26 a27 a28 := by
    unfold wX_addValue_17
    rcases ho' with g | ⟨x, g1, g2, g3, g4⟩
    · rw [g, sf_ei_0] at k33
      exact br_t g k33
    · rw [g2, sf_ei_q _ g1] at k33
      rw [g2, nI_clamp (show x < 2 ^ 31 by omega), g3]
      exact br_f (sf_m1 (by omega)) ⟨pk_in x 3 g1, k33⟩
  unfold wpX_addValue
  try dsimp only
  rcases ho with g | ⟨x, g1, g2, g3, g4⟩
  · rw [g, sf_ei_0] at k17
    exact br_t g k17
  · rw [g2, sf_ei_q _ g1] at k17
    rw [g2, nI_clamp (show x < 2 ^ 31 by omega), g3]
    exact br_f (sf_m1 (by omega)) ⟨pk_in x 3 g1, k17⟩
theorem sf_enter {post : St2 → Prop} {fp fa fh fl : Int32} {a1 a2 a3 a4 a5 a6 a7 a8 a9 a10 a11 a12 a13 a14 a15 a16 a17 a18 a19 a20 a21 a22 a23 a24 a25 a26 a27 a28 : Nat → Int32} {na top : Nat} {Rk Nr Mc Fo : Nat → Nat} {Tt : Nat → Nat → Int32} {E : (Nat → Int32) → Nat → Int32} {sp : Nat → Nat} {L : Nat} {lp od : Nat → Nat} {tl : Nat → List Nat} {d : Nat} {e : Nat → Nat} (hc : sf_cx a1 a2 a3 a4 a5 a6 a7 a8 a9 a10 a11 a12 a13 a14 a15 a17 a19 a20 a21 a22 na top Rk Nr Mc Fo Tt E sp L lp od tl) (hdy : sf_dy a5 a6 a9 a14 a15 a21 a22 a23 a24 na Rk Nr Mc Fo Tt od d e) (hbd : ∀ j, j < d → e (lp j) < sp (lp j)) (hd : d < L)
    (hp : ∀ (b25 : Nat → Int32) (S : Nat), S < 64 → (∀ v, v < 6 → S.testBit v = false → ∀ e', sf_ex sp L lp d e e' → e' (lp d) = v → E (sf_av a14 a15 Tt e') top = 0) → post (fp, fa, fh, fl, a1, a2, a3, a4, a5, a6, a7, a8, a9, a10, a11, a12, a13, a14, a15, a16, a17, a18, a19, a20, a21, a22, a23, a24, b25, a26, a27, upd a28 d (nI (S % 2 ^ sp (lp d))))) : wpX_enter post (fp, fa, fh, fl, a1, a2, a3, a4, a5, a6, a7, a8, a9, a10, a11, a12, a13, a14, a15, a16, a17, a18, a19, a20, a21, a22, a23, a24, a25, a26, a27, a28) (nI top) (nI d) := by
  have hc' := hc
  obtain ⟨⟨c01, c02, c03⟩, c1, c2, c3, c4, c5, c6, c7⟩ := hc'
  have hd4 := c4 d hd
  unfold wpX_enter
  try dsimp only
  rw [nI_clamp (show d < 2 ^ 31 by omega)]
  refine ⟨pk_in d 3 (by omega), nm_r hd4.2.2.1 ?_⟩
  refine sf_findSupport (AD := fun v V => ∃ e', sf_ex sp L lp d e e' ∧ e' (lp d) = v ∧ V = sf_av a14 a15 Tt e') c02 c01 c2 c3 (fun b25 ps a ha hh => sf_arraySupport (a25 := b25) hc hdy hbd hd ha (fun S hS h2 => hh S hS (fun v hv hb V hV => ?_))) (fun b25 r hr => ?_)
  · obtain ⟨e', e1, e2, e3⟩ := hV
    rw [e3]
    exact h2 v hv hb e' e1 e2
  · obtain ⟨S, hS, eS, hh⟩ := hr
    have b := sf_b_mask S hS (sp (lp d)) (by omega)
    dsimp only
    rw [nI_clamp (show lp d < 2 ^ 31 by omega), hd4.2.2.2.2.2, eS, b.1]
    exact ⟨sf_v hd4.1, pk_in d 3 (by omega), nm_e (hp b25 S hS (fun v hv hb e' e1 e2 => hh v hv hb _ ⟨e', e1, e2, rfl⟩))⟩
end
section
/-! ===== workOut ===== -/
def sf_pc (S : Nat) : Nat := (if S.testBit 0 = true then 1 else 0) + (if S.testBit 1 = true then 1 else 0) + (if S.testBit 2 = true then 1 else 0) + (if S.testBit 3 = true then 1 else 0) + (if S.testBit 4 = true then 1 else 0) + (if S.testBit 5 = true then 1 else 0)
theorem sf_pc_lo : ∀ S, S < 64 → S ≠ 0 → sf_pc (S - 2 ^ sf_lo S 6 0) + 1 = sf_pc S := by decide +kernel
theorem sf_pc_6 : ∀ S, S < 64 → sf_pc S ≤ 6 := by decide +kernel
/-- rounds that the inner loops may take -/
def sf_C : Nat → Nat
  | 0 => 0
  | t + 1 => 6 * (1 + sf_C t) + 1
theorem sf_tl_mem {L : Nat} {lp : Nat → Nat} {tl : Nat → List Nat} (h0 : tl L = []) (h : ∀ d, d < L → tl d = lp d :: tl (d + 1)) : ∀ t d, d + t = L → (∀ q, q ∈ tl d → ∃ j, d ≤ j ∧ j < L ∧ q = lp j) ∧ (∀ j, d ≤ j → j < L → lp j ∈ tl d) := by
  intro t
  induction t with
  | zero =>
    intro d hd
    rw [show d = L by omega, h0]
    exact ⟨fun q hq => absurd hq List.not_mem_nil, fun j h1 h2 => absurd h1 (by omega)⟩
  | succ t ih =>
    intro d hd
    obtain ⟨i1, i2⟩ := ih (d + 1) (by omega)
    rw [h d (by omega)]
    refine ⟨fun q hq => ?_, fun j h1 h2 => ?_⟩
    · rcases List.mem_cons.mp hq with z | z
      · exact ⟨d, Nat.le_refl _, by omega, z⟩
      · obtain ⟨j, j1, j2, j3⟩ := i1 q z
        exact ⟨j, by omega, j2, j3⟩
    · by_cases e : j = d
      · rw [e]; exact List.mem_cons_self
      · exact List.mem_cons_of_mem _ (i2 j (by omega) h2)
/-- what a numbering adds at a place -/
def sf_g (p q : Int32) (F : (Nat → Nat) → Int32) (x : Nat) (e : Nat → Nat) : Int32 := if 6 * sf_ei e p + sf_ei e q = x then F e else 0
theorem sf_lev {post : St2 → Prop} {fp fh : Int32} {a1 a2 a3 a4 a5 a6 a7 a8 a9 a10 a11 a12 a13 a14 a15 a16 a17 a19 a20 a21 a22 : Nat → Int32} {na top : Nat} {Rk Nr Mc Fo : Nat → Nat} {Tt : Nat → Nat → Int32} {E : (Nat → Int32) → Nat → Int32} {sp : Nat → Nat} {L : Nat} {lp od : Nat → Nat} {tl : Nat → List Nat} {p q : Int32} (hc : sf_cx a1 a2 a3 a4 a5 a6 a7 a8 a9 a10 a11 a12 a13 a14 a15 a17 a19 a20 a21 a22 na top Rk Nr Mc Fo Tt E sp L lp od tl) (hpo : ∀ x, x = p ∨ x = q → x = -1 ∨ ∃ y, y < 3 ∧ x = nI y ∧ od y < L ∧ lp (od y) = y) :
    ∀ t d, d + t + 1 = L → ∀ S, S < 64 → ∀ (e : Nat → Nat) (r : Nat) (a18 a23 a24 a25 a26 a27 a28 : Nat → Int32), r + (sf_pc S * (1 + sf_C t) + 1) ≤ 1000 → sf_dy a5 a6 a9 a14 a15 a21 a22 a23 a24 na Rk Nr Mc Fo Tt od d e → (∀ j, j < d → e (lp j) < sp (lp j) ∧ a27 (lp j) = nI (e (lp j))) → a28 d = nI S → (∀ v, v < 6 → S.testBit v = true → v < sp (lp d)) →
    (∀ (r' : Nat) (b18 b23 b24 b25 b26 b27 b28 : Nat → Int32), r' ≤ r + (sf_pc S * (1 + sf_C t) + 1) → sf_dy a5 a6 a9 a14 a15 a21 a22 b23 b24 na Rk Nr Mc Fo Tt od d e → (∀ j, j < d → b27 (lp j) = nI (e (lp j))) → (∀ j, j < d → b28 j = a28 j) → (∀ x, x < 36 → b18 x = a18 x + sf_ss S (fun v => sf_is sp (sf_g p q (fun e => E (sf_av a14 a15 Tt e) top) x) (tl (d + 1)) (sf_up e (lp d) v))) → wX_workOut_35 post (nI top) p q (1001 - r') (nI d + (-1)) (nI r') fp (nI na) fh (nI L) a1 a2 a3 a4 a5 a6 a7 a8 a9 a10 a11 a12 a13 a14 a15 a16 a17 b18 a19 a20 a21 a22 b23 b24 b25 b26 b27 b28) →
    wX_workOut_35 post (nI top) p q (1001 - r) (nI d) (nI r) fp (nI na) fh (nI L) a1 a2 a3 a4 a5 a6 a7 a8 a9 a10 a11 a12 a13 a14 a15 a16 a17 a18 a19 a20 a21 a22 a23 a24 a25 a26 a27 a28 := by
  have hc' := hc
  obtain ⟨⟨c01, c02, c03⟩, c1, c2, c3, c4, c5, c6, c70, c7⟩ := hc'
  intro t
  induction t with
  | zero =>
    intro d hdt S
    induction S using Nat.strongRecOn with
    | ind S ihS =>
      intro hS e r a18 a23 a24 a25 a26 a27 a28 hr hdy hbd h28 hSb hk
      have hd : d < L := by omega
      have hd4 := c4 d hd
      have vd : vp_in (nI d) 3 := pk_in d 3 (by omega)
      rw [show 1001 - r = (1000 - r) + 1 by omega]
      refine pk_le 1000 r (fun z => absurd z (by omega)) (fun _ => br_f (nI_pos (by omega)) ?_)
      rw [nI_clamp (show d < 2 ^ 31 by omega), h28]
      refine ⟨vd, pk_eq S 0 (fun z => nm_e (nm_r (nI_1 r) ?_)) (fun z => ⟨vd, sf_lowestOf hS ⟨vd, vd, ?_⟩⟩)⟩
      · have := hk (r + 1) a18 a23 a24 a25 a26 a27 a28 (by omega) hdy (fun j hj => (hbd j hj).2) (fun _ _ => rfl) (fun x _ => by rw [z, sf_ss_0]; grind)
        rw [show 1001 - (r + 1) = 1000 - r by omega] at this
        exact this
      · obtain ⟨o1, o2, o3, o4, o5⟩ := sf_b_lo S hS z
        have opc := sf_pc_lo S hS z
        have hv := hSb _ o1 o2
        rw [o3]
        generalize sf_lo S 6 0 = v at *
        refine nm_e ⟨vd, ?_⟩
        rw [hd4.2.2.1]
        refine sf_moveTo hc hdy (fun j hj => (hbd j hj).1) hd hv (fun b23 b24 hdy' => ?_)
        have hall : ∀ j, j < L → (sf_up e (lp d) v) (lp j) < sp (lp j) ∧ upd a27 (lp d) (nI v) (lp j) = nI ((sf_up e (lp d) v) (lp j)) := by
          intro j hj
          by_cases ej : j = d
          · rw [ej, sf_up_s, pk_us]; exact ⟨hv, rfl⟩
          · have hne : lp j ≠ lp d := fun g => ej (by rw [← (c4 j hj).2.1, ← hd4.2.1, g])
            rw [sf_up_n _ _ hne, pk_un hne]
            exact hbd j (by omega)
        have how : ∀ x, x = p ∨ x = q → sf_ow (upd a27 (lp d) (nI v)) (sf_up e (lp d) v) x := by
          intro x hx
          rcases hpo x hx with g | ⟨y, g1, g2, g3, g4⟩
          · exact Or.inl g
          · have A := hall (od y) g3
            have C := c4 (od y) g3
            rw [g4] at A C
            exact Or.inr ⟨y, g1, g2, A.2, by omega⟩
        refine pk_eq (d + 1) L (fun _ => ?_) (fun g => absurd g (by omega)) (hx := by exact nI_1 d)
        refine sf_addValue (V := sf_av a14 a15 Tt (sf_up e (lp d) v)) c02 c01 c2 c3 (fun a ha => ?_) (how p (Or.inl rfl)) (how q (Or.inr rfl)) (fun b26 => ?_)
        · obtain ⟨x1, x2, x3⟩ := sf_cx_l hc ha
          refine (hdy' a ha).2 ?_
          rcases x2 with ⟨g1, g2⟩ | ⟨q', g1, g2, g3, g4, g5⟩
          · exact Or.inl g1
          · exact Or.inr ⟨q', g1, g2, by omega⟩
        · refine nm_r (nI_1 r) ?_
          have hbp : ∀ x, x = p ∨ x = q → sf_ei (sf_up e (lp d) v) x < 6 := by
            intro x hx
            rcases how x hx with g | ⟨y, g1, g2, g3, g4⟩
            · rw [g, sf_ei_0]; omega
            · rw [g2, sf_ei_q _ g1]; exact g4
          have B1 := hbp p (Or.inl rfl)
          have B2 := hbp q (Or.inr rfl)
          have := ihS (S - 2 ^ v) o4 (by omega) e (r + 1) (upd a18 (6 * sf_ei (sf_up e (lp d) v) p + sf_ei (sf_up e (lp d) v) q) (a18 (6 * sf_ei (sf_up e (lp d) v) p + sf_ei (sf_up e (lp d) v) q) + E (sf_av a14 a15 Tt (sf_up e (lp d) v)) top)) b23 b24 a25 b26 (upd a27 (lp d) (nI v)) (upd a28 d (nI (S - 2 ^ v))) ?_ (sf_dy_down hc hd hdy') ?_ pk_us ?_ ?_
          · rw [show 1001 - (r + 1) = 1000 - r by omega] at this
            exact this
          · have : sf_C 0 = 0 := rfl
            rw [this] at hr ⊢
            omega
          · intro j hj
            have A := hall j (by omega)
            have hne : lp j ≠ lp d := fun g => by
              have := (c4 j (by omega)).2.1
              rw [g, hd4.2.1] at this
              omega
            rw [sf_up_n _ _ hne] at A
            exact A
          · intro w hw hb
            refine hSb w hw ?_
            rw [o5 w hw] at hb
            revert hb
            cases S.testBit w <;> simp
          · intro r' b18 b23' b24' b25' b26' b27' b28' h1 h2 h3 h4 h5
            refine hk r' b18 b23' b24' b25' b26' b27' b28' ?_ h2 h3 (fun j hj => ?_) (fun x hx => ?_)
            · have : sf_C 0 = 0 := rfl
              rw [this] at h1 ⊢
              omega
            · rw [h4 j hj, pk_un (by omega)]
            · rw [h5 x hx, sf_ss_lo (S := S) (S' := S - 2 ^ v) _ o1 o2 o5]
              rw [show d + 1 = L by omega, c70]
              show _ = a18 x + (sf_g p q (fun e => E (sf_av a14 a15 Tt e) top) x (sf_up e (lp d) v) + _)
              unfold sf_g
              by_cases ex : 6 * sf_ei (sf_up e (lp d) v) p + sf_ei (sf_up e (lp d) v) q = x
              · rw [if_pos ex, ex, pk_us]
                grind
              · rw [if_neg ex, pk_un (fun g => ex g.symm)]
                grind
  | succ t iht =>
    intro d hdt S
    induction S using Nat.strongRecOn with
    | ind S ihS =>
      intro hS e r a18 a23 a24 a25 a26 a27 a28 hr hdy hbd h28 hSb hk
      have hd : d < L := by omega
      have hd4 := c4 d hd
      have vd : vp_in (nI d) 3 := pk_in d 3 (by omega)
      rw [show 1001 - r = (1000 - r) + 1 by omega]
      refine pk_le 1000 r (fun z => absurd z (by omega)) (fun _ => br_f (nI_pos (by omega)) ?_)
      rw [nI_clamp (show d < 2 ^ 31 by omega), h28]
      refine ⟨vd, pk_eq S 0 (fun z => nm_e (nm_r (nI_1 r) ?_)) (fun z => ⟨vd, sf_lowestOf hS ⟨vd, vd, ?_⟩⟩)⟩
      · have := hk (r + 1) a18 a23 a24 a25 a26 a27 a28 (by omega) hdy (fun j hj => (hbd j hj).2) (fun _ _ => rfl) (fun x _ => by rw [z, sf_ss_0]; grind)
        rw [show 1001 - (r + 1) = 1000 - r by omega] at this
        exact this
      · obtain ⟨o1, o2, o3, o4, o5⟩ := sf_b_lo S hS z
        have opc := sf_pc_lo S hS z
        have hv := hSb _ o1 o2
        rw [o3]
        generalize sf_lo S 6 0 = v at *
        refine nm_e ⟨vd, ?_⟩
        rw [hd4.2.2.1]
        refine sf_moveTo hc hdy (fun j hj => (hbd j hj).1) hd hv (fun b23 b24 hdy' => ?_)
        have hd' : d + 1 < L := by omega
        have hd4' := c4 (d + 1) hd'
        have hne : ∀ j, j < L → j ≠ d → lp j ≠ lp d := fun j hj hj' g => by
          have := (c4 j hj).2.1
          rw [g, hd4.2.1] at this
          omega
        have hb' : ∀ j, j < d + 1 → (sf_up e (lp d) v) (lp j) < sp (lp j) ∧ upd a27 (lp d) (nI v) (lp j) = nI ((sf_up e (lp d) v) (lp j)) := by
          intro j hj
          by_cases ej : j = d
          · rw [ej, sf_up_s, pk_us]; exact ⟨hv, rfl⟩
          · rw [sf_up_n _ _ (hne j (by omega) ej), pk_un (hne j (by omega) ej)]
            exact hbd j (by omega)
        refine pk_eq (d + 1) L (fun g => absurd g (by omega)) (fun _ => nm_r (nI_1 d) ?_) (hx := by exact nI_1 d)
        refine sf_enter hc hdy' (fun j hj => (hb' j hj).1) hd' (fun b25 S0 hS0 hz => nm_r (nI_1 r) ?_)
        have m1 := sf_b_mask S0 hS0 (sp (lp (d + 1))) (by omega)
        have P6 := sf_pc_6 _ m1.2
        have eC : sf_C (t + 1) = 6 * (1 + sf_C t) + 1 := rfl
        have PM : sf_pc (S0 % 2 ^ sp (lp (d + 1))) * (1 + sf_C t) ≤ 6 * (1 + sf_C t) := Nat.mul_le_mul_right _ P6
        have PS : sf_pc S * (1 + sf_C (t + 1)) = sf_pc (S - 2 ^ v) * (1 + sf_C (t + 1)) + (1 + sf_C (t + 1)) := by
          rw [← opc, Nat.add_mul, Nat.one_mul]
        have := iht (d + 1) (by omega) (S0 % 2 ^ sp (lp (d + 1))) m1.2 (sf_up e (lp d) v) (r + 1) a18 b23 b24 b25 a26 (upd a27 (lp d) (nI v)) (upd (upd a28 d (nI (S - 2 ^ v))) (d + 1) (nI (S0 % 2 ^ sp (lp (d + 1))))) (by omega) hdy' hb' pk_us ?_ ?_
        · rw [show 1001 - (r + 1) = 1000 - r by omega] at this
          exact this
        · intro w hw hb
          rw [Nat.testBit_mod_two_pow] at hb
          by_cases g : w < sp (lp (d + 1))
          · exact g
          · rw [decide_eq_false g] at hb
            exact absurd hb (by simp)
        · intro r' b18 b23' b24' b25' b26' b27' b28' h1 h2 h3 h4 h5
          rw [pk_m1]
          refine ihS (S - 2 ^ v) o4 (by omega) e r' b18 b23' b24' b25' b26' b27' b28' (by omega) (sf_dy_down hc hd h2) ?_ ?_ ?_ ?_
          · intro j hj
            have A := h3 j (by omega)
            rw [sf_up_n _ _ (hne j (by omega) (by omega))] at A
            exact ⟨(hbd j hj).1, A⟩
          · rw [h4 d (by omega), pk_un (by omega), pk_us]
          · intro w hw hb
            refine hSb w hw ?_
            rw [o5 w hw] at hb
            revert hb
            cases S.testBit w <;> simp
          · intro r'' c18 c23 c24 c25 c26 c27 c28 j1 j2 j3 j4 j5
            refine hk r'' c18 c23 c24 c25 c26 c27 c28 (by omega) j2 j3 (fun j hj => ?_) (fun x hx => ?_)
            · rw [j4 j hj, h4 j (by omega), pk_un (by omega), pk_un (by omega)]
            · rw [j5 x hx, h5 x hx, sf_ss_lo (S := S) (S' := S - 2 ^ v) _ o1 o2 o5]
              have ei : sf_is sp (sf_g p q (fun e => E (sf_av a14 a15 Tt e) top) x) (tl (d + 1)) (sf_up e (lp d) v) = sf_sm (fun v2 => sf_is sp (sf_g p q (fun e => E (sf_av a14 a15 Tt e) top) x) (tl (d + 1 + 1)) (sf_up (sf_up e (lp d) v) (lp (d + 1)) v2)) (sp (lp (d + 1))) := by
                rw [c7 (d + 1) hd']
                rfl
              rw [ei, sf_ss_all (S := S0) (by omega) (fun v2 hv2 hb2 => ?_)]
              · grind
              · refine sf_is_zero _ _ _ _ (fun e'' k1 k2 => ?_)
                obtain ⟨M1, M2⟩ := sf_tl_mem c70 c7 (L - (d + 1 + 1)) (d + 1 + 1) (by omega)
                have nm : ∀ j, j < d + 1 + 1 → lp j ∉ tl (d + 1 + 1) := by
                  intro j hj hm
                  obtain ⟨j', u1, u2, u3⟩ := M1 _ hm
                  have w1 := (c4 j (by omega)).2.1
                  have w2 := (c4 j' u2).2.1
                  rw [u3] at w1
                  omega
                have ag : ∀ j, j < d + 1 → e'' (lp j) = (sf_up e (lp d) v) (lp j) := by
                  intro j hj
                  rw [k1 _ (nm j (by omega))]
                  refine sf_up_n _ _ (fun g => ?_)
                  have w1 := (c4 j (by omega)).2.1
                  rw [g, hd4'.2.1] at w1
                  omega
                have at1 : e'' (lp (d + 1)) = v2 := by
                  rw [k1 _ (nm (d + 1) (by omega)), sf_up_s]
                have key := hz v2 (by omega) hb2 e'' ⟨ag, fun j hj => ?_⟩ at1
                · unfold sf_g
                  dsimp only
                  rw [key]
                  split <;> rfl
                · rcases Nat.lt_or_ge j (d + 1) with u | u
                  · rw [ag j u]; exact (hb' j u).1
                  · by_cases u2 : j = d + 1
                    · rw [u2, at1]; exact hv2
                    · exact k2 _ (M2 j (by omega) hj)
theorem sf_workOut {post : St2 → Prop} {fp fh : Int32} {a1 a2 a3 a4 a5 a6 a7 a8 a9 a10 a11 a12 a13 a14 a15 a16 a17 a18 a19 a20 a21 a22 a23 a24 a25 a26 a27 a28 : Nat → Int32} {na top : Nat} {Rk Nr Mc Fo : Nat → Nat} {Tt : Nat → Nat → Int32} {E : (Nat → Int32) → Nat → Int32} {sp : Nat → Nat} {L : Nat} {lp od : Nat → Nat} {tl : Nat → List Nat} {p q : Int32} {e0 : Nat → Nat} (hc : sf_cx a1 a2 a3 a4 a5 a6 a7 a8 a9 a10 a11 a12 a13 a14 a15 a17 a19 a20 a21 a22 na top Rk Nr Mc Fo Tt E sp L lp od tl) (hpo : ∀ x, x = p ∨ x = q → x = -1 ∨ ∃ y, y < 3 ∧ x = nI y ∧ od y < L ∧ lp (od y) = y)
    (hp : ∀ b18 b23 b24 b25 b26 b27 b28 : Nat → Int32, (∀ x, x < 36 → b18 x = sf_is sp (sf_g p q (fun e => E (sf_av a14 a15 Tt e) top) x) (tl 0) e0) → post (fp, nI na, fh, nI L, a1, a2, a3, a4, a5, a6, a7, a8, a9, a10, a11, a12, a13, a14, a15, a16, a17, b18, a19, a20, a21, a22, b23, b24, b25, b26, b27, b28)) : wpX_workOut post (fp, nI na, fh, nI L, a1, a2, a3, a4, a5, a6, a7, a8, a9, a10, a11, a12, a13, a14, a15, a16, a17, a18, a19, a20, a21, a22, a23, a24, a25, a26, a27, a28) (nI top) p q := by
  have hc' := hc
  obtain ⟨⟨c01, c02, c03⟩, c1, c2, c3, c4, c5, c6, c70, c7⟩ := hc'
  unfold wpX_workOut
  refine sf_clearPlain (fun b18 hb => sf_startArrays (e := e0) hc (fun b23 b24 hdy => ?_))
  refine pk_eq L 0 (fun z => ?_) (fun z => ?_)
  · have how : ∀ x, x = p ∨ x = q → x = -1 := by
      intro x hx
      rcases hpo x hx with g | ⟨y, g1, g2, g3, g4⟩
      · exact g
      · omega
    have ep := how p (Or.inl rfl)
    have eq := how q (Or.inr rfl)
    refine sf_addValue (V := sf_av a14 a15 Tt e0) (e := e0) c02 c01 c2 c3 (fun a ha => ?_) (Or.inl ep) (Or.inl eq) (fun b26 => hp _ _ _ _ _ _ _ (fun x hx => ?_))
    · obtain ⟨x1, x2, x3⟩ := sf_cx_l hc ha
      refine (hdy a ha).2 ?_
      rcases x2 with ⟨g1, g2⟩ | ⟨q', g1, g2, g3, g4, g5⟩
      · exact Or.inl g1
      · omega
    · rw [show (0 : Nat) = L from z.symm, c70]
      show _ = sf_g p q (fun e => E (sf_av a14 a15 Tt e) top) x e0
      unfold sf_g
      by_cases ex : 6 * sf_ei e0 p + sf_ei e0 q = x
      · rw [if_pos ex, ex, pk_us, hb x hx]
        grind
      · rw [if_neg ex, pk_un (fun g => ex g.symm), hb x hx]
  · have hd : 0 < L := by omega
    refine sf_enter (d := 0) hc hdy (fun j hj => absurd hj (by omega)) hd (fun b25 S0 hS0 hz => ?_)
    have m1 := sf_b_mask S0 hS0 (sp (lp 0)) (by have := c4 0 hd; omega)
    have P6 := sf_pc_6 _ m1.2
    have PM : sf_pc (S0 % 2 ^ sp (lp 0)) * (1 + sf_C (L - 1)) ≤ 6 * (1 + sf_C (L - 1)) := Nat.mul_le_mul_right _ P6
    have CL : sf_C (L - 1) ≤ 49 := by
      rcases (show L = 1 ∨ L = 2 ∨ L = 3 by omega) with g | g | g <;> (subst g; decide)
    refine ⟨1001 - 0, ?_⟩
    refine sf_lev hc hpo (L - 1) 0 (by omega) (S0 % 2 ^ sp (lp 0)) m1.2 e0 0 b18 b23 b24 b25 a26 a27 _ (by omega) hdy (fun j hj => absurd hj (by omega)) pk_us ?_ ?_
    · intro w hw hb
      rw [Nat.testBit_mod_two_pow] at hb
      by_cases g : w < sp (lp 0)
      · exact g
      · rw [decide_eq_false g] at hb
        exact absurd hb (by simp)
    · intro r' c18 c23 c24 c25 c26 c27 c28 j1 j2 j3 j4 j5
      rw [show 1001 - r' = (1000 - r') + 1 by omega]
      refine pk_le 1000 r' (fun g => absurd g (by omega)) (fun _ => br_t (by decide) (hp _ _ _ _ _ _ _ (fun x hx => ?_)))
      rw [j5 x hx, hb x hx, c7 0 hd]
      show _ = sf_sm (fun v2 => sf_is sp (sf_g p q (fun e => E (sf_av a14 a15 Tt e) top) x) (tl (0 + 1)) (sf_up e0 (lp 0) v2)) (sp (lp 0))
      rw [sf_ss_all (S := S0) (by have := c4 0 hd; omega) (fun v2 hv2 hb2 => ?_)]
      · grind
      · refine sf_is_zero _ _ _ _ (fun e'' k1 k2 => ?_)
        obtain ⟨M1, M2⟩ := sf_tl_mem c70 c7 (L - (0 + 1)) (0 + 1) (by omega)
        have nm : lp 0 ∉ tl (0 + 1) := by
          intro hm
          obtain ⟨j', u1, u2, u3⟩ := M1 _ hm
          have w1 := (c4 0 hd).2.1
          have w2 := (c4 j' u2).2.1
          rw [u3] at w1
          omega
        have at1 : e'' (lp 0) = v2 := by rw [k1 _ nm, sf_up_s]
        have hsp := c4 0 hd
        have key := hz v2 (by omega) hb2 e'' ⟨fun j hj => absurd hj (by omega), fun j hj => ?_⟩ at1
        · unfold sf_g
          dsimp only
          rw [key]
          split <;> rfl
        · by_cases u2 : j = 0
          · rw [u2, at1]; exact hv2
          · exact k2 _ (M2 j (by omega) hj)
end
section
/-! ===== findLevels, against, repack, dropLoops, chooseOrder ===== -/
theorem sf_findLevels {post : St2 → Prop} {fp fa fh fl : Int32} {a1 a2 a3 a4 a5 a6 a7 a8 a9 a10 a11 a12 a13 a14 a15 a16 a17 a18 a19 a20 a21 a22 a23 a24 a25 a26 a27 a28 : Nat → Int32} {a R n m f : Nat} (ha : a < 6) (h : sf_hd a1 a2 a3 a4 (6 + a) R n m f) (hp : post (fp, fa, fh, fl, a1, a2, a3, a4, a5, a6, a7, a8, a9, a10, a11, a12, a13, a14, a15, a16, a17, a18, a19, a20, upd a21 a (sf_li R f (a14 a) (a15 a)), upd a22 a (sf_pi R f (a14 a) (a15 a)), a23, a24, a25, a26, a27, a28)) : wpX_findLevels post (fp, fa, fh, fl, a1, a2, a3, a4, a5, a6, a7, a8, a9, a10, a11, a12, a13, a14, a15, a16, a17, a18, a19, a20, a21, a22, a23, a24, a25, a26, a27, a28) (nI a) := by
  obtain ⟨hs, e1, e2, e3, e4, hd⟩ := h
  have B := sf_dm_b hd
  have v6 : vp_in (nI a) 6 := pk_in a 6 ha
  have v13 : vp_in (nI (6 + a)) 13 := sf_v hs
  unfold wpX_findLevels
  try dsimp only
  rw [sf_p6]
  refine nm_e (sf_isTurned hs e1 e4 (by omega) (by omega) (fun t => ?_) (fun t => ?_))
  · rw [nI_clamp (show 6 + a < 2 ^ 31 by omega), e1]
    refine ⟨v13, pk_le 2 R (fun g => br_t rfl ⟨v6, ?_⟩) (fun g => ?_)⟩
    · unfold wX_findLevels_49
      rw [nI_clamp (show a < 2 ^ 31 by omega), nI_clamp (show 6 + a < 2 ^ 31 by omega), e1]
      unfold sf_li sf_pi at hp
      rw [if_neg (by omega), if_neg (by omega), if_neg (by omega), if_neg (by omega)] at hp
      exact ⟨v6, nm_e ⟨v13, pk_lt R 2 (fun g' => absurd g' (by omega)) (fun _ => br_t rfl ⟨v6, v6, nm_e hp⟩)⟩⟩
    · unfold wX_findLevels_49
      rw [nI_clamp (show a < 2 ^ 31 by omega), nI_clamp (show 6 + a < 2 ^ 31 by omega), e1]
      unfold sf_li sf_pi at hp
      rw [if_pos g, if_pos g] at hp
      exact ⟨v6, nm_e ⟨v13, pk_lt R 2 (fun _ => ⟨v6, v6, nm_e hp⟩) (fun g' => absurd g' (by omega))⟩⟩
  · rw [nI_clamp (show 6 + a < 2 ^ 31 by omega), e1]
    refine ⟨v13, pk_le 2 R (fun g => br_f (by decide) ⟨v6, ?_⟩) (fun g => absurd g (by omega))⟩
    unfold wX_findLevels_49
    rw [nI_clamp (show a < 2 ^ 31 by omega), nI_clamp (show 6 + a < 2 ^ 31 by omega), e1]
    unfold sf_li sf_pi at hp
    rw [if_neg (by omega), if_pos t.2, if_neg (by omega), if_pos t.2] at hp
    exact ⟨v6, nm_e ⟨v13, pk_lt R 2 (fun g' => absurd g' (by omega)) (fun _ => br_f (by decide) ⟨v6, v6, nm_e hp⟩)⟩⟩
theorem sf_against {post : Int32 → Prop} {fp fh fl : Int32} {a1 a2 a3 a4 a5 a6 a7 a8 a9 a10 a11 a12 a13 a14 a15 a16 a17 a18 a19 a20 a21 a22 a23 a24 a25 a26 a27 a28 : Nat → Int32} {na : Nat} {x1 x2 x3 : Int32} (hna : na ≤ 6) (hp : ∀ c, c ≤ 6 → post (nI c)) : wpX_against post (fp, nI na, fh, fl, a1, a2, a3, a4, a5, a6, a7, a8, a9, a10, a11, a12, a13, a14, a15, a16, a17, a18, a19, a20, a21, a22, a23, a24, a25, a26, a27, a28) x1 x2 x3 := by
  unfold wpX_against
  try dsimp only
  refine pk_loop (σ := Nat) (fun n i c => wX_against_6 post x1 x2 fp (nI na) fh fl a1 a2 a3 a4 a5 a6 a7 a8 a9 a10 a11 a12 a13 a14 a15 a16 a17 a18 a19 a20 a21 a22 a23 a24 a25 a26 a27 a28 n (nI c) (nI i)) (fun i c => c ≤ i) na 0 0 (by omega) (by omega) (fun n c h => ?_) (fun n i c hi h hw => ?_)
  · exact pk_le na na (fun _ => hp c (by omega)) (fun t => absurd t (by omega))
  · have v6 : vp_in (nI i) 6 := pk_in i 6 (by omega)
    have k90 : ∀ y z : Int32, wX_against_90 post (wX_against_6 post x1 x2 fp (nI na) fh fl a1 a2 a3 a4 a5 a6 a7 a8 a9 a10 a11 a12 a13 a14 a15 a16 a17 a18 a19 a20 a21 a22 a23 a24 a25 a26 a27 a28 n) x1 x2 (nI c) (nI i) y z fp (nI na) fh fl a1 a2 a3 a4 a5 a6 a7 a8 a9 a10 a11 a12 a13 a14 a15 a16 a17 a18 a19 a20 a21 a22 a23 a24 a25 a26 a27 a28 := by
      intro y z
      unfold wX_against_90
      exact br_c (fun _ => nm_r (nI_1 i) (hw c (by omega))) (fun _ => nm_r (nI_1 c) (nm_r (nI_1 i) (hw (c + 1) (by omega))))
    have k57 : ∀ y : Int32, wX_against_57 post (wX_against_6 post x1 x2 fp (nI na) fh fl a1 a2 a3 a4 a5 a6 a7 a8 a9 a10 a11 a12 a13 a14 a15 a16 a17 a18 a19 a20 a21 a22 a23 a24 a25 a26 a27 a28 n) x1 x2 (nI c) (nI i) y fp (nI na) fh fl a1 a2 a3 a4 a5 a6 a7 a8 a9 a10 a11 a12 a13 a14 a15 a16 a17 a18 a19 a20 a21 a22 a23 a24 a25 a26 a27 a28 := by
      intro y
      unfold wX_against_57
      exact ⟨v6, br_c (fun _ => k90 _ _) (fun _ => ⟨v6, br_c (fun _ => k90 _ _) (fun _ => k90 _ _)⟩)⟩
    exact pk_le na i (fun t => absurd t (by omega)) (fun _ => ⟨v6, br_c (fun _ => nm_r (nI_1 i) (hw c (by omega))) (fun _ => ⟨v6, br_c (fun _ => k57 _) (fun _ => ⟨v6, br_c (fun _ => k57 _) (fun _ => k57 _)⟩)⟩)⟩)
theorem sf_repack {post : St2 → Prop} {fp fa fh fl : Int32} {a1 a2 a3 a4 a5 a6 a7 a8 a9 a10 a11 a12 a13 a14 a15 a16 a17 a18 a19 a20 a21 a22 a23 a24 a25 a26 a27 a28 : Nat → Int32} {a n m f w z : Nat} {T : Nat → Int32} (ha : a < 6) (h : sf_slot a1 a2 a3 a4 a5 a6 a7 a8 a9 (6 + a) 2 n m f T w z)
    (hp : ∀ (b1 b2 b3 b4 b5 b6 b7 b8 b9 b18 : Nat → Int32) (w' z' : Nat), sf_slot b1 b2 b3 b4 b5 b6 b7 b8 b9 (6 + a) 2 n m (f ^^^ 4) T w' z' → sf_kp (6 + a) a1 a2 a3 a4 a5 a6 a7 a8 a9 b1 b2 b3 b4 b5 b6 b7 b8 b9 → post (fp, fa, fh, fl, b1, b2, b3, b4, b5, b6, b7, b8, b9, a10, a11, a12, a13, a14, a15, a16, a17, b18, a19, a20, upd a21 a (sf_li 2 (f ^^^ 4) (a14 a) (a15 a)), upd a22 a (sf_pi 2 (f ^^^ 4) (a14 a) (a15 a)), a23, a24, a25, a26, a27, a28)) : wpX_repack post (fp, fa, fh, fl, a1, a2, a3, a4, a5, a6, a7, a8, a9, a10, a11, a12, a13, a14, a15, a16, a17, a18, a19, a20, a21, a22, a23, a24, a25, a26, a27, a28) (nI a) := by
  obtain ⟨hs, e1, e2, e3, e4, hd⟩ := h.1
  have hd' := hd
  obtain ⟨d1, d2, d3, d4, d5⟩ := hd'
  have F := sf_f4 f (by omega)
  have v13 : vp_in (nI (6 + a)) 13 := sf_v hs
  unfold wpX_repack
  try dsimp only
  rw [sf_p6]
  refine nm_e (sf_unpack h (fun b18 hb => ?_))
  dsimp only
  rw [nI_clamp (show 6 + a < 2 ^ 31 by omega), e2, e3, e4, F.1]
  refine ⟨v13, v13, v13, sf_pack (R := 2) hs ⟨d1, d2, d3, d4, Or.inr (Or.inr ⟨rfl, by omega⟩)⟩ h.2.1 hb (fun b1 b2 b3 b4 b5 b6 b7 b8 b9 h1 h2 => ?_)⟩
  exact sf_findLevels ha h1.1 (hp b1 b2 b3 b4 b5 b6 b7 b8 b9 b18 _ _ h1 h2)
theorem sf_dropLoops {post : St2 → Prop} {fp fa fh fl : Int32} {a1 a2 a3 a4 a5 a6 a7 a8 a9 a10 a11 a12 a13 a14 a15 a16 a17 a18 a19 a20 a21 a22 a23 a24 a25 a26 a27 a28 : Nat → Int32} {l0 l1 l2 : Nat} {sp : Nat → Nat} (h0 : l0 < 3) (h1 : l1 < 3) (h2 : l2 < 3) (e0 : a19 0 = nI l0) (e1 : a19 1 = nI l1) (e2 : a19 2 = nI l2) (hsp : ∀ q, q < 3 → a20 q = nI (sp q) ∧ sp q ≤ 6)
    (hp : ∀ (b19 : Nat → Int32) (ps : List Nat), ps = [l0, l1, l2].filter (fun q => decide (0 < sp q)) → (∀ j, j < ps.length → b19 j = nI (ps.getD j 0)) → post (fp, fa, fh, nI ps.length, a1, a2, a3, a4, a5, a6, a7, a8, a9, a10, a11, a12, a13, a14, a15, a16, a17, a18, b19, a20, a21, a22, a23, a24, a25, a26, a27, a28)) : wpX_dropLoops post (fp, fa, fh, fl, a1, a2, a3, a4, a5, a6, a7, a8, a9, a10, a11, a12, a13, a14, a15, a16, a17, a18, a19, a20, a21, a22, a23, a24, a25, a26, a27, a28) := by
  have s0 := hsp l0 h0
  have s1 := hsp l1 h1
  have s2 := hsp l2 h2
  unfold wpX_dropLoops
  try dsimp only
  have k3 : ∀ (n : Nat) (ps : List Nat) (b19 : Nat → Int32), ps = [l0, l1, l2].filter (fun q => decide (0 < sp q)) → (∀ j, j < ps.length → b19 j = nI (ps.getD j 0)) → wX_dropLoops_7 post fp fa fh (n + 1) (nI 3) (nI ps.length) a1 a2 a3 a4 a5 a6 a7 a8 a9 a10 a11 a12 a13 a14 a15 a16 a17 a18 b19 a20 a21 a22 a23 a24 a25 a26 a27 a28 := by
    intro n ps b19 g1 g2
    exact pk_le 3 3 (fun _ => hp b19 ps g1 g2) (fun t => absurd t (by omega))
  have stp : ∀ (n k l : Nat) (ps : List Nat) (b19 : Nat → Int32), k < 3 → l < 3 → ps.length ≤ k → b19 k = nI l → (¬ 0 < sp l → wX_dropLoops_7 post fp fa fh n (nI (k + 1)) (nI ps.length) a1 a2 a3 a4 a5 a6 a7 a8 a9 a10 a11 a12 a13 a14 a15 a16 a17 a18 b19 a20 a21 a22 a23 a24 a25 a26 a27 a28) → (0 < sp l → wX_dropLoops_7 post fp fa fh n (nI (k + 1)) (nI (ps.length + 1)) a1 a2 a3 a4 a5 a6 a7 a8 a9 a10 a11 a12 a13 a14 a15 a16 a17 a18 (upd b19 ps.length (nI l)) a20 a21 a22 a23 a24 a25 a26 a27 a28) → wX_dropLoops_7 post fp fa fh (n + 1) (nI k) (nI ps.length) a1 a2 a3 a4 a5 a6 a7 a8 a9 a10 a11 a12 a13 a14 a15 a16 a17 a18 b19 a20 a21 a22 a23 a24 a25 a26 a27 a28 := by
    intro n k l ps b19 hk hl hlen hb g1 g2
    have sl := hsp l hl
    refine pk_le 3 k (fun t => absurd t (by omega)) (fun _ => ?_)
    rw [nI_clamp (show k < 2 ^ 31 by omega), hb, nI_clamp (show l < 2 ^ 31 by omega), sl.1, nI_clamp (show ps.length < 2 ^ 31 by omega)]
    refine ⟨pk_in k 3 hk, pk_in l 3 hl, pk_le (sp l) 0 (fun t => nm_r (nI_1 k) (g1 (by omega))) (fun t => ⟨pk_in k 3 hk, sf_v (by omega), nm_e (nm_r (nI_1 _) (nm_r (nI_1 k) (g2 t)))⟩)⟩
  refine ⟨4, stp 3 0 l0 [] a19 (by omega) h0 (by simp) e0 (fun c0 => ?_) (fun c0 => ?_)⟩
  · refine stp 2 1 l1 [] a19 (by omega) h1 (by simp) e1 (fun c1 => ?_) (fun c1 => ?_)
    · refine stp 1 2 l2 [] a19 (by omega) h2 (by simp) e2 (fun c2 => ?_) (fun c2 => ?_)
      · exact k3 0 [] _ (by simp [c0, c1, c2]) (fun j hj => absurd hj (by simp))
      · refine k3 0 [l2] _ (by simp [c0, c1, c2]) (fun j hj => ?_)
        have : j = 0 := by simp at hj; omega
        rw [this]; rfl
    · refine stp 1 2 l2 [l1] _ (by omega) h2 (by simp) (by rw [pk_un (by simp)]; exact e2) (fun c2 => ?_) (fun c2 => ?_)
      · refine k3 0 [l1] _ (by simp [c0, c1, c2]) (fun j hj => ?_)
        have : j = 0 := by simp at hj; omega
        rw [this]; rfl
      · refine k3 0 [l1, l2] _ (by simp [c0, c1, c2]) (fun j hj => ?_)
        have : j = 0 ∨ j = 1 := by simp at hj; omega
        rcases this with g | g <;> (rw [g]; rfl)
  · refine stp 2 1 l1 [l0] _ (by omega) h1 (by simp) (by rw [pk_un (by simp)]; exact e1) (fun c1 => ?_) (fun c1 => ?_)
    · refine stp 1 2 l2 [l0] _ (by omega) h2 (by simp) (by rw [pk_un (by simp)]; exact e2) (fun c2 => ?_) (fun c2 => ?_)
      · refine k3 0 [l0] _ (by simp [c0, c1, c2]) (fun j hj => ?_)
        have : j = 0 := by simp at hj; omega
        rw [this]; rfl
      · refine k3 0 [l0, l2] _ (by simp [c0, c1, c2]) (fun j hj => ?_)
        have : j = 0 ∨ j = 1 := by simp at hj; omega
        rcases this with g | g <;> (rw [g]; rfl)
    · refine stp 1 2 l2 [l0, l1] _ (by omega) h2 (by simp) (by rw [pk_un (by simp), pk_un (by simp)]; exact e2) (fun c2 => ?_) (fun c2 => ?_)
      · refine k3 0 [l0, l1] _ (by simp [c0, c1, c2]) (fun j hj => ?_)
        have : j = 0 ∨ j = 1 := by simp at hj; omega
        rcases this with g | g <;> (rw [g]; rfl)
      · refine k3 0 [l0, l1, l2] _ (by simp [c0, c1, c2]) (fun j hj => ?_)
        have : j = 0 ∨ j = 1 ∨ j = 2 := by simp at hj; omega
        rcases this with g | g | g <;> (rw [g]; rfl)
/-- where an index stands in an order of three -/
def sf_lo3 (l0 l1 q : Nat) : Nat := if l0 = q then 0 else if l1 = q then 1 else 2
def sf_l3 (l0 l1 l2 j : Nat) : Nat := if j = 0 then l0 else if j = 1 then l1 else l2
def sf_ck (l0 l1 l2 : Nat) : Bool := decide (∀ j : Fin 3, sf_l3 l0 l1 l2 j.val < 3 ∧ sf_lo3 l0 l1 (sf_l3 l0 l1 l2 j.val) = j.val) && decide (∀ q : Fin 3, sf_lo3 l0 l1 q.val < 3 ∧ sf_l3 l0 l1 l2 (sf_lo3 l0 l1 q.val) = q.val) && [l0, l1, l2].isPerm [0, 1, 2]
theorem sf_ck_t : ∀ l0, l0 < 3 → ∀ l1, l1 < 3 → ∀ l2, l2 < 3 → (decide (l0 = l1) || decide (l0 = l2) || decide (l1 = l2) || sf_ck l0 l1 l2) = true := by decide +kernel
theorem sf_lo3_a (l0 : Nat) (h0 : l0 < 3) (l1 : Nat) (h1 : l1 < 3) (l2 : Nat) (h2 : l2 < 3) (h01 : l0 ≠ l1) (h02 : l0 ≠ l2) (h12 : l1 ≠ l2) : (∀ j, j < 3 → sf_l3 l0 l1 l2 j < 3 ∧ sf_lo3 l0 l1 (sf_l3 l0 l1 l2 j) = j) ∧ (∀ q, q < 3 → sf_lo3 l0 l1 q < 3 ∧ sf_l3 l0 l1 l2 (sf_lo3 l0 l1 q) = q) ∧ ([l0, l1, l2].Perm [0, 1, 2]) := by
  have h := sf_ck_t l0 h0 l1 h1 l2 h2
  rw [decide_eq_false h01, decide_eq_false h02, decide_eq_false h12, Bool.false_or, Bool.false_or, Bool.false_or] at h
  unfold sf_ck at h
  rw [Bool.and_eq_true, Bool.and_eq_true] at h
  have g1 := of_decide_eq_true h.1.1
  have g2 := of_decide_eq_true h.1.2
  exact ⟨fun j hj => g1 ⟨j, hj⟩, fun q hq => g2 ⟨q, hq⟩, List.isPerm_iff.mp h.2⟩
def sf_fl3 (l0 l1 l2 b : Nat) : List Nat := [l0, l1, l2].filter (fun q => b.testBit q)
def sf_cj (l0 l1 l2 b : Nat) : Bool := decide ((sf_fl3 l0 l1 l2 b).length ≤ 3) && decide (∀ j : Fin 3, j.val < (sf_fl3 l0 l1 l2 b).length → (sf_fl3 l0 l1 l2 b).getD j.val 0 < 3 ∧ (sf_fl3 l0 l1 l2 b).idxOf ((sf_fl3 l0 l1 l2 b).getD j.val 0) = j.val ∧ b.testBit ((sf_fl3 l0 l1 l2 b).getD j.val 0) = true ∧ (sf_fl3 l0 l1 l2 b).drop j.val = (sf_fl3 l0 l1 l2 b).getD j.val 0 :: (sf_fl3 l0 l1 l2 b).drop (j.val + 1))
def sf_ci (l0 l1 l2 b : Nat) : Bool := decide (∀ q : Fin 3, b.testBit q.val = true → (sf_fl3 l0 l1 l2 b).idxOf q.val < (sf_fl3 l0 l1 l2 b).length ∧ (sf_fl3 l0 l1 l2 b).getD ((sf_fl3 l0 l1 l2 b).idxOf q.val) 0 = q.val ∧ ∀ q' : Fin 3, b.testBit q'.val = true → sf_lo3 l0 l1 q.val < sf_lo3 l0 l1 q'.val → (sf_fl3 l0 l1 l2 b).idxOf q.val < (sf_fl3 l0 l1 l2 b).idxOf q'.val)
theorem sf_cj_t : ∀ l0, l0 < 3 → ∀ l1, l1 < 3 → ∀ l2, l2 < 3 → ∀ b, b < 8 → (decide (l0 = l1) || decide (l0 = l2) || decide (l1 = l2) || (sf_cj l0 l1 l2 b && sf_ci l0 l1 l2 b)) = true := by decide +kernel
theorem sf_ps_a (l0 : Nat) (h0 : l0 < 3) (l1 : Nat) (h1 : l1 < 3) (l2 : Nat) (h2 : l2 < 3) (h01 : l0 ≠ l1) (h02 : l0 ≠ l2) (h12 : l1 ≠ l2) (b : Nat) (hb : b < 8) : (sf_fl3 l0 l1 l2 b).length ≤ 3 ∧ (∀ j, j < 3 → j < (sf_fl3 l0 l1 l2 b).length → (sf_fl3 l0 l1 l2 b).getD j 0 < 3 ∧ (sf_fl3 l0 l1 l2 b).idxOf ((sf_fl3 l0 l1 l2 b).getD j 0) = j ∧ b.testBit ((sf_fl3 l0 l1 l2 b).getD j 0) = true ∧ (sf_fl3 l0 l1 l2 b).drop j = (sf_fl3 l0 l1 l2 b).getD j 0 :: (sf_fl3 l0 l1 l2 b).drop (j + 1)) ∧ (∀ q, q < 3 → b.testBit q = true → (sf_fl3 l0 l1 l2 b).idxOf q < (sf_fl3 l0 l1 l2 b).length ∧ (sf_fl3 l0 l1 l2 b).getD ((sf_fl3 l0 l1 l2 b).idxOf q) 0 = q ∧ ∀ q', q' < 3 → b.testBit q' = true → sf_lo3 l0 l1 q < sf_lo3 l0 l1 q' → (sf_fl3 l0 l1 l2 b).idxOf q < (sf_fl3 l0 l1 l2 b).idxOf q') := by
  have h := sf_cj_t l0 h0 l1 h1 l2 h2 b hb
  rw [decide_eq_false h01, decide_eq_false h02, decide_eq_false h12, Bool.false_or, Bool.false_or, Bool.false_or, Bool.and_eq_true] at h
  obtain ⟨g, g3⟩ := h
  unfold sf_cj at g
  unfold sf_ci at g3
  rw [Bool.and_eq_true] at g
  have k1 := of_decide_eq_true g.1
  have k2 := of_decide_eq_true g.2
  have k3 := of_decide_eq_true g3
  exact ⟨k1, fun j hj hl => k2 ⟨j, hj⟩ hl, fun q hq hb => ⟨(k3 ⟨q, hq⟩ hb).1, (k3 ⟨q, hq⟩ hb).2.1, fun q' hq' hb' hl => (k3 ⟨q, hq⟩ hb).2.2 ⟨q', hq'⟩ hb' hl⟩⟩
theorem sf_bits3 (P : Nat → Bool) : ∃ b, b < 8 ∧ ∀ q, q < 3 → b.testBit q = P q := by
  have k : ∀ c0 c1 c2 : Bool, ∃ b, b < 8 ∧ b.testBit 0 = c0 ∧ b.testBit 1 = c1 ∧ b.testBit 2 = c2 := by decide +kernel
  obtain ⟨b, h, h0, h1, h2⟩ := k (P 0) (P 1) (P 2)
  refine ⟨b, h, fun q hq => ?_⟩
  rcases (show q = 0 ∨ q = 1 ∨ q = 2 by omega) with g | g | g <;> (subst g; assumption)
theorem sf_order {post : St2 → Prop} {fp fh fl : Int32} {a1 a2 a3 a4 a5 a6 a7 a8 a9 a10 a11 a12 a13 a14 a15 a16 a17 a18 a19 a20 a21 a22 a23 a24 a25 a26 a27 a28 : Nat → Int32} {na : Nat} {Rk Nr Mc Fo : Nat → Nat} {Tt : Nat → Nat → Int32} {sp : Nat → Nat} (hna : na ≤ 6) (hsl : ∀ a, a < na → (∃ w z, sf_slot a1 a2 a3 a4 a5 a6 a7 a8 a9 (6 + a) (Rk a) (Nr a) (Mc a) (Fo a) (Tt a) w z) ∧ sf_ri (Rk a) (a14 a) (a15 a)) (hsp : ∀ q, q < 3 → a20 q = nI (sp q) ∧ sp q ≤ 6)
    (hid : ∀ a, a < na → ∀ q, q < 3 → (a14 a = nI q → Nr a = sp q) ∧ (a15 a = nI q → Mc a = sp q))
    (hp : ∀ (b1 b2 b3 b4 b5 b6 b7 b8 b9 b18 b19 b21 b22 : Nat → Int32) (Fo' : Nat → Nat) (L : Nat) (lp od : Nat → Nat) (tl : Nat → List Nat), L ≤ 3 → (∀ a, a < na → (∃ w z, sf_slot b1 b2 b3 b4 b5 b6 b7 b8 b9 (6 + a) (Rk a) (Nr a) (Mc a) (Fo' a) (Tt a) w z) ∧ sf_ri (Rk a) (a14 a) (a15 a) ∧ b21 a = sf_li (Rk a) (Fo' a) (a14 a) (a15 a) ∧ b22 a = sf_pi (Rk a) (Fo' a) (a14 a) (a15 a)) →
      (∀ j, j < L → lp j < 3 ∧ od (lp j) = j ∧ b19 j = nI (lp j) ∧ 1 ≤ sp (lp j) ∧ sp (lp j) ≤ 6 ∧ a20 (lp j) = nI (sp (lp j))) → (∀ q, q < 3 → 0 < sp q → od q < L ∧ lp (od q) = q) →
      (∀ a, a < na → ∀ q q', q < 3 → q' < 3 → b21 a = nI q → b22 a = nI q' → od q < od q') → (tl L = [] ∧ ∀ d, d < L → tl d = lp d :: tl (d + 1)) → (tl 0).Perm ([0, 1, 2].filter (fun q => decide (0 < sp q))) →
      (∀ t R n m f T w z, t < 6 → sf_slot a1 a2 a3 a4 a5 a6 a7 a8 a9 t R n m f T w z → sf_slot b1 b2 b3 b4 b5 b6 b7 b8 b9 t R n m f T w z) → post (fp, nI na, fh, nI L, b1, b2, b3, b4, b5, b6, b7, b8, b9, a10, a11, a12, a13, a14, a15, a16, a17, b18, b19, a20, b21, b22, a23, a24, a25, a26, a27, a28)) : wpX_chooseOrder post (fp, nI na, fh, fl, a1, a2, a3, a4, a5, a6, a7, a8, a9, a10, a11, a12, a13, a14, a15, a16, a17, a18, a19, a20, a21, a22, a23, a24, a25, a26, a27, a28) := by
  have k116 : ∀ (c19 c21 c22 : Nat → Int32) (l0 l1 l2 : Nat), l0 < 3 → l1 < 3 → l2 < 3 → l0 ≠ l1 → l0 ≠ l2 → l1 ≠ l2 → c19 0 = nI l0 → c19 1 = nI l1 → c19 2 = nI l2 → (∀ a, a < na → c21 a = sf_li (Rk a) (Fo a) (a14 a) (a15 a) ∧ c22 a = sf_pi (Rk a) (Fo a) (a14 a) (a15 a)) → ∃ fu, wX_chooseOrder_116 post fu 0 fp (nI na) fh fl a1 a2 a3 a4 a5 a6 a7 a8 a9 a10 a11 a12 a13 a14 a15 a16 a17 a18 c19 a20 c21 c22 a23 a24 a25 a26 a27 a28 := by
    intro c19 c21 c22 l0 l1 l2 g0 g1 g2 g01 g02 g12 f0 f1 f2 hlv
    obtain ⟨A1, A2, A3⟩ := sf_lo3_a l0 g0 l1 g1 l2 g2 g01 g02 g12
    have hlo : ∀ j, j < 3 → sf_l3 l0 l1 l2 j < 3 ∧ sf_lo3 l0 l1 (sf_l3 l0 l1 l2 j) = j ∧ c19 j = nI (sf_l3 l0 l1 l2 j) := by
      intro j hj
      refine ⟨(A1 j hj).1, (A1 j hj).2, ?_⟩
      rcases (show j = 0 ∨ j = 1 ∨ j = 2 by omega) with g | g | g
      · rw [g]; exact f0
      · rw [g]; exact f1
      · rw [g]; exact f2
    refine pk_loop (σ := (Nat → Int32) × (Nat → Int32) × (Nat → Int32) × (Nat → Int32) × (Nat → Int32) × (Nat → Int32) × (Nat → Int32) × (Nat → Int32) × (Nat → Int32) × (Nat → Int32) × (Nat → Int32) × (Nat → Int32)) (fun n i t => wX_chooseOrder_116 post n (nI i) fp (nI na) fh fl t.1 t.2.1 t.2.2.1 t.2.2.2.1 t.2.2.2.2.1 t.2.2.2.2.2.1 t.2.2.2.2.2.2.1 t.2.2.2.2.2.2.2.1 t.2.2.2.2.2.2.2.2.1 a10 a11 a12 a13 a14 a15 a16 a17 t.2.2.2.2.2.2.2.2.2.1 c19 a20 t.2.2.2.2.2.2.2.2.2.2.1 t.2.2.2.2.2.2.2.2.2.2.2 a23 a24 a25 a26 a27 a28)
      (fun i t => ∃ Fo' : Nat → Nat, (∀ a, a < na → (∃ w z, sf_slot t.1 t.2.1 t.2.2.1 t.2.2.2.1 t.2.2.2.2.1 t.2.2.2.2.2.1 t.2.2.2.2.2.2.1 t.2.2.2.2.2.2.2.1 t.2.2.2.2.2.2.2.2.1 (6 + a) (Rk a) (Nr a) (Mc a) (Fo' a) (Tt a) w z) ∧ t.2.2.2.2.2.2.2.2.2.2.1 a = sf_li (Rk a) (Fo' a) (a14 a) (a15 a) ∧ t.2.2.2.2.2.2.2.2.2.2.2 a = sf_pi (Rk a) (Fo' a) (a14 a) (a15 a)) ∧ (∀ a, a < i → a < na → ∀ q q', q < 3 → q' < 3 → t.2.2.2.2.2.2.2.2.2.2.1 a = nI q → t.2.2.2.2.2.2.2.2.2.2.2 a = nI q' → sf_lo3 l0 l1 q < sf_lo3 l0 l1 q') ∧ (∀ u R n m f T w z, u < 6 → sf_slot a1 a2 a3 a4 a5 a6 a7 a8 a9 u R n m f T w z → sf_slot t.1 t.2.1 t.2.2.1 t.2.2.2.1 t.2.2.2.2.1 t.2.2.2.2.2.1 t.2.2.2.2.2.2.1 t.2.2.2.2.2.2.2.1 t.2.2.2.2.2.2.2.2.1 u R n m f T w z))
      na 0 (a1, a2, a3, a4, a5, a6, a7, a8, a9, a18, c21, c22) (by omega) ⟨Fo, fun a ha => ⟨(hsl a ha).1, hlv a ha⟩, fun a ha => absurd ha (by omega), fun _ _ _ _ _ _ _ _ _ h => h⟩ (fun n t h => ?_) (fun n i t hi h hw => ?_)
    · obtain ⟨b1, b2, b3, b4, b5, b6, b7, b8, b9, b18, b21, b22⟩ := t
      obtain ⟨Fo', i1, i2, i3⟩ := h
      obtain ⟨bb, hb8, hbb⟩ := sf_bits3 (fun q => decide (0 < sp q))
      have pe : [l0, l1, l2].filter (fun q => decide (0 < sp q)) = sf_fl3 l0 l1 l2 bb := by
        refine List.filter_congr (fun q hq => ?_)
        have : q < 3 := by
          simp at hq
          omega
        exact (hbb q this).symm
      obtain ⟨P1, P2, P3⟩ := sf_ps_a l0 g0 l1 g1 l2 g2 g01 g02 g12 bb hb8
      refine pk_le na na (fun _ => ?_) (fun t => absurd t (by omega))
      refine sf_dropLoops g0 g1 g2 f0 f1 f2 hsp (fun b19 ps hps hb => ?_)
      rw [pe] at hps
      rw [← hps] at P1 P2 P3
      have pr : ∀ q, q < 3 → 0 < sp q → bb.testBit q = true := fun q hq h0 => by rw [hbb q hq]; exact decide_eq_true h0
      have P3' := fun q hq h0 => P3 q hq (pr q hq h0)
      refine hp b1 b2 b3 b4 b5 b6 b7 b8 b9 b18 b19 b21 b22 Fo' ps.length (fun j => ps.getD j 0) (fun q => ps.idxOf q) (fun d => ps.drop d) P1 (fun a ha => ⟨(i1 a ha).1, (hsl a ha).2, (i1 a ha).2⟩) (fun j hj => ?_) (fun q hq h0 => ⟨(P3' q hq h0).1, (P3' q hq h0).2.1⟩) (fun a ha q q' hq hq' h1 h2 => ?_) ⟨List.drop_length, fun d hd => (P2 d (by omega) hd).2.2.2⟩ ?_ i3
      · have u := P2 j (by omega) hj
        have v := hbb _ u.1
        rw [u.2.2.1] at v
        have v2 : 0 < sp (ps.getD j 0) := of_decide_eq_true v.symm
        exact ⟨u.1, u.2.1, hb j hj, v2, (hsp _ u.1).2, (hsp _ u.1).1⟩
      · have hn : ∀ q, q < 3 → (a14 a = nI q ∨ a15 a = nI q) → 0 < sp q := by
          intro q hq hh
          obtain ⟨⟨w, z, hs⟩, _⟩ := hsl a ha
          obtain ⟨_, _, _, _, _, hd⟩ := hs.1
          obtain ⟨d1, d2, d3, d4, d5⟩ := hd
          rcases hh with g | g
          · have := (hid a ha q hq).1 g; omega
          · have := (hid a ha q hq).2 g; omega
        have hli := (i1 a ha).2.1
        have hpi := (i1 a ha).2.2
        have h1' : b21 a = nI q := h1
        have h2' : b22 a = nI q' := h2
        have hli' : b21 a = sf_li (Rk a) (Fo' a) (a14 a) (a15 a) := hli
        have hpi' : b22 a = sf_pi (Rk a) (Fo' a) (a14 a) (a15 a) := hpi
        rw [h1'] at hli'
        rw [h2'] at hpi'
        unfold sf_li at hli'
        unfold sf_pi at hpi'
        have pq : 0 < sp q := by
          by_cases hR : Rk a < 2
          · rw [if_pos hR] at hli'; exact absurd hli' (sf_m1 (by omega))
          · rw [if_neg hR] at hli'
            by_cases hf : 4 ≤ Fo' a
            · rw [if_pos hf] at hli'; exact hn q hq (Or.inr hli'.symm)
            · rw [if_neg hf] at hli'; exact hn q hq (Or.inl hli'.symm)
        have pq' : 0 < sp q' := by
          by_cases hR : Rk a < 2
          · rw [if_pos hR] at hpi'; exact hn q' hq' (Or.inl hpi'.symm)
          · rw [if_neg hR] at hpi'
            by_cases hf : 4 ≤ Fo' a
            · rw [if_pos hf] at hpi'; exact hn q' hq' (Or.inl hpi'.symm)
            · rw [if_neg hf] at hpi'; exact hn q' hq' (Or.inr hpi'.symm)
        exact (P3' q hq pq).2.2 q' hq' (pr q' hq' pq') (i2 a ha ha q q' hq hq' h1 h2)
      · show (ps.drop 0).Perm _
        rw [List.drop_zero, hps, ← pe]
        exact A3.filter _
    · obtain ⟨b1, b2, b3, b4, b5, b6, b7, b8, b9, b18, b21, b22⟩ := t
      obtain ⟨Fo', i1, i2, i3⟩ := h
      have v6 : vp_in (nI i) 6 := pk_in i 6 (by omega)
      obtain ⟨⟨w, z, hs⟩, j2, j3⟩ := i1 i hi
      have j2' : b21 i = sf_li (Rk i) (Fo' i) (a14 i) (a15 i) := j2
      have j3' : b22 i = sf_pi (Rk i) (Fo' i) (a14 i) (a15 i) := j3
      have nosw : (∀ q q', q < 3 → q' < 3 → b21 i = nI q → b22 i = nI q' → sf_lo3 l0 l1 q < sf_lo3 l0 l1 q') → wX_chooseOrder_116 post n (nI i + 1) fp (nI na) fh fl b1 b2 b3 b4 b5 b6 b7 b8 b9 a10 a11 a12 a13 a14 a15 a16 a17 b18 c19 a20 b21 b22 a23 a24 a25 a26 a27 a28 := by
        intro hh
        rw [nI_1]
        refine hw (b1, b2, b3, b4, b5, b6, b7, b8, b9, b18, b21, b22) ⟨Fo', i1, fun a ha ha' => ?_, i3⟩
        by_cases ea : a = i
        · rw [ea]; exact hh
        · exact i2 a (by omega) ha'
      refine pk_le na i (fun t => absurd t (by omega)) (fun _ => ?_)
      rw [nI_clamp (show i < 2 ^ 31 by omega)]
      refine ⟨v6, br_c (fun t => nm_e (nosw (fun q q' hq hq' h1 h2 => ?_))) (fun t => ⟨v6, ?_⟩)⟩
      · have t' : b21 i = -1 := t
        rw [t'] at h1
        exact absurd h1.symm (sf_m1 (by omega))
      · have t' : ¬ b21 i = -1 := t
        have n2 : ¬ 2 < 2 := by omega
        obtain ⟨hR, p', q', hp', hq', hpq, ep, eq⟩ : Rk i = 2 ∧ ∃ p' q', p' < 3 ∧ q' < 3 ∧ p' ≠ q' ∧ b21 i = nI p' ∧ b22 i = nI q' := by
          rcases (hsl i hi).2 with ⟨u1, u2, u3⟩ | ⟨u1, u2, u3⟩ | ⟨u1, p', q', u2, u3, u4, u5, u6⟩
          · rw [j2', u1] at t'; exact absurd rfl t'
          · rw [j2', u1] at t'; exact absurd rfl t'
          · refine ⟨u1, ?_⟩
            rw [j2', j3', u1]
            unfold sf_li sf_pi
            rw [if_neg n2, if_neg n2]
            by_cases hf : 4 ≤ Fo' i
            · rw [if_pos hf, if_pos hf]
              exact ⟨q', p', u3, u2, fun g => u4 g.symm, u6, u5⟩
            · rw [if_neg hf, if_neg hf]
              exact ⟨p', q', u2, u3, u4, u5, u6⟩
        have L1 := A2 p' hp'
        have L2 := A2 q' hq'
        have dis : sf_lo3 l0 l1 p' ≠ sf_lo3 l0 l1 q' := fun g => hpq (by rw [← L1.2, ← L2.2, g])
        show wpX_loopOf _ (fp, nI na, fh, fl, b1, b2, b3, b4, b5, b6, b7, b8, b9, a10, a11, a12, a13, a14, a15, a16, a17, b18, c19, a20, b21, b22, a23, a24, a25, a26, a27, a28) (b22 i)
        rw [eq]
        refine sf_loopOf (L := 3) (by omega) hlo L2 ⟨v6, ?_⟩
        show wpX_loopOf _ (fp, nI na, fh, fl, b1, b2, b3, b4, b5, b6, b7, b8, b9, a10, a11, a12, a13, a14, a15, a16, a17, b18, c19, a20, b21, b22, a23, a24, a25, a26, a27, a28) (b21 i)
        rw [ep]
        refine sf_loopOf (L := 3) (by omega) hlo L1 ?_
        refine pk_le (sf_lo3 l0 l1 p') (sf_lo3 l0 l1 q') (fun u => nm_e (nosw (fun x x' hx hx' h1 h2 => ?_))) (fun u => ?_)
        · have e1 : x = p' := (nI_eq (by omega) (by omega)).mp (by rw [← h1, ep])
          have e2 : x' = q' := (nI_eq (by omega) (by omega)).mp (by rw [← h2, eq])
          rw [e1, e2]; omega
        · have hs' : sf_slot b1 b2 b3 b4 b5 b6 b7 b8 b9 (6 + i) 2 (Nr i) (Mc i) (Fo' i) (Tt i) w z := by rw [← hR]; exact hs
          have F := sf_f4 (Fo' i) (by have := (sf_dm_b hs'.1.2.2.2.2.2).2.1; omega)
          refine sf_repack (by omega) hs' (fun d1 d2 d3 d4 d5 d6 d7 d8 d9 d18 w' z' k1 k2 => ?_)
          refine nm_r (nI_1 i) (hw (d1, d2, d3, d4, d5, d6, d7, d8, d9, d18, upd b21 i (sf_li 2 (Fo' i ^^^ 4) (a14 i) (a15 i)), upd b22 i (sf_pi 2 (Fo' i ^^^ 4) (a14 i) (a15 i))) ⟨fun a => if a = i then Fo' i ^^^ 4 else Fo' a, fun a ha => ?_, fun a ha ha' => ?_, fun x R n m f T w z hx hh => k2 _ _ _ _ _ _ _ _ (by omega) (i3 x R n m f T w z hx hh)⟩)
          · show (∃ w z, sf_slot d1 d2 d3 d4 d5 d6 d7 d8 d9 (6 + a) (Rk a) (Nr a) (Mc a) (if a = i then Fo' i ^^^ 4 else Fo' a) (Tt a) w z) ∧ upd b21 i (sf_li 2 (Fo' i ^^^ 4) (a14 i) (a15 i)) a = sf_li (Rk a) (if a = i then Fo' i ^^^ 4 else Fo' a) (a14 a) (a15 a) ∧ upd b22 i (sf_pi 2 (Fo' i ^^^ 4) (a14 i) (a15 i)) a = sf_pi (Rk a) (if a = i then Fo' i ^^^ 4 else Fo' a) (a14 a) (a15 a)
            by_cases ea : a = i
            · rw [if_pos ea, ea, pk_us, pk_us, hR]
              exact ⟨⟨w', z', k1⟩, rfl, rfl⟩
            · rw [if_neg ea, pk_un ea, pk_un ea]
              obtain ⟨⟨w2, z2, m1⟩, m2, m3⟩ := i1 a ha
              exact ⟨⟨w2, z2, k2 _ _ _ _ _ _ _ _ (by omega) m1⟩, m2, m3⟩
          · show ∀ q q', q < 3 → q' < 3 → upd b21 i (sf_li 2 (Fo' i ^^^ 4) (a14 i) (a15 i)) a = nI q → upd b22 i (sf_pi 2 (Fo' i ^^^ 4) (a14 i) (a15 i)) a = nI q' → sf_lo3 l0 l1 q < sf_lo3 l0 l1 q'
            by_cases ea : a = i
            · intro x x' hx hx' h1 h2
              rw [ea, pk_us] at h1 h2
              rw [hR] at j2' j3'
              have s1 : sf_li 2 (Fo' i ^^^ 4) (a14 i) (a15 i) = b22 i := by
                rw [j3']
                unfold sf_li sf_pi
                rw [if_neg n2, if_neg n2]
                by_cases hf : 4 ≤ Fo' i
                · rw [if_neg (fun u => F.2.2.1.mp u hf), if_pos hf]
                · rw [if_pos (F.2.2.1.mpr hf), if_neg hf]
              have s2 : sf_pi 2 (Fo' i ^^^ 4) (a14 i) (a15 i) = b21 i := by
                rw [j2']
                unfold sf_li sf_pi
                rw [if_neg n2, if_neg n2]
                by_cases hf : 4 ≤ Fo' i
                · rw [if_neg (fun u => F.2.2.1.mp u hf), if_pos hf]
                · rw [if_pos (F.2.2.1.mpr hf), if_neg hf]
              rw [s1, eq] at h1
              rw [s2, ep] at h2
              have e1 : q' = x := (nI_eq (by omega) (by omega)).mp h1
              have e2 : p' = x' := (nI_eq (by omega) (by omega)).mp h2
              rw [← e1, ← e2]; omega
            · rw [pk_un ea, pk_un ea]
              exact i2 a (by omega) ha'
  unfold wpX_chooseOrder
  try dsimp only
  refine pk_loop (σ := (Nat → Int32) × (Nat → Int32)) (fun n i t => wX_chooseOrder_2 post n (nI i) fp (nI na) fh fl a1 a2 a3 a4 a5 a6 a7 a8 a9 a10 a11 a12 a13 a14 a15 a16 a17 a18 a19 a20 t.1 t.2 a23 a24 a25 a26 a27 a28) (fun i t => ∀ a, a < i → a < na → t.1 a = sf_li (Rk a) (Fo a) (a14 a) (a15 a) ∧ t.2 a = sf_pi (Rk a) (Fo a) (a14 a) (a15 a)) na 0 (a21, a22) (by omega) (fun a ha => absurd ha (by omega)) (fun n t h => ?_) (fun n i t hi h hw => ?_)
  · obtain ⟨c21, c22⟩ := t
    refine pk_le na na (fun _ => ?_) (fun t => absurd t (by omega))
    refine pk_loop (σ := Int32 × (Nat → Int32)) (fun n i t => wX_chooseOrder_26 post fp (nI na) fh fl n t.1 (nI i) a1 a2 a3 a4 a5 a6 a7 a8 a9 a10 a11 a12 a13 a14 a15 a16 a17 a18 t.2 a20 c21 c22 a23 a24 a25 a26 a27 a28) (fun i t => (i = 0 ∧ t.1 = 100) ∨ ∃ l0 l1 l2, l0 < 3 ∧ l1 < 3 ∧ l2 < 3 ∧ l0 ≠ l1 ∧ l0 ≠ l2 ∧ l1 ≠ l2 ∧ t.2 0 = nI l0 ∧ t.2 1 = nI l1 ∧ t.2 2 = nI l2) 6 0 (100, a19) (by omega) (Or.inl ⟨rfl, rfl⟩) (fun n t g => ?_) (fun n i t hi g hw => ?_)
    · rcases g with g | ⟨l0, l1, l2, g1, g2, g3, g4, g5, g6, g7, g8, g9⟩
      · exact absurd g.1 (by omega)
      · exact pk_le 6 6 (fun _ => k116 t.2 c21 c22 l0 l1 l2 g1 g2 g3 g4 g5 g6 g7 g8 g9 (fun a ha => h a ha ha)) (fun t => absurd t (by omega))
    · obtain ⟨bst, c19⟩ := t
      have k55 : ∀ f s : Nat, f < 3 → s < 3 → f ≠ s → wX_chooseOrder_55 post (wX_chooseOrder_26 post fp (nI na) fh fl n) bst (nI i) (nI f) (nI s) fp (nI na) fh fl a1 a2 a3 a4 a5 a6 a7 a8 a9 a10 a11 a12 a13 a14 a15 a16 a17 a18 c19 a20 c21 c22 a23 a24 a25 a26 a27 a28 := by
        intro f s hf hs hfs
        unfold wX_chooseOrder_55
        rw [show (3 : Int32) = nI 3 from rfl, pk_sub (by omega), pk_sub (by omega)]
        refine nm_e (sf_against hna (fun c hc => br_c (fun u => nm_r (nI_1 i) (hw (bst, c19) (Or.inr ?_))) (fun u => nm_e (nm_e (nm_e (nm_r (nI_1 i) (hw (nI c, upd (upd (upd c19 0 (nI f)) 1 (nI s)) 2 (nI (3 - f - s))) (Or.inr ⟨f, s, 3 - f - s, hf, hs, by omega, hfs, by omega, by omega, rfl, rfl, rfl⟩))))))))
        rcases g with g | g
        · have g2 : bst = 100 := g.2
          rw [g2] at u
          exact absurd u (nI_ge (a := c) (b := 100) (by omega) (by omega))
        · exact g
      refine pk_le 6 i (fun t => absurd t (by omega)) (fun _ => ?_)
      rw [show (2 : Int32) = nI 2 from rfl, show (3 : Int32) = nI 3 from rfl, pk_rem (by omega) (by omega) (by omega), pk_div (by omega) (by omega) (by omega)]
      refine ⟨by decide, nm_e ⟨by decide, pk_eq (i % 2) 0 (fun u => ⟨by decide, ?_⟩) (fun u => ⟨by decide, ?_⟩)⟩⟩
      · rw [nI_1, pk_rem (by omega) (by omega) (by omega)]
        exact k55 _ _ (by omega) (by omega) (by omega)
      · rw [nI_add, pk_rem (by omega) (by omega) (by omega)]
        exact k55 _ _ (by omega) (by omega) (by omega)
  · obtain ⟨c21, c22⟩ := t
    obtain ⟨⟨w, z, hs⟩, hri⟩ := hsl i hi
    refine pk_le na i (fun t => absurd t (by omega)) (fun _ => sf_findLevels (by omega) hs.1 (nm_r (nI_1 i) (hw (_, _) (fun a ha ha' => ?_))))
    show upd c21 i (sf_li (Rk i) (Fo i) (a14 i) (a15 i)) a = _ ∧ upd c22 i (sf_pi (Rk i) (Fo i) (a14 i) (a15 i)) a = _
    by_cases ea : a = i
    · rw [ea, pk_us, pk_us]; exact ⟨rfl, rfl⟩
    · rw [pk_un ea, pk_un ea]; exact h a (by omega) ha'
end
section
/-! ===== assign ===== -/
theorem sf_assign_in {post : Int32 → St2 → Prop} {fp fa fh fl : Int32} {a1 a2 a3 a4 a5 a6 a7 a8 a9 a10 a11 a12 a13 a14 a15 a16 a17 a18 a19 a20 a21 a22 a23 a24 a25 a26 a27 a28 : Nat → Int32} {to R : Nat} {p q g : Int32} (hto : to < 6) (hri : sf_ri R p q) (h : wX_assign_70 post (nI to) p q g 0 (nI R) fp fa fh fl a1 a2 a3 a4 a5 a6 a7 a8 a9 a10 a11 a12 a13 a14 a15 a16 a17 a18 a19 a20 a21 a22 a23 a24 a25 a26 a27 a28) : wpX_assign post (fp, fa, fh, fl, a1, a2, a3, a4, a5, a6, a7, a8, a9, a10, a11, a12, a13, a14, a15, a16, a17, a18, a19, a20, a21, a22, a23, a24, a25, a26, a27, a28) (nI to) p q g := by
  have I := sf_ri_in hri
  unfold wpX_assign
  try dsimp only
  refine sf_badRegister hto (br_t rfl (sf_badIndex I.1 (br_t rfl (sf_badIndex I.2 (br_t rfl ?_)))))
  rcases hri with ⟨g1, g2, g3⟩ | ⟨g1, ⟨p', g2, g3⟩, g4⟩ | ⟨g1, p', q', g2, g3, g4, g5, g6⟩
  · rw [g1] at h
    refine br_t g2 (br_t g3 ?_)
    unfold wX_assign_34
    refine br_t (by rw [g2, g3]) (br_t g2 ?_)
    unfold wX_assign_48 wX_assign_49
    exact br_t g2 h
  · rw [g1] at h
    have n1 : ¬ p = -1 := by rw [g3]; exact sf_m1 (by omega)
    refine br_f n1 ?_
    unfold wX_assign_34
    refine br_f (by rw [g4]; exact n1) ?_
    unfold wX_assign_48 wX_assign_49
    exact br_f n1 (br_t g4 h)
  · rw [g1] at h
    have n1 : ¬ p = -1 := by rw [g5]; exact sf_m1 (by omega)
    have n2 : ¬ q = -1 := by rw [g6]; exact sf_m1 (by omega)
    refine br_f n1 ?_
    unfold wX_assign_34
    refine br_f (by rw [g5, g6]; exact fun t => g4 ((nI_eq (by omega) (by omega)).mp t)) ?_
    unfold wX_assign_48 wX_assign_49
    exact br_f n1 (br_f n2 h)
theorem sf_assign_few {post : Int32 → St2 → Prop} {fp fa fh fl : Int32} {a1 a2 a3 a4 a5 a6 a7 a8 a9 a10 a11 a12 a13 a14 a15 a16 a17 a18 a19 a20 a21 a22 a23 a24 a25 a26 a27 a28 : Nat → Int32} {to R f : Nat} {p q : Int32} (hto : to < 6) (hri : sf_ri R p q) (hf : (R = 0 ∧ f = 0) ∨ (R = 1 ∧ f ≤ 1) ∨ (R = 2 ∧ f ≤ 7)) (hh : ¬ fh = 1) (hp : post (-1000000003) (fp, fa, fh, fl, a1, a2, a3, a4, a5, a6, a7, a8, a9, a10, a11, a12, a13, a14, a15, a16, a17, a18, a19, a20, a21, a22, a23, a24, a25, a26, a27, a28)) : wpX_assign post (fp, fa, fh, fl, a1, a2, a3, a4, a5, a6, a7, a8, a9, a10, a11, a12, a13, a14, a15, a16, a17, a18, a19, a20, a21, a22, a23, a24, a25, a26, a27, a28) (nI to) p q (nI f) := by
  refine sf_assign_in hto hri ?_
  unfold wX_assign_70
  exact br_t rfl (sf_badFormat0 hf (br_t rfl (br_f hh hp)))
theorem sf_assign_badf {post : Int32 → St2 → Prop} {fp fa fh fl : Int32} {a1 a2 a3 a4 a5 a6 a7 a8 a9 a10 a11 a12 a13 a14 a15 a16 a17 a18 a19 a20 a21 a22 a23 a24 a25 a26 a27 a28 : Nat → Int32} {to R f : Nat} {p q : Int32} (hto : to < 6) (hri : sf_ri R p q) (hf : f < 100) (hb : (R = 0 ∧ 0 < f) ∨ (R = 1 ∧ 1 < f) ∨ (R = 2 ∧ 7 < f)) (hp : post (-1000000001) (fp, fa, fh, fl, a1, a2, a3, a4, a5, a6, a7, a8, a9, a10, a11, a12, a13, a14, a15, a16, a17, a18, a19, a20, a21, a22, a23, a24, a25, a26, a27, a28)) : wpX_assign post (fp, fa, fh, fl, a1, a2, a3, a4, a5, a6, a7, a8, a9, a10, a11, a12, a13, a14, a15, a16, a17, a18, a19, a20, a21, a22, a23, a24, a25, a26, a27, a28) (nI to) p q (nI f) := by
  refine sf_assign_in hto hri ?_
  unfold wX_assign_70
  exact br_t rfl (sf_badFormat1 hf hb (br_f (by decide) hp))
theorem sf_assign_bad {post : Int32 → St2 → Prop} {fp fa fh fl : Int32} {a1 a2 a3 a4 a5 a6 a7 a8 a9 a10 a11 a12 a13 a14 a15 a16 a17 a18 a19 a20 a21 a22 a23 a24 a25 a26 a27 a28 : Nat → Int32} {to : Nat} {p q g : Int32} (hto : to < 6) (hi : sf_in p) (hi' : sf_in q) (hb : (p = -1 ∧ ¬ q = -1) ∨ (¬ p = -1 ∧ p = q)) (hp : post (-1000000001) (fp, fa, fh, fl, a1, a2, a3, a4, a5, a6, a7, a8, a9, a10, a11, a12, a13, a14, a15, a16, a17, a18, a19, a20, a21, a22, a23, a24, a25, a26, a27, a28)) : wpX_assign post (fp, fa, fh, fl, a1, a2, a3, a4, a5, a6, a7, a8, a9, a10, a11, a12, a13, a14, a15, a16, a17, a18, a19, a20, a21, a22, a23, a24, a25, a26, a27, a28) (nI to) p q g := by
  have k44 : wX_assign_44 post (nI to) p q g fp fa fh fl a1 a2 a3 a4 a5 a6 a7 a8 a9 a10 a11 a12 a13 a14 a15 a16 a17 a18 a19 a20 a21 a22 a23 a24 a25 a26 a27 a28 := by
    have k70 : ∀ z : Int32, wX_assign_70 post (nI to) p q g 1 z fp fa fh fl a1 a2 a3 a4 a5 a6 a7 a8 a9 a10 a11 a12 a13 a14 a15 a16 a17 a18 a19 a20 a21 a22 a23 a24 a25 a26 a27 a28 := by
      intro z
      unfold wX_assign_70
      exact br_f (by decide) hp
    unfold wX_assign_44 wX_assign_49
    exact br_c (fun _ => k70 _) (fun _ => br_c (fun _ => k70 _) (fun _ => k70 _))
  unfold wpX_assign
  try dsimp only
  refine sf_badRegister hto (br_t rfl (sf_badIndex hi (br_t rfl (sf_badIndex hi' (br_t rfl ?_)))))
  rcases hb with ⟨g1, g2⟩ | ⟨g1, g2⟩
  · exact br_t g1 (br_f g2 k44)
  · refine br_f g1 ?_
    unfold wX_assign_34
    exact br_t g2 (br_f g1 k44)
theorem sf_assign_sp {post : Int32 → St2 → Prop} {fa fl : Int32} {a1 a2 a3 a4 a5 a6 a7 a8 a9 a10 a11 a12 a13 a14 a15 a16 a17 a18 a19 a20 a21 a22 a23 a24 a25 a26 a27 a28 : Nat → Int32} {to R f c top na : Nat} {p q : Int32} (hto : to < 6) (hri : sf_ri R p q) (hf : (R = 0 ∧ f = 0) ∨ (R = 1 ∧ f ≤ 1) ∨ (R = 2 ∧ f ≤ 7)) (hst : a16 0 = nI top) (hc : c ≤ 20) (ht : top < c) (hna : na ≤ 6) (hfo : sf_fo a10 a11 a12 a13 a14 a15 top na)
    (h : ∀ b17 b20 : Nat → Int32, (∀ k, k ≤ top → b17 k = 1) → (∀ q, q < 3 → b20 q = sf_fs a10 a11 a14 a15 a2 a3 (top + 1) q) → ((p = -1 → wX_assign_130 post (nI to) p q (nI f) (nI R) (nI top) (nI c) fa 1 fl a1 a2 a3 a4 a5 a6 a7 a8 a9 a10 a11 a12 a13 a14 a15 a16 b17 a18 a19 b20 a21 a22 a23 a24 a25 a26 a27 a28) ∧ (¬ p = -1 → vp_in p 3 ∧ ((b20 p.toNatClampNeg = 0 → post (-1000000004) (nI c, fa, 1, fl, a1, a2, a3, a4, a5, a6, a7, a8, a9, a10, a11, a12, a13, a14, a15, a16, b17, a18, a19, b20, a21, a22, a23, a24, a25, a26, a27, a28)) ∧ (¬ b20 p.toNatClampNeg = 0 → wX_assign_130 post (nI to) p q (nI f) (nI R) (nI top) (nI c) fa 1 fl a1 a2 a3 a4 a5 a6 a7 a8 a9 a10 a11 a12 a13 a14 a15 a16 b17 a18 a19 b20 a21 a22 a23 a24 a25 a26 a27 a28))))) : wpX_assign post (nI c, fa, 1, fl, a1, a2, a3, a4, a5, a6, a7, a8, a9, a10, a11, a12, a13, a14, a15, a16, a17, a18, a19, a20, a21, a22, a23, a24, a25, a26, a27, a28) (nI to) p q (nI f) := by
  refine sf_assign_in hto hri ?_
  unfold wX_assign_70
  refine br_t rfl (sf_badFormat0 hf (br_t rfl (br_t rfl (nm_r hst ?_))))
  exact sf_findSpans hc ht hfo.1 hfo.2.1 (sf_fo_N hna hfo) (fun b17 b20 h1 h2 => h b17 b20 h1 h2)
/-- the index p has no length -/
theorem sf_assign_none {post : Int32 → St2 → Prop} {fa fl : Int32} {a1 a2 a3 a4 a5 a6 a7 a8 a9 a10 a11 a12 a13 a14 a15 a16 a17 a18 a19 a20 a21 a22 a23 a24 a25 a26 a27 a28 : Nat → Int32} {to R f c top na : Nat} {p q : Int32} (hto : to < 6) (hri : sf_ri R p q) (hf : (R = 0 ∧ f = 0) ∨ (R = 1 ∧ f ≤ 1) ∨ (R = 2 ∧ f ≤ 7)) (hst : a16 0 = nI top) (hc : c ≤ 20) (ht : top < c) (hna : na ≤ 6) (hfo : sf_fo a10 a11 a12 a13 a14 a15 top na)
    (h0 : (∃ p', p' < 3 ∧ p = nI p' ∧ sf_fs a10 a11 a14 a15 a2 a3 (top + 1) p' = 0) ∨ (∃ q', q' < 3 ∧ q = nI q' ∧ sf_fs a10 a11 a14 a15 a2 a3 (top + 1) q' = 0 ∧ ¬ p = -1))
    (hp : ∀ b17 b20 : Nat → Int32, post (-1000000004) (nI c, fa, 1, fl, a1, a2, a3, a4, a5, a6, a7, a8, a9, a10, a11, a12, a13, a14, a15, a16, b17, a18, a19, b20, a21, a22, a23, a24, a25, a26, a27, a28)) : wpX_assign post (nI c, fa, 1, fl, a1, a2, a3, a4, a5, a6, a7, a8, a9, a10, a11, a12, a13, a14, a15, a16, a17, a18, a19, a20, a21, a22, a23, a24, a25, a26, a27, a28) (nI to) p q (nI f) := by
  refine sf_assign_sp hto hri hf hst hc ht hna hfo (fun b17 b20 h1 h2 => ?_)
  have I := sf_ri_in hri
  have vq : ¬ p = -1 → vp_in p 3 := by
    intro t
    rcases I.1 with g | ⟨x, g1, g2⟩
    · exact absurd g t
    · rw [g2]; exact pk_in x 3 g1
  rcases h0 with ⟨p', g1, g2, g3⟩ | ⟨q', g1, g2, g3, g4⟩
  · have n1 : ¬ p = -1 := by rw [g2]; exact sf_m1 (by omega)
    refine br_f n1 ⟨vq n1, br_t ?_ (hp b17 b20)⟩
    rw [g2, nI_clamp (by omega), h2 p' g1, g3]
  · refine br_f g4 ⟨vq g4, br_c (fun _ => hp b17 b20) (fun _ => ?_)⟩
    unfold wX_assign_130
    have n2 : ¬ q = -1 := by rw [g2]; exact sf_m1 (by omega)
    refine br_f n2 ⟨by rw [g2]; exact pk_in q' 3 g1, br_t ?_ (hp b17 b20)⟩
    rw [g2, nI_clamp (by omega), h2 q' g1, g3]
theorem sf_assign_mis {post : Int32 → St2 → Prop} {fa fl : Int32} {a1 a2 a3 a4 a5 a6 a7 a8 a9 a10 a11 a12 a13 a14 a15 a16 a17 a18 a19 a20 a21 a22 a23 a24 a25 a26 a27 a28 : Nat → Int32} {to f c top na : Nat} {p' q' : Nat} (hto : to < 6) (hp3 : p' < 3) (hq3 : q' < 3) (hpq : p' ≠ q') (hf : f ≤ 7) (hst : a16 0 = nI top) (hc : c ≤ 20) (ht : top < c) (hna : na ≤ 6) (hfo : sf_fo a10 a11 a12 a13 a14 a15 top na)
    (hp0 : ¬ sf_fs a10 a11 a14 a15 a2 a3 (top + 1) p' = 0) (hq0 : ¬ sf_fs a10 a11 a14 a15 a2 a3 (top + 1) q' = 0) (hm : sf_fs a10 a11 a14 a15 a2 a3 (top + 1) 0 = -1000000005)
    (hp : ∀ b17 b20 : Nat → Int32, post (-1000000005) (nI c, fa, 1, fl, a1, a2, a3, a4, a5, a6, a7, a8, a9, a10, a11, a12, a13, a14, a15, a16, b17, a18, a19, b20, a21, a22, a23, a24, a25, a26, a27, a28)) : wpX_assign post (nI c, fa, 1, fl, a1, a2, a3, a4, a5, a6, a7, a8, a9, a10, a11, a12, a13, a14, a15, a16, a17, a18, a19, a20, a21, a22, a23, a24, a25, a26, a27, a28) (nI to) (nI p') (nI q') (nI f) := by
  refine sf_assign_sp (R := 2) hto (Or.inr (Or.inr ⟨rfl, p', q', hp3, hq3, hpq, rfl, rfl⟩)) (Or.inr (Or.inr ⟨rfl, hf⟩)) hst hc ht hna hfo (fun b17 b20 h1 h2 => ?_)
  rw [nI_clamp (show p' < 2 ^ 31 by omega), h2 p' hp3]
  refine br_f (sf_m1 (by omega)) ⟨pk_in p' 3 hp3, br_f hp0 ?_⟩
  unfold wX_assign_130
  rw [nI_clamp (show q' < 2 ^ 31 by omega), h2 q' hq3]
  refine br_f (sf_m1 (by omega)) ⟨pk_in q' 3 hq3, br_f hq0 ?_⟩
  unfold wX_assign_147
  rw [h2 0 (by omega)]
  exact br_t hm (hp b17 b20)
/-- the lengths of an output -/
def sf_od (sp : Nat → Nat) (R n m : Nat) (p q : Int32) : Prop := (R = 0 ∧ p = -1 ∧ q = -1 ∧ n = 1 ∧ m = 1) ∨ (R = 1 ∧ (∃ p', p' < 3 ∧ p = nI p' ∧ n = sp p') ∧ q = -1 ∧ m = 1) ∨ (R = 2 ∧ ∃ p' q', p' < 3 ∧ q' < 3 ∧ p' ≠ q' ∧ p = nI p' ∧ q = nI q' ∧ n = sp p' ∧ m = sp q')
theorem sf_od_ri {sp : Nat → Nat} {R n m : Nat} {p q : Int32} (h : sf_od sp R n m p q) : sf_ri R p q := by
  rcases h with ⟨g1, g2, g3, _⟩ | ⟨g1, ⟨p', g2, g3, _⟩, g4, _⟩ | ⟨g1, p', q', g2, g3, g4, g5, g6, _⟩
  · exact Or.inl ⟨g1, g2, g3⟩
  · exact Or.inr (Or.inl ⟨g1, ⟨p', g2, g3⟩, g4⟩)
  · exact Or.inr (Or.inr ⟨g1, p', q', g2, g3, g4, g5, g6⟩)
def sf_pl (sp : Nat → Nat) : List Nat := [0, 1, 2].filter (fun q => decide (0 < sp q))
/-- the numbers that come out -/
def sf_res (sp : Nat → Nat) (p q : Int32) (F : (Nat → Nat) → Int32) : Nat → Int32 := fun x => sf_is sp (sf_g p q F x) (sf_pl sp) (fun _ => 0)
theorem sf_pl_mem {sp : Nat → Nat} {q : Nat} (hq : q < 3) (h : 0 < sp q) : q ∈ sf_pl sp := by
  unfold sf_pl
  rw [List.mem_filter]
  refine ⟨?_, decide_eq_true h⟩
  rcases (show q = 0 ∨ q = 1 ∨ q = 2 by omega) with g | g | g <;> (subst g; decide)
theorem sf_res_Z {sp : Nat → Nat} {R n m f : Nat} {p q : Int32} {F : (Nat → Nat) → Int32} (h : sf_od sp R n m p q) (hd : sf_dm R n m f) : sf_Z n m (sf_res sp p q F) := by
  intro x hx hx'
  obtain ⟨d1, d2, d3, d4, d5⟩ := hd
  refine sf_is_zero _ _ _ _ (fun e k1 k2 => ?_)
  unfold sf_g
  refine if_neg (fun t => hx' ?_)
  have b1 : sf_ei e p < n := by
    rcases h with ⟨g1, g2, g3, g4, g5⟩ | ⟨g1, ⟨p', g2, g3, g3'⟩, g4, g5⟩ | ⟨g1, p', q', g2, g3, g4, g5, g6, g7, g8⟩
    · rw [g2, sf_ei_0]; omega
    · rw [g3, sf_ei_q _ g2, g3']; exact k2 p' (sf_pl_mem g2 (by omega))
    · rw [g5, sf_ei_q _ g2, g7]; exact k2 p' (sf_pl_mem g2 (by omega))
  have b2 : sf_ei e q < m := by
    rcases h with ⟨g1, g2, g3, g4, g5⟩ | ⟨g1, ⟨p', g2, g3, g3'⟩, g4, g5⟩ | ⟨g1, p', q', g2, g3, g4, g5, g6, g7, g8⟩
    · rw [g3, sf_ei_0]; omega
    · rw [g4, sf_ei_0]; omega
    · rw [g6, sf_ei_q _ g3, g8]; exact k2 q' (sf_pl_mem g3 (by omega))
  omega
theorem sf_assign {post : Int32 → St2 → Prop} {fl : Int32} {a1 a2 a3 a4 a5 a6 a7 a8 a9 a10 a11 a12 a13 a14 a15 a16 a17 a18 a19 a20 a21 a22 a23 a24 a25 a26 a27 a28 : Nat → Int32} {to R n m f c top na : Nat} {p q : Int32} {Rk Nr Mc Fo : Nat → Nat} {Tt : Nat → Nat → Int32} {E : (Nat → Int32) → Nat → Int32} {sp : Nat → Nat} (hto : to < 6) (hod : sf_od sp R n m p q) (hd : sf_dm R n m f) (hst : a16 0 = nI top) (hc : c ≤ 20) (ht : top < c) (hna : na ≤ 6) (hfo : sf_fo a10 a11 a12 a13 a14 a15 top na) (hE : sf_eq a10 a11 a12 a13 top na E)
    (hsl : ∀ a, a < na → (∃ w z, sf_slot a1 a2 a3 a4 a5 a6 a7 a8 a9 (6 + a) (Rk a) (Nr a) (Mc a) (Fo a) (Tt a) w z) ∧ sf_ri (Rk a) (a14 a) (a15 a)) (hfs : ∀ q, q < 3 → sf_fs a10 a11 a14 a15 a2 a3 (top + 1) q = nI (sp q) ∧ sp q ≤ 6) (hid : ∀ a, a < na → ∀ q, q < 3 → (a14 a = nI q → Nr a = sp q) ∧ (a15 a = nI q → Mc a = sp q))
    (hp : ∀ (b1 b2 b3 b4 b5 b6 b7 b8 b9 b17 b18 b19 b20 b21 b22 b23 b24 b25 b26 b27 b28 : Nat → Int32) (gl : Int32), sf_slot b1 b2 b3 b4 b5 b6 b7 b8 b9 to R n m f (sf_res sp p q (fun e => E (sf_av a14 a15 Tt e) top)) (sf_W R n m f (sf_res sp p q (fun e => E (sf_av a14 a15 Tt e) top))) (sf_N R n m f (sf_res sp p q (fun e => E (sf_av a14 a15 Tt e) top))) → (∀ t R n m f T w z, t < 6 → t ≠ to → sf_slot a1 a2 a3 a4 a5 a6 a7 a8 a9 t R n m f T w z → sf_slot b1 b2 b3 b4 b5 b6 b7 b8 b9 t R n m f T w z) → post (nI (sf_W R n m f (sf_res sp p q (fun e => E (sf_av a14 a15 Tt e) top)))) (0, 0, 0, gl, b1, b2, b3, b4, b5, b6, b7, b8, b9, a10, a11, a12, a13, a14, a15, a16, b17, b18, b19, b20, b21, b22, b23, b24, b25, b26, b27, b28)) : wpX_assign post (nI c, nI na, 1, fl, a1, a2, a3, a4, a5, a6, a7, a8, a9, a10, a11, a12, a13, a14, a15, a16, a17, a18, a19, a20, a21, a22, a23, a24, a25, a26, a27, a28) (nI to) p q (nI f) := by
  have hd' := hd
  obtain ⟨d1, d2, d3, d4, d5⟩ := hd'
  refine sf_assign_sp hto (sf_od_ri hod) (sf_dm_f hd) hst hc ht hna hfo (fun b17 b20 h1 h2 => ?_)
  have h20 : ∀ q, q < 3 → b20 q = nI (sp q) ∧ sp q ≤ 6 := fun q hq => ⟨by rw [h2 q hq]; exact (hfs q hq).1, (hfs q hq).2⟩
  have nm : ∀ q, q < 3 → ¬ b20 q = -1000000005 := by
    intro q hq t
    have h3 := h20 q hq
    rw [h3.1] at t
    have := nI_toInt (show sp q < 2 ^ 31 by omega)
    rw [t] at this
    have e3 : (-1000000005 : Int32).toInt = -1000000005 := by decide
    omega
  have k147 : wX_assign_147 post (nI to) p q (nI f) (nI R) (nI top) (nI c) (nI na) 1 fl a1 a2 a3 a4 a5 a6 a7 a8 a9 a10 a11 a12 a13 a14 a15 a16 b17 a18 a19 b20 a21 a22 a23 a24 a25 a26 a27 a28 := by
    unfold wX_assign_147
    refine br_f (nm 0 (by omega)) (br_f (nm 1 (by omega)) (br_f (nm 2 (by omega)) ?_))
    refine sf_order hna hsl h20 hid (fun b1 b2 b3 b4 b5 b6 b7 b8 b9 b18 b19 b21 b22 Fo' L lp od tl hL x1 x2 x3 x4 x5 x6 x7 => ?_)
    have hcx : sf_cx b1 b2 b3 b4 b5 b6 b7 b8 b9 a10 a11 a12 a13 a14 a15 b17 b19 b20 b21 b22 na top Rk Nr Mc Fo' Tt E sp L lp od tl := by
      refine ⟨⟨hna, by omega, hL⟩, x1, h1, hE, x2, fun a ha q hq => ⟨fun g => ?_, fun g => ?_⟩, x4, x5⟩
      · obtain ⟨⟨w, z, hs⟩, _⟩ := hsl a ha
        obtain ⟨_, _, _, _, _, hd⟩ := hs.1
        have u := (hid a ha q hq).1 g
        have v := x3 q hq (by have := hd.1; omega)
        exact ⟨v.1, v.2, u⟩
      · obtain ⟨⟨w, z, hs⟩, _⟩ := hsl a ha
        obtain ⟨_, _, _, _, _, hd⟩ := hs.1
        have u := (hid a ha q hq).2 g
        have v := x3 q hq (by have := hd.2.2.1; omega)
        exact ⟨v.1, v.2, u⟩
    refine sf_workOut (e0 := fun _ => 0) hcx ?_ (fun b18 b23 b24 b25 b26 b27 b28 hb => ?_)
    · intro x hx
      rcases hod with ⟨g1, g2, g3, g4, g5⟩ | ⟨g1, ⟨p', g2, g3, g3'⟩, g4, g5⟩ | ⟨g1, p', q', g2, g3, g4, g5, g6, g7, g8⟩
      · rcases hx with t | t
        · exact Or.inl (by rw [t, g2])
        · exact Or.inl (by rw [t, g3])
      · rcases hx with t | t
        · exact Or.inr ⟨p', g2, by rw [t, g3], x3 p' g2 (by omega)⟩
        · exact Or.inl (by rw [t, g4])
      · rcases hx with t | t
        · exact Or.inr ⟨p', g2, by rw [t, g5], x3 p' g2 (by omega)⟩
        · exact Or.inr ⟨q', g3, by rw [t, g6], x3 q' g3 (by omega)⟩
    · have nd : (tl 0).Nodup := x6.nodup_iff.mpr (List.Pairwise.filter _ (show List.Pairwise (fun a b : Nat => a ≠ b) [0, 1, 2] by decide))
      have hT : ∀ x, x < 36 → b18 x = sf_res sp p q (fun e => E (sf_av a14 a15 Tt e) top) x := by
        intro x hx
        rw [hb x hx, sf_is_perm sp _ x6 nd]
        rfl
      have k229 : ∀ z0 z1 : Int32, z0 = nI m → z1 = nI n → wX_assign_229 post (nI to) (nI f) z0 z1 (nI R) (nI to) (nI c) (nI na) 1 (nI L) b1 b2 b3 b4 b5 b6 b7 b8 b9 a10 a11 a12 a13 a14 a15 a16 b17 b18 b19 b20 b21 b22 b23 b24 b25 b26 b27 b28 := by
        intro z0 z1 e0 e1
        rw [e0, e1]
        unfold wX_assign_229
        refine sf_pack (by omega) hd (sf_res_Z hod hd) hT (fun d1 d2 d3 d4 d5 d6 d7 d8 d9 y1 y2 => sf_scrap (sf_roomOf y1 ?_))
        exact hp d1 d2 d3 d4 d5 d6 d7 d8 d9 b17 b18 b19 b20 b21 b22 b23 b24 b25 b26 b27 b28 (nI L) y1 (fun t R n m f T w z ht hne hs => y2 _ _ _ _ _ _ _ _ hne (x7 t R n m f T w z ht hs))
      have k214 : ∀ z1 : Int32, z1 = nI n → wX_assign_214 post (nI to) q (nI f) z1 (nI R) (nI to) (nI c) (nI na) 1 (nI L) b1 b2 b3 b4 b5 b6 b7 b8 b9 a10 a11 a12 a13 a14 a15 a16 b17 b18 b19 b20 b21 b22 b23 b24 b25 b26 b27 b28 := by
        intro z1 e1
        unfold wX_assign_214
        rcases hod with ⟨g1, g2, g3, g4, g5⟩ | ⟨g1, ⟨p', g2, g3, g3'⟩, g4, g5⟩ | ⟨g1, p', q', g2, g3, g4, g5, g6, g7, g8⟩
        · exact br_t g3 (k229 _ _ (by rw [g5]; rfl) e1)
        · exact br_t g4 (k229 _ _ (by rw [g5]; rfl) e1)
        · rw [g6, nI_clamp (show q' < 2 ^ 31 by omega)]
          exact br_f (sf_m1 (by omega)) ⟨pk_in q' 3 g3, k229 _ _ (by rw [(h20 q' g3).1, g8]) e1⟩
      rcases hod with ⟨g1, g2, g3, g4, g5⟩ | ⟨g1, ⟨p', g2, g3, g3'⟩, g4, g5⟩ | ⟨g1, p', q', g2, g3, g4, g5, g6, g7, g8⟩
      · exact br_t g2 (k214 _ (by rw [g4]; rfl))
      · dsimp only
        rw [g3, nI_clamp (show p' < 2 ^ 31 by omega), (h20 p' g2).1]
        exact br_f (sf_m1 (by omega)) ⟨pk_in p' 3 g2, k214 _ (by rw [g3'])⟩
      · dsimp only
        rw [g5, nI_clamp (show p' < 2 ^ 31 by omega), (h20 p' g2).1]
        exact br_f (sf_m1 (by omega)) ⟨pk_in p' 3 g2, k214 _ (by rw [g7])⟩
  have k130 : wX_assign_130 post (nI to) p q (nI f) (nI R) (nI top) (nI c) (nI na) 1 fl a1 a2 a3 a4 a5 a6 a7 a8 a9 a10 a11 a12 a13 a14 a15 a16 b17 a18 a19 b20 a21 a22 a23 a24 a25 a26 a27 a28 := by
    unfold wX_assign_130
    rcases hod with ⟨g1, g2, g3, g4, g5⟩ | ⟨g1, ⟨p', g2, g3, g3'⟩, g4, g5⟩ | ⟨g1, p', q', g2, g3, g4, g5, g6, g7, g8⟩
    · exact br_t g3 k147
    · exact br_t g4 k147
    · rw [g6] at k147
      rw [g6, nI_clamp (show q' < 2 ^ 31 by omega), (h20 q' g3).1]
      exact br_f (sf_m1 (by omega)) ⟨pk_in q' 3 g3, br_f (nI_ne0 (by omega) (by omega)) k147⟩
  rcases hod with ⟨g1, g2, g3, g4, g5⟩ | ⟨g1, ⟨p', g2, g3, g3'⟩, g4, g5⟩ | ⟨g1, p', q', g2, g3, g4, g5, g6, g7, g8⟩
  · exact br_t g2 k130
  · rw [g3] at k130
    rw [g3, nI_clamp (show p' < 2 ^ 31 by omega), (h20 p' g2).1]
    exact br_f (sf_m1 (by omega)) ⟨pk_in p' 3 g2, br_f (nI_ne0 (by omega) (by omega)) k130⟩
  · rw [g5] at k130
    rw [g5, nI_clamp (show p' < 2 ^ 31 by omega), (h20 p' g2).1]
    exact br_f (sf_m1 (by omega)) ⟨pk_in p' 3 g2, br_f (nI_ne0 (by omega) (by omega)) k130⟩
end
section
/-! ===== the law's last pieces: 1316, 1277, 1144, 1003 ===== -/
theorem sf_fill {F f : Nat → Int32} {c : Nat} {v : Int32} (h : ∀ k, k < c → f k = F k) (hv : v = F c) : ∀ k, k < c + 1 → upd f c v k = F k := by
  intro k hk
  by_cases e : k = c
  · rw [e, pk_us, hv]
  · rw [pk_un e]
    exact h k (by omega)
def sf_KD (k : Nat) : Int32 := if k < 6 then 1 else if k = 7 then 0 else if k < 13 then 3 else 2
def sf_NM (k : Nat) : Int32 := if k < 6 then nI k else if k = 7 then 1 else 0
def sf_PA (k : Nat) : Int32 := if k < 6 then -1 else if k = 6 then 4 else if k = 7 then -1 else if k = 8 then 6 else if k < 13 then nI (12 - k) else nI (k - 1)
def sf_PB (k : Nat) : Int32 := if k < 6 then -1 else if k = 6 then 5 else if k = 7 then -1 else if k < 13 then nI (k - 1) else -1
/-- the last matrix -/
def sf_TC : Nat → Int32 := fun x => if x = 13 then 8 else 0
def sf_E6 (V : Nat → Int32) (k : Nat) : Int32 := if k < 6 then V k else if k = 6 then V 4 + V 5 else if k = 7 then 1 else if k = 8 then (V 4 + V 5) + 1 else if k = 9 then V 3 + ((V 4 + V 5) + 1) else if k = 10 then V 2 + (V 3 + ((V 4 + V 5) + 1)) else if k = 11 then V 1 + (V 2 + (V 3 + ((V 4 + V 5) + 1))) else if k % 2 = 0 then V 0 + (V 1 + (V 2 + (V 3 + ((V 4 + V 5) + 1)))) else -(V 0 + (V 1 + (V 2 + (V 3 + ((V 4 + V 5) + 1)))))
def sf_sp6 (q : Nat) : Nat := if q = 2 then 0 else 6
theorem sf_fo6 : sf_fo sf_KD sf_NM sf_PA sf_PB (fun _ => nI 0) (fun _ => nI 1) 19 6 := by decide +kernel
theorem sf_eq6 : sf_eq sf_KD sf_NM sf_PA sf_PB 19 6 sf_E6 := by
  intro k hk
  by_cases h6 : k < 6
  · refine Or.inr (Or.inl ⟨by unfold sf_KD; rw [if_pos h6], k, h6, by unfold sf_NM; rw [if_pos h6], fun V => by unfold sf_E6; rw [if_pos h6]⟩)
  · rcases (show k = 6 ∨ k = 7 ∨ k = 8 ∨ k = 9 ∨ k = 10 ∨ k = 11 ∨ k = 12 ∨ 13 ≤ k by omega) with g | g | g | g | g | g | g | g
    · subst g; exact Or.inr (Or.inr (Or.inr (Or.inl ⟨rfl, 4, 5, by omega, by omega, rfl, rfl, fun V => rfl⟩)))
    · subst g; exact Or.inl ⟨rfl, fun V => rfl⟩
    · subst g; exact Or.inr (Or.inr (Or.inr (Or.inl ⟨rfl, 6, 7, by omega, by omega, rfl, rfl, fun V => rfl⟩)))
    · subst g; exact Or.inr (Or.inr (Or.inr (Or.inl ⟨rfl, 3, 8, by omega, by omega, rfl, rfl, fun V => rfl⟩)))
    · subst g; exact Or.inr (Or.inr (Or.inr (Or.inl ⟨rfl, 2, 9, by omega, by omega, rfl, rfl, fun V => rfl⟩)))
    · subst g; exact Or.inr (Or.inr (Or.inr (Or.inl ⟨rfl, 1, 10, by omega, by omega, rfl, rfl, fun V => rfl⟩)))
    · subst g; exact Or.inr (Or.inr (Or.inr (Or.inl ⟨rfl, 0, 11, by omega, by omega, rfl, rfl, fun V => rfl⟩)))
    · refine Or.inr (Or.inr (Or.inl ⟨?_, k - 1, by omega, ?_, fun V => ?_⟩))
      · unfold sf_KD; rw [if_neg h6, if_neg (by omega), if_neg (by omega)]
      · unfold sf_PA; rw [if_neg h6, if_neg (by omega), if_neg (by omega), if_neg (by omega), if_neg (by omega)]
      · unfold sf_E6
        rw [if_neg h6, if_neg (by omega), if_neg (by omega), if_neg (by omega), if_neg (by omega), if_neg (by omega), if_neg (by omega), if_neg (show ¬ k - 1 < 6 by omega), if_neg (show ¬ k - 1 = 6 by omega), if_neg (show ¬ k - 1 = 7 by omega), if_neg (show ¬ k - 1 = 8 by omega), if_neg (show ¬ k - 1 = 9 by omega), if_neg (show ¬ k - 1 = 10 by omega), if_neg (show ¬ k - 1 = 11 by omega)]
        by_cases hp : k % 2 = 0
        · rw [if_pos hp, if_neg (by omega)]
          grind
        · rw [if_neg hp, if_pos (by omega)]
theorem sf_eq_congr {kd nm pa pb kd' nm' pa' pb' : Nat → Int32} {top na : Nat} {E : (Nat → Int32) → Nat → Int32} (h1 : ∀ k, k ≤ top → kd k = kd' k) (h2 : ∀ k, k ≤ top → nm k = nm' k) (h3 : ∀ k, k ≤ top → pa k = pa' k) (h4 : ∀ k, k ≤ top → pb k = pb' k) (h : sf_eq kd' nm' pa' pb' top na E) : sf_eq kd nm pa pb top na E := by
  intro k hk
  rw [h1 k hk, h2 k hk, h3 k hk, h4 k hk]
  exact h k hk
theorem sf_fs6 : ∀ q, q < 3 → sf_fs sf_KD sf_NM (fun _ => nI 0) (fun _ => nI 1) (fun _ => nI 6) (fun _ => nI 6) 20 q = nI (sf_sp6 q) ∧ sf_sp6 q ≤ 6 := by decide +kernel
theorem sf_nm6 : ∀ k, k < 20 → sf_KD k = 1 → (sf_NM k).toNatClampNeg < 6 := by decide +kernel
/-- what the last formula comes to at a numbering -/
def sf_F6 (e : Nat → Nat) : Int32 := -(sf_TC (6 * e 0 + e 1) + (sf_TC (6 * e 0 + e 1) + (sf_TC (6 * e 0 + e 1) + (sf_TC (6 * e 0 + e 1) + ((sf_TC (6 * e 0 + e 1) + sf_TC (6 * e 0 + e 1)) + 1)))))
theorem sf_res6 : sf_res sf_sp6 (nI 0) (nI 1) sf_F6 13 = -49 ∧ sf_res sf_sp6 (nI 0) (nI 1) sf_F6 0 = -1 := by decide +kernel
theorem sf_lc0 (T : Nat → Int32) (n : Nat) : ∀ k, sf_wp 2 0 T n k = k := by
  intro k
  induction k with
  | zero => rfl
  | succ k ih =>
    show sf_wp 2 0 T n k + _ = k + 1
    rw [ih, if_neg (fun t => absurd t.2 (by decide))]
theorem sf_W0 (T : Nat → Int32) (n m : Nat) : sf_W 2 n m 0 T = n * m := by
  have k : ∀ c, sf_wl 2 0 m T c = c * m := by
    intro c
    induction c with
    | zero => rw [Nat.zero_mul]; rfl
    | succ c ih =>
      show sf_wl 2 0 m T c + _ = (c + 1) * m
      rw [ih, if_neg (fun t => absurd t.1 (by decide)), sf_lc0, Nat.add_mul, Nat.one_mul]
  unfold sf_W
  exact k n

theorem sf_l1316 {post : Int32 → St0 → Prop} {mc ms kc ks : Nat} {fl : Int32} {a1 a2 a3 a4 a5 a6 a7 a8 a9 a10 a11 a12 a13 a14 a15 a16 a17 a18 a19 a20 a21 a22 a23 a24 a25 a26 a27 a28 : Nat → Int32} (hp : post 1 ()) (H10 : ∀ k, k < 13 → a10 k = sf_KD k) (H11 : ∀ k, k < 13 → a11 k = sf_NM k) (H12 : ∀ k, k < 13 → a12 k = sf_PA k) (H13 : ∀ k, k < 13 → a13 k = sf_PB k) (H14 : ∀ a, a < 6 → a14 a = nI 0) (H15 : ∀ a, a < 6 → a15 a = nI 1) (H16 : a16 0 = nI 12) (HS : ∀ a, a < 6 → ∃ w z, sf_slot a1 a2 a3 a4 a5 a6 a7 a8 a9 (6 + a) 2 6 6 3 sf_TC w z) :
    ∃ fu, wL_lawOf_1316 post mc ms (-1000000001) kc ks fu 1 0 (nI 13) (nI 6) (nI 1) fl a1 a2 a3 a4 a5 a6 a7 a8 a9 a10 a11 a12 a13 a14 a15 a16 a17 a18 a19 a20 a21 a22 a23 a24 a25 a26 a27 a28 := by
  refine pk_loop (σ := (Nat → Int32) × (Nat → Int32) × (Nat → Int32) × (Nat → Int32) × (Nat → Int32)) (fun n i t => wL_lawOf_1316 post mc ms (-1000000001) kc ks n 1 (nI i) (nI (13 + i)) (nI 6) (nI 1) fl a1 a2 a3 a4 a5 a6 a7 a8 a9 t.1 t.2.1 t.2.2.1 t.2.2.2.1 a14 a15 t.2.2.2.2 a17 a18 a19 a20 a21 a22 a23 a24 a25 a26 a27 a28)
    (fun i t => (∀ k, k < 13 + i → t.1 k = sf_KD k) ∧ (∀ k, k < 13 + i → t.2.1 k = sf_NM k) ∧ (∀ k, k < 13 + i → t.2.2.1 k = sf_PA k) ∧ (∀ k, k < 13 + i → t.2.2.2.1 k = sf_PB k) ∧ t.2.2.2.2 0 = nI (12 + i)) 7 0 (a10, a11, a12, a13, a16) (by omega) ⟨H10, H11, H12, H13, H16⟩ (fun n t h => ?_) (fun n i t hi h hw => ?_)
  · obtain ⟨c10, c11, c12, c13, c16⟩ := t
    obtain ⟨h10, h11, h12, h13, h16⟩ := h
    have FO : sf_fo c10 c11 c12 c13 a14 a15 19 6 := sf_fo_congr (fun k hk => h10 k (by omega)) (fun k hk => h11 k (by omega)) (fun k hk => h12 k (by omega)) (fun k hk => h13 k (by omega)) H14 H15 sf_fo6
    have EQ : sf_eq c10 c11 c12 c13 19 6 sf_E6 := sf_eq_congr (fun k hk => h10 k (by omega)) (fun k hk => h11 k (by omega)) (fun k hk => h12 k (by omega)) (fun k hk => h13 k (by omega)) sf_eq6
    have FS : sf_fs c10 c11 a14 a15 a2 a3 20 = sf_fs sf_KD sf_NM (fun _ => nI 0) (fun _ => nI 1) (fun _ => nI 6) (fun _ => nI 6) 20 := by
      refine sf_fs_congr (na := 6) (fun a ha => ?_) 20 (fun k hk => ⟨h10 k (by omega), h11 k (by omega), sf_nm6 k hk⟩)
      obtain ⟨w, z, hs⟩ := HS a ha
      exact ⟨H14 a ha, H15 a ha, hs.1.2.2.1, hs.1.2.2.2.1⟩
    refine pk_le 7 7 (fun _ => br_f (by decide) (sf_negate_full rfl (br_t (by decide) (sf_join_full rfl (br_t (by decide) ?_))))) (fun t => absurd t (by omega))
    refine sf_assign_bad (to := 0) (by omega) (Or.inr ⟨1, by omega, rfl⟩) (Or.inr ⟨1, by omega, rfl⟩) (Or.inr ⟨by decide, rfl⟩) (br_t rfl ?_)
    refine sf_assign_bad (to := 0) (by omega) (Or.inl rfl) (Or.inr ⟨0, by omega, rfl⟩) (Or.inl ⟨rfl, by decide⟩) (br_t rfl ?_)
    refine sf_assign_badf (to := 0) (R := 2) (f := 8) (by omega) (Or.inr (Or.inr ⟨rfl, 0, 1, by omega, by omega, by omega, rfl, rfl⟩)) (by omega) (Or.inr (Or.inr ⟨rfl, by omega⟩)) (br_t rfl ?_)
    refine sf_assign_none (to := 0) (R := 2) (f := 0) (c := 20) (top := 19) (na := 6) (by omega) (Or.inr (Or.inr ⟨rfl, 0, 2, by omega, by omega, by omega, rfl, rfl⟩)) (Or.inr (Or.inr ⟨rfl, by omega⟩)) h16 (by omega) (by omega) (by omega) FO (Or.inr ⟨2, by omega, rfl, ?_, by decide⟩) (fun b17 b20 => br_t (by decide) ?_)
    · rw [FS]
      exact (sf_fs6 2 (by omega)).1
    refine sf_assign (to := 0) (R := 2) (n := 6) (m := 6) (f := 0) (c := 20) (top := 19) (na := 6) (Rk := fun _ => 2) (Nr := fun _ => 6) (Mc := fun _ => 6) (Fo := fun _ => 3) (Tt := fun _ => sf_TC) (E := sf_E6) (sp := sf_sp6) (by omega) (Or.inr (Or.inr ⟨rfl, 0, 1, by omega, by omega, by omega, rfl, rfl, rfl, rfl⟩)) ⟨by omega, by omega, by omega, by omega, Or.inr (Or.inr ⟨rfl, by omega⟩)⟩ h16 (by omega) (by omega) (by omega) FO EQ (fun a ha => ⟨HS a ha, ?_⟩) (fun q hq => by rw [FS]; exact sf_fs6 q hq) (fun a ha q hq => ⟨fun t => ?_, fun t => ?_⟩) (fun b1 b2 b3 b4 b5 b6 b7 b8 b9 b17 b18 b19 b20 b21 b22 b23 b24 b25 b26 b27 b28 gl hs hk => ?_)
    · rw [H14 a ha, H15 a ha]
      exact Or.inr (Or.inr ⟨rfl, 0, 1, by omega, by omega, by omega, rfl, rfl⟩)
    · rw [H14 a ha] at t
      have : 0 = q := (nI_eq (by omega) (by omega)).mp t
      subst this
      rfl
    · rw [H15 a ha] at t
      have : 1 = q := (nI_eq (by omega) (by omega)).mp t
      subst this
      rfl
    · have hF : (fun e => sf_E6 (sf_av a14 a15 (fun _ => sf_TC) e) 19) = sf_F6 := by
        funext e
        have av : ∀ a, a < 6 → sf_av a14 a15 (fun _ => sf_TC) e a = sf_TC (6 * e 0 + e 1) := by
          intro a ha
          unfold sf_av
          rw [H14 a ha, H15 a ha, sf_ei_q _ (by omega), sf_ei_q _ (by omega)]
        show -(_ + (_ + (_ + (_ + ((_ + _) + 1))))) = _
        rw [av 0 (by omega), av 1 (by omega), av 2 (by omega), av 3 (by omega), av 4 (by omega), av 5 (by omega)]
        rfl
      rw [hF] at hs ⊢
      rw [sf_W0]
      refine br_t rfl (sf_get (r := 0) (i := 2) (j := 1) (by omega) hs (by omega) (by omega) (br_t sf_res6.1 (sf_get (r := 0) (i := 0) (j := 0) (by omega) hs (by omega) (by omega) (br_t sf_res6.2 ?_))))
      exact sf_negate_few rfl rfl (br_t (by decide) (sf_constant_bad (br_t rfl (sf_span_bad (br_t rfl (sf_length2 (r := 0) (by omega) (br_t rfl hp)))))))
  · obtain ⟨c10, c11, c12, c13, c16⟩ := t
    obtain ⟨h10, h11, h12, h13, h16⟩ := h
    have h16' : c16 0 = nI (12 + i) := h16
    refine pk_le 7 i (fun t => absurd t (by omega)) (fun _ => br_f (by decide) (sf_negate (c := 13 + i) (h := 0) (by omega) (by omega) (br_t rfl (nm_r (nI_1 i) (hw (upd c10 (13 + i) 2, upd c11 (13 + i) 0, upd c12 (13 + i) (c16 0), upd c13 (13 + i) (-1), upd c16 0 (nI (13 + i))) ⟨sf_fill (c := 13 + i) h10 ?_, sf_fill (c := 13 + i) h11 ?_, sf_fill (c := 13 + i) h12 ?_, sf_fill (c := 13 + i) h13 ?_, ?_⟩)))))
    · unfold sf_KD; rw [if_neg (by omega), if_neg (by omega), if_neg (by omega)]
    · unfold sf_NM; rw [if_neg (by omega), if_neg (by omega)]
    · rw [h16']
      unfold sf_PA; rw [if_neg (by omega), if_neg (by omega), if_neg (by omega), if_neg (by omega), if_neg (by omega)]
      congr 1
      omega
    · unfold sf_PB; rw [if_neg (by omega), if_neg (by omega), if_neg (by omega), if_neg (by omega)]
    · show upd c16 0 (nI (13 + i)) 0 = nI (12 + (i + 1))
      rw [pk_us]
      congr 1
      omega
theorem sf_l1277 {post : Int32 → St0 → Prop} {mc ms kc ks : Nat} {fl : Int32} {a1 a2 a3 a4 a5 a6 a7 a8 a9 a10 a11 a12 a13 a14 a15 a16 a17 a18 a19 a20 a21 a22 a23 a24 a25 a26 a27 a28 : Nat → Int32} (hp : post 1 ()) (H10 : ∀ k, k < 8 → a10 k = sf_KD k) (H11 : ∀ k, k < 8 → a11 k = sf_NM k) (H12 : ∀ k, k < 8 → a12 k = sf_PA k) (H13 : ∀ k, k < 8 → a13 k = sf_PB k) (H14 : ∀ a, a < 6 → a14 a = nI 0) (H15 : ∀ a, a < 6 → a15 a = nI 1) (H16 : (∀ k, k < 4 → a16 k = nI k) ∧ a16 4 = nI 6 ∧ a16 5 = nI 7) (HS : ∀ a, a < 6 → ∃ w z, sf_slot a1 a2 a3 a4 a5 a6 a7 a8 a9 (6 + a) 2 6 6 3 sf_TC w z) :
    ∃ fu, wL_lawOf_1277 post mc ms (-1000000001) kc ks fu 1 0 (nI 8) (nI 6) (nI 6) fl a1 a2 a3 a4 a5 a6 a7 a8 a9 a10 a11 a12 a13 a14 a15 a16 a17 a18 a19 a20 a21 a22 a23 a24 a25 a26 a27 a28 := by
  refine pk_loop (σ := (Nat → Int32) × (Nat → Int32) × (Nat → Int32) × (Nat → Int32) × (Nat → Int32)) (fun n i t => wL_lawOf_1277 post mc ms (-1000000001) kc ks n 1 (nI i) (nI (8 + i)) (nI 6) (nI (6 - i)) fl a1 a2 a3 a4 a5 a6 a7 a8 a9 t.1 t.2.1 t.2.2.1 t.2.2.2.1 a14 a15 t.2.2.2.2 a17 a18 a19 a20 a21 a22 a23 a24 a25 a26 a27 a28)
    (fun i t => (∀ k, k < 8 + i → t.1 k = sf_KD k) ∧ (∀ k, k < 8 + i → t.2.1 k = sf_NM k) ∧ (∀ k, k < 8 + i → t.2.2.1 k = sf_PA k) ∧ (∀ k, k < 8 + i → t.2.2.2.1 k = sf_PB k) ∧ (∀ k, k < 4 → k + i < 5 → t.2.2.2.2 k = nI k) ∧ (i = 0 → t.2.2.2.2 4 = nI 6) ∧ t.2.2.2.2 (5 - i) = nI (7 + i)) 5 0 (a10, a11, a12, a13, a16) (by omega) ⟨H10, H11, H12, H13, fun k h1 h2 => H16.1 k h1, fun _ => H16.2.1, H16.2.2⟩ (fun n t h => ?_) (fun n i t hi h hw => ?_)
  · obtain ⟨c10, c11, c12, c13, c16⟩ := t
    obtain ⟨h10, h11, h12, h13, h16, h17, h18⟩ := h
    exact pk_le 5 5 (fun _ => sf_l1316 hp h10 h11 h12 h13 H14 H15 h18 HS) (fun t => absurd t (by omega))
  · obtain ⟨c10, c11, c12, c13, c16⟩ := t
    obtain ⟨h10, h11, h12, h13, h16, h17, h18⟩ := h
    have h18' : c16 (5 - i) = nI (7 + i) := h18
    have h16' : ∀ k, k < 4 → k + i < 5 → c16 k = nI k := h16
    refine pk_le 5 i (fun t => absurd t (by omega)) (fun _ => br_f (by decide) ?_)
    show wpX_join _ (nI (8 + i), nI 6, nI (6 - i), fl, a1, a2, a3, a4, a5, a6, a7, a8, a9, c10, c11, c12, c13, a14, a15, c16, a17, a18, a19, a20, a21, a22, a23, a24, a25, a26, a27, a28) (nI 0)
    rw [show 6 - i = (4 - i) + 2 by omega]
    refine sf_join (c := 8 + i) (h := 4 - i) (o := 0) (by omega) (by omega) (by omega) (br_t ?_ (nm_r (nI_1 i) ?_))
    · rw [show (5 : Int32) = nI 5 from rfl, pk_sub (by omega)]
      congr 1
      omega
    · have := hw (upd c10 (8 + i) (nI (3 + 0)), upd c11 (8 + i) 0, upd c12 (8 + i) (c16 (4 - i)), upd c13 (8 + i) (c16 (4 - i + 1)), upd c16 (4 - i) (nI (8 + i))) ⟨sf_fill (c := 8 + i) h10 ?_, sf_fill (c := 8 + i) h11 ?_, sf_fill (c := 8 + i) h12 ?_, sf_fill (c := 8 + i) h13 ?_, ?_, ?_, ?_⟩
      · rw [show 6 - (i + 1) = 4 - i + 1 by omega] at this
        exact this
      · unfold sf_KD; rw [if_neg (by omega), if_neg (by omega), if_pos (by omega)]; rfl
      · unfold sf_NM; rw [if_neg (by omega), if_neg (by omega)]
      · by_cases e : i = 0
        · subst e
          exact h17 rfl
        · unfold sf_PA; rw [if_neg (by omega), if_neg (by omega), if_neg (by omega), if_neg (by omega), if_pos (by omega), h16' (4 - i) (by omega) (by omega)]
          congr 1
          omega
      · unfold sf_PB; rw [if_neg (by omega), if_neg (by omega), if_neg (by omega), if_pos (by omega), show 4 - i + 1 = 5 - i by omega, h18']
        congr 1
        omega
      · intro k h1 h2
        show upd c16 (4 - i) (nI (8 + i)) k = nI k
        rw [pk_un (by omega)]
        exact h16 k h1 (by omega)
      · intro h0
        exact absurd h0 (by omega)
      · show upd c16 (4 - i) (nI (8 + i)) (5 - (i + 1)) = nI (7 + (i + 1))
        rw [show 5 - (i + 1) = 4 - i by omega, pk_us]
        congr 1
        omega
theorem sf_l1144 {post : Int32 → St0 → Prop} {mc ms kc ks : Nat} {fl : Int32} {a1 a2 a3 a4 a5 a6 a7 a8 a9 a10 a11 a12 a13 a14 a15 a16 a17 a18 a19 a20 a21 a22 a23 a24 a25 a26 a27 a28 : Nat → Int32} {w z : Nat} (hp : post 1 ()) (H3 : sf_slot a1 a2 a3 a4 a5 a6 a7 a8 a9 3 2 6 6 3 sf_TC w z) :
    ∃ fu, wL_lawOf_1144 post mc ms (-1000000001) kc ks fu 1 0 (nI 0) (nI 0) (nI 0) fl a1 a2 a3 a4 a5 a6 a7 a8 a9 a10 a11 a12 a13 a14 a15 a16 a17 a18 a19 a20 a21 a22 a23 a24 a25 a26 a27 a28 := by
  refine pk_loop (σ := St2) (fun n i t => wL_lawOf_1144 post mc ms (-1000000001) kc ks n 1 (nI i) (nI i) (nI i) (nI i) t.2.2.2.1 t.2.2.2.2.1 t.2.2.2.2.2.1 t.2.2.2.2.2.2.1 t.2.2.2.2.2.2.2.1 t.2.2.2.2.2.2.2.2.1 t.2.2.2.2.2.2.2.2.2.1 t.2.2.2.2.2.2.2.2.2.2.1 t.2.2.2.2.2.2.2.2.2.2.2.1 t.2.2.2.2.2.2.2.2.2.2.2.2.1 t.2.2.2.2.2.2.2.2.2.2.2.2.2.1 t.2.2.2.2.2.2.2.2.2.2.2.2.2.2.1 t.2.2.2.2.2.2.2.2.2.2.2.2.2.2.2.1 t.2.2.2.2.2.2.2.2.2.2.2.2.2.2.2.2.1 t.2.2.2.2.2.2.2.2.2.2.2.2.2.2.2.2.2.1 t.2.2.2.2.2.2.2.2.2.2.2.2.2.2.2.2.2.2.1 t.2.2.2.2.2.2.2.2.2.2.2.2.2.2.2.2.2.2.2.1 t.2.2.2.2.2.2.2.2.2.2.2.2.2.2.2.2.2.2.2.2.1 t.2.2.2.2.2.2.2.2.2.2.2.2.2.2.2.2.2.2.2.2.2.1 t.2.2.2.2.2.2.2.2.2.2.2.2.2.2.2.2.2.2.2.2.2.2.1 t.2.2.2.2.2.2.2.2.2.2.2.2.2.2.2.2.2.2.2.2.2.2.2.1 t.2.2.2.2.2.2.2.2.2.2.2.2.2.2.2.2.2.2.2.2.2.2.2.2.1 t.2.2.2.2.2.2.2.2.2.2.2.2.2.2.2.2.2.2.2.2.2.2.2.2.2.1 t.2.2.2.2.2.2.2.2.2.2.2.2.2.2.2.2.2.2.2.2.2.2.2.2.2.2.1 t.2.2.2.2.2.2.2.2.2.2.2.2.2.2.2.2.2.2.2.2.2.2.2.2.2.2.2.1 t.2.2.2.2.2.2.2.2.2.2.2.2.2.2.2.2.2.2.2.2.2.2.2.2.2.2.2.2.1 t.2.2.2.2.2.2.2.2.2.2.2.2.2.2.2.2.2.2.2.2.2.2.2.2.2.2.2.2.2.1 t.2.2.2.2.2.2.2.2.2.2.2.2.2.2.2.2.2.2.2.2.2.2.2.2.2.2.2.2.2.2.1 t.2.2.2.2.2.2.2.2.2.2.2.2.2.2.2.2.2.2.2.2.2.2.2.2.2.2.2.2.2.2.2)
    (fun i t => ∃ (c1 c2 c3 c4 c5 c6 c7 c8 c9 c10 c11 c12 c13 c14 c15 c16 c17 c18 c19 c20 c21 c22 c23 c24 c25 c26 c27 c28 : Nat → Int32) (f1 f2 f3 f4 : Int32), t = (f1, f2, f3, f4, c1, c2, c3, c4, c5, c6, c7, c8, c9, c10, c11, c12, c13, c14, c15, c16, c17, c18, c19, c20, c21, c22, c23, c24, c25, c26, c27, c28) ∧ (∃ w z, sf_slot c1 c2 c3 c4 c5 c6 c7 c8 c9 3 2 6 6 3 sf_TC w z) ∧ (∀ a, a < i → ∃ w z, sf_slot c1 c2 c3 c4 c5 c6 c7 c8 c9 (6 + a) 2 6 6 3 sf_TC w z) ∧ (∀ k, k < i → c10 k = sf_KD k) ∧ (∀ k, k < i → c11 k = sf_NM k) ∧ (∀ k, k < i → c12 k = sf_PA k) ∧ (∀ k, k < i → c13 k = sf_PB k) ∧ (∀ k, k < i → c14 k = nI 0) ∧ (∀ k, k < i → c15 k = nI 1) ∧ (∀ k, k < i → c16 k = nI k)) 6 0 (nI 0, nI 0, nI 0, fl, a1, a2, a3, a4, a5, a6, a7, a8, a9, a10, a11, a12, a13, a14, a15, a16, a17, a18, a19, a20, a21, a22, a23, a24, a25, a26, a27, a28) (by omega) ⟨a1, a2, a3, a4, a5, a6, a7, a8, a9, a10, a11, a12, a13, a14, a15, a16, a17, a18, a19, a20, a21, a22, a23, a24, a25, a26, a27, a28, nI 0, nI 0, nI 0, fl, rfl, ⟨w, z, H3⟩, fun a ha => absurd ha (by omega), fun a ha => absurd ha (by omega), fun a ha => absurd ha (by omega), fun a ha => absurd ha (by omega), fun a ha => absurd ha (by omega), fun a ha => absurd ha (by omega), fun a ha => absurd ha (by omega), fun a ha => absurd ha (by omega)⟩ (fun n t h => ?_) (fun n i t hi h hw => ?_)
  · obtain ⟨c1, c2, c3, c4, c5, c6, c7, c8, c9, c10, c11, c12, c13, c14, c15, c16, c17, c18, c19, c20, c21, c22, c23, c24, c25, c26, c27, c28, f1, f2, f3, f4, rfl, ⟨w, z, h3⟩, hs, h10, h11, h12, h13, h14, h15, h16⟩ := h
    have ri : sf_ri 2 0 1 := Or.inr (Or.inr ⟨rfl, 0, 1, by omega, by omega, by omega, rfl, rfl⟩)
    refine pk_le 6 6 (fun _ => br_f (by decide) ?_) (fun t => absurd t (by omega))
    refine sf_array_full (r := 3) (c := 6) (by omega) h3.1 ri (by omega) rfl (br_t (by decide) ?_)
    refine sf_constant_full (c := 6) (by omega) rfl (br_t (by decide) ?_)
    refine sf_assign_few (to := 3) (R := 2) (f := 0) (by omega) ri (Or.inr (Or.inr ⟨rfl, by omega⟩)) (by decide) (br_t (by decide) ?_)
    refine sf_join (c := 6) (h := 4) (o := 0) (by omega) (by omega) (by omega) (br_t rfl ?_)
    refine sf_array_full (r := 3) (c := 7) (by omega) h3.1 ri (by omega) rfl (br_t (by decide) ?_)
    refine sf_constant (c := 7) (h := 5) (k := 1) (by omega) (by omega) (by omega) (br_t rfl ?_)
    refine sf_join_bad (br_t rfl ?_)
    refine sf_l1277 hp (sf_fill (sf_fill h10 rfl) rfl) (sf_fill (sf_fill h11 rfl) rfl) (sf_fill (sf_fill h12 (h16 4 (by omega))) rfl) (sf_fill (sf_fill h13 (h16 5 (by omega))) rfl) h14 h15 ⟨fun k hk => ?_, rfl, rfl⟩ hs
    rw [pk_un (by omega), pk_un (by omega)]
    exact h16 k (by omega)
  · obtain ⟨c1, c2, c3, c4, c5, c6, c7, c8, c9, c10, c11, c12, c13, c14, c15, c16, c17, c18, c19, c20, c21, c22, c23, c24, c25, c26, c27, c28, f1, f2, f3, f4, rfl, ⟨w, z, h3⟩, hs, h10, h11, h12, h13, h14, h15, h16⟩ := h
    have ri : sf_ri 2 0 1 := Or.inr (Or.inr ⟨rfl, 0, 1, by omega, by omega, by omega, rfl, rfl⟩)
    refine pk_le 6 i (fun t => absurd t (by omega)) (fun _ => br_f (by decide) ?_)
    refine sf_array (r := 3) (c := i) (na := i) (h := i) (by omega) h3 ri (by omega) (by omega) (by omega) (fun d1 d2 d3 d4 d5 d6 d7 d8 d9 d18 w' z' k1 k2 => br_t (nI_1 i).symm (nm_r (nI_1 i) ?_))
    refine hw (nI (i + 1), nI (i + 1), nI (i + 1), f4, d1, d2, d3, d4, d5, d6, d7, d8, d9, upd c10 i 1, upd c11 i (nI i), upd c12 i (-1), upd c13 i (-1), upd c14 i 0, upd c15 i 1, upd c16 i (nI i), c17, d18, c19, c20, c21, c22, c23, c24, c25, c26, c27, c28) ⟨d1, d2, d3, d4, d5, d6, d7, d8, d9, upd c10 i 1, upd c11 i (nI i), upd c12 i (-1), upd c13 i (-1), upd c14 i 0, upd c15 i 1, upd c16 i (nI i), c17, d18, c19, c20, c21, c22, c23, c24, c25, c26, c27, c28, _, _, _, _, rfl, ⟨w, z, k2 _ _ _ _ _ _ _ _ (by omega) h3⟩, fun a ha => ?_, sf_fill h10 ?_, sf_fill h11 ?_, sf_fill h12 ?_, sf_fill h13 ?_, sf_fill (F := fun _ => nI 0) h14 rfl, sf_fill (F := fun _ => nI 1) h15 rfl, sf_fill (F := fun k => nI k) h16 rfl⟩
    · by_cases e : a = i
      · rw [e]; exact ⟨w', z', k1⟩
      · obtain ⟨w2, z2, h2⟩ := hs a (by omega)
        exact ⟨w2, z2, k2 _ _ _ _ _ _ _ _ (by omega) h2⟩
    · unfold sf_KD; rw [if_pos hi]
    · unfold sf_NM; rw [if_pos hi]
    · unfold sf_PA; rw [if_pos hi]
    · unfold sf_PB; rw [if_pos hi]
theorem sf_slot_congr {a1 a2 a3 a4 a5 a6 a7 a8 a9 : Nat → Int32} {s R n m f w z : Nat} {T T' : Nat → Int32} (hT : ∀ x, x < 36 → T' x = T x) (h : sf_slot a1 a2 a3 a4 a5 a6 a7 a8 a9 s R n m f T w z) : sf_slot a1 a2 a3 a4 a5 a6 a7 a8 a9 s R n m f T' w z := by
  obtain ⟨hh, hZ, K, hK, hw, h1, h1b, LA, LB, h2, h3, h4, h5, h6, h7, h8⟩ := h
  have B := sf_dm_b hh.2.2.2.2.2
  refine ⟨hh, fun x hx hx' => by rw [hT x hx]; exact hZ x hx hx', K, hK, hw, h1, h1b, LA, LB, h2, h3, h4, fun k hk => ?_, h6, fun l hl => ?_, h8⟩
  · obtain ⟨g1, g2, g3, g4⟩ := h5 k hk
    exact ⟨g1, g2, g3, sf_sg_congr g4 (fun _ _ _ => rfl) (fun p hp => hT _ (B.2.2.2.2.2.2 (LA k) p g2 hp).1)⟩
  · rcases h7 l hl with t | t
    · exact Or.inl t
    · exact Or.inr (fun p hp => by rw [hT _ (B.2.2.2.2.2.2 l p hl hp).1]; exact t p hp)
theorem sf_l1003 {post : Int32 → St0 → Prop} {mc ms kc ks : Nat} {fl : Int32} {a1 a2 a3 a4 a5 a6 a7 a8 a9 a10 a11 a12 a13 a14 a15 a16 a17 a18 a19 a20 a21 a22 a23 a24 a25 a26 a27 a28 : Nat → Int32} (hp : post 1 ()) : wL_lawOf_1003 post mc ms (-1000000001) 1 kc ks (nI 0) (nI 0) (nI 0) fl a1 a2 a3 a4 a5 a6 a7 a8 a9 a10 a11 a12 a13 a14 a15 a16 a17 a18 a19 a20 a21 a22 a23 a24 a25 a26 a27 a28 := by
  have dm : ∀ f, f ≤ 7 → sf_dm 2 6 6 f := fun f hf => ⟨by omega, by omega, by omega, by omega, Or.inr (Or.inr ⟨rfl, hf⟩)⟩
  unfold wL_lawOf_1003
  refine br_f (by decide) ?_
  refine sf_make (r := 3) (n := 6) (m := 6) (f := 2) (R := 2) (n' := 6) (m' := 6) (by omega) (by omega) (by omega) (Or.inr (Or.inr ⟨by omega, by omega, rfl, rfl, rfl⟩)) (dm 2 (by omega)) (fun b1 b2 b3 b4 b5 b6 b7 b8 b9 b18 s1 _ => br_t rfl ?_)
  refine sf_put (r := 3) (i := 2) (j := 4) (by omega) s1 (by omega) (by omega) (fun c1 c2 c3 c4 c5 c6 c7 c8 c9 c18 w2 z2 s2 _ e2 => br_t rfl ?_)
  have e2' := (e2 (Or.inl rfl) (by decide)).1
  refine sf_room (r := 3) (by omega) s2 (br_t (by rw [e2']; decide +kernel) ?_)
  refine sf_put (r := 3) (i := 2) (j := 1) (by omega) s2 (by omega) (by omega) (fun d1 d2 d3 d4 d5 d6 d7 d8 d9 d18 w3 z3 s3 _ e3 => br_t rfl ?_)
  have e3' := (e3 (Or.inl rfl) (by decide)).1
  refine sf_room (r := 3) (by omega) s3 (br_t (by rw [e3']; decide +kernel) ?_)
  refine sf_format (r := 3) (f' := 6) (by omega) s3 (dm 6 (by omega)) (fun g1 g2 g3 g4 g5 g6 g7 g8 g9 g18 s4 _ => br_t (by decide +kernel) ?_)
  refine sf_format (r := 3) (f' := 0) (by omega) s4 (dm 0 (by omega)) (fun h1 h2 h3 h4 h5 h6 h7 h8 h9 h18 s5 _ => br_t (by decide +kernel) ?_)
  refine sf_format (r := 3) (f' := 3) (by omega) s5 (dm 3 (by omega)) (fun i1 i2 i3 i4 i5 i6 i7 i8 i9 i18 s6 _ => br_t (by decide +kernel) ?_)
  refine sf_pattern (r := 3) (i := 2) (by omega) s6 (by omega) (br_t (by decide +kernel) ?_)
  refine sf_put (r := 3) (i := 2) (j := 4) (by omega) s6 (by omega) (by omega) (fun j1 j2 j3 j4 j5 j6 j7 j8 j9 j18 w7 z7 s7 _ e7 => br_t rfl ?_)
  have e7' := (e7 (Or.inr rfl) (by decide)).1
  refine sf_room (r := 3) (by omega) s7 (br_t (by rw [e7']; decide +kernel) ?_)
  refine sf_l1144 hp (sf_slot_congr (T := _) ?_ s7)
  intro x hx
  unfold sf_TC upd
  by_cases a : x = 16
  · rw [if_neg (by omega), if_pos (by omega)]
  · by_cases b : x = 13
    · rw [if_pos b, if_neg (by omega), if_pos (by omega)]
    · rw [if_neg b, if_neg (by omega), if_neg (by omega), if_neg (by omega)]
end
section
/-! ===== the law's piece 811 ===== -/
def sf_TA (n m : Nat) (a b : Int32) : Nat → Int32 := fun x => if x / 6 < n ∧ x % 6 < m then a * nI (x / 6) + b * nI (x % 6) + 1 else 0
def sf_TB (m : Nat) : Nat → Int32 := fun x => if x / 6 < m ∧ x % 6 = 0 then nI (x / 6) else 0
theorem sf_TA_at {n m i j : Nat} {a b : Int32} (hi : i < n) (hj : j < m) (hm : m ≤ 6) : sf_TA n m a b (6 * i + j) = a * nI i + b * nI j + 1 := by
  unfold sf_TA
  have e1 : (6 * i + j) / 6 = i := by omega
  have e2 : (6 * i + j) % 6 = j := by omega
  rw [e1, e2, if_pos ⟨hi, hj⟩]
def sf_one (m : Nat) : Nat := m * (m - 1) / 2
def sf_two (m : Nat) : Nat := m * (m - 1) * (2 * m - 1) / 6
theorem sf_811_m : ∀ m, m < 7 → 2 ≤ m → sf_pt (sf_TB m) 0 1 = 0 ∧ sf_pt (sf_TB m) 1 1 = 1 ∧ sf_W 1 m 1 1 (sf_TB m) = m - 1 ∧ sf_W 1 m 1 0 (sf_TB m) = m ∧ sf_dg (sf_TB m) 36 = 7 * nI (sf_two m) + nI (sf_one m) := by decide +kernel
theorem sf_pred {n : Nat} (h : 1 ≤ n) : nI n - 1 = nI (n - 1) := by
  obtain ⟨k, rfl⟩ : ∃ k, n = k + 1 := ⟨n - 1, by omega⟩
  rw [nI_pred]
  rfl
theorem sf_l811 {post : Int32 → St0 → Prop} {mc ms kc ks : Nat} {fp fa fh fl : Int32} {a1 a2 a3 a4 a5 a6 a7 a8 a9 a10 a11 a12 a13 a14 a15 a16 a17 a18 a19 a20 a21 a22 a23 a24 a25 a26 a27 a28 : Nat → Int32} {n m f g w z w1 : Nat} {a b : Int32} (hp : post 1 ()) (hn : 2 ≤ n) (hn' : n ≤ 6) (hm : 2 ≤ m) (hm' : m ≤ 6) (s0 : sf_slot a1 a2 a3 a4 a5 a6 a7 a8 a9 0 2 n m f (sf_TA n m a b) w z) (s1 : sf_slot a1 a2 a3 a4 a5 a6 a7 a8 a9 1 1 m 1 g (sf_TB m) w1 (m - 1)) :
    wL_lawOf_811 post mc ms (-1000000001) (nI n) (nI m) (nI f) a b (nI (sf_one m)) (nI (sf_two m)) 1 kc ks fp fa fh fl a1 a2 a3 a4 a5 a6 a7 a8 a9 a10 a11 a12 a13 a14 a15 a16 a17 a18 a19 a20 a21 a22 a23 a24 a25 a26 a27 a28 := by
  have hf : f ≤ 7 := (sf_dm_b s0.1.2.2.2.2.2).2.1
  have F := sf_f4 f (by omega)
  obtain ⟨M1, M2, M3, M4, M5⟩ := sf_811_m m (by omega) hm
  have dm1 : ∀ f, f ≤ 1 → sf_dm 1 m 1 f := fun f hf => ⟨by omega, by omega, by omega, by omega, Or.inr (Or.inl ⟨rfl, rfl, hf⟩)⟩
  unfold wL_lawOf_811
  rw [sf_pred (n := n) (by omega), sf_pred (n := m) (by omega), F.1]
  refine sf_scrap (br_f (by decide) ?_)
  refine sf_turn (r := 0) (by omega) s0 (fun b2 b3 b4 t0 k0 => br_t rfl ?_)
  have t1 := k0 _ _ _ _ _ _ _ _ (by omega) s1
  refine sf_length1 (r := 0) (by omega) t0.1 (br_t rfl ?_)
  refine sf_get (r := 0) (by omega) t0 (by omega) (by omega) (br_t ?_ ?_)
  · show sf_TA n m a b (6 * ((6 * (m - 1) + (n - 1)) % 6) + (6 * (m - 1) + (n - 1)) / 6) = _
    rw [show (6 * (m - 1) + (n - 1)) % 6 = n - 1 by omega, show (6 * (m - 1) + (n - 1)) / 6 = m - 1 by omega, sf_TA_at (by omega) (by omega) hm']
  refine sf_format (r := 0) (f' := f ^^^ 4) (by omega) t0 ⟨by omega, by omega, by omega, by omega, Or.inr (Or.inr ⟨rfl, by omega⟩)⟩ (fun c1 c2 c3 c4 c5 c6 c7 c8 c9 c18 u0 k1 => br_f (nI_pos ?_) ?_)
  · have := sf_slot_w u0
    omega
  have u1 := k1 _ _ _ _ _ _ _ _ (by omega) t1
  refine sf_turn_none (r := 1) (by omega) u1.1 (by omega) (br_t (by decide) ?_)
  refine sf_pattern (r := 1) (i := 0) (by omega) u1 (by omega) (br_t M1 ?_)
  refine sf_pattern (r := 1) (i := 1) (by omega) u1 (by omega) (br_t M2 ?_)
  refine sf_filled (r := 1) (by omega) u1 (br_t rfl ?_)
  refine sf_format (r := 1) (f' := 1) (by omega) u1 (dm1 1 (by omega)) (fun d1 d2 d3 d4 d5 d6 d7 d8 d9 d18 v1 k2 => br_t (by rw [M3]) ?_)
  refine sf_format (r := 1) (f' := 0) (by omega) v1 (dm1 0 (by omega)) (fun e1 e2 e3 e4 e5 e6 e7 e8 e9 e18 x1 k3 => br_t (by rw [M4]) ?_)
  refine sf_format_bad (r := 1) (f' := 2) (by omega) x1.1 (by omega) (Or.inr (Or.inl ⟨rfl, by omega⟩)) (br_t rfl ?_)
  refine sf_digest (r := 1) (by omega) x1 (fun g18 => br_t M5 ?_)
  have x0 := k3 _ _ _ _ _ _ _ _ (by omega) (k2 _ _ _ _ _ _ _ _ (by omega) u0)
  refine sf_same1 (r := 1) (by omega) x1 (br_f (by decide) ?_)
  refine sf_same0 (r := 0) (s := 1) (by omega) (by omega) x0.1 x1.1 (by omega) (br_t rfl ?_)
  exact sf_l1003 hp
end
section
/-! ===== small formulas and their sums ===== -/
def sf_tri : Nat → Nat
  | 0 => 0
  | k + 1 => sf_tri k + k
def sf_sq : Nat → Nat
  | 0 => 0
  | k + 1 => sf_sq k + k * k
theorem sf_tri_m : ∀ m, m < 7 → sf_tri m = sf_one m ∧ sf_sq m = sf_two m ∧ nI m * (nI m - 1) / 2 = nI (sf_one m) ∧ nI m * (nI m - 1) * (2 * nI m - 1) / 6 = nI (sf_two m) := by decide +kernel
theorem sf_sum1 (c b : Int32) : ∀ k, sf_sm (fun v => c + b * nI v) k = nI k * c + b * nI (sf_tri k) := by
  intro k
  induction k with
  | zero =>
    show (0 : Int32) = nI 0 * c + b * nI 0
    rw [nI_0]
    grind
  | succ k ih =>
    show sf_sm (fun v => c + b * nI v) k + (c + b * nI k) = nI (k + 1) * c + b * nI (sf_tri k + k)
    rw [ih, nI_succ, ← nI_add]
    grind
theorem sf_sum2 (c b : Int32) : ∀ k, sf_sm (fun v => (c + b * nI v) * nI v) k = c * nI (sf_tri k) + b * nI (sf_sq k) := by
  intro k
  induction k with
  | zero =>
    show (0 : Int32) = c * nI 0 + b * nI 0
    rw [nI_0]
    grind
  | succ k ih =>
    show sf_sm (fun v => (c + b * nI v) * nI v) k + (c + b * nI k) * nI k = c * nI (sf_tri k + k) + b * nI (sf_sq k + k * k)
    rw [ih, ← nI_add, ← nI_add, ← pk_mul]
    grind
/-! two arrays joined -/
def sf_K2 (o k : Nat) : Int32 := if k = 2 then nI (3 + o) else 1
def sf_N2 (k : Nat) : Int32 := if k = 2 then 0 else nI k
def sf_A2 (k : Nat) : Int32 := if k = 2 then 0 else -1
def sf_B2 (k : Nat) : Int32 := if k = 2 then 1 else -1
def sf_E2 (o : Nat) (V : Nat → Int32) (k : Nat) : Int32 := if k = 2 then (if o = 0 then V 0 + V 1 else if o = 1 then V 0 - V 1 else V 0 * V 1) else V k
def sf_w2 (p q : Int32) (k : Nat) : Int32 := if k = 0 then p else q
def sf_F2 (a10 a11 a12 a13 a14 a15 a16 : Nat → Int32) (o : Nat) (p1 q1 p2 q2 : Int32) : Prop := (∀ k, k ≤ 2 → a10 k = sf_K2 o k) ∧ (∀ k, k ≤ 2 → a11 k = sf_N2 k) ∧ (∀ k, k ≤ 2 → a12 k = sf_A2 k) ∧ (∀ k, k ≤ 2 → a13 k = sf_B2 k) ∧ (∀ k, k < 2 → a14 k = sf_w2 p1 p2 k) ∧ (∀ k, k < 2 → a15 k = sf_w2 q1 q2 k) ∧ a16 0 = nI 2
theorem sf_le2 {P : Nat → Prop} (h0 : P 0) (h1 : P 1) (h2 : P 2) : ∀ k, k ≤ 2 → P k := by
  intro k hk
  rcases (show k = 0 ∨ k = 1 ∨ k = 2 by omega) with g | g | g
  · rw [g]; exact h0
  · rw [g]; exact h1
  · rw [g]; exact h2
theorem sf_lt2 {P : Nat → Prop} (h0 : P 0) (h1 : P 1) : ∀ k, k < 2 → P k := by
  intro k hk
  rcases (show k = 0 ∨ k = 1 by omega) with g | g
  · rw [g]; exact h0
  · rw [g]; exact h1
theorem sf_F2_mk (a10 a11 a12 a13 a14 a15 a16 : Nat → Int32) (o : Nat) (p1 q1 p2 q2 : Int32) : sf_F2 (upd (upd (upd a10 0 1) 1 1) 2 (nI (3 + o))) (upd (upd (upd a11 0 (nI 0)) 1 (nI 1)) 2 0) (upd (upd (upd a12 0 (-1)) 1 (-1)) 2 (upd (upd a16 0 (nI 0)) 1 (nI 1) 0)) (upd (upd (upd a13 0 (-1)) 1 (-1)) 2 (upd (upd a16 0 (nI 0)) 1 (nI 1) 1)) (upd (upd a14 0 p1) 1 p2) (upd (upd a15 0 q1) 1 q2) (upd (upd (upd a16 0 (nI 0)) 1 (nI 1)) 0 (nI 2)) o p1 q1 p2 q2 :=
  ⟨sf_le2 rfl rfl rfl, sf_le2 rfl rfl rfl, sf_le2 rfl rfl rfl, sf_le2 rfl rfl rfl, sf_lt2 rfl rfl, sf_lt2 rfl rfl, rfl⟩
theorem sf_F2_fo {a10 a11 a12 a13 a14 a15 a16 : Nat → Int32} {o : Nat} {p1 q1 p2 q2 : Int32} (ho : o < 3) (h : sf_F2 a10 a11 a12 a13 a14 a15 a16 o p1 q1 p2 q2) (i1 : sf_in p1) (i2 : sf_in q1) (i3 : sf_in p2) (i4 : sf_in q2) : sf_fo a10 a11 a12 a13 a14 a15 2 2 ∧ sf_eq a10 a11 a12 a13 2 2 (sf_E2 o) := by
  obtain ⟨h10, h11, h12, h13, h14, h15, h16⟩ := h
  refine ⟨sf_fo_congr h10 h11 h12 h13 h14 h15 ⟨?_, ?_, ?_⟩, sf_eq_congr h10 h11 h12 h13 ?_⟩
  · exact sf_le2 ⟨Or.inl rfl, Or.inl rfl⟩ ⟨Or.inl rfl, Or.inl rfl⟩ ⟨Or.inr ⟨0, by omega, rfl⟩, Or.inr ⟨1, by omega, rfl⟩⟩
  · exact sf_lt2 ⟨2, by omega, by omega, Or.inl rfl⟩ ⟨2, by omega, by omega, Or.inr rfl⟩
  · refine sf_le2 (fun _ => ⟨0, by omega, rfl, i1, i2⟩) (fun _ => ⟨1, by omega, rfl, i3, i4⟩) (fun t => ?_)
    exfalso
    have t' : nI (3 + o) = nI 1 := t
    have := (nI_eq (by omega) (by omega)).mp t'
    omega
  · refine sf_le2 (Or.inr (Or.inl ⟨rfl, 0, by omega, rfl, fun V => rfl⟩)) (Or.inr (Or.inl ⟨rfl, 1, by omega, rfl, fun V => rfl⟩)) ?_
    rcases (show o = 0 ∨ o = 1 ∨ o = 2 by omega) with g | g | g
    · subst g; exact Or.inr (Or.inr (Or.inr (Or.inl ⟨rfl, 0, 1, by omega, by omega, rfl, rfl, fun V => rfl⟩)))
    · subst g; exact Or.inr (Or.inr (Or.inr (Or.inr (Or.inl ⟨rfl, 0, 1, by omega, by omega, rfl, rfl, fun V => rfl⟩))))
    · subst g; exact Or.inr (Or.inr (Or.inr (Or.inr (Or.inr ⟨rfl, 0, 1, by omega, by omega, rfl, rfl, fun V => rfl⟩))))
def sf_S2 (o : Nat) (p1 q1 p2 q2 : Int32) (n1 m1 n2 m2 : Nat) : Nat → Int32 := sf_fs (sf_K2 o) sf_N2 (sf_w2 p1 p2) (sf_w2 q1 q2) (fun x => sf_w2 (nI n1) (nI n2) (x - 6)) (fun x => sf_w2 (nI m1) (nI m2) (x - 6)) 3
theorem sf_F2_fs {a2 a3 a10 a11 a12 a13 a14 a15 a16 : Nat → Int32} {o n1 m1 n2 m2 : Nat} {p1 q1 p2 q2 : Int32} (ho : o < 3) (h : sf_F2 a10 a11 a12 a13 a14 a15 a16 o p1 q1 p2 q2) (e1 : a2 6 = nI n1) (e2 : a3 6 = nI m1) (e3 : a2 7 = nI n2) (e4 : a3 7 = nI m2) : sf_fs a10 a11 a14 a15 a2 a3 (2 + 1) = sf_S2 o p1 q1 p2 q2 n1 m1 n2 m2 := by
  obtain ⟨h10, h11, h12, h13, h14, h15, h16⟩ := h
  unfold sf_S2
  refine sf_fs_congr (na := 2) (sf_lt2 ⟨h14 0 (by omega), h15 0 (by omega), e1, e2⟩ ⟨h14 1 (by omega), h15 1 (by omega), e3, e4⟩) 3 (fun k hk => ⟨h10 k (by omega), h11 k (by omega), ?_⟩)
  revert k
  have : ∀ k, k ≤ 2 → sf_K2 o k = 1 → (sf_N2 k).toNatClampNeg < 2 := by
    refine sf_le2 (fun _ => by decide) (fun _ => by decide) (fun t => ?_)
    exfalso
    have t' : nI (3 + o) = nI 1 := t
    have := (nI_eq (by omega) (by omega)).mp t'
    omega
  exact fun k hk => this k (by omega)
/-! the lengths, for each of the formulas -/
def sf_spn (x y z q : Nat) : Nat := if q = 0 then x else if q = 1 then y else z
theorem sf_S2_1' : ∀ i, i < 5 → ∀ j, j < 5 → ∀ q, q < 3 → sf_S2 2 (nI 2) (nI 0) (nI 0) (-1) (2 + i) (2 + j) (2 + j) 1 q = nI (sf_spn (2 + j) 0 (2 + i) q) ∧ sf_spn (2 + j) 0 (2 + i) q ≤ 6 := by decide +kernel
theorem sf_S2_1 (n : Nat) (hn : n < 7) (m : Nat) (hm : m < 7) (h2 : 2 ≤ n) (h3 : 2 ≤ m) (q : Nat) (hq : q < 3) : sf_S2 2 (nI 2) (nI 0) (nI 0) (-1) n m m 1 q = nI (sf_spn m 0 n q) ∧ sf_spn m 0 n q ≤ 6 := by
  have h := sf_S2_1' (n - 2) (by omega) (m - 2) (by omega) q hq
  rw [show 2 + (n - 2) = n by omega, show 2 + (m - 2) = m by omega] at h
  exact h
theorem sf_S2_4' : ∀ i, i < 5 → ∀ j, j < 5 → ∀ q, q < 3 → sf_S2 2 (nI 0) (nI 1) (nI 0) (nI 2) (2 + i) (2 + j) (2 + i) (2 + j) q = nI (sf_spn (2 + i) (2 + j) (2 + j) q) ∧ sf_spn (2 + i) (2 + j) (2 + j) q ≤ 6 := by decide +kernel
theorem sf_S2_4 (n : Nat) (hn : n < 7) (m : Nat) (hm : m < 7) (h2 : 2 ≤ n) (h3 : 2 ≤ m) (q : Nat) (hq : q < 3) : sf_S2 2 (nI 0) (nI 1) (nI 0) (nI 2) n m n m q = nI (sf_spn n m m q) ∧ sf_spn n m m q ≤ 6 := by
  have h := sf_S2_4' (n - 2) (by omega) (m - 2) (by omega) q hq
  rw [show 2 + (n - 2) = n by omega, show 2 + (m - 2) = m by omega] at h
  exact h
theorem sf_S2_5 : ∀ n, n < 7 → 2 ≤ n → ∀ q, q < 3 → sf_S2 0 (nI 0) (nI 1) (nI 1) (nI 0) n n n n q = nI (sf_spn n n 0 q) ∧ sf_spn n n 0 q ≤ 6 := by decide +kernel
theorem sf_S2_m' : ∀ i, i < 5 → ∀ j, j < 5 → (decide (i = j) || (decide (sf_S2 0 (nI 0) (nI 1) (nI 1) (nI 0) (2 + i) (2 + j) (2 + i) (2 + j) 0 = -1000000005) && !decide (sf_S2 0 (nI 0) (nI 1) (nI 1) (nI 0) (2 + i) (2 + j) (2 + i) (2 + j) 1 = 0))) = true := by decide +kernel
theorem sf_S2_m (n : Nat) (hn : n < 7) (m : Nat) (hm : m < 7) (h2 : 2 ≤ n) (h3 : 2 ≤ m) (hne : n ≠ m) : sf_S2 0 (nI 0) (nI 1) (nI 1) (nI 0) n m n m 0 = -1000000005 ∧ ¬ sf_S2 0 (nI 0) (nI 1) (nI 1) (nI 0) n m n m 1 = 0 := by
  have h := sf_S2_m' (n - 2) (by omega) (m - 2) (by omega)
  rw [show 2 + (n - 2) = n by omega, show 2 + (m - 2) = m by omega, decide_eq_false (show ¬ n - 2 = m - 2 by omega), Bool.false_or, Bool.and_eq_true] at h
  refine ⟨of_decide_eq_true h.1, fun t => ?_⟩
  have g := h.2
  rw [decide_eq_true t] at g
  exact absurd g (by decide)
theorem sf_pl_e (sp : Nat → Nat) : sf_pl sp = (if 0 < sp 0 then [0] else []) ++ ((if 0 < sp 1 then [1] else []) ++ (if 0 < sp 2 then [2] else [])) := by
  unfold sf_pl
  by_cases h0 : 0 < sp 0 <;> by_cases h1 : 0 < sp 1 <;> by_cases h2 : 0 < sp 2 <;> simp [h0, h1, h2]
/-- a product of two matrices over their first index: it is the same both ways round -/
theorem sf_res4 {n m i j : Nat} (hn : 2 ≤ n) (hm : 2 ≤ m) (hm' : m ≤ 6) (hi : i < m) (hj : j < m) (T : Nat → Int32) (F : (Nat → Nat) → Int32) (hF : ∀ e, F e = T (6 * e 0 + e 1) * T (6 * e 0 + e 2)) : sf_res (sf_spn n m m) (nI 1) (nI 2) F (6 * i + j) = sf_sm (fun v => T (6 * v + i) * T (6 * v + j)) n := by
  have pl : sf_pl (sf_spn n m m) = [0, 1, 2] := by
    rw [sf_pl_e]
    unfold sf_spn
    rw [if_pos (show 0 < (if 0 = 0 then n else if 0 = 1 then m else m) by rw [if_pos rfl]; omega), if_pos (show 0 < (if 1 = 0 then n else if 1 = 1 then m else m) by rw [if_neg (by omega), if_pos rfl]; omega), if_pos (show 0 < (if 2 = 0 then n else if 2 = 1 then m else m) by rw [if_neg (by omega), if_neg (by omega)]; omega)]
    rfl
  unfold sf_res
  rw [pl]
  show sf_sm (fun v0 => sf_sm (fun v1 => sf_sm (fun v2 => sf_g (nI 1) (nI 2) F (6 * i + j) (sf_up (sf_up (sf_up (fun _ => 0) 0 v0) 1 v1) 2 v2)) m) m) n = _
  refine sf_sm_congr n (fun v0 _ => ?_)
  have key : ∀ v1 v2, sf_g (nI 1) (nI 2) F (6 * i + j) (sf_up (sf_up (sf_up (fun _ => 0) 0 v0) 1 v1) 2 v2) = if 6 * v1 + v2 = 6 * i + j then T (6 * v0 + v1) * T (6 * v0 + v2) else 0 := by
    intro v1 v2
    unfold sf_g
    rw [hF]
    rfl
  rw [sf_sm_pick i m hi (fun v1 h1 h2 => sf_sm_zero m (fun v2 h3 => by rw [key, if_neg (by omega)])), sf_sm_pick j m hj (fun v2 h1 h2 => by rw [key, if_neg (by omega)]), key, if_pos rfl]
end
section
/-! ===== the law's piece 627 ===== -/
theorem sf_q3 {x q : Nat} (hx : x < 3) (hq : q < 3) (h : nI x = nI q) : x = q := (nI_eq (by omega) (by omega)).mp h
theorem sf_ri2 {p q : Nat} (hp : p < 3) (hq : q < 3) (h : p ≠ q) : sf_ri 2 (nI p) (nI q) := Or.inr (Or.inr ⟨rfl, p, q, hp, hq, h, rfl, rfl⟩)
theorem sf_in_q {q : Nat} (h : q < 3) : sf_in (nI q) := Or.inr ⟨q, h, rfl⟩
theorem sf_l627 {post : Int32 → St0 → Prop} {mc ms kc ks : Nat} {fl : Int32} {a1 a2 a3 a4 a5 a6 a7 a8 a9 a10 a11 a12 a13 a14 a15 a16 a17 a18 a19 a20 a21 a22 a23 a24 a25 a26 a27 a28 : Nat → Int32} {n m f g g1 w z w1 : Nat} {a b : Int32} (hp : post 1 ()) (hn : 2 ≤ n) (hn' : n ≤ 6) (hm : 2 ≤ m) (hm' : m ≤ 6) (hg : g ≤ 7) (s0 : sf_slot a1 a2 a3 a4 a5 a6 a7 a8 a9 0 2 n m f (sf_TA n m a b) w z) (s1 : sf_slot a1 a2 a3 a4 a5 a6 a7 a8 a9 1 1 m 1 g1 (sf_TB m) w1 (m - 1)) :
    wL_lawOf_627 post mc ms (-1000000001) (nI n) (nI m) (nI f) (nI g) a b (nI (sf_one m)) (nI (sf_two m)) 1 kc ks (nI 0) (nI 0) (nI 0) fl a1 a2 a3 a4 a5 a6 a7 a8 a9 a10 a11 a12 a13 a14 a15 a16 a17 a18 a19 a20 a21 a22 a23 a24 a25 a26 a27 a28 := by
  unfold wL_lawOf_627
  rw [sf_pred (n := m) (by omega)]
  refine br_f (by decide) ?_
  refine sf_array (r := 0) (c := 0) (na := 0) (h := 0) (by omega) s0 (sf_ri2 (p := 0) (q := 1) (by omega) (by omega) (by omega)) (by omega) (by omega) (by omega) (fun b1 b2 b3 b4 b5 b6 b7 b8 b9 b18 w2 z2 x6 k1 => br_t rfl ?_)
  have t0 := k1 _ _ _ _ _ _ _ _ (by omega) s0
  have t1 := k1 _ _ _ _ _ _ _ _ (by omega) s1
  refine sf_array (r := 0) (c := 1) (na := 1) (h := 1) (by omega) t0 (sf_ri2 (p := 0) (q := 2) (by omega) (by omega) (by omega)) (by omega) (by omega) (by omega) (fun c1 c2 c3 c4 c5 c6 c7 c8 c9 c18 w3 z3 x7 k2 => br_t rfl ?_)
  have u0 := k2 _ _ _ _ _ _ _ _ (by omega) t0
  have u1 := k2 _ _ _ _ _ _ _ _ (by omega) t1
  have u6 := k2 _ _ _ _ _ _ _ _ (by omega) x6
  refine sf_join (c := 2) (h := 0) (o := 2) (by omega) (by omega) (by omega) (br_t rfl ?_)
  have F2 := sf_F2_mk a10 a11 a12 a13 a14 a15 a16 2 0 1 0 2
  have FO := sf_F2_fo (by omega) F2 (sf_in_q (q := 0) (by omega)) (sf_in_q (q := 1) (by omega)) (sf_in_q (q := 0) (by omega)) (sf_in_q (q := 2) (by omega))
  have FS := sf_F2_fs (by omega) F2 u6.1.2.2.1 u6.1.2.2.2.1 x7.1.2.2.1 x7.1.2.2.2.1
  refine sf_assign (to := 4) (R := 2) (n := m) (m := m) (f := g) (c := 3) (top := 2) (na := 2) (p := nI 1) (q := nI 2) (Rk := fun _ => 2) (Nr := fun _ => n) (Mc := fun _ => m) (Fo := fun _ => f) (Tt := fun _ => sf_TA n m a b) (E := sf_E2 2) (sp := sf_spn n m m) (by omega) (Or.inr (Or.inr ⟨rfl, 1, 2, by omega, by omega, by omega, rfl, rfl, rfl, rfl⟩)) ⟨by omega, by omega, by omega, by omega, Or.inr (Or.inr ⟨rfl, hg⟩)⟩ F2.2.2.2.2.2.2 (by omega) (by omega) (by omega) FO.1 FO.2 (sf_lt2 ⟨⟨_, _, u6⟩, sf_ri2 (p := 0) (q := 1) (by omega) (by omega) (by omega)⟩ ⟨⟨_, _, x7⟩, sf_ri2 (p := 0) (q := 2) (by omega) (by omega) (by omega)⟩) (fun q hq => by rw [FS]; exact sf_S2_4 n (by omega) m (by omega) hn hm q hq) (sf_lt2 (fun q hq => ⟨fun t => ?_, fun t => ?_⟩) (fun q hq => ⟨fun t => ?_, fun t => ?_⟩)) (fun d1 d2 d3 d4 d5 d6 d7 d8 d9 d17 d18 d19 d20 d21 d22 d23 d24 d25 d26 d27 d28 gl y4 k3 => br_f (nI_pos ?_) ?_)
  · have := sf_q3 (x := 0) (by omega) hq t; subst this; rfl
  · have := sf_q3 (x := 1) (by omega) hq t; subst this; rfl
  · have := sf_q3 (x := 0) (by omega) hq t; subst this; rfl
  · have := sf_q3 (x := 2) (by omega) hq t; subst this; rfl
  · have := sf_slot_w y4
    omega
  have v0 := k3 _ _ _ _ _ _ _ _ (by omega) (by omega) u0
  have v1 := k3 _ _ _ _ _ _ _ _ (by omega) (by omega) u1
  refine sf_length0 (r := 4) (by omega) y4.1 (br_t rfl (sf_length1 (r := 4) (by omega) y4.1 (br_t rfl ?_)))
  refine sf_get (r := 4) (i := 0) (j := m - 1) (by omega) y4 (by omega) (by omega) (sf_get (r := 4) (i := m - 1) (j := 0) (by omega) y4 (by omega) (by omega) (br_t ?_ ?_))
  · have hF : ∀ e, sf_E2 2 (sf_av (upd (upd a14 0 0) 1 0) (upd (upd a15 0 1) 1 2) (fun _ => sf_TA n m a b) e) 2 = sf_TA n m a b (6 * e 0 + e 1) * sf_TA n m a b (6 * e 0 + e 2) := fun e => rfl
    have r1 := sf_res4 (i := 0) (j := m - 1) hn hm hm' (by omega) (by omega) (sf_TA n m a b) _ hF
    have r2 := sf_res4 (i := m - 1) (j := 0) hn hm hm' (by omega) (by omega) (sf_TA n m a b) _ hF
    refine Eq.trans r1 (Eq.trans ?_ r2.symm)
    exact sf_sm_congr n (fun v _ => Int32.mul_comm _ _)
  refine sf_array (r := 0) (c := 0) (na := 0) (h := 0) (by omega) v0 (sf_ri2 (p := 0) (q := 1) (by omega) (by omega) (by omega)) (by omega) (by omega) (by omega) (fun e1 e2 e3 e4 e5 e6 e7 e8 e9 e18 w4 z4 y6 k4 => br_t rfl ?_)
  have t0 := k4 _ _ _ _ _ _ _ _ (by omega) v0
  have t1 := k4 _ _ _ _ _ _ _ _ (by omega) v1
  refine sf_array (r := 0) (c := 1) (na := 1) (h := 1) (by omega) t0 (sf_ri2 (p := 1) (q := 0) (by omega) (by omega) (by omega)) (by omega) (by omega) (by omega) (fun g1 g2 g3 g4 g5 g6 g7 g8 g9 g18 w5 z5 y7 k5 => br_t rfl ?_)
  have u0 := k5 _ _ _ _ _ _ _ _ (by omega) t0
  have u1 := k5 _ _ _ _ _ _ _ _ (by omega) t1
  have u6 := k5 _ _ _ _ _ _ _ _ (by omega) y6
  refine sf_join (c := 2) (h := 0) (o := 0) (by omega) (by omega) (by omega) (br_t rfl ?_)
  have F2' := sf_F2_mk (upd (upd (upd a10 0 1) 1 1) 2 (nI (3 + 2))) (upd (upd (upd a11 0 (nI 0)) 1 (nI 1)) 2 0) (upd (upd (upd a12 0 (-1)) 1 (-1)) 2 (upd (upd a16 0 (nI 0)) 1 (nI 1) 0)) (upd (upd (upd a13 0 (-1)) 1 (-1)) 2 (upd (upd a16 0 (nI 0)) 1 (nI 1) 1)) (upd (upd a14 0 0) 1 0) (upd (upd a15 0 1) 1 2) (upd (upd (upd a16 0 (nI 0)) 1 (nI 1)) 0 (nI 2)) 0 0 1 1 0
  have FO' := sf_F2_fo (by omega) F2' (sf_in_q (q := 0) (by omega)) (sf_in_q (q := 1) (by omega)) (sf_in_q (q := 1) (by omega)) (sf_in_q (q := 0) (by omega))
  have FS' := sf_F2_fs (by omega) F2' u6.1.2.2.1 u6.1.2.2.2.1 y7.1.2.2.1 y7.1.2.2.2.1
  by_cases hnm : n = m
  · subst hnm
    refine sf_assign (to := 5) (R := 2) (n := n) (m := n) (f := 0) (c := 3) (top := 2) (na := 2) (p := nI 0) (q := nI 1) (Rk := fun _ => 2) (Nr := fun _ => n) (Mc := fun _ => n) (Fo := fun _ => f) (Tt := fun _ => sf_TA n n a b) (E := sf_E2 0) (sp := sf_spn n n 0) (by omega) (Or.inr (Or.inr ⟨rfl, 0, 1, by omega, by omega, by omega, rfl, rfl, rfl, rfl⟩)) ⟨by omega, by omega, by omega, by omega, Or.inr (Or.inr ⟨rfl, by omega⟩)⟩ F2'.2.2.2.2.2.2 (by omega) (by omega) (by omega) FO'.1 FO'.2 (sf_lt2 ⟨⟨_, _, u6⟩, sf_ri2 (p := 0) (q := 1) (by omega) (by omega) (by omega)⟩ ⟨⟨_, _, y7⟩, sf_ri2 (p := 1) (q := 0) (by omega) (by omega) (by omega)⟩) (fun q hq => by rw [FS']; exact sf_S2_5 n (by omega) hn q hq) (sf_lt2 (fun q hq => ⟨fun t => ?_, fun t => ?_⟩) (fun q hq => ⟨fun t => ?_, fun t => ?_⟩)) (fun h1 h2 h3 h4 h5 h6 h7 h8 h9 h17 h18 h19 h20 h21 h22 h23 h24 h25 h26 h27 h28 gl5 y5 k6 => br_t rfl ?_)
    · have := sf_q3 (x := 0) (by omega) hq t; subst this; rfl
    · have := sf_q3 (x := 1) (by omega) hq t; subst this; rfl
    · have := sf_q3 (x := 1) (by omega) hq t; subst this; rfl
    · have := sf_q3 (x := 0) (by omega) hq t; subst this; rfl
    unfold wL_lawOf_779
    refine br_t (by rw [sf_W0, pk_mul]) ?_
    refine sf_span_none (p := 0) (by omega) rfl (br_t rfl ?_)
    unfold wL_lawOf_803
    refine br_t (by decide) ?_
    exact sf_l811 hp hn hn' hm hm' (k6 _ _ _ _ _ _ _ _ (by omega) (by omega) u0) (k6 _ _ _ _ _ _ _ _ (by omega) (by omega) u1)
  · have SM : sf_S2 0 0 1 1 0 n m n m 0 = -1000000005 ∧ ¬ sf_S2 0 0 1 1 0 n m n m 1 = 0 := sf_S2_m n (by omega) m (by omega) hn hm hnm
    have ne : ¬ nI n = nI m := fun t => hnm ((nI_eq (by omega) (by omega)).mp t)
    refine sf_assign_mis (to := 5) (p' := 0) (q' := 1) (f := 0) (c := 3) (top := 2) (na := 2) (by omega) (by omega) (by omega) (by omega) (by omega) F2'.2.2.2.2.2.2 (by omega) (by omega) (by omega) FO'.1 (by rw [FS']; exact fun t => absurd (SM.1.symm.trans t) (by decide)) (by rw [FS']; exact SM.2) (by rw [FS']; exact SM.1) (fun h17 h20 => br_f ne ?_)
    unfold wL_lawOf_779
    refine br_t (by decide) ?_
    refine sf_span (p := 0) (c := 3) (top := 2) (na := 2) (by omega) F2'.2.2.2.2.2.2 (by omega) (by omega) (by omega) FO'.1 (fun i17 i20 => br_f ne ?_)
    rw [FS', SM.1]
    unfold wL_lawOf_803
    refine br_t (by decide) ?_
    exact sf_l811 hp hn hn' hm hm' u0 u1
end
section
/-! ===== the law's piece 401 ===== -/
theorem sf_W00 (T : Nat → Int32) : sf_W 0 1 1 0 T = 1 := by
  show 0 + (if sf_sl 0 0 = true ∧ sf_zp 0 0 T 0 1 = 0 then 0 else 0 + (if T (sf_ix 0 0 0 0) = 0 ∧ sf_sp 0 0 = true then 0 else 1)) = 1
  rw [if_neg (fun t => absurd t.1 (by decide)), if_neg (fun t => absurd t.2 (by decide))]
theorem sf_wp1 (T : Nat → Int32) (l : Nat) : ∀ k, sf_wp 1 0 T l k = k := by
  intro k
  induction k with
  | zero => rfl
  | succ k ih =>
    show sf_wp 1 0 T l k + _ = k + 1
    rw [ih, if_neg (fun t => absurd t.2 (by decide))]
theorem sf_W10 (T : Nat → Int32) (n : Nat) : sf_W 1 n 1 0 T = n := by
  show 0 + (if sf_sl 1 0 = true ∧ sf_zp 1 0 T 0 n = 0 then 0 else sf_wp 1 0 T 0 n) = n
  rw [if_neg (fun t => absurd t.1 (by decide)), sf_wp1, Nat.zero_add]
theorem sf_S1' : ∀ i, i < 5 → ∀ j, j < 5 → ∀ q, q < 3 → sf_fs (fun _ => 1) (fun _ => nI 0) (fun _ => nI 0) (fun _ => nI 1) (fun _ => nI (2 + i)) (fun _ => nI (2 + j)) 1 q = nI (sf_spn (2 + i) (2 + j) 0 q) ∧ sf_spn (2 + i) (2 + j) 0 q ≤ 6 := by decide +kernel
theorem sf_S1 (n : Nat) (hn : n < 7) (m : Nat) (hm : m < 7) (h2 : 2 ≤ n) (h3 : 2 ≤ m) (q : Nat) (hq : q < 3) : sf_fs (fun _ => 1) (fun _ => nI 0) (fun _ => nI 0) (fun _ => nI 1) (fun _ => nI n) (fun _ => nI m) 1 q = nI (sf_spn n m 0 q) ∧ sf_spn n m 0 q ≤ 6 := by
  have h := sf_S1' (n - 2) (by omega) (m - 2) (by omega) q hq
  rw [show 2 + (n - 2) = n by omega, show 2 + (m - 2) = m by omega] at h
  exact h
def sf_K3 (k : Nat) : Int32 := if k = 0 then 1 else if k = 1 then 0 else if k = 2 then 4 else 2
def sf_N3 (k : Nat) : Int32 := if k = 1 then 5 else 0
def sf_A3 (k : Nat) : Int32 := if k < 2 then -1 else if k = 2 then 0 else 2
def sf_B3 (k : Nat) : Int32 := if k = 2 then 1 else -1
def sf_E3 (V : Nat → Int32) (k : Nat) : Int32 := if k = 0 then V 0 else if k = 1 then 5 else if k = 2 then V 0 - 5 else -(V 0 - 5)
theorem sf_le3 {P : Nat → Prop} (h0 : P 0) (h1 : P 1) (h2 : P 2) (h3 : P 3) : ∀ k, k ≤ 3 → P k := by
  intro k hk
  rcases (show k = 0 ∨ k = 1 ∨ k = 2 ∨ k = 3 by omega) with g | g | g | g
  · rw [g]; exact h0
  · rw [g]; exact h1
  · rw [g]; exact h2
  · rw [g]; exact h3
theorem sf_le0 {P : Nat → Prop} (h0 : P 0) : ∀ k, k ≤ 0 → P k := by
  intro k hk
  rw [show k = 0 by omega]; exact h0
theorem sf_lt1 {P : Nat → Prop} (h0 : P 0) : ∀ k, k < 1 → P k := by
  intro k hk
  rw [show k = 0 by omega]; exact h0
theorem sf_fo3 : sf_fo sf_K3 sf_N3 sf_A3 sf_B3 (fun _ => -1) (fun _ => -1) 3 1 := by decide +kernel
theorem sf_eq3 : sf_eq sf_K3 sf_N3 sf_A3 sf_B3 3 1 sf_E3 :=
  sf_le3 (Or.inr (Or.inl ⟨rfl, 0, by omega, rfl, fun V => rfl⟩)) (Or.inl ⟨rfl, fun V => rfl⟩) (Or.inr (Or.inr (Or.inr (Or.inr (Or.inl ⟨rfl, 0, 1, by omega, by omega, rfl, rfl, fun V => rfl⟩))))) (Or.inr (Or.inr (Or.inl ⟨rfl, 2, by omega, rfl, fun V => rfl⟩)))
theorem sf_S3 : ∀ q, q < 3 → sf_fs sf_K3 sf_N3 (fun _ => -1) (fun _ => -1) (fun _ => nI 1) (fun _ => nI 1) 4 q = nI (sf_spn 0 0 0 q) ∧ sf_spn 0 0 0 q ≤ 6 := by decide +kernel
theorem sf_N3_lt : ∀ k, k < 4 → sf_K3 k = 1 → (sf_N3 k).toNatClampNeg < 1 := by decide +kernel
/-- the sum of all numbers of the first matrix -/
def sf_wh (n m : Nat) (a b : Int32) : Int32 := nI n * nI m + a * nI m * nI (sf_one n) + b * nI n * nI (sf_one m)
theorem sf_res2 {n m : Nat} {a b : Int32} (hn : 2 ≤ n) (hn' : n ≤ 6) (hm : 2 ≤ m) (hm' : m ≤ 6) (F : (Nat → Nat) → Int32) (hF : ∀ e, F e = sf_TA n m a b (6 * e 0 + e 1)) : sf_res (sf_spn n m 0) (-1) (-1) F 0 = sf_wh n m a b := by
  have pl : sf_pl (sf_spn n m 0) = [0, 1] := by
    rw [sf_pl_e]
    unfold sf_spn
    rw [if_pos (show 0 < (if 0 = 0 then n else if 0 = 1 then m else 0) by rw [if_pos rfl]; omega), if_pos (show 0 < (if 1 = 0 then n else if 1 = 1 then m else 0) by rw [if_neg (by omega), if_pos rfl]; omega), if_neg (show ¬ 0 < (if 2 = 0 then n else if 2 = 1 then m else 0) by rw [if_neg (by omega), if_neg (by omega)]; omega)]
    rfl
  unfold sf_res
  rw [pl]
  show sf_sm (fun v0 => sf_sm (fun v1 => sf_g (-1) (-1) F 0 (sf_up (sf_up (fun _ => 0) 0 v0) 1 v1)) m) n = _
  have key : ∀ v0, v0 < n → sf_sm (fun v1 => sf_g (-1) (-1) F 0 (sf_up (sf_up (fun _ => 0) 0 v0) 1 v1)) m = (nI m + b * nI (sf_tri m)) + (nI m * a) * nI v0 := by
    intro v0 h0
    have k2 : sf_sm (fun v1 => sf_g (-1) (-1) F 0 (sf_up (sf_up (fun _ => 0) 0 v0) 1 v1)) m = sf_sm (fun v1 => (a * nI v0 + 1) + b * nI v1) m := by
      refine sf_sm_congr m (fun v1 h1 => ?_)
      have : sf_g (-1) (-1) F 0 (sf_up (sf_up (fun _ => 0) 0 v0) 1 v1) = sf_TA n m a b (6 * v0 + v1) := by
        unfold sf_g
        rw [hF]
        rfl
      rw [this, sf_TA_at h0 h1 hm']
      grind
    rw [k2, sf_sum1]
    grind
  rw [sf_sm_congr n key, sf_sum1, (sf_tri_m n (by omega)).1, (sf_tri_m m (by omega)).1]
  unfold sf_wh
  grind
theorem sf_l401 {post : Int32 → St0 → Prop} {mc ms kc ks : Nat} {fl : Int32} {a1 a2 a3 a4 a5 a6 a7 a8 a9 a10 a11 a12 a13 a14 a15 a16 a17 a18 a19 a20 a21 a22 a23 a24 a25 a26 a27 a28 : Nat → Int32} {n m f g g1 w z w1 w3 z3 : Nat} {a b : Int32} {T3 : Nat → Int32} (hp : post 1 ()) (hn : 2 ≤ n) (hn' : n ≤ 6) (hm : 2 ≤ m) (hm' : m ≤ 6) (hg : g ≤ 7) (s0 : sf_slot a1 a2 a3 a4 a5 a6 a7 a8 a9 0 2 n m f (sf_TA n m a b) w z) (s1 : sf_slot a1 a2 a3 a4 a5 a6 a7 a8 a9 1 1 m 1 g1 (sf_TB m) w1 (m - 1)) (s3 : sf_slot a1 a2 a3 a4 a5 a6 a7 a8 a9 3 1 n 1 0 T3 w3 z3) (h3 : ∀ i, i < n → T3 (6 * i + 0) = (a * nI i + 1) * nI (sf_one m) + b * nI (sf_two m)) :
    ∃ fu, wL_lawOf_401 post mc ms (-1000000001) (nI n) (nI m) (nI f) (nI g) a b (nI (sf_one m)) (nI (sf_two m)) kc ks (nI 0) (nI 0) (nI 0) fl a1 a2 a3 a4 a5 a6 a7 a8 a9 a10 a11 a12 a13 a14 a15 a16 a17 a18 a19 a20 a21 a22 a23 a24 a25 a26 a27 a28 fu 1 0 := by
  refine pk_loop (σ := Unit) (fun k i _ => wL_lawOf_401 post mc ms (-1000000001) (nI n) (nI m) (nI f) (nI g) a b (nI (sf_one m)) (nI (sf_two m)) kc ks (nI 0) (nI 0) (nI 0) fl a1 a2 a3 a4 a5 a6 a7 a8 a9 a10 a11 a12 a13 a14 a15 a16 a17 a18 a19 a20 a21 a22 a23 a24 a25 a26 a27 a28 k 1 (nI i)) (fun _ _ => True) 6 0 () (by omega) trivial (fun k _ _ => ?_) (fun k i _ hi _ hw => ?_)
  · refine pk_le 6 6 (fun _ => ⟨by decide, nm_r (e' := sf_wh n m a b) ?_ (br_f (by decide) ?_)⟩) (fun t => absurd t (by omega))
    · rw [(sf_tri_m n (by omega)).2.2.1]
      rfl
    refine sf_span_none (p := 0) (by omega) rfl (br_t (by decide) ?_)
    refine sf_array (r := 0) (c := 0) (na := 0) (h := 0) (by omega) s0 (sf_ri2 (p := 0) (q := 1) (by omega) (by omega) (by omega)) (by omega) (by omega) (by omega) (fun b1 b2 b3 b4 b5 b6 b7 b8 b9 b18 w2 z2 x6 k1 => br_t rfl ?_)
    have t0 := k1 _ _ _ _ _ _ _ _ (by omega) s0
    have t1 := k1 _ _ _ _ _ _ _ _ (by omega) s1
    have FS : sf_fs (upd a10 0 1) (upd a11 0 (nI 0)) (upd a14 0 0) (upd a15 0 1) b2 b3 (0 + 1) = sf_fs (fun _ => 1) (fun _ => nI 0) (fun _ => nI 0) (fun _ => nI 1) (fun _ => nI n) (fun _ => nI m) 1 :=
      sf_fs_congr (na := 1) (kd := upd a10 0 1) (nm := upd a11 0 (nI 0)) (ia := upd a14 0 0) (ib := upd a15 0 1) (rz := b2) (cz := b3) (kd' := fun _ => 1) (nm' := fun _ => nI 0) (ia' := fun _ => nI 0) (ib' := fun _ => nI 1) (rz' := fun _ => nI n) (cz' := fun _ => nI m) (sf_lt1 ⟨rfl, rfl, x6.1.2.2.1, x6.1.2.2.2.1⟩) 1 (sf_lt1 ⟨rfl, rfl, fun _ => by decide⟩)
    refine sf_assign (to := 2) (R := 0) (n := 1) (m := 1) (f := 0) (c := 1) (top := 0) (na := 1) (p := -1) (q := -1) (Rk := fun _ => 2) (Nr := fun _ => n) (Mc := fun _ => m) (Fo := fun _ => f) (Tt := fun _ => sf_TA n m a b) (E := fun V _ => V 0) (sp := sf_spn n m 0) (by omega) (Or.inl ⟨rfl, rfl, rfl, rfl, rfl⟩) ⟨by omega, by omega, by omega, by omega, Or.inl ⟨rfl, rfl, rfl, rfl⟩⟩ rfl (by omega) (by omega) (by omega) ⟨sf_le0 ⟨Or.inl rfl, Or.inl rfl⟩, fun k hk => absurd hk (by omega), sf_le0 (fun _ => ⟨0, by omega, rfl, sf_in_q (q := 0) (by omega), sf_in_q (q := 1) (by omega)⟩)⟩ (sf_le0 (Or.inr (Or.inl ⟨rfl, 0, by omega, rfl, fun V => rfl⟩))) (sf_lt1 ⟨⟨_, _, x6⟩, sf_ri2 (p := 0) (q := 1) (by omega) (by omega) (by omega)⟩) (fun q hq => by rw [FS]; exact sf_S1 n (by omega) m (by omega) hn hm q hq) (sf_lt1 (fun q hq => ⟨fun t => ?_, fun t => ?_⟩)) (fun d1 d2 d3 d4 d5 d6 d7 d8 d9 d17 d18 d19 d20 d21 d22 d23 d24 d25 d26 d27 d28 gl y2 k2 => ?_)
    · have := sf_q3 (x := 0) (by omega) hq t; subst this; rfl
    · have := sf_q3 (x := 1) (by omega) hq t; subst this; rfl
    rw [sf_W00]
    refine br_t rfl ?_
    have hF : ∀ e, (fun e => (fun (V : Nat → Int32) (_ : Nat) => V 0) (sf_av (upd a14 0 0) (upd a15 0 1) (fun _ => sf_TA n m a b) e) 0) e = sf_TA n m a b (6 * e 0 + e 1) := fun e => rfl
    have R2 := sf_res2 hn hn' hm hm' _ hF
    have u0 := k2 _ _ _ _ _ _ _ _ (by omega) (by omega) t0
    have u1 := k2 _ _ _ _ _ _ _ _ (by omega) (by omega) t1
    refine sf_get (r := 2) (i := 0) (j := 0) (by omega) y2 (by omega) (by omega) (br_t R2 ?_)
    refine sf_length0 (r := 2) (by omega) y2.1 (br_t rfl ?_)
    refine sf_array (r := 2) (c := 0) (na := 0) (h := 0) (p := -1) (q := -1) (by omega) y2 (Or.inl ⟨rfl, rfl, rfl⟩) (by omega) (by omega) (by omega) (fun e1 e2 e3 e4 e5 e6 e7 e8 e9 e18 w4 z4 y6 k3 => br_t rfl ?_)
    refine sf_constant (c := 1) (h := 1) (k := 5) (by omega) (by omega) (by omega) (br_t rfl ?_)
    refine sf_join (c := 2) (h := 0) (o := 1) (by omega) (by omega) (by omega) (br_t rfl ?_)
    refine sf_negate (c := 3) (h := 0) (by omega) (by omega) (br_t rfl ?_)
    refine sf_assign (to := 2) (R := 0) (n := 1) (m := 1) (f := 0) (c := 4) (top := 3) (na := 1) (p := -1) (q := -1) (Rk := fun _ => 0) (Nr := fun _ => 1) (Mc := fun _ => 1) (Fo := fun _ => 0) (Tt := fun _ => sf_res (sf_spn n m 0) (-1) (-1) (fun e => (fun (V : Nat → Int32) (_ : Nat) => V 0) (sf_av (upd a14 0 0) (upd a15 0 1) (fun _ => sf_TA n m a b) e) 0)) (E := sf_E3) (sp := sf_spn 0 0 0) (by omega) (Or.inl ⟨rfl, rfl, rfl, rfl, rfl⟩) ⟨by omega, by omega, by omega, by omega, Or.inl ⟨rfl, rfl, rfl, rfl⟩⟩ rfl (by omega) (by omega) (by omega) (sf_fo_congr (b10 := sf_K3) (b11 := sf_N3) (b12 := sf_A3) (b13 := sf_B3) (b14 := fun _ => -1) (b15 := fun _ => -1) (sf_le3 rfl rfl rfl rfl) (sf_le3 rfl rfl rfl rfl) (sf_le3 rfl rfl rfl rfl) (sf_le3 rfl rfl rfl rfl) (sf_lt1 rfl) (sf_lt1 rfl) sf_fo3) (sf_eq_congr (kd' := sf_K3) (nm' := sf_N3) (pa' := sf_A3) (pb' := sf_B3) (sf_le3 rfl rfl rfl rfl) (sf_le3 rfl rfl rfl rfl) (sf_le3 rfl rfl rfl rfl) (sf_le3 rfl rfl rfl rfl) sf_eq3) (sf_lt1 ⟨⟨_, _, y6⟩, Or.inl ⟨rfl, rfl, rfl⟩⟩) (fun q hq => ?_) (sf_lt1 (fun q hq => ⟨fun t => absurd t.symm (sf_m1 (by omega)), fun t => absurd t.symm (sf_m1 (by omega))⟩)) (fun h1 h2 h3 h4 h5 h6 h7 h8 h9 h17 h18 h19 h20 h21 h22 h23 h24 h25 h26 h27 h28 gl2 y5 k4 => ?_)
    · refine ⟨Eq.trans (congrFun (sf_fs_congr (na := 1) (kd' := sf_K3) (nm' := sf_N3) (ia' := fun _ => -1) (ib' := fun _ => -1) (rz' := fun _ => nI 1) (cz' := fun _ => nI 1) ?_ (3 + 1) ?_) q) (sf_S3 q hq).1, (sf_S3 q hq).2⟩
      · exact sf_lt1 ⟨rfl, rfl, y6.1.2.2.1, y6.1.2.2.2.1⟩
      · intro k hk
        rcases (show k = 0 ∨ k = 1 ∨ k = 2 ∨ k = 3 by omega) with g | g | g | g <;> (subst g; exact ⟨rfl, rfl, sf_N3_lt _ (by omega)⟩)
    rw [sf_W00]
    refine br_t rfl (sf_get (r := 2) (i := 0) (j := 0) (by omega) y5 (by omega) (by omega) (br_t ?_ ?_))
    · show -(sf_res (sf_spn n m 0) (-1) (-1) (fun e => (fun (V : Nat → Int32) (_ : Nat) => V 0) (sf_av (upd a14 0 0) (upd a15 0 1) (fun _ => sf_TA n m a b) e) 0) 0 - 5) = 5 - sf_wh n m a b
      rw [R2]
      grind
    · exact sf_l627 hp hn hn' hm hm' hg (k4 _ _ _ _ _ _ _ _ (by omega) (by omega) (k3 _ _ _ _ _ _ _ _ (by omega) u0)) (k4 _ _ _ _ _ _ _ _ (by omega) (by omega) (k3 _ _ _ _ _ _ _ _ (by omega) u1))
  · have hk := hw () trivial
    refine pk_le 6 i (fun t => absurd t (by omega)) (fun _ => br_f (by decide) ?_)
    by_cases h : i < n
    · refine sf_get (r := 3) (i := i) (j := 0) (by omega) s3 h (by omega) (pk_le n i (fun t => absurd t (by omega)) (fun _ => ?_))
      unfold wL_lawOf_450
      exact br_t (h3 i h) (nm_r (nI_1 i) hk)
    · refine sf_get_none (r := 3) (i := i) (by omega) s3.1 (by omega) (by omega) (pk_le n i (fun _ => ?_) (fun t => absurd t (by omega)))
      unfold wL_lawOf_450
      exact br_t (by decide) (nm_r (nI_1 i) hk)
end
section
/-! ===== the law's first pieces: 155, 165, lawOf ===== -/
theorem sf_zp_congr {R f l : Nat} {T T' : Nat → Int32} : ∀ q, (∀ p, p < q → T (sf_ix R f l p) = T' (sf_ix R f l p)) → sf_zp R f T l q = sf_zp R f T' l q := by
  intro q
  induction q with
  | zero => intro _; rfl
  | succ q ih =>
    intro h
    show sf_zp R f T l q + (if T (sf_ix R f l q) = 0 then 0 else 1) = sf_zp R f T' l q + (if T' (sf_ix R f l q) = 0 then 0 else 1)
    rw [ih (fun p hp => h p (by omega)), h q (by omega)]
theorem sf_N_congr {R n m f : Nat} {T T' : Nat → Int32} (hd : sf_dm R n m f) (hT : ∀ x, x < 36 → T x = T' x) : sf_N R n m f T = sf_N R n m f T' := by
  have B := sf_dm_b hd
  have k : ∀ c, c ≤ sf_lc R n m f → sf_zl R f (sf_ll R n m f) T c = sf_zl R f (sf_ll R n m f) T' c := by
    intro c
    induction c with
    | zero => intro _; rfl
    | succ c ih =>
      intro hc
      show sf_zl R f (sf_ll R n m f) T c + (if sf_sl R f = true ∧ sf_zp R f T c (sf_ll R n m f) = 0 then 0 else sf_zp R f T c (sf_ll R n m f)) = sf_zl R f (sf_ll R n m f) T' c + (if sf_sl R f = true ∧ sf_zp R f T' c (sf_ll R n m f) = 0 then 0 else sf_zp R f T' c (sf_ll R n m f))
      rw [ih (by omega), sf_zp_congr (T := T) (T' := T') _ (fun p hp => hT _ (B.2.2.2.2.2.2 c p (by omega) hp).1)]
  exact k _ (Nat.le_refl _)
def sf_TP (n m : Nat) (a b : Int32) (i j : Nat) : Nat → Int32 := fun x => if x / 6 < n ∧ x % 6 < m ∧ (x / 6 < i ∨ (x / 6 = i ∧ x % 6 < j)) then a * nI (x / 6) + b * nI (x % 6) + 1 else 0
def sf_TQ (m i : Nat) : Nat → Int32 := fun x => if x / 6 < m ∧ x % 6 = 0 ∧ x / 6 < i then nI (x / 6) else 0
theorem sf_if {c d : Prop} [Decidable c] [Decidable d] {x y : Int32} (h : c ↔ d) : (if c then x else y) = (if d then x else y) := by
  by_cases hc : c
  · rw [if_pos hc, if_pos (h.mp hc)]
  · rw [if_neg hc, if_neg (fun t => hc (h.mpr t))]
theorem sf_TP_skip {n m i j : Nat} {a b : Int32} (h : n ≤ i ∨ m ≤ j) : sf_TP n m a b i (j + 1) = sf_TP n m a b i j := by
  funext x
  exact sf_if (by omega)
theorem sf_TP_row {n m i : Nat} {a b : Int32} : sf_TP n m a b (i + 1) 0 = sf_TP n m a b i 6 := by
  funext x
  exact sf_if (by omega)
theorem sf_TP_put {n m i j : Nat} {a b : Int32} (hi : i < n) (hj : j < m) (hm : m ≤ 6) : sf_TP n m a b i j (6 * i + j) = 0 ∧ upd (sf_TP n m a b i j) (6 * i + j) (a * nI i + b * nI j + 1) = sf_TP n m a b i (j + 1) := by
  have e1 : (6 * i + j) / 6 = i := by omega
  have e2 : (6 * i + j) % 6 = j := by omega
  refine ⟨if_neg (by omega), ?_⟩
  funext x
  by_cases e : x = 6 * i + j
  · rw [e, pk_us]
    unfold sf_TP
    rw [if_pos (by omega), e1, e2]
  · rw [pk_un e]
    exact sf_if (by omega)
theorem sf_TQ_skip {m i : Nat} (h : m ≤ i) : sf_TQ m (i + 1) = sf_TQ m i := by
  funext x
  exact sf_if (by omega)
theorem sf_TQ_put {m i : Nat} (hi : i < m) : sf_TQ m i (6 * i + 0) = 0 ∧ upd (sf_TQ m i) (6 * i + 0) (nI i) = sf_TQ m (i + 1) := by
  refine ⟨if_neg (by omega), ?_⟩
  funext x
  by_cases e : x = 6 * i + 0
  · rw [e, pk_us]
    unfold sf_TQ
    rw [if_pos (by omega), show (6 * i + 0) / 6 = i by omega]
  · rw [pk_un e]
    exact sf_if (by omega)
theorem sf_N_TB : ∀ m, m < 7 → 2 ≤ m → ∀ g, g < 2 → sf_N 1 m 1 g (sf_TB m) = m - 1 := by decide +kernel
theorem sf_res1 {n m i : Nat} {a b : Int32} (hn : 2 ≤ n) (hm : 2 ≤ m) (hm' : m ≤ 6) (hi : i < n) (F : (Nat → Nat) → Int32) (hF : ∀ e, F e = sf_TA n m a b (6 * e 2 + e 0) * sf_TB m (6 * e 0 + 0)) : sf_res (sf_spn m 0 n) (nI 2) (-1) F (6 * i + 0) = (a * nI i + 1) * nI (sf_one m) + b * nI (sf_two m) := by
  have pl : sf_pl (sf_spn m 0 n) = [0, 2] := by
    rw [sf_pl_e]
    unfold sf_spn
    rw [if_pos (show 0 < (if 0 = 0 then m else if 0 = 1 then 0 else n) by rw [if_pos rfl]; omega), if_neg (show ¬ 0 < (if 1 = 0 then m else if 1 = 1 then 0 else n) by rw [if_neg (by omega), if_pos rfl]; omega), if_pos (show 0 < (if 2 = 0 then m else if 2 = 1 then 0 else n) by rw [if_neg (by omega), if_neg (by omega)]; omega)]
    rfl
  unfold sf_res
  rw [pl]
  show sf_sm (fun v0 => sf_sm (fun v2 => sf_g (nI 2) (-1) F (6 * i + 0) (sf_up (sf_up (fun _ => 0) 0 v0) 2 v2)) n) m = _
  have key : ∀ v0, v0 < m → sf_sm (fun v2 => sf_g (nI 2) (-1) F (6 * i + 0) (sf_up (sf_up (fun _ => 0) 0 v0) 2 v2)) n = ((a * nI i + 1) + b * nI v0) * nI v0 := by
    intro v0 h0
    have k2 : ∀ v2, sf_g (nI 2) (-1) F (6 * i + 0) (sf_up (sf_up (fun _ => 0) 0 v0) 2 v2) = if 6 * v2 + 0 = 6 * i + 0 then sf_TA n m a b (6 * v2 + v0) * sf_TB m (6 * v0 + 0) else 0 := by
      intro v2
      unfold sf_g
      rw [hF]
      rfl
    rw [sf_sm_pick i n hi (fun v2 h1 h2 => by rw [k2, if_neg (by omega)]), k2, if_pos rfl, sf_TA_at hi h0 hm']
    have e : sf_TB m (6 * v0 + 0) = nI v0 := by
      unfold sf_TB
      rw [if_pos (by omega), show (6 * v0 + 0) / 6 = v0 by omega]
    rw [e]
    grind
  rw [sf_sm_congr m key, sf_sum2, (sf_tri_m m (by omega)).1, (sf_tri_m m (by omega)).2.1]
theorem sf_l155e {post : Int32 → St0 → Prop} {mc ms kc ks : Nat} {fl : Int32} {a1 a2 a3 a4 a5 a6 a7 a8 a9 a10 a11 a12 a13 a14 a15 a16 a17 a18 a19 a20 a21 a22 a23 a24 a25 a26 a27 a28 : Nat → Int32} {n m f g g1 w z w1 k : Nat} {a b : Int32} (hp : post 1 ()) (hn : 2 ≤ n) (hn' : n ≤ 6) (hm : 2 ≤ m) (hm' : m ≤ 6) (hg : g ≤ 7) (s0 : sf_slot a1 a2 a3 a4 a5 a6 a7 a8 a9 0 2 n m f (sf_TA n m a b) w z) (s1 : sf_slot a1 a2 a3 a4 a5 a6 a7 a8 a9 1 1 m 1 g1 (sf_TB m) w1 (m - 1)) :
    wL_lawOf_155 post mc ms (-1000000001) (nI n) (nI m) (nI f) (nI g) a b kc ks (k + 1) 1 (nI 6) (nI 0) (nI 0) (nI 0) fl a1 a2 a3 a4 a5 a6 a7 a8 a9 a10 a11 a12 a13 a14 a15 a16 a17 a18 a19 a20 a21 a22 a23 a24 a25 a26 a27 a28 := by
  have TR := sf_tri_m m (by omega)
  refine pk_le 6 6 (fun _ => ⟨by decide, nm_r TR.2.2.1 ⟨by decide, nm_r TR.2.2.2 (br_f (by decide) ?_)⟩⟩) (fun t => absurd t (by omega))
  have ri1 : sf_ri 1 (nI 0) (-1) := Or.inr (Or.inl ⟨rfl, ⟨0, by omega, rfl⟩, rfl⟩)
  refine sf_array (r := 0) (c := 0) (na := 0) (h := 0) (by omega) s0 (sf_ri2 (p := 2) (q := 0) (by omega) (by omega) (by omega)) (by omega) (by omega) (by omega) (fun b1 b2 b3 b4 b5 b6 b7 b8 b9 b18 w2 z2 x6 k1 => br_t rfl ?_)
  have t0 := k1 _ _ _ _ _ _ _ _ (by omega) s0
  have t1 := k1 _ _ _ _ _ _ _ _ (by omega) s1
  refine sf_array (r := 1) (c := 1) (na := 1) (h := 1) (by omega) t1 ri1 (by omega) (by omega) (by omega) (fun c1 c2 c3 c4 c5 c6 c7 c8 c9 c18 w3 z3 x7 k2 => br_t rfl ?_)
  have u0 := k2 _ _ _ _ _ _ _ _ (by omega) t0
  have u1 := k2 _ _ _ _ _ _ _ _ (by omega) t1
  have u6 := k2 _ _ _ _ _ _ _ _ (by omega) x6
  refine sf_join (c := 2) (h := 0) (o := 2) (by omega) (by omega) (by omega) (br_t rfl ?_)
  have F2 := sf_F2_mk a10 a11 a12 a13 a14 a15 a16 2 2 0 0 (-1)
  have FO := sf_F2_fo (by omega) F2 (sf_in_q (q := 2) (by omega)) (sf_in_q (q := 0) (by omega)) (sf_in_q (q := 0) (by omega)) (Or.inl rfl)
  have FS := sf_F2_fs (by omega) F2 u6.1.2.2.1 u6.1.2.2.2.1 x7.1.2.2.1 x7.1.2.2.2.1
  have S : ∀ q, q < 3 → sf_S2 2 2 0 0 (-1) n m m 1 q = nI (sf_spn m 0 n q) ∧ sf_spn m 0 n q ≤ 6 := sf_S2_1 n (by omega) m (by omega) hn hm
  have S2v : sf_S2 2 2 0 0 (-1) n m m 1 2 = nI n := (S 2 (by omega)).1
  have S0v : sf_S2 2 2 0 0 (-1) n m m 1 0 = nI m := (S 0 (by omega)).1
  have S1v : sf_S2 2 2 0 0 (-1) n m m 1 1 = nI 0 := (S 1 (by omega)).1
  refine sf_span (p := 2) (c := 3) (top := 2) (na := 2) (by omega) F2.2.2.2.2.2.2 (by omega) (by omega) (by omega) FO.1 (fun d17 d20 => ?_)
  rw [FS, S2v, if_neg (show ¬ nI n = 0 from nI_ne0 (by omega) (by omega))]
  refine br_t rfl ?_
  refine sf_span (p := 0) (c := 3) (top := 2) (na := 2) (by omega) F2.2.2.2.2.2.2 (by omega) (by omega) (by omega) FO.1 (fun e17 e20 => ?_)
  rw [FS, S0v, if_neg (show ¬ nI m = 0 from nI_ne0 (by omega) (by omega))]
  refine br_t rfl ?_
  refine sf_span (p := 1) (c := 3) (top := 2) (na := 2) (by omega) F2.2.2.2.2.2.2 (by omega) (by omega) (by omega) FO.1 (fun g17 g20 => ?_)
  rw [FS, S1v]
  refine br_t (by decide) ?_
  refine sf_assign_none (to := 3) (R := 1) (f := 0) (c := 3) (top := 2) (na := 2) (p := nI 1) (q := -1) (by omega) (Or.inr (Or.inl ⟨rfl, ⟨1, by omega, rfl⟩, rfl⟩)) (Or.inr (Or.inl ⟨rfl, by omega⟩)) F2.2.2.2.2.2.2 (by omega) (by omega) (by omega) FO.1 (Or.inl ⟨1, by omega, rfl, by rw [FS]; exact S1v⟩) (fun h17 h20 => br_t (by decide) ?_)
  refine sf_assign (to := 3) (R := 1) (n := n) (m := 1) (f := 0) (c := 3) (top := 2) (na := 2) (p := nI 2) (q := -1) (Rk := fun a => if a = 0 then 2 else 1) (Nr := fun a => if a = 0 then n else m) (Mc := fun a => if a = 0 then m else 1) (Fo := fun a => if a = 0 then f else g1) (Tt := fun a' => if a' = 0 then sf_TA n m a b else sf_TB m) (E := sf_E2 2) (sp := sf_spn m 0 n) (by omega) (Or.inr (Or.inl ⟨rfl, ⟨2, by omega, rfl, rfl⟩, rfl, rfl⟩)) ⟨by omega, by omega, by omega, by omega, Or.inr (Or.inl ⟨rfl, rfl, by omega⟩)⟩ F2.2.2.2.2.2.2 (by omega) (by omega) (by omega) FO.1 FO.2 (sf_lt2 ⟨⟨_, _, u6⟩, sf_ri2 (p := 2) (q := 0) (by omega) (by omega) (by omega)⟩ ⟨⟨_, _, x7⟩, ri1⟩) (fun q hq => by rw [FS]; exact S q hq) (sf_lt2 (fun q hq => ⟨fun t => ?_, fun t => ?_⟩) (fun q hq => ⟨fun t => ?_, fun t => ?_⟩)) (fun i1 i2 i3 i4 i5 i6 i7 i8 i9 i17 i18 i19 i20 i21 i22 i23 i24 i25 i26 i27 i28 gl y3 k3 => ?_)
  · have := sf_q3 (x := 2) (by omega) hq t; subst this; rfl
  · have := sf_q3 (x := 0) (by omega) hq t; subst this; rfl
  · have := sf_q3 (x := 0) (by omega) hq t; subst this; rfl
  · exact absurd t.symm (sf_m1 (by omega))
  rw [sf_W10]
  refine br_t rfl ?_
  refine sf_l401 hp hn hn' hm hm' hg (k3 _ _ _ _ _ _ _ _ (by omega) (by omega) u0) (k3 _ _ _ _ _ _ _ _ (by omega) (by omega) u1) y3 (fun i hi => ?_)
  exact sf_res1 hn hm hm' hi _ (fun e => rfl)
theorem sf_l155 {post : Int32 → St0 → Prop} {mc ms kc ks : Nat} {fl : Int32} {a1 a2 a3 a4 a5 a6 a7 a8 a9 a10 a11 a12 a13 a14 a15 a16 a17 a18 a19 a20 a21 a22 a23 a24 a25 a26 a27 a28 : Nat → Int32} {n m f g g1 w z w1 z1 : Nat} {a b : Int32} (hp : post 1 ()) (hn : 2 ≤ n) (hn' : n ≤ 6) (hm : 2 ≤ m) (hm' : m ≤ 6) (hg : g ≤ 7) (s0 : sf_slot a1 a2 a3 a4 a5 a6 a7 a8 a9 0 2 n m f (fun _ => 0) w z) (s1 : sf_slot a1 a2 a3 a4 a5 a6 a7 a8 a9 1 1 m 1 g1 (fun _ => 0) w1 z1) :
    ∃ fu, wL_lawOf_155 post mc ms (-1000000001) (nI n) (nI m) (nI f) (nI g) a b kc ks fu 1 0 (nI 0) (nI 0) (nI 0) fl a1 a2 a3 a4 a5 a6 a7 a8 a9 a10 a11 a12 a13 a14 a15 a16 a17 a18 a19 a20 a21 a22 a23 a24 a25 a26 a27 a28 := by
  refine pk_loop (σ := (Nat → Int32) × (Nat → Int32) × (Nat → Int32) × (Nat → Int32) × (Nat → Int32) × (Nat → Int32) × (Nat → Int32) × (Nat → Int32) × (Nat → Int32) × (Nat → Int32)) (fun k i t => wL_lawOf_155 post mc ms (-1000000001) (nI n) (nI m) (nI f) (nI g) a b kc ks k 1 (nI i) (nI 0) (nI 0) (nI 0) fl t.1 t.2.1 t.2.2.1 t.2.2.2.1 t.2.2.2.2.1 t.2.2.2.2.2.1 t.2.2.2.2.2.2.1 t.2.2.2.2.2.2.2.1 t.2.2.2.2.2.2.2.2.1 a10 a11 a12 a13 a14 a15 a16 a17 t.2.2.2.2.2.2.2.2.2 a19 a20 a21 a22 a23 a24 a25 a26 a27 a28)
    (fun i t => (∃ w z, sf_slot t.1 t.2.1 t.2.2.1 t.2.2.2.1 t.2.2.2.2.1 t.2.2.2.2.2.1 t.2.2.2.2.2.2.1 t.2.2.2.2.2.2.2.1 t.2.2.2.2.2.2.2.2.1 0 2 n m f (sf_TP n m a b i 0) w z) ∧ (∃ w z, sf_slot t.1 t.2.1 t.2.2.1 t.2.2.2.1 t.2.2.2.2.1 t.2.2.2.2.2.1 t.2.2.2.2.2.2.1 t.2.2.2.2.2.2.2.1 t.2.2.2.2.2.2.2.2.1 1 1 m 1 g1 (sf_TQ m i) w z ∧ (m ≤ i → z = m - 1))) 6 0 (a1, a2, a3, a4, a5, a6, a7, a8, a9, a18) (by omega) ⟨⟨w, z, sf_slot_congr (fun x _ => if_neg (by omega)) s0⟩, ⟨w1, z1, sf_slot_congr (fun x _ => if_neg (by omega)) s1, fun t => absurd t (by omega)⟩⟩ (fun k t h => ?_) (fun k i t hi h hw => ?_)
  · obtain ⟨b1, b2, b3, b4, b5, b6, b7, b8, b9, b18⟩ := t
    obtain ⟨⟨w2, z2, h0⟩, ⟨w3, z3, h1, h2⟩⟩ := h
    have ez := h2 hm'
    subst ez
    exact sf_l155e hp hn hn' hm hm' hg (sf_slot_congr (fun x hx => sf_if (by omega)) h0) (sf_slot_congr (fun x hx => sf_if (by omega)) h1)
  · obtain ⟨b1, b2, b3, b4, b5, b6, b7, b8, b9, b18⟩ := t
    refine pk_le 6 i (fun t => absurd t (by omega)) (fun _ => ?_)
    refine pk_loop (σ := (Nat → Int32) × (Nat → Int32) × (Nat → Int32) × (Nat → Int32) × (Nat → Int32) × (Nat → Int32) × (Nat → Int32) × (Nat → Int32) × (Nat → Int32) × (Nat → Int32)) (fun kk j t => wL_lawOf_165 post mc ms (wL_lawOf_155 post mc ms (-1000000001) (nI n) (nI m) (nI f) (nI g) a b kc ks k) (-1000000001) (nI n) (nI m) (nI f) (nI g) a b (nI i) kc ks kk 1 (nI j) (nI 0) (nI 0) (nI 0) fl t.1 t.2.1 t.2.2.1 t.2.2.2.1 t.2.2.2.2.1 t.2.2.2.2.2.1 t.2.2.2.2.2.2.1 t.2.2.2.2.2.2.2.1 t.2.2.2.2.2.2.2.2.1 a10 a11 a12 a13 a14 a15 a16 a17 t.2.2.2.2.2.2.2.2.2 a19 a20 a21 a22 a23 a24 a25 a26 a27 a28)
      (fun j t => (∃ w z, sf_slot t.1 t.2.1 t.2.2.1 t.2.2.2.1 t.2.2.2.2.1 t.2.2.2.2.2.1 t.2.2.2.2.2.2.1 t.2.2.2.2.2.2.2.1 t.2.2.2.2.2.2.2.2.1 0 2 n m f (sf_TP n m a b i j) w z) ∧ (∃ w z, sf_slot t.1 t.2.1 t.2.2.1 t.2.2.2.1 t.2.2.2.2.1 t.2.2.2.2.2.1 t.2.2.2.2.2.2.1 t.2.2.2.2.2.2.2.1 t.2.2.2.2.2.2.2.2.1 1 1 m 1 g1 (sf_TQ m i) w z ∧ (m ≤ i → z = m - 1))) 6 0 (b1, b2, b3, b4, b5, b6, b7, b8, b9, b18) (by omega) h (fun kk t h => ?_) (fun kk j t hj h hw2 => ?_)
    · obtain ⟨c1, c2, c3, c4, c5, c6, c7, c8, c9, c18⟩ := t
      obtain ⟨⟨w2, z2, h0⟩, ⟨w3, z3, h1, h2⟩⟩ := h
      rw [← sf_TP_row] at h0
      refine pk_le 6 6 (fun _ => br_f (by decide) ?_) (fun t => absurd t (by omega))
      by_cases hmi : m ≤ i
      · rw [← sf_TQ_skip hmi] at h1
        exact pk_le m i (fun _ => nm_r (nI_1 i) (hw (c1, c2, c3, c4, c5, c6, c7, c8, c9, c18) ⟨⟨w2, z2, h0⟩, ⟨w3, z3, h1, fun _ => h2 hmi⟩⟩)) (fun t => absurd t (by omega))
      · have Q := sf_TQ_put (m := m) (i := i) (by omega)
        refine pk_le m i (fun t => absurd t (by omega)) (fun _ => ?_)
        refine sf_put (r := 1) (i := i) (j := 0) (by omega) h1 (by omega) (by omega) (fun d1 d2 d3 d4 d5 d6 d7 d8 d9 d18 w' z' y1 k1 e1 => br_t Q.1 (nm_r (nI_1 i) (hw (d1, d2, d3, d4, d5, d6, d7, d8, d9, d18) ⟨⟨w2, z2, k1 _ _ _ _ _ _ _ _ (by omega) h0⟩, ⟨w', z', ?_, fun hmi1 => ?_⟩⟩)))
        · rw [← Q.2]
          exact y1
        · have e1' := (e1 (Or.inl Q.1) (by rw [Q.1]; exact fun t => nI_ne0 (by omega) (by omega) t.symm)).2
          rw [e1', Q.2]
          have hdm := y1.1.2.2.2.2.2
          have hg1 : g1 < 2 := by
            obtain ⟨q1, q2, q3, q4, q5⟩ := hdm
            omega
          rw [sf_N_congr (T := sf_TQ m (i + 1)) (T' := sf_TB m) hdm (fun x hx => sf_if (by omega))]
          exact sf_N_TB m (by omega) hm g1 hg1
    · obtain ⟨c1, c2, c3, c4, c5, c6, c7, c8, c9, c18⟩ := t
      obtain ⟨⟨w2, z2, h0⟩, h1⟩ := h
      refine pk_le 6 j (fun t => absurd t (by omega)) (fun _ => br_f (by decide) (pk_le n i (fun g2 => nm_r (nI_1 j) ?_) (fun g2 => pk_le m j (fun g3 => nm_r (nI_1 j) ?_) (fun g3 => ?_))))
      · rw [← sf_TP_skip (Or.inl g2)] at h0
        exact hw2 (c1, c2, c3, c4, c5, c6, c7, c8, c9, c18) ⟨⟨w2, z2, h0⟩, h1⟩
      · rw [← sf_TP_skip (Or.inr g3)] at h0
        exact hw2 (c1, c2, c3, c4, c5, c6, c7, c8, c9, c18) ⟨⟨w2, z2, h0⟩, h1⟩
      · have Q := sf_TP_put (n := n) (m := m) (i := i) (j := j) (a := a) (b := b) g2 g3 hm'
        refine sf_put (r := 0) (i := i) (j := j) (by omega) h0 g2 g3 (fun d1 d2 d3 d4 d5 d6 d7 d8 d9 d18 w' z' y0 k1 _ => br_t Q.1 (nm_r (nI_1 j) (hw2 (d1, d2, d3, d4, d5, d6, d7, d8, d9, d18) ⟨⟨w', z', ?_⟩, ?_⟩)))
        · rw [← Q.2]
          exact y0
        · obtain ⟨w3, z3, h2, h3⟩ := h1
          exact ⟨w3, z3, k1 _ _ _ _ _ _ _ _ (by omega) h2, h3⟩
theorem sf_mk0' : ∀ i, i < 5 → ∀ j, j < 5 → ∀ f, f < 8 → sf_N 2 (2 + i) (2 + j) f (fun _ => 0) = 0 ∧ nI (sf_W 2 (2 + i) (2 + j) f (fun _ => 0)) = (if nI f &&& 3 = 0 then nI (2 + i) * nI (2 + j) else 0) := by decide +kernel
theorem sf_mk0 (n : Nat) (hn : n < 7) (m : Nat) (hm : m < 7) (f : Nat) (hf : f < 8) (h2 : 2 ≤ n) (h3 : 2 ≤ m) : sf_N 2 n m f (fun _ => 0) = 0 ∧ (nI f &&& 3 = 0 → nI (sf_W 2 n m f (fun _ => 0)) = nI n * nI m) ∧ (¬ nI f &&& 3 = 0 → nI (sf_W 2 n m f (fun _ => 0)) = 0) := by
  have h := sf_mk0' (n - 2) (by omega) (m - 2) (by omega) f hf
  rw [show 2 + (n - 2) = n by omega, show 2 + (m - 2) = m by omega] at h
  exact ⟨h.1, fun t => by rw [h.2, if_pos t], fun t => by rw [h.2, if_neg t]⟩
theorem sf_lawOf {post : Int32 → St0 → Prop} {x y : Int32} (hp : post 1 ()) : wpL_lawOf post 772 12352 () x y := by
  obtain ⟨jn, hjn, en⟩ := pk_andE x (m := 7) 3 (by decide)
  obtain ⟨jm, hjm, em⟩ := pk_andE (x >>> ((3 : Int32) &&& 31)) (m := 7) 3 (by decide)
  obtain ⟨f, hf, ef⟩ := pk_andE (x >>> ((6 : Int32) &&& 31)) (m := 7) 3 (by decide)
  obtain ⟨g, hg, eg⟩ := pk_andE (x >>> ((9 : Int32) &&& 31)) (m := 7) 3 (by decide)
  have ex : ∀ j, j < 2 ^ 3 → 2 + (nI j - nI j / 5 * 5) = nI (2 + j % 5) := by decide +kernel
  have egl : nI g &&& 1 = nI (g % 2) := pk_andN (by omega) 1 (by decide)
  have MK := sf_mk0 (2 + jn % 5) (by omega) (2 + jm % 5) (by omega) f (by omega) (by omega) (by omega)
  unfold wpL_lawOf
  refine ⟨by omega, by omega, 28, 1400, by omega, by omega, sf_init (by omega) (by omega) (fun a1 a2 a3 a4 a5 a6 a7 a8 a9 a10 a11 a12 a13 a14 a15 a16 a17 a18 a19 a20 a21 a22 a23 a24 a25 a26 a27 a28 => ?_)⟩
  rw [en, em, ef, eg]
  refine ⟨by decide, nm_r (ex jn hjn) ⟨by decide, nm_r (ex jm hjm) (nm_e (nm_e (nm_e (nm_e ?_))))⟩⟩
  refine sf_make (r := 0) (n := 2 + jn % 5) (m := 2 + jm % 5) (f := f) (R := 2) (n' := 2 + jn % 5) (m' := 2 + jm % 5) (by omega) (by omega) (by omega) (Or.inr (Or.inr ⟨by omega, by omega, rfl, rfl, rfl⟩)) ⟨by omega, by omega, by omega, by omega, Or.inr (Or.inr ⟨rfl, by omega⟩)⟩ (fun b1 b2 b3 b4 b5 b6 b7 b8 b9 b18 s0 _ => br_t rfl ?_)
  rw [egl]
  refine sf_make (r := 1) (n := 2 + jm % 5) (m := 0) (f := g % 2) (R := 1) (n' := 2 + jm % 5) (m' := 1) (by omega) (by omega) (by omega) (Or.inr (Or.inl ⟨by omega, rfl, rfl, rfl, rfl⟩)) ⟨by omega, by omega, by omega, by omega, Or.inr (Or.inl ⟨rfl, rfl, by omega⟩)⟩ (fun c1 c2 c3 c4 c5 c6 c7 c8 c9 c18 s1 k1 => br_t rfl ?_)
  refine sf_make (r := 2) (n := 0) (m := 0) (f := 0) (R := 0) (n' := 1) (m' := 1) (by omega) (by omega) (by omega) (Or.inl ⟨rfl, rfl, rfl, rfl, rfl⟩) ⟨by omega, by omega, by omega, by omega, Or.inl ⟨rfl, rfl, rfl, rfl⟩⟩ (fun d1 d2 d3 d4 d5 d6 d7 d8 d9 d18 s2 k2 => br_t rfl ?_)
  have t0 := k2 _ _ _ _ _ _ _ _ (by omega) (k1 _ _ _ _ _ _ _ _ (by omega) s0)
  have t1 := k2 _ _ _ _ _ _ _ _ (by omega) s1
  refine sf_filled (r := 0) (by omega) t0 (br_t (by rw [MK.1]; rfl) ?_)
  have fin := fun mc' ms' kc ks => sf_l155 (post := post) (mc := mc') (ms := ms') (kc := kc) (ks := ks) (g := g) (a := (y &&& 15) - 7) (b := ((y >>> ((4 : Int32) &&& 31)) &&& 15) - 7) (fl := 0) (a10 := a10) (a11 := a11) (a12 := a12) (a13 := a13) (a14 := a14) (a15 := a15) (a16 := a16) (a17 := a17) (a18 := d18) (a19 := a19) (a20 := a20) (a21 := a21) (a22 := a22) (a23 := a23) (a24 := a24) (a25 := a25) (a26 := a26) (a27 := a27) (a28 := a28) hp (by omega) (by omega) (by omega) (by omega) (by omega) t0 t1
  refine sf_room (r := 0) (by omega) t0 (br_c (fun t => ?_) (fun t => ?_))
  · unfold wL_lawOf_142
    exact br_t (MK.2.1 t) (fin _ _ _ _)
  · unfold wL_lawOf_142
    exact br_t (MK.2.2 t) (fin _ _ _ _)
theorem sf_cell {post : Int32 → Prop} {L k : Nat} {xs : Nat → Int32} (hL : L ≤ 2) (hk : k < 2) (h : ∀ v, post v) : wpL_cellAt post L xs () (nI k) := by
  unfold wpL_cellAt
  exact pk_le L k (fun _ => h _) (fun t => ⟨pk_in k L t, h _⟩)
end
section
theorem i_vc (xs : Nat → Int32) (L : Nat) (hL : L ≤ 2) : wpL_law (fun r => r = 1) L xs := by
  unfold wpL_law
  exact sf_cell (k := 0) hL (by omega) (fun x => sf_cell (k := 1) hL (by omega) (fun y => ⟨772, 12352, by omega, by omega, sf_lawOf rfl⟩))
end
