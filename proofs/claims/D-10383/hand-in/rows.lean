section
/-! the state, cut in four: the slots S, what is written out p, the formula F, the work W -/
abbrev sf_A : Type := Nat → Int32
abbrev sf_Sl : Type := sf_A × sf_A × sf_A × sf_A × sf_A × sf_A × sf_A × sf_A × sf_A
abbrev sf_Fm : Type := Int32 × Int32 × Int32 × sf_A × sf_A × sf_A × sf_A × sf_A × sf_A × sf_A
abbrev sf_Wk : Type := Int32 × sf_A × sf_A × sf_A × sf_A × sf_A × sf_A × sf_A × sf_A × sf_A × sf_A × sf_A
abbrev sf_mk (S : sf_Sl) (p : sf_A) (F : sf_Fm) (W : sf_Wk) : St1 :=
  (F.1, F.2.1, F.2.2.1, W.1, S.1, S.2.1, S.2.2.1, S.2.2.2.1, S.2.2.2.2.1, S.2.2.2.2.2.1, S.2.2.2.2.2.2.1, S.2.2.2.2.2.2.2.1, S.2.2.2.2.2.2.2.2, F.2.2.2.1, F.2.2.2.2.1, F.2.2.2.2.2.1, F.2.2.2.2.2.2.1, F.2.2.2.2.2.2.2.1, F.2.2.2.2.2.2.2.2.1, F.2.2.2.2.2.2.2.2.2, W.2.1, p, W.2.2.1, W.2.2.2.1, W.2.2.2.2.1, W.2.2.2.2.2.1, W.2.2.2.2.2.2.1, W.2.2.2.2.2.2.2.1, W.2.2.2.2.2.2.2.2.1, W.2.2.2.2.2.2.2.2.2.1, W.2.2.2.2.2.2.2.2.2.2.1, W.2.2.2.2.2.2.2.2.2.2.2)
/-! numbers -/
theorem sf_ma (c a b : Nat) : nI c * nI a + nI b = nI (c * a + b) := by rw [pk_mul, nI_add]
theorem sf_i36 (s e : Nat) : (36 : Int32) * nI s + nI e = nI (36 * s + e) := sf_ma 36 s e
theorem sf_i6 (s e : Nat) : (6 : Int32) * nI s + nI e = nI (6 * s + e) := sf_ma 6 s e
theorem sf_i6' (s : Nat) : (6 : Int32) * nI s = nI (6 * s) := pk_mul 6 s
theorem sf_i7 (s e : Nat) : (7 : Int32) * nI s + nI e = nI (7 * s + e) := sf_ma 7 s e
theorem sf_i7' (s e : Nat) : (7 : Int32) * nI s + nI e + 1 = nI (7 * s + e + 1) := by rw [sf_i7, nI_1]
theorem sf_6p (a : Nat) : (6 : Int32) + nI a = nI (6 + a) := nI_add 6 a
theorem sf_neg1 {k : Nat} (h : k < 2 ^ 31) : ¬ nI k = (-1 : Int32) := by
  intro e
  have h1 := congrArg Int32.toInt e
  rw [nI_toInt h] at h1
  have h2 : (-1 : Int32).toInt = -1 := by decide
  omega
theorem sf_ne0 : ¬ (1 : Int32) = 0 := by decide
theorem sf_inj {a b : Nat} (ha : a < 2 ^ 31) (hb : b < 2 ^ 31) (h : nI a = nI b) : a = b := (nI_eq ha hb).mp h
theorem sf_and2 : ∀ f, f < 8 → (nI f &&& 2 = 0 ↔ f / 2 % 2 = 0) := by decide +kernel
theorem sf_and1 : ∀ f, f < 8 → (nI f &&& 1 = 0 ↔ f % 2 = 0) := by decide +kernel
theorem sf_xor4 : ∀ f, f < 8 → nI f ^^^ 4 = nI (if f < 4 then f + 4 else f - 4) := by decide +kernel
/-! sums -/
def sf_T : Nat → (Nat → Nat) → Nat
  | 0, _ => 0
  | n + 1, f => sf_T n f + f n
def sf_Q : Nat → (Nat → Int32) → Int32
  | 0, _ => 0
  | n + 1, f => sf_Q n f + f n
def sf_nz (x : Int32) : Nat := if x = 0 then 0 else 1
theorem sf_nz0 {x : Int32} (h : x = 0) : sf_nz x = 0 := by unfold sf_nz; rw [if_pos h]
theorem sf_nz1 {x : Int32} (h : ¬ x = 0) : sf_nz x = 1 := by unfold sf_nz; rw [if_neg h]
theorem sf_nzl (x : Int32) : sf_nz x ≤ 1 := by
  unfold sf_nz
  split <;> omega
theorem sf_Tc {n : Nat} {f g : Nat → Nat} (h : ∀ i, i < n → f i = g i) : sf_T n f = sf_T n g := by
  induction n with
  | zero => rfl
  | succ n ih =>
    show sf_T n f + f n = sf_T n g + g n
    rw [ih (fun i hi => h i (by omega)), h n (by omega)]
theorem sf_T0 {n : Nat} {f : Nat → Nat} (h : ∀ i, i < n → f i = 0) : sf_T n f = 0 := by
  induction n with
  | zero => rfl
  | succ n ih =>
    show sf_T n f + f n = 0
    rw [ih (fun i hi => h i (by omega)), h n (by omega)]
theorem sf_Tle {n : Nat} {f : Nat → Nat} (h : ∀ i, i < n → f i ≤ 1) : sf_T n f ≤ n := by
  induction n with
  | zero => exact Nat.le_refl 0
  | succ n ih =>
    show sf_T n f + f n ≤ n + 1
    have h1 := ih (fun i hi => h i (by omega))
    have h2 := h n (by omega)
    omega
theorem sf_T1 {n : Nat} {f : Nat → Nat} (h : ∀ i, i < n → f i = 1) : sf_T n f = n := by
  induction n with
  | zero => rfl
  | succ n ih =>
    show sf_T n f + f n = n + 1
    rw [ih (fun i hi => h i (by omega)), h n (by omega)]
theorem sf_Tadd (n : Nat) (f g : Nat → Nat) : sf_T n (fun i => f i + g i) = sf_T n f + sf_T n g := by
  induction n with
  | zero => rfl
  | succ n ih =>
    show sf_T n (fun i => f i + g i) + (f n + g n) = (sf_T n f + f n) + (sf_T n g + g n)
    rw [ih]; omega
theorem sf_Tsw (n m : Nat) (f : Nat → Nat → Nat) : sf_T n (fun i => sf_T m (fun j => f i j)) = sf_T m (fun j => sf_T n (fun i => f i j)) := by
  induction n with
  | zero =>
    show 0 = sf_T m (fun j => 0)
    rw [sf_T0 (fun _ _ => rfl)]
  | succ n ih =>
    show sf_T n (fun i => sf_T m (fun j => f i j)) + sf_T m (fun j => f n j) = sf_T m (fun j => sf_T n (fun i => f i j) + f n j)
    rw [ih, sf_Tadd]
theorem sf_Qc {n : Nat} {f g : Nat → Int32} (h : ∀ i, i < n → f i = g i) : sf_Q n f = sf_Q n g := by
  induction n with
  | zero => rfl
  | succ n ih =>
    show sf_Q n f + f n = sf_Q n g + g n
    rw [ih (fun i hi => h i (by omega)), h n (by omega)]
theorem sf_Q0 {n : Nat} {f : Nat → Int32} (h : ∀ i, i < n → f i = 0) : sf_Q n f = 0 := by
  induction n with
  | zero => rfl
  | succ n ih =>
    show sf_Q n f + f n = 0
    rw [ih (fun i hi => h i (by omega)), h n (by omega)]
    rfl
theorem sf_Qadd (n : Nat) (f g : Nat → Int32) : sf_Q n (fun i => f i + g i) = sf_Q n f + sf_Q n g := by
  induction n with
  | zero => rfl
  | succ n ih =>
    show sf_Q n (fun i => f i + g i) + (f n + g n) = (sf_Q n f + f n) + (sf_Q n g + g n)
    rw [ih]; grind
theorem sf_Qsw (n m : Nat) (f : Nat → Nat → Int32) : sf_Q n (fun i => sf_Q m (fun j => f i j)) = sf_Q m (fun j => sf_Q n (fun i => f i j)) := by
  induction n with
  | zero =>
    show 0 = sf_Q m (fun j => 0)
    rw [sf_Q0 (fun _ _ => rfl)]
  | succ n ih =>
    show sf_Q n (fun i => sf_Q m (fun j => f i j)) + sf_Q m (fun j => f n j) = sf_Q m (fun j => sf_Q n (fun i => f i j) + f n j)
    rw [ih, sf_Qadd]
/-- a sum with one place other than 0 -/
theorem sf_Q1 {n k : Nat} {f : Nat → Int32} (hk : k < n) (h : ∀ i, i < n → i ≠ k → f i = 0) : sf_Q n f = f k := by
  induction n with
  | zero => exact absurd hk (by omega)
  | succ n ih =>
    show sf_Q n f + f n = f k
    by_cases e : k = n
    · rw [sf_Q0 (fun i hi => h i (by omega) (by omega)), e]
      grind
    · rw [ih (by omega) (fun i hi hn => h i (by omega) hn), h n (by omega) (by omega)]
      grind
/-! dimensions -/
def sf_mx (rk : Nat) : Nat := if rk = 0 then 0 else if rk = 1 then 1 else 7
def sf_L (rk n m f : Nat) : Nat := if rk < 2 then 1 else if 4 ≤ f then m else n
def sf_K (rk n m f : Nat) : Nat := if rk < 2 then n else if 4 ≤ f then n else m
def sf_at (rk f l j : Nat) : Nat := if rk < 2 then 6 * j else if 4 ≤ f then 6 * j + l else 6 * l + j
def sf_N (rk f : Nat) (M : Nat → sf_A) (l j : Nat) : Int32 := if rk < 2 then (if l = 0 then M j 0 else 0) else if 4 ≤ f then M j l else M l j
def sf_sp (rk f : Nat) : Bool := decide (0 < rk ∧ f % 2 = 1)
def sf_sl (rk f : Nat) : Bool := decide (rk = 2 ∧ f / 2 % 2 = 1)
def sf_mat (p : sf_A) (n m i j : Nat) : Int32 := if i < n ∧ j < m then p (6 * i + j) else 0
def sf_dm (rk n m f : Nat) : Prop := rk ≤ 2 ∧ 1 ≤ n ∧ n ≤ 6 ∧ 1 ≤ m ∧ m ≤ 6 ∧ f ≤ sf_mx rk ∧ (rk < 2 → m = 1) ∧ (rk = 0 → n = 1)
def sf_hd (S : sf_Sl) (s rk n m f : Nat) : Prop := s < 13 ∧ S.1 s = nI rk ∧ S.2.1 s = nI n ∧ S.2.2.1 s = nI m ∧ S.2.2.2.1 s = nI f ∧ sf_dm rk n m f
theorem sf_dm7 {rk n m f : Nat} (h : sf_dm rk n m f) : f < 8 := by
  have h1 := h.2.2.2.2.2.1
  unfold sf_mx at h1
  split at h1
  · omega
  · split at h1 <;> omega
theorem sf_L2 {rk n m f : Nat} (h : rk < 2) : sf_L rk n m f = 1 := by unfold sf_L; rw [if_pos h]
theorem sf_Lt {rk n m f : Nat} (h : ¬ rk < 2) (h4 : 4 ≤ f) : sf_L rk n m f = m := by unfold sf_L; rw [if_neg h, if_pos h4]
theorem sf_Ln {rk n m f : Nat} (h : ¬ rk < 2) (h4 : ¬ 4 ≤ f) : sf_L rk n m f = n := by unfold sf_L; rw [if_neg h, if_neg h4]
theorem sf_K2 {rk n m f : Nat} (h : rk < 2) : sf_K rk n m f = n := by unfold sf_K; rw [if_pos h]
theorem sf_Kt {rk n m f : Nat} (h : ¬ rk < 2) (h4 : 4 ≤ f) : sf_K rk n m f = n := by unfold sf_K; rw [if_neg h, if_pos h4]
theorem sf_Kn {rk n m f : Nat} (h : ¬ rk < 2) (h4 : ¬ 4 ≤ f) : sf_K rk n m f = m := by unfold sf_K; rw [if_neg h, if_neg h4]
theorem sf_a2 {rk f l j : Nat} (h : rk < 2) : sf_at rk f l j = 6 * j := by unfold sf_at; rw [if_pos h]
theorem sf_att {rk f l j : Nat} (h : ¬ rk < 2) (h4 : 4 ≤ f) : sf_at rk f l j = 6 * j + l := by unfold sf_at; rw [if_neg h, if_pos h4]
theorem sf_an {rk f l j : Nat} (h : ¬ rk < 2) (h4 : ¬ 4 ≤ f) : sf_at rk f l j = 6 * l + j := by unfold sf_at; rw [if_neg h, if_neg h4]
theorem sf_N2 {rk f j : Nat} {M : Nat → sf_A} (h : rk < 2) : sf_N rk f M 0 j = M j 0 := by unfold sf_N; rw [if_pos h, if_pos rfl]
theorem sf_N2' {rk f l j : Nat} {M : Nat → sf_A} (h : rk < 2) (hl : ¬ l = 0) : sf_N rk f M l j = 0 := by unfold sf_N; rw [if_pos h, if_neg hl]
theorem sf_Nt {rk f l j : Nat} {M : Nat → sf_A} (h : ¬ rk < 2) (h4 : 4 ≤ f) : sf_N rk f M l j = M j l := by unfold sf_N; rw [if_neg h, if_pos h4]
theorem sf_Nn {rk f l j : Nat} {M : Nat → sf_A} (h : ¬ rk < 2) (h4 : ¬ 4 ≤ f) : sf_N rk f M l j = M l j := by unfold sf_N; rw [if_neg h, if_neg h4]
theorem sf_LK {rk n m f : Nat} (h : sf_dm rk n m f) : 1 ≤ sf_L rk n m f ∧ sf_L rk n m f ≤ 6 ∧ 1 ≤ sf_K rk n m f ∧ sf_K rk n m f ≤ 6 ∧ sf_L rk n m f * sf_K rk n m f = n * m := by
  obtain ⟨h1, h2, h3, h4, h5, h6, h7, h8⟩ := h
  by_cases a : rk < 2
  · rw [sf_L2 a, sf_K2 a, h7 a]
    exact ⟨by omega, by omega, by omega, by omega, by omega⟩
  · by_cases b : 4 ≤ f
    · rw [sf_Lt a b, sf_Kt a b]
      exact ⟨by omega, by omega, by omega, by omega, Nat.mul_comm m n⟩
    · rw [sf_Ln a b, sf_Kn a b]
      exact ⟨by omega, by omega, by omega, by omega, rfl⟩
theorem sf_a36 {rk n m f l j : Nat} (h : sf_dm rk n m f) (hl : l < sf_L rk n m f) (hj : j < sf_K rk n m f) : sf_at rk f l j < 36 := by
  obtain ⟨h1, h2, h3, h4, h5, h6, h7, h8⟩ := h
  by_cases a : rk < 2
  · rw [sf_L2 a] at hl
    rw [sf_K2 a] at hj
    rw [sf_a2 a]; omega
  · by_cases b : 4 ≤ f
    · rw [sf_Lt a b] at hl
      rw [sf_Kt a b] at hj
      rw [sf_att a b]; omega
    · rw [sf_Ln a b] at hl
      rw [sf_Kn a b] at hj
      rw [sf_an a b]; omega
/-- what is written out, by lines and places -/
theorem sf_atN {rk n m f l j : Nat} {p : sf_A} (h : sf_dm rk n m f) (hl : l < sf_L rk n m f) (hj : j < sf_K rk n m f) : p (sf_at rk f l j) = sf_N rk f (sf_mat p n m) l j := by
  obtain ⟨h1, h2, h3, h4, h5, h6, h7, h8⟩ := h
  by_cases a : rk < 2
  · rw [sf_L2 a] at hl
    rw [sf_K2 a] at hj
    obtain rfl : l = 0 := by omega
    rw [sf_a2 a, sf_N2 a]
    unfold sf_mat
    rw [if_pos ⟨hj, by omega⟩]
    rfl
  · by_cases b : 4 ≤ f
    · rw [sf_Lt a b] at hl
      rw [sf_Kt a b] at hj
      rw [sf_att a b, sf_Nt a b]
      unfold sf_mat
      rw [if_pos ⟨hj, hl⟩]
    · rw [sf_Ln a b] at hl
      rw [sf_Kn a b] at hj
      rw [sf_an a b, sf_Nn a b]
      unfold sf_mat
      rw [if_pos ⟨hl, hj⟩]
/-- a line and a place of a matrix, as a place of what is written out -/
theorem sf_atM {rk n m f l j : Nat} {M : Nat → sf_A} (h : sf_dm rk n m f) (hl : l < sf_L rk n m f) (hj : j < sf_K rk n m f) : M (sf_at rk f l j / 6) (sf_at rk f l j % 6) = sf_N rk f M l j := by
  obtain ⟨h1, h2, h3, h4, h5, h6, h7, h8⟩ := h
  by_cases a : rk < 2
  · rw [sf_L2 a] at hl
    obtain rfl : l = 0 := by omega
    rw [sf_a2 a, sf_N2 a, show 6 * j / 6 = j by omega, show 6 * j % 6 = 0 by omega]
  · by_cases b : 4 ≤ f
    · rw [sf_Lt a b] at hl
      rw [sf_att a b, sf_Nt a b, show (6 * j + l) / 6 = j by omega, show (6 * j + l) % 6 = l by omega]
    · rw [sf_Kn a b] at hj
      rw [sf_an a b, sf_Nn a b, show (6 * l + j) / 6 = l by omega, show (6 * l + j) % 6 = j by omega]
/-- each place of a matrix is some line's -/
theorem sf_atE {rk n m f i j : Nat} {M : Nat → sf_A} (h : sf_dm rk n m f) (hi : i < n) (hj : j < m) : ∃ l k, l < sf_L rk n m f ∧ k < sf_K rk n m f ∧ sf_at rk f l k = 6 * i + j ∧ sf_N rk f M l k = M i j := by
  obtain ⟨h1, h2, h3, h4, h5, h6, h7, h8⟩ := h
  by_cases a : rk < 2
  · have := h7 a
    obtain rfl : j = 0 := by omega
    exact ⟨0, i, by rw [sf_L2 a]; omega, by rw [sf_K2 a]; exact hi, by rw [sf_a2 a]; omega, sf_N2 a⟩
  · by_cases b : 4 ≤ f
    · exact ⟨j, i, by rw [sf_Lt a b]; exact hj, by rw [sf_Kt a b]; exact hi, sf_att a b, sf_Nt a b⟩
    · exact ⟨i, j, by rw [sf_Ln a b]; exact hi, by rw [sf_Kn a b]; exact hj, sf_an a b, sf_Nn a b⟩
/-- beyond the lines and places all is 0 -/
theorem sf_N0 {rk n m f l j : Nat} {M : Nat → sf_A} (h : sf_dm rk n m f) (z : ∀ i j, ¬ (i < n ∧ j < m) → M i j = 0) (hl : ¬ (l < sf_L rk n m f ∧ j < sf_K rk n m f)) : sf_N rk f M l j = 0 := by
  by_cases a : rk < 2
  · by_cases e : l = 0
    · subst e
      rw [sf_N2 a]
      rw [sf_L2 a, sf_K2 a] at hl
      exact z j 0 (fun t => hl ⟨by omega, t.1⟩)
    · exact sf_N2' a e
  · by_cases b : 4 ≤ f
    · rw [sf_Lt a b, sf_Kt a b] at hl
      rw [sf_Nt a b]
      exact z j l (fun t => hl ⟨t.2, t.1⟩)
    · rw [sf_Ln a b, sf_Kn a b] at hl
      rw [sf_Nn a b]
      exact z l j hl
theorem sf_mat0 (p : sf_A) (n m : Nat) : ∀ i j, ¬ (i < n ∧ j < m) → sf_mat p n m i j = 0 := by
  intro i j h
  unfold sf_mat
  rw [if_neg h]
/-- a matrix that was written out comes back -/
theorem sf_matM {p : sf_A} {n m : Nat} {M : Nat → sf_A} (hn : n ≤ 6) (hm : m ≤ 6) (hp : ∀ k, k < 36 → p k = M (k / 6) (k % 6)) (z : ∀ i j, ¬ (i < n ∧ j < m) → M i j = 0) : sf_mat p n m = M := by
  funext i j
  unfold sf_mat
  by_cases h : i < n ∧ j < m
  · obtain ⟨h1, h2⟩ := h
    rw [if_pos ⟨h1, h2⟩, hp _ (by omega), show (6 * i + j) / 6 = i by omega, show (6 * i + j) % 6 = j by omega]
  · rw [if_neg h, z i j h]
/-- how many numbers of a matrix are other than 0 -/
def sf_cn (n m : Nat) (M : Nat → sf_A) : Nat := sf_T n (fun i => sf_T m (fun j => sf_nz (M i j)))
theorem sf_cnN {rk n m f : Nat} {M : Nat → sf_A} (h : sf_dm rk n m f) : sf_T (sf_L rk n m f) (fun l => sf_T (sf_K rk n m f) (fun j => sf_nz (sf_N rk f M l j))) = sf_cn n m M := by
  obtain ⟨h1, h2, h3, h4, h5, h6, h7, h8⟩ := h
  unfold sf_cn
  by_cases a : rk < 2
  · rw [sf_L2 a, sf_K2 a, h7 a, sf_Tsw]
    exact sf_Tc (fun i hi => by
      show 0 + sf_nz (sf_N rk f M 0 i) = 0 + sf_nz (M i 0)
      rw [sf_N2 a])
  · by_cases b : 4 ≤ f
    · rw [sf_Lt a b, sf_Kt a b, sf_Tsw]
      exact sf_Tc (fun i hi => sf_Tc (fun j hj => by rw [sf_Nt a b]))
    · rw [sf_Ln a b, sf_Kn a b]
      exact sf_Tc (fun i hi => sf_Tc (fun j hj => by rw [sf_Nn a b]))
end
section
/-! a line's places and numbers: g below K, packed from e0 to e1 behind b; sp: places with 0 are left out -/
def sf_seg (pa na : sf_A) (b e0 e1 K : Nat) (g : sf_A) (sp : Bool) : Prop :=
  e0 ≤ e1 ∧ e1 ≤ e0 + K ∧ (sp = false → e1 = e0 + K) ∧ ∃ q : Nat → Nat,
    (∀ e, e0 ≤ e → e < e1 → pa (b + e) = nI (q e) ∧ q e < K ∧ na (b + e) = g (q e) ∧ (sp = true → ¬ g (q e) = 0)) ∧
    (∀ e e', e0 ≤ e → e < e' → e' < e1 → q e < q e') ∧
    (∀ j, j < K → ¬ g j = 0 → ∃ e, e0 ≤ e ∧ e < e1 ∧ q e = j)
theorem sf_seg0 (pa na : sf_A) (b e0 : Nat) (g : sf_A) (sp : Bool) : sf_seg pa na b e0 e0 0 g sp :=
  ⟨Nat.le_refl _, Nat.le_refl _, fun _ => rfl, fun _ => 0, fun e h1 h2 => absurd h2 (by omega), fun e e' h1 h2 h3 => absurd h3 (by omega), fun j h => absurd h (by omega)⟩
theorem sf_segA {pa na : sf_A} {b e0 e1 i : Nat} {g : sf_A} {sp : Bool} (h : sf_seg pa na b e0 e1 i g sp) (hg : sp = true → ¬ g i = 0) :
    sf_seg (upd pa (b + e1) (nI i)) (upd na (b + e1) (g i)) b e0 (e1 + 1) (i + 1) g sp := by
  obtain ⟨h1, h2, h3, q, q1, q2, q3⟩ := h
  refine ⟨by omega, by omega, fun z => by have := h3 z; omega, fun e => if e = e1 then i else q e, ?_, ?_, ?_⟩
  · intro e a1 a2
    dsimp only
    by_cases he : e = e1
    · subst he
      refine ⟨?_, ?_, ?_, ?_⟩
      · rw [pk_us, if_pos rfl]
      · rw [if_pos rfl]; omega
      · rw [pk_us, if_pos rfl]
      · rw [if_pos rfl]; exact hg
    · obtain ⟨b1, b2, b3, b4⟩ := q1 e a1 (by omega)
      rw [if_neg he, pk_un (by omega), pk_un (by omega)]
      exact ⟨b1, by omega, b3, b4⟩
  · intro e e' a1 a2 a3
    dsimp only
    rw [if_neg (show ¬ e = e1 by omega)]
    by_cases he : e' = e1
    · rw [if_pos he]
      exact (q1 e a1 (by omega)).2.1
    · rw [if_neg he]
      exact q2 e e' a1 a2 (by omega)
  · intro j a1 a2
    by_cases hj : j = i
    · exact ⟨e1, h1, by omega, by dsimp only; rw [if_pos rfl, hj]⟩
    · obtain ⟨e, c1, c2, c3⟩ := q3 j (by omega) a2
      exact ⟨e, c1, by omega, by dsimp only; rw [if_neg (show ¬ e = e1 by omega)]; exact c3⟩
theorem sf_segS {pa na : sf_A} {b e0 e1 i : Nat} {g : sf_A} {sp : Bool} (h : sf_seg pa na b e0 e1 i g sp) (hg : g i = 0) (hs : sp = true) :
    sf_seg pa na b e0 e1 (i + 1) g sp := by
  obtain ⟨h1, h2, h3, q, q1, q2, q3⟩ := h
  refine ⟨h1, by omega, fun z => absurd (z.symm.trans hs) (by decide), q, ?_, q2, ?_⟩
  · intro e a1 a2
    obtain ⟨b1, b2, b3, b4⟩ := q1 e a1 a2
    exact ⟨b1, by omega, b3, b4⟩
  · intro j a1 a2
    by_cases hj : j = i
    · subst hj
      exact absurd hg a2
    · exact q3 j (by omega) a2
theorem sf_segC {pa na pa' na' : sf_A} {b e0 e1 K : Nat} {g g' : sf_A} {sp : Bool} (h : sf_seg pa na b e0 e1 K g sp)
    (hp : ∀ e, e0 ≤ e → e < e1 → pa' (b + e) = pa (b + e)) (hn : ∀ e, e0 ≤ e → e < e1 → na' (b + e) = na (b + e)) (hg : ∀ j, j < K → g' j = g j) :
    sf_seg pa' na' b e0 e1 K g' sp := by
  obtain ⟨h1, h2, h3, q, q1, q2, q3⟩ := h
  refine ⟨h1, h2, h3, q, ?_, q2, ?_⟩
  · intro e a1 a2
    obtain ⟨b1, b2, b3, b4⟩ := q1 e a1 a2
    rw [hp e a1 a2, hn e a1 a2, hg _ b2]
    exact ⟨b1, b2, b3, b4⟩
  · intro j a1 a2
    rw [hg j a1] at a2
    exact q3 j a1 a2
/-! all lines below L -/
def sf_bd (la lb pa na : sf_A) (s c e L K : Nat) (N : Nat → sf_A) (sl sp : Bool) : Prop :=
  c ≤ L ∧ e ≤ L * K ∧ (sl = false → sp = false → e = L * K) ∧ (sp = true → ∀ t, t < e → ¬ na (36 * s + t) = 0) ∧
  sf_T e (fun t => sf_nz (na (36 * s + t))) = sf_T L (fun l => sf_T K (fun j => sf_nz (N l j))) ∧
  ∃ ln bg : Nat → Nat, bg 0 = 0 ∧ bg c = e ∧
    (∀ k, k < c → la (6 * s + k) = nI (ln k) ∧ ln k < L ∧ lb (7 * s + k) = nI (bg k) ∧ sf_seg pa na (36 * s) (bg k) (bg (k + 1)) K (N (ln k)) sp) ∧
    (∀ k k', k < k' → k' < c → ln k < ln k') ∧
    (∀ l, l < L → (sl = false ∨ ∃ j, j < K ∧ ¬ N l j = 0) → ∃ k, k < c ∧ ln k = l)
theorem sf_bd0 (la lb pa na : sf_A) (s K : Nat) (N : Nat → sf_A) (sl sp : Bool) : sf_bd la lb pa na s 0 0 0 K N sl sp :=
  ⟨Nat.le_refl _, Nat.zero_le _, fun _ _ => (Nat.zero_mul K).symm, fun _ t ht => absurd ht (by omega), rfl, fun _ => 0, fun _ => 0, rfl, rfl,
    fun k h => absurd h (by omega), fun k k' _ h => absurd h (by omega), fun l h => absurd h (by omega)⟩
theorem sf_mono {bg : Nat → Nat} {c : Nat} (h : ∀ k, k < c → bg k ≤ bg (k + 1)) : ∀ k, k ≤ c → bg k ≤ bg c := by
  induction c with
  | zero =>
    intro k hk
    obtain rfl : k = 0 := by omega
    exact Nat.le_refl _
  | succ c ih =>
    intro k hk
    by_cases e : k = c + 1
    · rw [e]; exact Nat.le_refl _
    · exact Nat.le_trans (ih (fun k hk => h k (by omega)) k (by omega)) (h c (by omega))
theorem sf_bdA {la lb pa na pa' na' : sf_A} {s c e e1 i K : Nat} {N : Nat → sf_A} {sl sp : Bool} (h : sf_bd la lb pa na s c e i K N sl sp)
    (hs : sf_seg pa' na' (36 * s) e e1 K (N i) sp) (hp : ∀ t, t < e → pa' (36 * s + t) = pa (36 * s + t)) (hn : ∀ t, t < e → na' (36 * s + t) = na (36 * s + t))
    (hT : sf_T e1 (fun t => sf_nz (na' (36 * s + t))) = sf_T e (fun t => sf_nz (na (36 * s + t))) + sf_T K (fun j => sf_nz (N i j))) :
    sf_bd (upd la (6 * s + c) (nI i)) (upd lb (7 * s + c) (nI e)) pa' na' s (c + 1) e1 (i + 1) K N sl sp := by
  obtain ⟨h1, h2, h3, h4, h5, ln, bg, g0, gc, g1, g2, g3⟩ := h
  have hs' := hs
  obtain ⟨s1, s2, s3, q, q1, q2, q3⟩ := hs'
  have hm : ∀ k, k ≤ c → bg k ≤ e := by
    intro k hk
    rw [← gc]
    exact sf_mono (fun k hk => (g1 k hk).2.2.2.1) k hk
  refine ⟨by omega, by rw [Nat.succ_mul]; omega, fun a b => by have := h3 a b; have := s3 b; rw [Nat.succ_mul]; omega, ?_, ?_, fun k => if k = c then i else ln k, fun k => if k = c + 1 then e1 else bg k, ?_, ?_, ?_, ?_, ?_⟩
  · intro z t ht
    by_cases a : t < e
    · rw [hn t a]; exact h4 z t a
    · obtain ⟨b1, b2, b3, b4⟩ := q1 t (by omega) ht
      rw [b3]; exact b4 z
  · rw [hT, h5]; rfl
  · dsimp only; rw [if_neg (by omega)]; exact g0
  · dsimp only; rw [if_pos rfl]
  · intro k hk
    by_cases a : k = c
    · subst a
      dsimp only
      rw [if_pos rfl, if_pos rfl, if_neg (by omega), pk_us, pk_us, gc]
      exact ⟨rfl, by omega, rfl, hs⟩
    · obtain ⟨b1, b2, b3, b4⟩ := g1 k (by omega)
      dsimp only
      rw [if_neg a, if_neg (by omega), if_neg (show ¬ k + 1 = c + 1 by omega), pk_un (by omega), pk_un (by omega)]
      refine ⟨b1, by omega, b3, sf_segC b4 ?_ ?_ (fun _ _ => rfl)⟩
      · intro t _ ht
        exact hp t (by have := hm (k + 1) (by omega); omega)
      · intro t _ ht
        exact hn t (by have := hm (k + 1) (by omega); omega)
  · intro k k' a b
    dsimp only
    rw [if_neg (show ¬ k = c by omega)]
    by_cases z : k' = c
    · rw [if_pos z]; exact (g1 k (by omega)).2.1
    · rw [if_neg z]; exact g2 k k' a (by omega)
  · intro l a b
    by_cases z : l = i
    · exact ⟨c, by omega, by dsimp only; rw [if_pos rfl, z]⟩
    · obtain ⟨k, k1, k2⟩ := g3 l (by omega) b
      exact ⟨k, by omega, by dsimp only; rw [if_neg (by omega)]; exact k2⟩
theorem sf_bdS {la lb pa na : sf_A} {s c e i K : Nat} {N : Nat → sf_A} {sl sp : Bool} (h : sf_bd la lb pa na s c e i K N sl sp) (hs : sl = true)
    (hz : ∀ j, j < K → N i j = 0) : sf_bd la lb pa na s c e (i + 1) K N sl sp := by
  obtain ⟨h1, h2, h3, h4, h5, ln, bg, g0, gc, g1, g2, g3⟩ := h
  refine ⟨by omega, by rw [Nat.succ_mul]; omega, fun a => absurd (a.symm.trans hs) (by decide), h4, ?_, ln, bg, g0, gc, ?_, g2, ?_⟩
  · rw [h5]
    show _ = sf_T i (fun l => sf_T K (fun j => sf_nz (N l j))) + sf_T K (fun j => sf_nz (N i j))
    rw [sf_T0 (n := K) (fun j hj => sf_nz0 (hz j hj))]
    rfl
  · intro k hk
    obtain ⟨b1, b2, b3, b4⟩ := g1 k hk
    exact ⟨b1, by omega, b3, b4⟩
  · intro l a b
    by_cases z : l = i
    · subst z
      rcases b with b | ⟨j, j1, j2⟩
      · exact absurd (b.symm.trans hs) (by decide)
      · exact absurd (hz j j1) j2
    · exact g3 l (by omega) b
theorem sf_bdC {la lb pa na la' lb' pa' na' : sf_A} {s c e L K : Nat} {N : Nat → sf_A} {sl sp : Bool} (h : sf_bd la lb pa na s c e L K N sl sp)
    (ha : ∀ k, k < c → la' (6 * s + k) = la (6 * s + k)) (hb : ∀ k, k < c → lb' (7 * s + k) = lb (7 * s + k))
    (hp : ∀ t, t < e → pa' (36 * s + t) = pa (36 * s + t)) (hn : ∀ t, t < e → na' (36 * s + t) = na (36 * s + t)) : sf_bd la' lb' pa' na' s c e L K N sl sp := by
  obtain ⟨h1, h2, h3, h4, h5, ln, bg, g0, gc, g1, g2, g3⟩ := h
  have hm : ∀ k, k ≤ c → bg k ≤ e := by
    intro k hk
    rw [← gc]
    exact sf_mono (fun k hk => (g1 k hk).2.2.2.1) k hk
  refine ⟨h1, h2, h3, ?_, ?_, ln, bg, g0, gc, ?_, g2, g3⟩
  · intro z t ht
    rw [hn t ht]; exact h4 z t ht
  · rw [← h5]
    exact sf_Tc (fun t ht => by rw [hn t ht])
  · intro k hk
    obtain ⟨b1, b2, b3, b4⟩ := g1 k hk
    rw [ha k hk, hb k hk]
    refine ⟨b1, b2, b3, sf_segC b4 ?_ ?_ (fun _ _ => rfl)⟩
    · intro t _ ht
      exact hp t (by have := hm (k + 1) (by omega); omega)
    · intro t _ ht
      exact hn t (by have := hm (k + 1) (by omega); omega)
/-! a slot -/
def sf_slot (S : sf_Sl) (s rk n m f : Nat) (M : Nat → sf_A) : Prop :=
  sf_hd S s rk n m f ∧ (∀ i j, ¬ (i < n ∧ j < m) → M i j = 0) ∧ ∃ c e, S.2.2.2.2.1 s = nI c ∧ S.2.2.2.2.2.2.1 (7 * s + c) = nI e ∧
    sf_bd S.2.2.2.2.2.1 S.2.2.2.2.2.2.1 S.2.2.2.2.2.2.2.1 S.2.2.2.2.2.2.2.2 s c e (sf_L rk n m f) (sf_K rk n m f) (sf_N rk f M) (sf_sl rk f) (sf_sp rk f)
/-- all but slot s is as it was -/
def sf_ne (S S' : sf_Sl) (s : Nat) : Prop :=
  (∀ x, x ≠ s → S'.1 x = S.1 x ∧ S'.2.1 x = S.2.1 x ∧ S'.2.2.1 x = S.2.2.1 x ∧ S'.2.2.2.1 x = S.2.2.2.1 x ∧ S'.2.2.2.2.1 x = S.2.2.2.2.1 x) ∧
  (∀ x, x < 6 * s ∨ 6 * s + 6 ≤ x → S'.2.2.2.2.2.1 x = S.2.2.2.2.2.1 x) ∧ (∀ x, x < 7 * s ∨ 7 * s + 7 ≤ x → S'.2.2.2.2.2.2.1 x = S.2.2.2.2.2.2.1 x) ∧
  (∀ x, x < 36 * s ∨ 36 * s + 36 ≤ x → S'.2.2.2.2.2.2.2.1 x = S.2.2.2.2.2.2.2.1 x ∧ S'.2.2.2.2.2.2.2.2 x = S.2.2.2.2.2.2.2.2 x)
theorem sf_ne_r (S : sf_Sl) (s : Nat) : sf_ne S S s :=
  ⟨fun _ _ => ⟨rfl, rfl, rfl, rfl, rfl⟩, fun _ _ => rfl, fun _ _ => rfl, fun _ _ => ⟨rfl, rfl⟩⟩
theorem sf_ne_t {S S' S'' : sf_Sl} {s : Nat} (h : sf_ne S S' s) (h' : sf_ne S' S'' s) : sf_ne S S'' s := by
  obtain ⟨a1, a2, a3, a4⟩ := h
  obtain ⟨b1, b2, b3, b4⟩ := h'
  refine ⟨?_, fun x hx => (b2 x hx).trans (a2 x hx), fun x hx => (b3 x hx).trans (a3 x hx), fun x hx => ⟨(b4 x hx).1.trans (a4 x hx).1, (b4 x hx).2.trans (a4 x hx).2⟩⟩
  intro x hx
  obtain ⟨c1, c2, c3, c4, c5⟩ := a1 x hx
  obtain ⟨d1, d2, d3, d4, d5⟩ := b1 x hx
  exact ⟨d1.trans c1, d2.trans c2, d3.trans c3, d4.trans c4, d5.trans c5⟩
theorem sf_LK36 {rk n m f e : Nat} (h : sf_dm rk n m f) (he : e ≤ sf_L rk n m f * sf_K rk n m f) : e ≤ 36 := by
  obtain ⟨a1, a2, a3, a4, a5⟩ := sf_LK h
  exact Nat.le_trans he (Nat.le_trans (Nat.mul_le_mul a2 a4) (by decide))
/-- another slot is as it was -/
theorem sf_slotN {S S' : sf_Sl} {s t rk n m f : Nat} {M : Nat → sf_A} (h : sf_slot S t rk n m f M) (hn : sf_ne S S' s) (ht : t ≠ s) : sf_slot S' t rk n m f M := by
  obtain ⟨⟨h1, h2, h3, h4, h5, h6⟩, hz, c, e, hc, he, hb⟩ := h
  obtain ⟨b1, b2, b3, b4⟩ := hn
  obtain ⟨d1, d2, d3, d4, d5⟩ := b1 t ht
  obtain ⟨l1, l2, l3, l4, l5⟩ := sf_LK h6
  have hcL := hb.1
  have he36 := sf_LK36 h6 hb.2.1
  refine ⟨⟨h1, d1.trans h2, d2.trans h3, d3.trans h4, d4.trans h5, h6⟩, hz, c, e, d5.trans hc, (b3 _ (by omega)).trans he, sf_bdC hb ?_ ?_ ?_ ?_⟩
  · intro k hk
    exact b2 _ (by omega)
  · intro k hk
    exact b3 _ (by omega)
  · intro k hk
    exact (b4 _ (by omega)).1
  · intro k hk
    exact (b4 _ (by omega)).2
/-- how full a slot is -/
theorem sf_room {S : sf_Sl} {s c e rk n m f : Nat} {M : Nat → sf_A} (h6 : sf_dm rk n m f)
    (hb : sf_bd S.2.2.2.2.2.1 S.2.2.2.2.2.2.1 S.2.2.2.2.2.2.2.1 S.2.2.2.2.2.2.2.2 s c e (sf_L rk n m f) (sf_K rk n m f) (sf_N rk f M) (sf_sl rk f) (sf_sp rk f)) :
    c ≤ 6 ∧ e ≤ 36 ∧ sf_cn n m M ≤ e ∧ e ≤ n * m ∧ (sf_sp rk f = true → e = sf_cn n m M) ∧ sf_T e (fun t => sf_nz (S.2.2.2.2.2.2.2.2 (36 * s + t))) = sf_cn n m M ∧ (sf_sl rk f = false → sf_sp rk f = false → e = n * m) := by
  obtain ⟨l1, l2, l3, l4, l5⟩ := sf_LK h6
  obtain ⟨h1, h2, h3, h4, h5, _⟩ := hb
  rw [sf_cnN h6] at h5
  refine ⟨by omega, sf_LK36 h6 h2, ?_, by rw [← l5]; exact h2, ?_, h5, fun a b => by rw [← l5]; exact h3 a b⟩
  · rw [← h5]
    exact sf_Tle (fun t ht => sf_nzl _)
  · intro z
    rw [← h5]
    exact (sf_T1 (fun t ht => sf_nz1 (h4 z t ht))).symm
/-- a number that stays other than 0 -/
theorem sf_bdU {la lb pa na : sf_A} {s c e L K : Nat} {N N' : Nat → sf_A} {sl sp : Bool} (h : sf_bd la lb pa na s c e L K N sl sp) {k t j l b0 b1 : Nat} {x : Int32}
    (hx : ¬ x = 0) (k1 : k < c) (hl : la (6 * s + k) = nI l) (hb0 : lb (7 * s + k) = nI b0) (hb1 : lb (7 * s + k + 1) = nI b1) (hce : lb (7 * s + c) = nI e)
    (k2' : b0 ≤ t) (k3' : t < b1) (b136 : b1 ≤ 36) (k4 : pa (36 * s + t) = nI j) (k5 : j < 6) (hl6 : l < 6) (k6' : ¬ N l j = 0)
    (k7' : ∀ l' i, N' l' i = if l' = l ∧ i = j then x else N l' i) (hK : K ≤ 6) (hL : L ≤ 6) (he36 : e ≤ 36) :
    sf_bd la lb pa (upd na (36 * s + t) x) s c e L K N' sl sp := by
  obtain ⟨h1, h2, h3, h4, h5, ln, bg, g0, gc, g1, g2, g3⟩ := h
  have hm : ∀ c', c' ≤ c → ∀ k', k' ≤ c' → bg k' ≤ bg c' := by
    intro c' hc' k' hk'
    exact sf_mono (fun k hk => (g1 k (by omega)).2.2.2.1) k' hk'
  have hbe : ∀ k', k' ≤ c → bg k' ≤ 36 := fun k' hk' => by have := hm c (Nat.le_refl _) k' hk'; omega
  have el : ln k = l := sf_inj (by have := (g1 k k1).2.1; omega) (by omega) ((g1 k k1).1.symm.trans hl)
  have eb0 : bg k = b0 := sf_inj (by have := hbe k (by omega); omega) (by omega) ((g1 k k1).2.2.1.symm.trans hb0)
  have eb1 : bg (k + 1) = b1 := by
    by_cases a : k + 1 = c
    · have : nI b1 = nI e := hb1.symm.trans (by rw [show 7 * s + k + 1 = 7 * s + c by omega]; exact hce)
      have := sf_inj (by omega) (by omega) this
      rw [a, gc, this]
    · exact sf_inj (by have := hbe (k + 1) (by omega); omega) (by omega) ((g1 (k + 1) (by omega)).2.2.1.symm.trans hb1)
  have k2 : bg k ≤ t := by omega
  have k3 : t < bg (k + 1) := by omega
  have k6 : ¬ N (ln k) j = 0 := by rw [el]; exact k6'
  have k7 : ∀ l' i, N' l' i = if l' = ln k ∧ i = j then x else N l' i := by rw [el]; exact k7'
  have hz : ∀ l i, sf_nz (N' l i) = sf_nz (N l i) := by
    intro l i
    rw [k7]
    by_cases a : l = ln k ∧ i = j
    · rw [if_pos a, sf_nz1 hx, a.1, a.2, sf_nz1 k6]
    · rw [if_neg a]
  have hnat : ¬ na (36 * s + t) = 0 := by
    obtain ⟨s1, s2, s3, q, q1, q2, q3⟩ := (g1 k k1).2.2.2
    obtain ⟨b1, b2, b3, b4⟩ := q1 t k2 k3
    have e1 : q t = j := sf_inj (by omega) (by omega) (b1.symm.trans k4)
    rw [b3, e1]; exact k6
  have hnz : ∀ y, sf_nz (upd na (36 * s + t) x y) = sf_nz (na y) := by
    intro y
    by_cases a : y = 36 * s + t
    · rw [a, pk_us, sf_nz1 hx, sf_nz1 hnat]
    · rw [pk_un a]
  refine ⟨h1, h2, h3, ?_, ?_, ln, bg, g0, gc, ?_, g2, ?_⟩
  · intro z y hy
    by_cases a : y = t
    · rw [a, pk_us]; exact hx
    · rw [pk_un (by omega)]; exact h4 z y hy
  · rw [sf_Tc (fun y _ => hnz (36 * s + y)), h5]
    exact sf_Tc (fun l _ => sf_Tc (fun i _ => (hz l i).symm))
  · intro k' hk'
    obtain ⟨b1, b2, b3, b4⟩ := g1 k' hk'
    refine ⟨b1, b2, b3, ?_⟩
    by_cases a : k' = k
    · subst a
      obtain ⟨s1, s2, s3, q, q1, q2, q3⟩ := b4
      have e1 : q t = j := sf_inj (by have := (q1 t k2 k3).2.1; omega) (by omega) ((q1 t k2 k3).1.symm.trans k4)
      have jK : j < K := by have := (q1 t k2 k3).2.1; omega
      refine ⟨s1, s2, s3, q, ?_, q2, ?_⟩
      · intro y y1 y2
        obtain ⟨c1, c2, c3, c4⟩ := q1 y y1 y2
        by_cases b : y = t
        · subst b
          rw [pk_us, k7, if_pos ⟨rfl, e1⟩]
          exact ⟨c1, c2, rfl, fun _ => hx⟩
        · have hq : ¬ q y = j := by
            rcases Nat.lt_or_ge y t with z | z
            · have := q2 y t y1 z k3; omega
            · have := q2 t y k2 (by omega) y2; omega
          rw [pk_un (by omega), k7, if_neg (fun z => hq z.2)]
          exact ⟨c1, c2, c3, c4⟩
      · intro i i1 i2
        by_cases b : i = j
        · exact ⟨t, k2, k3, by rw [e1, b]⟩
        · rw [k7, if_neg (fun z => b z.2)] at i2
          exact q3 i i1 i2
    · have hl : ¬ ln k' = ln k := by
        rcases Nat.lt_or_ge k' k with z | z
        · have := g2 k' k z k1; omega
        · have := g2 k k' (by omega) hk'; omega
      refine sf_segC b4 (fun _ _ _ => rfl) ?_ (fun i _ => by rw [k7, if_neg (fun z => hl z.1)])
      intro y y1 y2
      refine pk_un ?_
      rcases Nat.lt_or_ge k' k with z | z
      · have := hm k (by omega) (k' + 1) (by omega); omega
      · have := hm k' (by omega) (k + 1) (by omega); omega
  · intro l l1 l2
    refine g3 l l1 ?_
    rcases l2 with l2 | ⟨i, i1, i2⟩
    · exact Or.inl l2
    · refine Or.inr ⟨i, i1, fun z => ?_⟩
      have := hz l i
      rw [sf_nz1 i2, sf_nz0 z] at this
      omega
end
section
theorem sf_clear {post : St1 → Prop} {S : sf_Sl} {p : sf_A} {F : sf_Fm} {W : sf_Wk} (H : ∀ p', (∀ k, k < 36 → p' k = 0) → post (sf_mk S p' F W)) : wpX_clearPlain post (sf_mk S p F W) :=
  pk_loop (fun n i s => wX_clearPlain_2 post F.1 F.2.1 F.2.2.1 W.1 n (nI i) S.1 S.2.1 S.2.2.1 S.2.2.2.1 S.2.2.2.2.1 S.2.2.2.2.2.1 S.2.2.2.2.2.2.1 S.2.2.2.2.2.2.2.1 S.2.2.2.2.2.2.2.2 F.2.2.2.1 F.2.2.2.2.1 F.2.2.2.2.2.1 F.2.2.2.2.2.2.1 F.2.2.2.2.2.2.2.1 F.2.2.2.2.2.2.2.2.1 F.2.2.2.2.2.2.2.2.2 W.2.1 s W.2.2.1 W.2.2.2.1 W.2.2.2.2.1 W.2.2.2.2.2.1 W.2.2.2.2.2.2.1 W.2.2.2.2.2.2.2.1 W.2.2.2.2.2.2.2.2.1 W.2.2.2.2.2.2.2.2.2.1 W.2.2.2.2.2.2.2.2.2.2.1 W.2.2.2.2.2.2.2.2.2.2.2) (fun i s => ∀ j, j < i → s j = 0) 36 0 p (by omega) (fun j hj => absurd hj (by omega))
    (fun n s h => pk_le 36 36 (fun _ => H s h) (fun z => absurd z (by omega)))
    (fun n i s hi h hw => pk_le 36 i (fun z => absurd z (by omega)) (fun _ => ⟨pk_in i 36 hi, nm_e (nm_r (nI_1 i) (hw _ (fun j hj => by
      rw [nI_clamp (by omega)]
      by_cases e : j = i
      · rw [e, pk_us]
      · rw [pk_un e]; exact h j (by omega))))⟩))
theorem sf_isT {post : Int32 → Prop} {S : sf_Sl} {p : sf_A} {F : sf_Fm} {W : sf_Wk} {s rk n m f : Nat} (h : sf_hd S s rk n m f) (H1 : rk = 2 → 4 ≤ f → post 1) (H0 : ¬ (rk = 2 ∧ 4 ≤ f) → post 0) :
    wpX_isTurned post (sf_mk S p F W) (nI s) := by
  obtain ⟨hs, h1, h2, h3, h4, hd⟩ := h
  have hf := sf_dm7 hd
  have hr := hd.1
  have e : (nI s).toNatClampNeg = s := nI_clamp (by omega)
  refine And.intro (pk_in s 13 hs) (pk_eq rk 2 (fun z => And.intro (pk_in s 13 hs) (pk_lt f 4 (fun y => H0 (fun t => absurd t.2 (by omega))) (fun y => H1 z y) (by rw [e]; exact h4))) (fun z => H0 (fun t => z t.1)) (by rw [e]; exact h1))
theorem sf_lineC {post : Int32 → Prop} {S : sf_Sl} {p : sf_A} {F : sf_Fm} {W : sf_Wk} {s rk n m f : Nat} (h : sf_hd S s rk n m f) (H : post (nI (sf_L rk n m f))) :
    wpX_lineCount post (sf_mk S p F W) (nI s) := by
  have hh := h
  obtain ⟨hs, h1, h2, h3, h4, hd⟩ := h
  have hf := sf_dm7 hd
  have hr := hd.1
  have e : (nI s).toNatClampNeg = s := nI_clamp (by omega)
  refine And.intro (pk_in s 13 hs) (pk_le 2 rk (fun z => sf_isT hh (fun y1 y2 => br_f sf_ne0 (And.intro (pk_in s 13 hs) ?_)) (fun y => br_t rfl (And.intro (pk_in s 13 hs) ?_))) (fun z => ?_) rfl (by rw [e]; exact h1))
  · rw [sf_Lt (by omega) y2] at H
    rw [e, h3]; exact H
  · rw [sf_Ln (by omega) (fun t => y ⟨by omega, t⟩)] at H
    rw [e, h2]; exact H
  · rw [sf_L2 (by omega)] at H
    exact H
theorem sf_lineK {post : Int32 → Prop} {S : sf_Sl} {p : sf_A} {F : sf_Fm} {W : sf_Wk} {s rk n m f : Nat} (h : sf_hd S s rk n m f) (H : post (nI (sf_K rk n m f))) :
    wpX_lineLength post (sf_mk S p F W) (nI s) := by
  have hh := h
  obtain ⟨hs, h1, h2, h3, h4, hd⟩ := h
  have hf := sf_dm7 hd
  have hr := hd.1
  have e : (nI s).toNatClampNeg = s := nI_clamp (by omega)
  refine And.intro (pk_in s 13 hs) (pk_le 2 rk (fun z => sf_isT hh (fun y1 y2 => br_f sf_ne0 (And.intro (pk_in s 13 hs) ?_)) (fun y => br_t rfl (And.intro (pk_in s 13 hs) ?_))) (fun z => And.intro (pk_in s 13 hs) ?_) rfl (by rw [e]; exact h1))
  · rw [sf_Kt (by omega) y2] at H
    rw [e, h2]; exact H
  · rw [sf_Kn (by omega) (fun t => y ⟨by omega, t⟩)] at H
    rw [e, h3]; exact H
  · rw [sf_K2 (by omega)] at H
    rw [e, h2]; exact H
theorem sf_skL {post : Int32 → Prop} {S : sf_Sl} {p : sf_A} {F : sf_Fm} {W : sf_Wk} {s rk n m f : Nat} (h : sf_hd S s rk n m f) (H1 : sf_sl rk f = true → post 1) (H0 : sf_sl rk f = false → post 0) :
    wpX_skipsLines post (sf_mk S p F W) (nI s) := by
  obtain ⟨hs, h1, h2, h3, h4, hd⟩ := h
  have hf := sf_dm7 hd
  have hr := hd.1
  have e : (nI s).toNatClampNeg = s := nI_clamp (by omega)
  have q := sf_and2 f hf
  refine And.intro (pk_in s 13 hs) (pk_eq rk 2 (fun z => And.intro (pk_in s 13 hs) (br_c (fun y => H0 ?_) (fun y => H1 ?_))) (fun z => H0 ?_) (by rw [e]; exact h1))
  · rw [e, h4, q] at y
    unfold sf_sl
    exact decide_eq_false (fun t => absurd t.2 (by omega))
  · rw [e, h4, q] at y
    unfold sf_sl
    exact decide_eq_true ⟨z, by omega⟩
  · unfold sf_sl
    exact decide_eq_false (fun t => z t.1)
theorem sf_skP {post : Int32 → Prop} {S : sf_Sl} {p : sf_A} {F : sf_Fm} {W : sf_Wk} {s rk n m f : Nat} (h : sf_hd S s rk n m f) (H1 : sf_sp rk f = true → post 1) (H0 : sf_sp rk f = false → post 0) :
    wpX_skipsPlaces post (sf_mk S p F W) (nI s) := by
  obtain ⟨hs, h1, h2, h3, h4, hd⟩ := h
  have hf := sf_dm7 hd
  have hr := hd.1
  have e : (nI s).toNatClampNeg = s := nI_clamp (by omega)
  have q := sf_and1 f hf
  refine And.intro (pk_in s 13 hs) (pk_le rk 0 (fun z => H0 ?_) (fun z => And.intro (pk_in s 13 hs) (br_c (fun y => H0 ?_) (fun y => H1 ?_))) (by rw [e]; exact h1))
  · unfold sf_sp
    exact decide_eq_false (fun t => absurd t.1 (by omega))
  · rw [e, h4, q] at y
    unfold sf_sp
    exact decide_eq_false (fun t => absurd t.2 (by omega))
  · rw [e, h4, q] at y
    unfold sf_sp
    exact decide_eq_true ⟨z, by omega⟩
theorem sf_plA {post : Int32 → Prop} {S : sf_Sl} {p : sf_A} {F : sf_Fm} {W : sf_Wk} {s rk n m f l j : Nat} (h : sf_hd S s rk n m f) (hl : l < sf_L rk n m f) (hj : j < sf_K rk n m f)
    (H : post (sf_N rk f (sf_mat p n m) l j)) : wpX_plainAt post (sf_mk S p F W) (nI s) (nI l) (nI j) := by
  have hh := h
  obtain ⟨hs, h1, h2, h3, h4, hd⟩ := h
  have hf := sf_dm7 hd
  have hr := hd.1
  have e : (nI s).toNatClampNeg = s := nI_clamp (by omega)
  have a36 := sf_a36 hd hl hj
  rw [← sf_atN hd hl hj] at H
  refine And.intro (pk_in s 13 hs) (pk_le 2 rk (fun z => sf_isT hh (fun y1 y2 => br_f sf_ne0 ?_) (fun y => br_t rfl ?_)) (fun z => ?_) rfl (by rw [e]; exact h1))
  · rw [sf_att (by omega) y2] at H a36
    refine And.intro (pk_in _ 36 a36 (sf_i6 j l)) ?_
    rw [pk_cl _ (sf_i6 j l)]; exact H
  · rw [sf_an (by omega) (fun t => y ⟨by omega, t⟩)] at H a36
    refine And.intro (pk_in _ 36 a36 (sf_i6 l j)) ?_
    rw [pk_cl _ (sf_i6 l j)]; exact H
  · rw [sf_a2 (by omega)] at H a36
    refine And.intro (pk_in _ 36 a36 (sf_i6' j)) ?_
    rw [pk_cl _ (sf_i6' j)]; exact H
theorem sf_filledL {post : Int32 → Prop} {S : sf_Sl} {p : sf_A} {F : sf_Fm} {W : sf_Wk} {s rk n m f l : Nat} (h : sf_hd S s rk n m f) (hl : l < sf_L rk n m f)
    (H1 : post 1) (H0 : (∀ j, j < sf_K rk n m f → sf_N rk f (sf_mat p n m) l j = 0) → post 0) : wpX_lineFilled post (sf_mk S p F W) (nI s) (nI l) := by
  have hK := (sf_LK h.2.2.2.2.2).2.2.2.1
  unfold wpX_lineFilled
  refine sf_lineK (S := S) (p := p) (F := F) (W := W) h ?_
  refine pk_loop (fun k i (x : Int32) => wX_lineFilled_12 post (nI s) (nI l) (nI (sf_K rk n m f)) F.1 F.2.1 F.2.2.1 W.1 S.1 S.2.1 S.2.2.1 S.2.2.2.1 S.2.2.2.2.1 S.2.2.2.2.2.1 S.2.2.2.2.2.2.1 S.2.2.2.2.2.2.2.1 S.2.2.2.2.2.2.2.2 F.2.2.2.1 F.2.2.2.2.1 F.2.2.2.2.2.1 F.2.2.2.2.2.2.1 F.2.2.2.2.2.2.2.1 F.2.2.2.2.2.2.2.2.1 F.2.2.2.2.2.2.2.2.2 W.2.1 p W.2.2.1 W.2.2.2.1 W.2.2.2.2.1 W.2.2.2.2.2.1 W.2.2.2.2.2.2.1 W.2.2.2.2.2.2.2.1 W.2.2.2.2.2.2.2.2.1 W.2.2.2.2.2.2.2.2.2.1 W.2.2.2.2.2.2.2.2.2.2.1 W.2.2.2.2.2.2.2.2.2.2.2 k x (nI i))
    (fun i x => x = 1 ∨ (x = 0 ∧ ∀ j, j < i → sf_N rk f (sf_mat p n m) l j = 0)) (sf_K rk n m f) 0 0 (by omega) (Or.inr ⟨rfl, fun j hj => absurd hj (by omega)⟩) ?_ ?_
  · intro k x hx
    refine pk_le (sf_K rk n m f) (sf_K rk n m f) (fun _ => ?_) (fun z => absurd z (by omega))
    rcases hx with hx | ⟨hx, hz⟩
    · subst hx
      exact And.intro (by decide) H1
    · subst hx
      exact And.intro (by decide) (H0 hz)
  · intro k i x hi hx hw
    refine pk_le (sf_K rk n m f) i (fun z => absurd z (by omega)) (fun _ => ?_)
    rcases hx with hx | ⟨hx, hz⟩
    · subst hx
      exact br_f sf_ne0 (nm_r (nI_1 i) (hw 1 (Or.inl rfl)))
    · subst hx
      refine br_t rfl (sf_plA (S := S) (p := p) (F := F) (W := W) h hl hi (br_c (fun z => nm_r (nI_1 i) (hw 0 (Or.inr ⟨rfl, fun j hj => ?_⟩))) (fun z => nm_r (nI_1 i) (hw 1 (Or.inl rfl)))))
      by_cases e : j = i
      · rw [e]; exact z
      · exact hz j (by omega)
/-- a line is packed -/
theorem sf_packLine {post : Int32 → St1 → Prop} {S : sf_Sl} {p : sf_A} {F : sf_Fm} {W : sf_Wk} {s rk n m f l e0 : Nat} (h : sf_hd S s rk n m f) (hl : l < sf_L rk n m f)
    (he : e0 + sf_K rk n m f ≤ 36)
    (H : ∀ (e1 : Nat) (pa na : sf_A), sf_seg pa na (36 * s) e0 e1 (sf_K rk n m f) (sf_N rk f (sf_mat p n m) l) (sf_sp rk f) →
      (∀ x, x < 36 * s + e0 ∨ 36 * s + 36 ≤ x → pa x = S.2.2.2.2.2.2.2.1 x ∧ na x = S.2.2.2.2.2.2.2.2 x) →
      sf_T e1 (fun t => sf_nz (na (36 * s + t))) = sf_T e0 (fun t => sf_nz (S.2.2.2.2.2.2.2.2 (36 * s + t))) + sf_T (sf_K rk n m f) (fun j => sf_nz (sf_N rk f (sf_mat p n m) l j)) →
      post (nI e1) (sf_mk (S.1, S.2.1, S.2.2.1, S.2.2.2.1, S.2.2.2.2.1, S.2.2.2.2.2.1, S.2.2.2.2.2.2.1, (pa), (na)) p F W)) : wpX_packLine post (sf_mk S p F W) (nI s) (nI l) (nI e0) := by
  have hK := (sf_LK h.2.2.2.2.2).2.2.2.1
  have hs := h.1
  have main : ∀ x6 : Int32, (x6 = 1 ∧ sf_sp rk f = true ∨ x6 = 0 ∧ sf_sp rk f = false) → ∃ fu, wX_packLine_20 post (nI s) (nI l) (nI (sf_K rk n m f)) x6 F.1 F.2.1 F.2.2.1 W.1 fu (nI e0) 0 S.1 S.2.1 S.2.2.1 S.2.2.2.1 S.2.2.2.2.1 S.2.2.2.2.2.1 S.2.2.2.2.2.2.1 S.2.2.2.2.2.2.2.1 S.2.2.2.2.2.2.2.2 F.2.2.2.1 F.2.2.2.2.1 F.2.2.2.2.2.1 F.2.2.2.2.2.2.1 F.2.2.2.2.2.2.2.1 F.2.2.2.2.2.2.2.2.1 F.2.2.2.2.2.2.2.2.2 W.2.1 p W.2.2.1 W.2.2.2.1 W.2.2.2.2.1 W.2.2.2.2.2.1 W.2.2.2.2.2.2.1 W.2.2.2.2.2.2.2.1 W.2.2.2.2.2.2.2.2.1 W.2.2.2.2.2.2.2.2.2.1 W.2.2.2.2.2.2.2.2.2.2.1 W.2.2.2.2.2.2.2.2.2.2.2 := by
    intro x6 hx
    refine pk_loop (σ := Nat × sf_A × sf_A) (fun k i t => wX_packLine_20 post (nI s) (nI l) (nI (sf_K rk n m f)) x6 F.1 F.2.1 F.2.2.1 W.1 k (nI t.1) (nI i) S.1 S.2.1 S.2.2.1 S.2.2.2.1 S.2.2.2.2.1 S.2.2.2.2.2.1 S.2.2.2.2.2.2.1 (t.2.1) (t.2.2) F.2.2.2.1 F.2.2.2.2.1 F.2.2.2.2.2.1 F.2.2.2.2.2.2.1 F.2.2.2.2.2.2.2.1 F.2.2.2.2.2.2.2.2.1 F.2.2.2.2.2.2.2.2.2 W.2.1 p W.2.2.1 W.2.2.2.1 W.2.2.2.2.1 W.2.2.2.2.2.1 W.2.2.2.2.2.2.1 W.2.2.2.2.2.2.2.1 W.2.2.2.2.2.2.2.2.1 W.2.2.2.2.2.2.2.2.2.1 W.2.2.2.2.2.2.2.2.2.2.1 W.2.2.2.2.2.2.2.2.2.2.2)
      (fun i t => sf_seg t.2.1 t.2.2 (36 * s) e0 t.1 i (sf_N rk f (sf_mat p n m) l) (sf_sp rk f) ∧
        (∀ x, x < 36 * s + e0 ∨ 36 * s + 36 ≤ x → t.2.1 x = S.2.2.2.2.2.2.2.1 x ∧ t.2.2 x = S.2.2.2.2.2.2.2.2 x) ∧
        sf_T t.1 (fun y => sf_nz (t.2.2 (36 * s + y))) = sf_T e0 (fun y => sf_nz (S.2.2.2.2.2.2.2.2 (36 * s + y))) + sf_T i (fun j => sf_nz (sf_N rk f (sf_mat p n m) l j)))
      (sf_K rk n m f) 0 (e0, S.2.2.2.2.2.2.2.1, S.2.2.2.2.2.2.2.2) (by omega) ⟨sf_seg0 _ _ _ _ _ _, fun x _ => ⟨rfl, rfl⟩, rfl⟩ ?_ ?_
    · intro k t ht
      obtain ⟨e1, pa, na⟩ := t
      exact pk_le (sf_K rk n m f) (sf_K rk n m f) (fun _ => H e1 pa na ht.1 ht.2.1 ht.2.2) (fun z => absurd z (by omega))
    · intro k i t hi ht hw
      obtain ⟨e1, pa, na⟩ := t
      obtain ⟨t1, t2, t3⟩ := ht
      dsimp only at t1 t2 t3
      have hb1 : e0 ≤ e1 := t1.1
      have hb2 : e1 ≤ e0 + i := t1.2.1
      have put : (sf_sp rk f = true → ¬ sf_N rk f (sf_mat p n m) l i = 0) → wX_packLine_47 post (wX_packLine_20 post (nI s) (nI l) (nI (sf_K rk n m f)) x6 F.1 F.2.1 F.2.2.1 W.1 k) (nI s) (nI l) (nI e1) (nI (sf_K rk n m f)) x6 (nI i) (sf_N rk f (sf_mat p n m) l i) F.1 F.2.1 F.2.2.1 W.1 S.1 S.2.1 S.2.2.1 S.2.2.2.1 S.2.2.2.2.1 S.2.2.2.2.2.1 S.2.2.2.2.2.2.1 (pa) (na) F.2.2.2.1 F.2.2.2.2.1 F.2.2.2.2.2.1 F.2.2.2.2.2.2.1 F.2.2.2.2.2.2.2.1 F.2.2.2.2.2.2.2.2.1 F.2.2.2.2.2.2.2.2.2 W.2.1 p W.2.2.1 W.2.2.2.1 W.2.2.2.2.1 W.2.2.2.2.2.1 W.2.2.2.2.2.2.1 W.2.2.2.2.2.2.2.1 W.2.2.2.2.2.2.2.2.1 W.2.2.2.2.2.2.2.2.2.1 W.2.2.2.2.2.2.2.2.2.2.1 W.2.2.2.2.2.2.2.2.2.2.2 := by
        intro hg
        refine And.intro (pk_in _ 468 (by omega) (sf_i36 s e1)) (nm_r (by rw [pk_cl _ (sf_i36 s e1)]) (And.intro (pk_in _ 468 (by omega) (sf_i36 s e1)) (nm_r (by rw [pk_cl _ (sf_i36 s e1)]) (nm_r (nI_1 e1) (nm_r (nI_1 i) (hw (e1 + 1, upd pa (36 * s + e1) (nI i), upd na (36 * s + e1) (sf_N rk f (sf_mat p n m) l i)) ⟨sf_segA t1 hg, ?_, ?_⟩))))))
        · intro x hx
          dsimp only
          rw [pk_un (by omega), pk_un (by omega)]
          exact t2 x hx
        · dsimp only
          show sf_T e1 (fun y => sf_nz (upd na (36 * s + e1) (sf_N rk f (sf_mat p n m) l i) (36 * s + y))) + sf_nz (upd na (36 * s + e1) (sf_N rk f (sf_mat p n m) l i) (36 * s + e1)) = _ + (sf_T i (fun j => sf_nz (sf_N rk f (sf_mat p n m) l j)) + sf_nz (sf_N rk f (sf_mat p n m) l i))
          rw [pk_us, sf_Tc (g := fun y => sf_nz (na (36 * s + y))) (fun y hy => by rw [pk_un (by omega)]), t3]
          omega
      refine pk_le (sf_K rk n m f) i (fun z => absurd z (by omega)) (fun _ => sf_plA (S := (S.1, S.2.1, S.2.2.1, S.2.2.2.1, S.2.2.2.2.1, S.2.2.2.2.2.1, S.2.2.2.2.2.2.1, (pa), (na))) (p := p) (F := F) (W := W) h hl hi (br_c (fun z => ?_) (fun z => put (fun _ => z))))
      rcases hx with ⟨hx, hsp⟩ | ⟨hx, hsp⟩
      · subst hx
        refine br_f sf_ne0 (nm_r (nI_1 i) (hw (e1, pa, na) ⟨sf_segS t1 z hsp, t2, ?_⟩))
        dsimp only
        show _ = _ + (sf_T i (fun j => sf_nz (sf_N rk f (sf_mat p n m) l j)) + sf_nz (sf_N rk f (sf_mat p n m) l i))
        rw [sf_nz0 z, t3]
        rfl
      · exact br_t hx (put (fun y => absurd (y.symm.trans hsp) (by decide)))
  unfold wpX_packLine
  refine sf_lineK (S := S) (p := p) (F := F) (W := W) h ?_
  exact sf_skP (S := S) (p := p) (F := F) (W := W) h (fun y => main 1 (Or.inl ⟨rfl, y⟩)) (fun y => main 0 (Or.inr ⟨rfl, y⟩))
/-- a slot becomes what is written out -/
theorem sf_pack {post : St1 → Prop} {S : sf_Sl} {p : sf_A} {F : sf_Fm} {W : sf_Wk} {s rk n m f : Nat} (hs : s < 13) (hd : sf_dm rk n m f)
    (H : ∀ S', sf_slot S' s rk n m f (sf_mat p n m) → sf_ne S S' s → post (sf_mk S' p F W)) : wpX_pack post (sf_mk S p F W) (nI s) (nI rk) (nI n) (nI m) (nI f) := by
  have e : (nI s).toNatClampNeg = s := nI_clamp (by omega)
  obtain ⟨l1, l2, l3, l4, l5⟩ := sf_LK hd
  have hh : ∀ a5 a6 a7 a8 a9 : sf_A, sf_hd (upd S.1 s (nI rk), upd S.2.1 s (nI n), upd S.2.2.1 s (nI m), upd S.2.2.2.1 s (nI f), a5, a6, a7, a8, a9) s rk n m f :=
    fun _ _ _ _ _ => ⟨hs, pk_us, pk_us, pk_us, pk_us, hd⟩
  have main : ∀ x7 : Int32, (x7 = 1 ∧ sf_sl rk f = true ∨ x7 = 0 ∧ sf_sl rk f = false) → ∃ fu, wX_pack_57 post (nI s) (nI (sf_L rk n m f)) x7 fu 0 0 F.1 F.2.1 F.2.2.1 W.1 (upd S.1 s (nI rk)) (upd S.2.1 s (nI n)) (upd S.2.2.1 s (nI m)) (upd S.2.2.2.1 s (nI f)) (upd S.2.2.2.2.1 s 0) S.2.2.2.2.2.1 S.2.2.2.2.2.2.1 S.2.2.2.2.2.2.2.1 S.2.2.2.2.2.2.2.2 F.2.2.2.1 F.2.2.2.2.1 F.2.2.2.2.2.1 F.2.2.2.2.2.2.1 F.2.2.2.2.2.2.2.1 F.2.2.2.2.2.2.2.2.1 F.2.2.2.2.2.2.2.2.2 W.2.1 p W.2.2.1 W.2.2.2.1 W.2.2.2.2.1 W.2.2.2.2.2.1 W.2.2.2.2.2.2.1 W.2.2.2.2.2.2.2.1 W.2.2.2.2.2.2.2.2.1 W.2.2.2.2.2.2.2.2.2.1 W.2.2.2.2.2.2.2.2.2.2.1 W.2.2.2.2.2.2.2.2.2.2.2 := by
    intro x7 hx
    refine pk_loop (σ := Nat × sf_A × sf_A × sf_A × sf_A × sf_A) (fun k i t => wX_pack_57 post (nI s) (nI (sf_L rk n m f)) x7 k (nI t.1) (nI i) F.1 F.2.1 F.2.2.1 W.1 (upd S.1 s (nI rk)) (upd S.2.1 s (nI n)) (upd S.2.2.1 s (nI m)) (upd S.2.2.2.1 s (nI f)) (t.2.1) (t.2.2.1) (t.2.2.2.1) (t.2.2.2.2.1) (t.2.2.2.2.2) F.2.2.2.1 F.2.2.2.2.1 F.2.2.2.2.2.1 F.2.2.2.2.2.2.1 F.2.2.2.2.2.2.2.1 F.2.2.2.2.2.2.2.2.1 F.2.2.2.2.2.2.2.2.2 W.2.1 p W.2.2.1 W.2.2.2.1 W.2.2.2.2.1 W.2.2.2.2.2.1 W.2.2.2.2.2.2.1 W.2.2.2.2.2.2.2.1 W.2.2.2.2.2.2.2.2.1 W.2.2.2.2.2.2.2.2.2.1 W.2.2.2.2.2.2.2.2.2.2.1 W.2.2.2.2.2.2.2.2.2.2.2)
      (fun i t => ∃ c, t.2.1 s = nI c ∧ sf_bd t.2.2.1 t.2.2.2.1 t.2.2.2.2.1 t.2.2.2.2.2 s c t.1 i (sf_K rk n m f) (sf_N rk f (sf_mat p n m)) (sf_sl rk f) (sf_sp rk f) ∧
        sf_ne S (upd S.1 s (nI rk), upd S.2.1 s (nI n), upd S.2.2.1 s (nI m), upd S.2.2.2.1 s (nI f), t.2.1, t.2.2.1, t.2.2.2.1, t.2.2.2.2.1, t.2.2.2.2.2) s)
      (sf_L rk n m f) 0 (0, upd S.2.2.2.2.1 s 0, S.2.2.2.2.2.1, S.2.2.2.2.2.2.1, S.2.2.2.2.2.2.2.1, S.2.2.2.2.2.2.2.2) (by omega) ⟨0, pk_us, sf_bd0 _ _ _ _ _ _ _ _ _, ?_⟩ ?_ ?_
    · exact ⟨fun x hx => ⟨pk_un hx, pk_un hx, pk_un hx, pk_un hx, pk_un hx⟩, fun _ _ => rfl, fun _ _ => rfl, fun _ _ => ⟨rfl, rfl⟩⟩
    · intro k t ht
      obtain ⟨e1, a5, a6, a7, a8, a9⟩ := t
      obtain ⟨c, t1, t2, t3⟩ := ht
      dsimp only at t1 t2 t3
      have hcL := t2.1
      have he36 := sf_LK36 hd t2.2.1
      refine pk_le (sf_L rk n m f) (sf_L rk n m f) (fun _ => ?_) (fun z => absurd z (by omega))
      have e2 : (7 : Int32) * nI s + a5 (nI s).toNatClampNeg = nI (7 * s + c) := by rw [e, t1]; exact sf_i7 s c
      refine And.intro (pk_in s 13 hs) (And.intro (pk_in _ 91 (by omega) e2) (nm_r (by rw [pk_cl _ e2]) (H (upd S.1 s (nI rk), upd S.2.1 s (nI n), upd S.2.2.1 s (nI m), upd S.2.2.2.1 s (nI f), a5, a6, upd a7 (7 * s + c) (nI e1), a8, a9) ⟨hh _ _ _ _ _, sf_mat0 p n m, c, e1, t1, pk_us, sf_bdC t2 (fun _ _ => rfl) (fun y hy => pk_un (by omega)) (fun _ _ => rfl) (fun _ _ => rfl)⟩ ?_)))
      obtain ⟨n1, n2, n3, n4⟩ := t3
      exact ⟨n1, n2, fun x hx => (pk_un (by omega)).trans (n3 x hx), n4⟩
    · intro k i t hi ht hw
      obtain ⟨e1, a5, a6, a7, a8, a9⟩ := t
      obtain ⟨c, t1, t2, t3⟩ := ht
      dsimp only at t1 t2 t3
      have hcL := t2.1
      have heK := t2.2.1
      have he36 : e1 + sf_K rk n m f ≤ 36 := by
        have h1 : (i + 1) * sf_K rk n m f ≤ 6 * 6 := Nat.mul_le_mul (by omega) l4
        rw [Nat.succ_mul] at h1
        omega
      have put : wX_pack_79 post (wX_pack_57 post (nI s) (nI (sf_L rk n m f)) x7 k) (nI s) (nI (sf_L rk n m f)) x7 (nI e1) (nI i) F.1 F.2.1 F.2.2.1 W.1 (upd S.1 s (nI rk)) (upd S.2.1 s (nI n)) (upd S.2.2.1 s (nI m)) (upd S.2.2.2.1 s (nI f)) (a5) (a6) (a7) (a8) (a9) F.2.2.2.1 F.2.2.2.2.1 F.2.2.2.2.2.1 F.2.2.2.2.2.2.1 F.2.2.2.2.2.2.2.1 F.2.2.2.2.2.2.2.2.1 F.2.2.2.2.2.2.2.2.2 W.2.1 p W.2.2.1 W.2.2.2.1 W.2.2.2.2.1 W.2.2.2.2.2.1 W.2.2.2.2.2.2.1 W.2.2.2.2.2.2.2.1 W.2.2.2.2.2.2.2.2.1 W.2.2.2.2.2.2.2.2.2.1 W.2.2.2.2.2.2.2.2.2.2.1 W.2.2.2.2.2.2.2.2.2.2.2 := by
        have e6 : (6 : Int32) * nI s + a5 (nI s).toNatClampNeg = nI (6 * s + c) := by rw [e, t1]; exact sf_i6 s c
        have e7 : (7 : Int32) * nI s + a5 (nI s).toNatClampNeg = nI (7 * s + c) := by rw [e, t1]; exact sf_i7 s c
        refine And.intro (pk_in s 13 hs) (And.intro (pk_in _ 78 (by omega) e6) (nm_r (by rw [pk_cl _ e6]) (And.intro (pk_in s 13 hs) (And.intro (pk_in _ 91 (by omega) e7) (nm_r (by rw [pk_cl _ e7]) ?_)))))
        refine sf_packLine (S := (upd S.1 s (nI rk), upd S.2.1 s (nI n), upd S.2.2.1 s (nI m), upd S.2.2.2.1 s (nI f), a5, upd a6 (6 * s + c) (nI i), upd a7 (7 * s + c) (nI e1), a8, a9)) (p := p) (F := F) (W := W) (hh _ _ _ _ _) hi he36 (fun e2 pa na q1 q2 q3 => ?_)
        dsimp only at q2 q3
        refine And.intro (pk_in s 13 hs) (And.intro (pk_in s 13 hs) (nm_r (e' := upd a5 s (nI (c + 1))) (by show upd a5 (nI s).toNatClampNeg (a5 (nI s).toNatClampNeg + 1) = _; rw [e, t1, nI_1]) (nm_r (nI_1 i) (hw (e2, upd a5 s (nI (c + 1)), upd a6 (6 * s + c) (nI i), upd a7 (7 * s + c) (nI e1), pa, na) ⟨c + 1, pk_us, sf_bdA t2 q1 (fun y hy => (q2 _ (by omega)).1) (fun y hy => (q2 _ (by omega)).2) q3, ?_⟩))))
        obtain ⟨n1, n2, n3, n4⟩ := t3
        refine ⟨fun x hx => ⟨(n1 x hx).1, (n1 x hx).2.1, (n1 x hx).2.2.1, (n1 x hx).2.2.2.1, (pk_un hx).trans (n1 x hx).2.2.2.2⟩, fun x hx => (pk_un (by omega)).trans (n2 x hx), fun x hx => (pk_un (by omega)).trans (n3 x hx), fun x hx => ?_⟩
        have q4 := q2 x (by omega)
        exact ⟨q4.1.trans (n4 x hx).1, q4.2.trans (n4 x hx).2⟩
      refine pk_le (sf_L rk n m f) i (fun z => absurd z (by omega)) (fun _ => ?_)
      rcases hx with ⟨hx, hsl⟩ | ⟨hx, hsl⟩
      · subst hx
        exact br_f sf_ne0 (sf_filledL (S := (upd S.1 s (nI rk), upd S.2.1 s (nI n), upd S.2.2.1 s (nI m), upd S.2.2.2.1 s (nI f), a5, a6, a7, a8, a9)) (p := p) (F := F) (W := W) (hh _ _ _ _ _) hi (br_f sf_ne0 put) (fun z => br_t rfl (nm_r (nI_1 i) (hw (e1, a5, a6, a7, a8, a9) ⟨c, t1, sf_bdS t2 hsl z, t3⟩))))
      · exact br_t hx put
  refine And.intro (pk_in s 13 hs) (nm_r (by rw [e]) (And.intro (pk_in s 13 hs) (nm_r (by rw [e]) (And.intro (pk_in s 13 hs) (nm_r (by rw [e]) (And.intro (pk_in s 13 hs) (nm_r (by rw [e]) (And.intro (pk_in s 13 hs) (nm_r (by rw [e]) ?_)))))))))
  refine sf_lineC (S := ((upd S.1 s (nI rk)), (upd S.2.1 s (nI n)), (upd S.2.2.1 s (nI m)), (upd S.2.2.2.1 s (nI f)), (upd S.2.2.2.2.1 s 0), S.2.2.2.2.2.1, S.2.2.2.2.2.2.1, S.2.2.2.2.2.2.2.1, S.2.2.2.2.2.2.2.2)) (p := p) (F := F) (W := W) (hh _ _ _ _ _) ?_
  exact sf_skL (S := ((upd S.1 s (nI rk)), (upd S.2.1 s (nI n)), (upd S.2.2.1 s (nI m)), (upd S.2.2.2.1 s (nI f)), (upd S.2.2.2.2.1 s 0), S.2.2.2.2.2.1, S.2.2.2.2.2.2.1, S.2.2.2.2.2.2.2.1, S.2.2.2.2.2.2.2.2)) (p := p) (F := F) (W := W) (hh _ _ _ _ _) (fun y => main 1 (Or.inl ⟨rfl, y⟩)) (fun y => main 0 (Or.inr ⟨rfl, y⟩))
end
section
/-- a slot is written out -/
theorem sf_unpack {post : St1 → Prop} {S : sf_Sl} {p : sf_A} {F : sf_Fm} {W : sf_Wk} {s rk n m f : Nat} {M : Nat → sf_A} (h : sf_slot S s rk n m f M)
    (H : ∀ p', (∀ k, k < 36 → p' k = M (k / 6) (k % 6)) → post (sf_mk S p' F W)) : wpX_unpack post (sf_mk S p F W) (nI s) := by
  obtain ⟨hh, hz, c, e, hc, he, hb⟩ := h
  have hhd := hh
  obtain ⟨hs, h1, h2, h3, h4, hd⟩ := hhd
  have hr := hd.1
  obtain ⟨l1, l2, l3, l4, l5⟩ := sf_LK hd
  obtain ⟨r1, r2, _⟩ := sf_room hd hb
  obtain ⟨b1, b2, b3, b4, b5, ln, bg, g0, gc, g1, g2, g3⟩ := hb
  have hm : ∀ k, k ≤ c → bg k ≤ e := by
    intro k hk
    rw [← gc]
    exact sf_mono (fun k hk => (g1 k hk).2.2.2.1) k hk
  have es : (nI s).toNatClampNeg = s := nI_clamp (by omega)
  have hbg : ∀ k, k ≤ c → S.2.2.2.2.2.2.1 (7 * s + k) = nI (bg k) := by
    intro k hk
    by_cases a : k = c
    · rw [a, he, gc]
    · exact (g1 k (by omega)).2.2.1
  unfold wpX_unpack
  refine sf_clear (S := S) (p := p) (F := F) (W := W) (fun p0 hp0 => ?_)
  refine pk_loop (fun k i (q : sf_A) => wX_unpack_6 post (nI s) F.1 F.2.1 F.2.2.1 W.1 k (nI i) S.1 S.2.1 S.2.2.1 S.2.2.2.1 S.2.2.2.2.1 S.2.2.2.2.2.1 S.2.2.2.2.2.2.1 S.2.2.2.2.2.2.2.1 S.2.2.2.2.2.2.2.2 F.2.2.2.1 F.2.2.2.2.1 F.2.2.2.2.2.1 F.2.2.2.2.2.2.1 F.2.2.2.2.2.2.2.1 F.2.2.2.2.2.2.2.2.1 F.2.2.2.2.2.2.2.2.2 W.2.1 q W.2.2.1 W.2.2.2.1 W.2.2.2.2.1 W.2.2.2.2.2.1 W.2.2.2.2.2.2.1 W.2.2.2.2.2.2.2.1 W.2.2.2.2.2.2.2.2.1 W.2.2.2.2.2.2.2.2.2.1 W.2.2.2.2.2.2.2.2.2.2.1 W.2.2.2.2.2.2.2.2.2.2.2)
    (fun i q => (∀ x, x < 36 → q x = 0 ∨ q x = M (x / 6) (x % 6)) ∧ (∀ k', k' < i → ∀ e', bg k' ≤ e' → e' < bg (k' + 1) → ∀ j, j < sf_K rk n m f → S.2.2.2.2.2.2.2.1 (36 * s + e') = nI j → q (sf_at rk f (ln k') j) = M (sf_at rk f (ln k') j / 6) (sf_at rk f (ln k') j % 6)))
    c 0 p0 (by omega) ⟨fun x hx => Or.inl (hp0 x hx), fun k' hk' => absurd hk' (by omega)⟩ ?_ ?_
  · intro k q hq
    refine And.intro (pk_in s 13 hs) (pk_le c c (fun _ => H q ?_) (fun z => absurd z (by omega)) (by rw [es]; exact hc))
    intro x hx
    rcases hq.1 x hx with a | a
    · by_cases b : x / 6 < n ∧ x % 6 < m
      · obtain ⟨l, k', y1, y2, y3, y4⟩ := sf_atE (M := M) hd b.1 b.2
        have y5 : sf_at rk f l k' = x := by omega
        by_cases g : sf_N rk f M l k' = 0
        · rw [a, ← y4, g]
        · obtain ⟨kk, z1, z2⟩ := g3 l y1 (Or.inr ⟨k', y2, g⟩)
          obtain ⟨s1, s2, s3, qq, q1, q2, q3⟩ := (g1 kk z1).2.2.2
          rw [← z2] at g
          obtain ⟨e', w1, w2, w3⟩ := q3 k' y2 g
          have := hq.2 kk z1 e' w1 w2 k' y2 (by rw [← w3]; exact (q1 e' w1 w2).1)
          rw [z2, y5] at this
          exact this
      · rw [a, hz _ _ b]
    · exact a
  · intro k i q hi hq hw
    have e6 := sf_i6 s i
    have e7 := sf_i7 s i
    have e8 := sf_i7' s i
    obtain ⟨v1, v2, v3, v4⟩ := g1 i hi
    have hbl := hm (i + 1) (by omega)
    refine And.intro (pk_in s 13 hs) (pk_le c i (fun z => absurd z (by omega)) (fun _ => And.intro (pk_in _ 78 (by omega) e6) (nm_r (e' := nI (ln i)) (by rw [pk_cl _ e6]; exact v1) (And.intro (pk_in _ 91 (by omega) e8) (nm_r (e' := nI (bg (i + 1))) (by rw [pk_cl _ e8]; exact hbg (i + 1) (by omega)) (And.intro (pk_in _ 91 (by omega) e7) (nm_r (e' := nI (bg i)) (by rw [pk_cl _ e7]; exact v3) ?_)))))) (by rw [es]; exact hc))
    obtain ⟨s1, s2, s3, qq, q1, q2, q3⟩ := v4
    refine pk_loop (fun k' e' (q' : sf_A) => wX_unpack_56 post (wX_unpack_6 post (nI s) F.1 F.2.1 F.2.2.1 W.1 k) (nI s) (nI i) (nI (ln i)) (nI (bg (i + 1))) F.1 F.2.1 F.2.2.1 W.1 k' (nI e') S.1 S.2.1 S.2.2.1 S.2.2.2.1 S.2.2.2.2.1 S.2.2.2.2.2.1 S.2.2.2.2.2.2.1 S.2.2.2.2.2.2.2.1 S.2.2.2.2.2.2.2.2 F.2.2.2.1 F.2.2.2.2.1 F.2.2.2.2.2.1 F.2.2.2.2.2.2.1 F.2.2.2.2.2.2.2.1 F.2.2.2.2.2.2.2.2.1 F.2.2.2.2.2.2.2.2.2 W.2.1 q' W.2.2.1 W.2.2.2.1 W.2.2.2.2.1 W.2.2.2.2.2.1 W.2.2.2.2.2.2.1 W.2.2.2.2.2.2.2.1 W.2.2.2.2.2.2.2.2.1 W.2.2.2.2.2.2.2.2.2.1 W.2.2.2.2.2.2.2.2.2.2.1 W.2.2.2.2.2.2.2.2.2.2.2)
      (fun ee q' => bg i ≤ ee ∧ (∀ x, x < 36 → q' x = 0 ∨ q' x = M (x / 6) (x % 6)) ∧ (∀ k', k' < i → ∀ e', bg k' ≤ e' → e' < bg (k' + 1) → ∀ j, j < sf_K rk n m f → S.2.2.2.2.2.2.2.1 (36 * s + e') = nI j → q' (sf_at rk f (ln k') j) = M (sf_at rk f (ln k') j / 6) (sf_at rk f (ln k') j % 6)) ∧
        (∀ e', bg i ≤ e' → e' < ee → ∀ j, j < sf_K rk n m f → S.2.2.2.2.2.2.2.1 (36 * s + e') = nI j → q' (sf_at rk f (ln i) j) = M (sf_at rk f (ln i) j / 6) (sf_at rk f (ln i) j % 6)))
      (bg (i + 1)) (bg i) q s1 ⟨Nat.le_refl _, hq.1, hq.2, fun e' a b => absurd b (by omega)⟩ ?_ ?_
    · intro k' q' hq'
      have hq' := hq'.2
      refine pk_le (bg (i + 1)) (bg (i + 1)) (fun _ => nm_r (nI_1 i) (hw q' ⟨hq'.1, fun kk hkk => ?_⟩)) (fun z => absurd z (by omega))
      by_cases a : kk = i
      · subst a; exact hq'.2.2
      · exact hq'.2.1 kk (by omega)
    · intro k' ee q' hee hq' hw'
      have hlo := hq'.1
      have hq' := hq'.2
      obtain ⟨w1, w2, w3, w4⟩ := q1 ee hlo hee
      have e36 := sf_i36 s ee
      have hat := sf_a36 hd v2 w2
      have hval := sf_atM (M := M) hd v2 w2
      have fin : ∀ z0 : Int32, z0 = nI (sf_at rk f (ln i) (qq ee)) → wX_unpack_120 post (wX_unpack_6 post (nI s) F.1 F.2.1 F.2.2.1 W.1 k) (wX_unpack_56 post (wX_unpack_6 post (nI s) F.1 F.2.1 F.2.2.1 W.1 k) (nI s) (nI i) (nI (ln i)) (nI (bg (i + 1))) F.1 F.2.1 F.2.2.1 W.1 k') (nI s) (nI i) (nI (ln i)) (nI (bg (i + 1))) (nI ee) z0 F.1 F.2.1 F.2.2.1 W.1 S.1 S.2.1 S.2.2.1 S.2.2.2.1 S.2.2.2.2.1 S.2.2.2.2.2.1 S.2.2.2.2.2.2.1 S.2.2.2.2.2.2.2.1 S.2.2.2.2.2.2.2.2 F.2.2.2.1 F.2.2.2.2.1 F.2.2.2.2.2.1 F.2.2.2.2.2.2.1 F.2.2.2.2.2.2.2.1 F.2.2.2.2.2.2.2.2.1 F.2.2.2.2.2.2.2.2.2 W.2.1 q' W.2.2.1 W.2.2.2.1 W.2.2.2.2.1 W.2.2.2.2.2.1 W.2.2.2.2.2.2.1 W.2.2.2.2.2.2.2.1 W.2.2.2.2.2.2.2.2.1 W.2.2.2.2.2.2.2.2.2.1 W.2.2.2.2.2.2.2.2.2.2.1 W.2.2.2.2.2.2.2.2.2.2.2 := by
        intro z0 hz0
        refine And.intro (pk_in _ 468 (by omega) e36) (And.intro (pk_in _ 36 hat hz0) (nm_r (e' := upd q' (sf_at rk f (ln i) (qq ee)) (M (sf_at rk f (ln i) (qq ee) / 6) (sf_at rk f (ln i) (qq ee) % 6))) (by rw [pk_cl _ hz0, pk_cl _ e36, w3, hval]) (nm_r (nI_1 ee) (hw' _ ?_))))
        have keep : ∀ x, q' x = M (x / 6) (x % 6) → upd q' (sf_at rk f (ln i) (qq ee)) (M (sf_at rk f (ln i) (qq ee) / 6) (sf_at rk f (ln i) (qq ee) % 6)) x = M (x / 6) (x % 6) := by
          intro x hx
          by_cases a : x = sf_at rk f (ln i) (qq ee)
          · rw [a, pk_us]
          · rw [pk_un a]; exact hx
        refine ⟨by omega, fun x hx => ?_, fun kk hkk e' a1 a2 j a3 a4 => keep _ (hq'.2.1 kk hkk e' a1 a2 j a3 a4), fun e' a1 a2 j a3 a4 => ?_⟩
        · by_cases a : x = sf_at rk f (ln i) (qq ee)
          · rw [a, pk_us]; exact Or.inr rfl
          · rw [pk_un a]; exact hq'.1 x hx
        · by_cases a : e' = ee
          · subst a
            have : qq e' = j := sf_inj (by omega) (by omega) (w1.symm.trans a4)
            rw [this, pk_us]
          · exact keep _ (hq'.2.2 e' a1 (by omega) j a3 a4)
      refine pk_le (bg (i + 1)) ee (fun z => absurd z (by omega)) (fun _ => And.intro (pk_in _ 468 (by omega) e36) (nm_r (e' := nI (qq ee)) (by rw [pk_cl _ e36]; exact w1) (And.intro (pk_in s 13 hs) (pk_le 2 rk (fun z => sf_isT (S := S) (p := q') (F := F) (W := W) hh (fun y1 y2 => br_f sf_ne0 (fin _ ?_)) (fun y => br_t rfl (fin _ ?_))) (fun z => fin _ ?_) rfl (by rw [es]; exact h1)))))
      · rw [sf_att (by omega) y2]; exact sf_i6 _ _
      · rw [sf_an (by omega) (fun t => y ⟨by omega, t⟩)]; exact sf_i6 _ _
      · rw [sf_a2 (by omega)]; exact sf_i6' _
/-- one slot becomes another -/
theorem sf_copy {post : St1 → Prop} {S : sf_Sl} {p : sf_A} {F : sf_Fm} {W : sf_Wk} {s t rk n m f : Nat} {M : Nat → sf_A} (h : sf_slot S s rk n m f M) (ht : t < 13)
    (H : ∀ S' p', sf_slot S' t rk n m f M → sf_ne S S' t → post (sf_mk S' p' F W)) : wpX_copy post (sf_mk S p F W) (nI s) (nI t) := by
  unfold wpX_copy
  refine sf_unpack (S := S) (p := p) (F := F) (W := W) h (fun p' hp' => ?_)
  obtain ⟨⟨hs, h1, h2, h3, h4, hd⟩, hz, _⟩ := h
  have e : (nI s).toNatClampNeg = s := nI_clamp (by omega)
  refine And.intro (pk_in s 13 hs) (And.intro (pk_in s 13 hs) (And.intro (pk_in s 13 hs) (And.intro (pk_in s 13 hs) ?_)))
  rw [e, h1, h2, h3, h4]
  refine sf_pack (S := S) (p := p') (F := F) (W := W) ht hd (fun S' a b => H S' p' ?_ b)
  rw [sf_matM hd.2.2.1 hd.2.2.2.2.1 hp' hz] at a
  exact a
/-! looking for a line, or a place, by halves -/
theorem sf_half {l h : Nat} (hl : l < h) (hh : h < 100) : (nI l + (nI h - 1)) >>> ((1 : Int32) &&& 31) = nI ((l + h - 1) / 2) := by
  obtain ⟨g, rfl⟩ : ∃ g, h = g + 1 := ⟨h - 1, by omega⟩
  rw [nI_pred, nI_add, pk_shrN (by omega) _ 1 (by decide)]
  rfl
theorem sf_hlt {l h : Nat} (hl : l < 100) (hh : h < 100) : nI h - 1 < nI l ↔ h ≤ l := by
  rw [Int32.lt_iff_toInt_lt, show (1 : Int32) = nI 1 from rfl, pk_sub_toInt (by omega) (by omega), nI_toInt (by omega)]
  omega
/-- the search of both: a holds q, which grows, from l0 to h0 -/
theorem sf_findLine0 {post : Int32 → Prop} {S : sf_Sl} {p : sf_A} {F : sf_Fm} {W : sf_Wk} {s c v : Nat} {q : Nat → Nat} (hs : s < 13) (hc : c ≤ 6) (hv : v < 2 ^ 31) (h5 : S.2.2.2.2.1 s = nI c)
    (ha : ∀ k, k < c → S.2.2.2.2.2.1 (6 * s + k) = nI (q k) ∧ q k < 6) (hq : ∀ k k', k < k' → k' < c → q k < q k')
    (H1 : ∀ k, k < c → q k = v → post (nI k)) (H0 : (∀ k, k < c → q k ≠ v) → post (-1)) : wpX_findLine post (sf_mk S p F W) (nI s) (nI v) := by
  have es : (nI s).toNatClampNeg = s := nI_clamp (by omega)
  refine And.intro (pk_in s 13 hs) (nm_r (e' := nI c - 1) (by rw [es, h5]) ?_)
  refine pk_loop (σ := Nat × Nat) (fun n i t => wX_findLine_15 post (nI s) (nI v) F.1 F.2.1 F.2.2.1 W.1 S.1 S.2.1 S.2.2.1 S.2.2.2.1 S.2.2.2.2.1 S.2.2.2.2.2.1 S.2.2.2.2.2.2.1 S.2.2.2.2.2.2.2.1 S.2.2.2.2.2.2.2.2 F.2.2.2.1 F.2.2.2.2.1 F.2.2.2.2.2.1 F.2.2.2.2.2.2.1 F.2.2.2.2.2.2.2.1 F.2.2.2.2.2.2.2.2.1 F.2.2.2.2.2.2.2.2.2 W.2.1 p W.2.2.1 W.2.2.2.1 W.2.2.2.2.1 W.2.2.2.2.2.1 W.2.2.2.2.2.2.1 W.2.2.2.2.2.2.2.1 W.2.2.2.2.2.2.2.2.1 W.2.2.2.2.2.2.2.2.2.1 W.2.2.2.2.2.2.2.2.2.2.1 W.2.2.2.2.2.2.2.2.2.2.2 n (nI t.1) (nI t.2 - 1) (nI i))
    (fun i t => t.2 ≤ c ∧ (t.2 - t.1) * 2 ^ i ≤ 6 ∧ i ≤ 3 ∧ (∀ k, k < t.1 → k < c → q k < v) ∧ (∀ k, t.2 ≤ k → k < c → v < q k) ∧ t.1 ≤ c) 4 0 (0, c) (by omega)
    ⟨Nat.le_refl _, by simpa using hc, by omega, fun k h => absurd h (by omega), fun k h1 h2 => absurd h2 (by dsimp only at h1; omega), by omega⟩ ?_ ?_
  · intro n t ht
    exact absurd ht.2.2.1 (by omega)
  · intro n i t hi ht hw
    obtain ⟨lo, hi'⟩ := t
    obtain ⟨t1, t2, t3, t4, t5, t6⟩ := ht
    dsimp only at t1 t2 t3 t4 t5 t6
    refine pk_le 4 i (fun z => absurd z (by omega)) (fun _ => ?_)
    refine br_c (fun z => H0 (fun k hk e => ?_)) (fun z => ?_)
    · have z' := (sf_hlt (by omega) (by omega)).mp z
      rcases Nat.lt_or_ge k lo with a | a
      · have := t4 k a hk; omega
      · have := t5 k (by omega) hk; omega
    · have z' : lo < hi' := by
        rcases Nat.lt_or_ge lo hi' with a | a
        · exact a
        · exact absurd ((sf_hlt (by omega) (by omega)).mpr a) z
      have em := sf_half z' (by omega)
      have hm : (lo + hi' - 1) / 2 < c := by omega
      obtain ⟨a1, a2⟩ := ha _ hm
      have hi2 : i + 1 ≤ 3 := by
        rcases Nat.lt_or_ge i 3 with a | a
        · exact a
        · obtain rfl : i = 3 := by omega
          omega
      have hpow : ∀ y, y ≤ (hi' - lo) / 2 → y * 2 ^ (i + 1) ≤ 6 := by
        intro y hy
        rw [Nat.pow_succ, Nat.mul_comm (2 ^ i) 2, ← Nat.mul_assoc]
        exact Nat.le_trans (Nat.mul_le_mul_right _ (by omega)) t2
      generalize hmm : (lo + hi' - 1) / 2 = mm at em hm a1 a2
      have e6 : (6 : Int32) * nI s + nI mm = nI (6 * s + mm) := sf_i6 s mm
      refine nm_r em (And.intro (pk_in _ 78 (by omega) e6) (nm_r (e' := nI (q mm)) (by rw [pk_cl _ e6]; exact a1) ?_))
      refine pk_eq (q mm) v (fun y => H1 mm hm y) (fun y => ?_)
      refine pk_le v (q mm) (fun x => ?_) (fun x => ?_)
      · refine pk_le (q mm) v (fun w => absurd w (by omega)) (fun w => nm_e (nm_r (nI_1 i) (hw (lo, mm) ⟨by dsimp only; omega, hpow _ (by dsimp only; omega), by omega, t4, fun k h1 h2 => ?_, t6⟩)))
        dsimp only at h1
        by_cases b : k = mm
        · rw [b]; exact w
        · have := hq mm k (by omega) h2; omega
      · rw [nI_1]
        refine pk_le (q mm) v (fun w => nm_r (nI_1 i) (hw (mm + 1, hi') ⟨t1, hpow _ (by dsimp only; omega), by omega, fun k h1 h2 => ?_, t5, by dsimp only; omega⟩)) (fun w => absurd w (by omega))
        dsimp only at h1
        by_cases b : k = mm
        · rw [b]; exact x
        · have := hq k mm (by omega) hm; omega
theorem sf_findPlace0 {post : Int32 → Prop} {S : sf_Sl} {p : sf_A} {F : sf_Fm} {W : sf_Wk} {s k l0 h0 v : Nat} {q : Nat → Nat} (hs : s < 13) (hk : k < 6) (hh : h0 ≤ 36) (hlh : l0 ≤ h0) (hc : h0 ≤ l0 + 6) (hv : v < 2 ^ 31)
    (hl : S.2.2.2.2.2.2.1 (7 * s + k) = nI l0) (hr : S.2.2.2.2.2.2.1 (7 * s + k + 1) = nI h0)
    (ha : ∀ e, l0 ≤ e → e < h0 → S.2.2.2.2.2.2.2.1 (36 * s + e) = nI (q e) ∧ q e < 6) (hq : ∀ e e', l0 ≤ e → e < e' → e' < h0 → q e < q e')
    (H1 : ∀ e, l0 ≤ e → e < h0 → q e = v → post (nI e)) (H0 : (∀ e, l0 ≤ e → e < h0 → q e ≠ v) → post (-1)) : wpX_findPlace post (sf_mk S p F W) (nI s) (nI k) (nI v) := by
  have e7 := sf_i7 s k
  have e8 := sf_i7' s k
  refine And.intro (pk_in _ 91 (by omega) e7) (nm_r (e' := nI l0) (by rw [pk_cl _ e7]; exact hl) (And.intro (pk_in _ 91 (by omega) e8) (nm_r (e' := nI h0 - 1) (by rw [pk_cl _ e8, hr]) ?_)))
  refine pk_loop (σ := Nat × Nat) (fun n i t => wX_findPlace_33 post (nI s) (nI v) F.1 F.2.1 F.2.2.1 W.1 S.1 S.2.1 S.2.2.1 S.2.2.2.1 S.2.2.2.2.1 S.2.2.2.2.2.1 S.2.2.2.2.2.2.1 S.2.2.2.2.2.2.2.1 S.2.2.2.2.2.2.2.2 F.2.2.2.1 F.2.2.2.2.1 F.2.2.2.2.2.1 F.2.2.2.2.2.2.1 F.2.2.2.2.2.2.2.1 F.2.2.2.2.2.2.2.2.1 F.2.2.2.2.2.2.2.2.2 W.2.1 p W.2.2.1 W.2.2.2.1 W.2.2.2.2.1 W.2.2.2.2.2.1 W.2.2.2.2.2.2.1 W.2.2.2.2.2.2.2.1 W.2.2.2.2.2.2.2.2.1 W.2.2.2.2.2.2.2.2.2.1 W.2.2.2.2.2.2.2.2.2.2.1 W.2.2.2.2.2.2.2.2.2.2.2 n (nI t.1) (nI t.2 - 1) (nI i))
    (fun i t => t.2 ≤ h0 ∧ (t.2 - t.1) * 2 ^ i ≤ 6 ∧ i ≤ 3 ∧ (∀ e, l0 ≤ e → e < t.1 → e < h0 → q e < v) ∧ (∀ e, t.2 ≤ e → e < h0 → v < q e) ∧ t.1 ≤ h0 ∧ l0 ≤ t.1) 4 0 (l0, h0) (by omega)
    ⟨Nat.le_refl _, by show (h0 - l0) * 1 ≤ 6; omega, by omega, fun e h1 h2 => absurd h2 (by dsimp only; omega), fun e h1 h2 => absurd h2 (by dsimp only at h1; omega), hlh, Nat.le_refl _⟩ ?_ ?_
  · intro n t ht
    exact absurd ht.2.2.1 (by omega)
  · intro n i t hi ht hw
    obtain ⟨lo, hi'⟩ := t
    obtain ⟨t1, t2, t3, t4, t5, t6, t7⟩ := ht
    dsimp only at t1 t2 t3 t4 t5 t6 t7
    refine pk_le 4 i (fun z => absurd z (by omega)) (fun _ => ?_)
    refine br_c (fun z => H0 (fun e he1 he2 ee => ?_)) (fun z => ?_)
    · have z' := (sf_hlt (by omega) (by omega)).mp z
      rcases Nat.lt_or_ge e lo with a | a
      · have := t4 e he1 a he2; omega
      · have := t5 e (by omega) he2; omega
    · have z' : lo < hi' := by
        rcases Nat.lt_or_ge lo hi' with a | a
        · exact a
        · exact absurd ((sf_hlt (by omega) (by omega)).mpr a) z
      have em := sf_half z' (by omega)
      have hm : (lo + hi' - 1) / 2 < h0 := by omega
      have hm2 : l0 ≤ (lo + hi' - 1) / 2 := by omega
      obtain ⟨a1, a2⟩ := ha _ hm2 hm
      have hi2 : i + 1 ≤ 3 := by
        rcases Nat.lt_or_ge i 3 with a | a
        · exact a
        · obtain rfl : i = 3 := by omega
          omega
      have hpow : ∀ y, y ≤ (hi' - lo) / 2 → y * 2 ^ (i + 1) ≤ 6 := by
        intro y hy
        rw [Nat.pow_succ, Nat.mul_comm (2 ^ i) 2, ← Nat.mul_assoc]
        exact Nat.le_trans (Nat.mul_le_mul_right _ (by omega)) t2
      generalize hmm : (lo + hi' - 1) / 2 = mm at em hm a1 a2 hm2
      have e6 : (36 : Int32) * nI s + nI mm = nI (36 * s + mm) := sf_i36 s mm
      refine nm_r em (And.intro (pk_in _ 468 (by omega) e6) (nm_r (e' := nI (q mm)) (by rw [pk_cl _ e6]; exact a1) ?_))
      refine pk_eq (q mm) v (fun y => H1 mm hm2 hm y) (fun y => ?_)
      refine pk_le v (q mm) (fun x => ?_) (fun x => ?_)
      · refine pk_le (q mm) v (fun w => absurd w (by omega)) (fun w => nm_e (nm_r (nI_1 i) (hw (lo, mm) ⟨by dsimp only; omega, hpow _ (by dsimp only; omega), by omega, t4, fun e h1 h2 => ?_, t6, t7⟩)))
        dsimp only at h1
        by_cases b : e = mm
        · rw [b]; exact w
        · have := hq mm e hm2 (by omega) h2; omega
      · rw [nI_1]
        refine pk_le (q mm) v (fun w => nm_r (nI_1 i) (hw (mm + 1, hi') ⟨t1, hpow _ (by dsimp only; omega), by omega, fun e h0' h1 h2 => ?_, t5, by dsimp only; omega, by dsimp only; omega⟩)) (fun w => absurd w (by omega))
        dsimp only at h1
        by_cases b : e = mm
        · rw [b]; exact x
        · have := hq e mm h0' (by omega) hm; omega
end
section
theorem sf_findL {post : Int32 → Prop} {S : sf_Sl} {p : sf_A} {F : sf_Fm} {W : sf_Wk} {t rk n m f v : Nat} {M : Nat → sf_A} (h : sf_slot S t rk n m f M) (hv : v < 2 ^ 31)
    (H0 : (∀ j, sf_N rk f M v j = 0) → post (-1)) (H1 : ∀ k c, S.2.2.2.2.1 t = nI c → k < c → c ≤ 6 → S.2.2.2.2.2.1 (6 * t + k) = nI v → post (nI k)) : wpX_findLine post (sf_mk S p F W) (nI t) (nI v) := by
  obtain ⟨hh, hz, c, e, hc, he, hb⟩ := h
  obtain ⟨hs, h1, h2, h3, h4, hd⟩ := hh
  obtain ⟨l1, l2, l3, l4, l5⟩ := sf_LK hd
  obtain ⟨b1, b2, b3, b4, b5, ln, bg, g0, gc, g1, g2, g3⟩ := hb
  refine sf_findLine0 (S := S) (p := p) (F := F) (W := W) (q := ln) hs (by omega) hv hc (fun k hk => ⟨(g1 k hk).1, by have := (g1 k hk).2.1; omega⟩) g2 (fun k hk ek => H1 k c hc hk (by omega) (by rw [← ek]; exact (g1 k hk).1)) (fun hn => H0 (fun j => ?_))
  by_cases a : v < sf_L rk n m f ∧ j < sf_K rk n m f
  · by_cases b : sf_N rk f M v j = 0
    · exact b
    · obtain ⟨k, k1, k2⟩ := g3 v a.1 (Or.inr ⟨j, a.2, b⟩)
      exact absurd k2 (hn k k1)
  · exact sf_N0 hd hz a
theorem sf_findP {post : Int32 → Prop} {S : sf_Sl} {p : sf_A} {F : sf_Fm} {W : sf_Wk} {t rk n m f k c v w : Nat} {M : Nat → sf_A} (h : sf_slot S t rk n m f M) (hc : S.2.2.2.2.1 t = nI c) (hk : k < c) (hc6 : c ≤ 6) (hla : S.2.2.2.2.2.1 (6 * t + k) = nI v) (hv : v < 2 ^ 31) (hw : w < 2 ^ 31)
    (H0 : sf_N rk f M v w = 0 → post (-1))
    (H1 : ∀ e b0 b1, b0 ≤ e → e < b1 → b1 ≤ 36 → S.2.2.2.2.2.2.1 (7 * t + k) = nI b0 → S.2.2.2.2.2.2.1 (7 * t + k + 1) = nI b1 → S.2.2.2.2.2.2.2.1 (36 * t + e) = nI w → v < 6 → w < 6 → S.2.2.2.2.2.2.2.2 (36 * t + e) = sf_N rk f M v w → post (nI e)) :
    wpX_findPlace post (sf_mk S p F W) (nI t) (nI k) (nI w) := by
  obtain ⟨hh, hz, c', e, hc', he, hb⟩ := h
  obtain ⟨hs, h1, h2, h3, h4, hd⟩ := hh
  obtain ⟨l1, l2, l3, l4, l5⟩ := sf_LK hd
  obtain ⟨r1, r2, _⟩ := sf_room hd hb
  obtain ⟨b1, b2, b3, b4, b5, ln, bg, g0, gc, g1, g2, g3⟩ := hb
  obtain rfl : c = c' := sf_inj (by omega) (by omega) (hc.symm.trans hc')
  have hm : ∀ k, k ≤ c → bg k ≤ e := by
    intro k hk
    rw [← gc]
    exact sf_mono (fun k hk => (g1 k hk).2.2.2.1) k hk
  have hbg : ∀ k, k ≤ c → S.2.2.2.2.2.2.1 (7 * t + k) = nI (bg k) := by
    intro k hk
    by_cases a : k = c
    · rw [a, he, gc]
    · exact (g1 k (by omega)).2.2.1
  obtain ⟨v1, v2, v3, v4⟩ := g1 k hk
  have ev : ln k = v := sf_inj (by omega) hv (v1.symm.trans hla)
  rw [ev] at v4 v2
  obtain ⟨s1, s2, s3, q, q1, q2, q3⟩ := v4
  have hm1 := hm (k + 1) (by omega)
  refine sf_findPlace0 (S := S) (p := p) (F := F) (W := W) (q := q) hs (by omega) (by omega) s1 (by omega) hw v3 (hbg (k + 1) (by omega)) (fun e a1 a2 => ⟨(q1 e a1 a2).1, by have := (q1 e a1 a2).2.1; omega⟩) q2
    (fun e a1 a2 ee => H1 e (bg k) (bg (k + 1)) a1 a2 (by omega) v3 (hbg (k + 1) (by omega)) (by rw [← ee]; exact (q1 e a1 a2).1) (by omega) (by have := (q1 e a1 a2).2.1; omega) (by rw [← ee]; exact (q1 e a1 a2).2.2.1)) (fun hn => H0 ?_)
  by_cases a : v < sf_L rk n m f ∧ w < sf_K rk n m f
  · by_cases b : sf_N rk f M v w = 0
    · exact b
    · obtain ⟨e, e1, e2, e3⟩ := q3 w a.2 b
      exact absurd e3 (hn e e1 e2)
  · exact sf_N0 hd hz a
/-- the line and the place of (i, j) -/
def sf_l (rk f i j : Nat) : Nat := if rk < 2 then 0 else if 4 ≤ f then j else i
def sf_w (rk f i j : Nat) : Nat := if rk < 2 then i else if 4 ≤ f then i else j
theorem sf_lwN {rk n m f i j : Nat} {M : Nat → sf_A} (h : sf_dm rk n m f) (hj : j < m) : sf_N rk f M (sf_l rk f i j) (sf_w rk f i j) = M i j := by
  unfold sf_l sf_w
  by_cases a : rk < 2
  · rw [if_pos a, if_pos a, sf_N2 a]
    have := h.2.2.2.2.2.2.1 a
    obtain rfl : j = 0 := by omega
    rfl
  · by_cases b : 4 ≤ f
    · rw [if_neg a, if_neg a, if_pos b, if_pos b, sf_Nt a b]
    · rw [if_neg a, if_neg a, if_neg b, if_neg b, sf_Nn a b]
theorem sf_lwU {rk n m f i j l k : Nat} {M : Nat → sf_A} {x : Int32} (h : sf_dm rk n m f) (hj : j < m) :
    sf_N rk f (fun a b => if a = i ∧ b = j then x else M a b) l k = if l = sf_l rk f i j ∧ k = sf_w rk f i j then x else sf_N rk f M l k := by
  unfold sf_l sf_w
  by_cases a : rk < 2
  · have := h.2.2.2.2.2.2.1 a
    obtain rfl : j = 0 := by omega
    rw [if_pos a, if_pos a]
    by_cases c : l = 0
    · subst c
      rw [sf_N2 a, sf_N2 a]
      by_cases d : k = i
      · rw [if_pos ⟨d, rfl⟩, if_pos ⟨rfl, d⟩]
      · rw [if_neg (fun z => d z.1), if_neg (fun z => d z.2)]
    · rw [sf_N2' a c, sf_N2' a c, if_neg (fun z => c z.1)]
  · by_cases b : 4 ≤ f
    · rw [if_neg a, if_neg a, if_pos b, if_pos b, sf_Nt a b, sf_Nt a b]
      by_cases d : k = i ∧ l = j
      · rw [if_pos d, if_pos ⟨d.2, d.1⟩]
      · rw [if_neg d, if_neg (fun z => d ⟨z.2, z.1⟩)]
    · rw [if_neg a, if_neg a, if_neg b, if_neg b, sf_Nn a b, sf_Nn a b]
theorem sf_pos52 {post : Int32 → Prop} {S : sf_Sl} {p : sf_A} {F : sf_Fm} {W : sf_Wk} {s rk n m f v w : Nat} {M : Nat → sf_A} (h : sf_slot S s rk n m f M) (hv : v < 2 ^ 31) (hw : w < 2 ^ 31)
    (H0 : sf_N rk f M v w = 0 → post (-1))
    (H1 : ∀ c k e b0 b1, S.2.2.2.2.1 s = nI c → k < c → c ≤ 6 → S.2.2.2.2.2.1 (6 * s + k) = nI v → b0 ≤ e → e < b1 → b1 ≤ 36 → S.2.2.2.2.2.2.1 (7 * s + k) = nI b0 → S.2.2.2.2.2.2.1 (7 * s + k + 1) = nI b1 → S.2.2.2.2.2.2.2.1 (36 * s + e) = nI w → v < 6 → w < 6 → S.2.2.2.2.2.2.2.2 (36 * s + e) = sf_N rk f M v w → post (nI e)) :
    wX_position_52 post (nI s) (nI v) (nI w) F.1 F.2.1 F.2.2.1 W.1 S.1 S.2.1 S.2.2.1 S.2.2.2.1 S.2.2.2.2.1 S.2.2.2.2.2.1 S.2.2.2.2.2.2.1 S.2.2.2.2.2.2.2.1 S.2.2.2.2.2.2.2.2 F.2.2.2.1 F.2.2.2.2.1 F.2.2.2.2.2.1 F.2.2.2.2.2.2.1 F.2.2.2.2.2.2.2.1 F.2.2.2.2.2.2.2.2.1 F.2.2.2.2.2.2.2.2.2 W.2.1 p W.2.2.1 W.2.2.2.1 W.2.2.2.2.1 W.2.2.2.2.2.1 W.2.2.2.2.2.2.1 W.2.2.2.2.2.2.2.1 W.2.2.2.2.2.2.2.2.1 W.2.2.2.2.2.2.2.2.2.1 W.2.2.2.2.2.2.2.2.2.2.1 W.2.2.2.2.2.2.2.2.2.2.2 := by
  unfold wX_position_52
  exact sf_findL (S := S) (p := p) (F := F) (W := W) h hv (fun hn => br_t rfl (H0 (hn w))) (fun k c hc hk hc6 hla => br_f (sf_neg1 (by omega)) (sf_findP (S := S) (p := p) (F := F) (W := W) h hc hk hc6 hla hv hw H0 (fun e b0 b1 a1 a2 a3 a4 a5 a6 a7 a8 a9 => H1 c k e b0 b1 hc hk hc6 hla a1 a2 a3 a4 a5 a6 a7 a8 a9)))
theorem sf_pos {post : Int32 → Prop} {S : sf_Sl} {p : sf_A} {F : sf_Fm} {W : sf_Wk} {s rk n m f i j : Nat} {M : Nat → sf_A} (h : sf_slot S s rk n m f M) (hi : i < n) (hj : j < m)
    (H0 : M i j = 0 → post (-1))
    (H1 : ∀ c k e b0 b1, S.2.2.2.2.1 s = nI c → k < c → c ≤ 6 → S.2.2.2.2.2.1 (6 * s + k) = nI (sf_l rk f i j) → b0 ≤ e → e < b1 → b1 ≤ 36 → S.2.2.2.2.2.2.1 (7 * s + k) = nI b0 → S.2.2.2.2.2.2.1 (7 * s + k + 1) = nI b1 → S.2.2.2.2.2.2.2.1 (36 * s + e) = nI (sf_w rk f i j) → sf_l rk f i j < 6 → sf_w rk f i j < 6 → S.2.2.2.2.2.2.2.2 (36 * s + e) = M i j → post (nI e)) :
    wpX_position post (sf_mk S p F W) (nI s) (nI i) (nI j) := by
  have hh := h
  obtain ⟨hhd, hz, _⟩ := h
  have hhd' := hhd
  obtain ⟨hs, h1, h2, h3, h4, hd⟩ := hhd
  have hr := hd.1
  have hn := hd.2.2.1
  have hm := hd.2.2.2.2.1
  have e : (nI s).toNatClampNeg = s := nI_clamp (by omega)
  have hN := sf_lwN (i := i) (M := M) hd hj
  have fin : wX_position_52 post (nI s) (nI (sf_l rk f i j)) (nI (sf_w rk f i j)) F.1 F.2.1 F.2.2.1 W.1 S.1 S.2.1 S.2.2.1 S.2.2.2.1 S.2.2.2.2.1 S.2.2.2.2.2.1 S.2.2.2.2.2.2.1 S.2.2.2.2.2.2.2.1 S.2.2.2.2.2.2.2.2 F.2.2.2.1 F.2.2.2.2.1 F.2.2.2.2.2.1 F.2.2.2.2.2.2.1 F.2.2.2.2.2.2.2.1 F.2.2.2.2.2.2.2.2.1 F.2.2.2.2.2.2.2.2.2 W.2.1 p W.2.2.1 W.2.2.2.1 W.2.2.2.2.1 W.2.2.2.2.2.1 W.2.2.2.2.2.2.1 W.2.2.2.2.2.2.2.1 W.2.2.2.2.2.2.2.2.1 W.2.2.2.2.2.2.2.2.2.1 W.2.2.2.2.2.2.2.2.2.2.1 W.2.2.2.2.2.2.2.2.2.2.2 := by
    refine sf_pos52 (S := S) (p := p) (F := F) (W := W) hh ?_ ?_ (fun z => H0 (by rw [← hN]; exact z)) (fun c k e b0 b1 a1 a2 a3 a4 a5 a6 a7 a8 a9 a10 a11 a12 a13 => H1 c k e b0 b1 a1 a2 a3 a4 a5 a6 a7 a8 a9 a10 a11 a12 (a13.trans hN))
    · unfold sf_l
      split
      · omega
      · split <;> omega
    · unfold sf_w
      split
      · omega
      · split <;> omega
  unfold sf_l sf_w at fin
  refine And.intro (pk_in s 13 hs) (pk_le 2 rk (fun z => sf_isT (S := S) (p := p) (F := F) (W := W) hhd' (fun y1 y2 => br_f sf_ne0 ?_) (fun y => br_t rfl ?_)) (fun z => ?_) rfl (by rw [e]; exact h1))
  · rw [if_neg (show ¬ rk < 2 by omega), if_neg (show ¬ rk < 2 by omega), if_pos y2, if_pos y2] at fin
    exact And.intro (pk_in s 13 hs) (pk_lt rk 2 (fun w => absurd w (by omega)) (fun w => sf_isT (S := S) (p := p) (F := F) (W := W) hhd' (fun _ _ => br_f sf_ne0 fin) (fun y => absurd ⟨y1, y2⟩ y)) (by rw [e]; exact h1))
  · have y' : ¬ 4 ≤ f := fun t => y ⟨by omega, t⟩
    rw [if_neg (show ¬ rk < 2 by omega), if_neg (show ¬ rk < 2 by omega), if_neg y', if_neg y'] at fin
    exact And.intro (pk_in s 13 hs) (pk_lt rk 2 (fun w => absurd w (by omega)) (fun w => sf_isT (S := S) (p := p) (F := F) (W := W) hhd' (fun x1 x2 => absurd x2 y') (fun y => br_t rfl fin)) (by rw [e]; exact h1))
  · rw [if_pos (show rk < 2 by omega), if_pos (show rk < 2 by omega)] at fin
    exact And.intro (pk_in s 13 hs) (pk_lt rk 2 (fun w => fin) (fun w => absurd w (by omega)) (by rw [e]; exact h1))
theorem sf_badR {post : Int32 → Prop} {S : sf_Sl} {p : sf_A} {F : sf_Fm} {W : sf_Wk} {r : Nat} (hr : r < 6) (H : post 0) : wpX_badRegister post (sf_mk S p F W) (nI r) :=
  br_f (nI_pos (by omega)) (pk_lt r 6 (fun _ => H) (fun z => absurd z (by omega)))
theorem sf_noPl {post : Int32 → Prop} {S : sf_Sl} {p : sf_A} {F : sf_Fm} {W : sf_Wk} {s rk n m f i j : Nat} (h : sf_hd S s rk n m f) (hi : i < 2 ^ 31) (hj : j < 2 ^ 31) (H0 : i < n → j < m → post 0) (H1 : ¬ (i < n ∧ j < m) → post 1) :
    wpX_noPlace post (sf_mk S p F W) (nI s) (nI i) (nI j) := by
  obtain ⟨hs, h1, h2, h3, h4, hd⟩ := h
  have hn := hd.2.2.1
  have hm := hd.2.2.2.2.1
  have e : (nI s).toNatClampNeg = s := nI_clamp (by omega)
  exact br_f (nI_pos hi) (And.intro (pk_in s 13 hs) (pk_le n i (fun z => H1 (fun t => absurd t.1 (by omega))) (fun z => br_f (nI_pos hj) (And.intro (pk_in s 13 hs) (pk_lt j m (fun y => H0 z y) (fun y => H1 (fun t => absurd t.2 (by omega))) rfl (by rw [e]; exact h3)))) (by rw [e]; exact h2)))
theorem sf_get {post : Int32 → Prop} {S : sf_Sl} {p : sf_A} {F : sf_Fm} {W : sf_Wk} {s rk n m f i j : Nat} {M : Nat → sf_A} (h : sf_slot S s rk n m f M) (hs6 : s < 6) (hi : i < n) (hj : j < m)
    (H : post (M i j)) : wpX_get post (sf_mk S p F W) (nI s) (nI i) (nI j) := by
  have hd := h.1.2.2.2.2.2
  have hn := hd.2.2.1
  have hm := hd.2.2.2.2.1
  unfold wpX_get
  refine sf_badR (S := S) (p := p) (F := F) (W := W) hs6 (br_t rfl (sf_noPl (S := S) (p := p) (F := F) (W := W) h.1 (by omega) (by omega) (fun _ _ => br_t rfl (sf_pos (S := S) (p := p) (F := F) (W := W) h hi hj (fun z => br_t rfl (by rw [z] at H; exact H)) (fun c k e b0 b1 a1 a2 a3 a4 a5 a6 a7 a8 a9 a10 a11 a12 a13 => br_f (sf_neg1 (by omega)) (And.intro (pk_in _ 468 (by omega) (sf_i36 s e)) ?_)))) (fun z => absurd ⟨hi, hj⟩ z)))
  rw [pk_cl _ (sf_i36 s e), a13]; exact H
/-! registers -/
def sf_reg (S : sf_Sl) (r : Nat) : Prop := ∃ rk n m f M, sf_slot S r rk n m f M
def sf_all (S : sf_Sl) : Prop := ∀ r, r < 6 → sf_reg S r
theorem sf_allN {S S' : sf_Sl} {s : Nat} (h : sf_all S) (hs : sf_reg S' s) (hn : sf_ne S S' s) : sf_all S' := by
  intro r hr
  by_cases a : r = s
  · rw [a]; exact hs
  · obtain ⟨rk, n, m, f, M, hM⟩ := h r hr
    exact ⟨rk, n, m, f, M, sf_slotN hM hn a⟩
theorem sf_allO {S S' : sf_Sl} {s : Nat} (h : sf_all S) (hs : 6 ≤ s) (hn : sf_ne S S' s) : sf_all S' := by
  intro r hr
  obtain ⟨rk, n, m, f, M, hM⟩ := h r hr
  exact ⟨rk, n, m, f, M, sf_slotN hM hn (by omega)⟩
end
section
theorem sf_badF {post : Int32 → Prop} {S : sf_Sl} {p : sf_A} {F : sf_Fm} {W : sf_Wk} {rk f : Nat} (hr : rk ≤ 2) (hf : f < 2 ^ 31) (H0 : f ≤ sf_mx rk → post 0) (H1 : ¬ f ≤ sf_mx rk → post 1) :
    wpX_badFormat post (sf_mk S p F W) (nI rk) (nI f) := by
  unfold sf_mx at H0 H1
  refine pk_eq rk 0 (fun z => br_f (nI_pos hf) ?_) (fun z => pk_eq rk 1 (fun y => br_f (nI_pos hf) ?_) (fun y => br_f (nI_pos hf) ?_))
  · rw [if_pos z] at H0 H1
    exact pk_le f 0 (fun x => H0 x) (fun x => H1 (by omega))
  · rw [if_neg z, if_pos y] at H0 H1
    exact pk_le f 1 (fun x => H0 x) (fun x => H1 (by omega))
  · rw [if_neg z, if_neg y] at H0 H1
    exact pk_le f 7 (fun x => H0 x) (fun x => H1 (by omega))
theorem sf_roomOf {post : Int32 → Prop} {S : sf_Sl} {p : sf_A} {F : sf_Fm} {W : sf_Wk} {s rk n m f : Nat} {M : Nat → sf_A} (h : sf_slot S s rk n m f M)
    (H : ∀ e, e ≤ 36 → sf_cn n m M ≤ e → e ≤ n * m → (sf_sp rk f = true → e = sf_cn n m M) → sf_T e (fun t => sf_nz (S.2.2.2.2.2.2.2.2 (36 * s + t))) = sf_cn n m M → (sf_sl rk f = false → sf_sp rk f = false → e = n * m) → post (nI e)) :
    wpX_roomOf post (sf_mk S p F W) (nI s) := by
  obtain ⟨⟨hs, h1, h2, h3, h4, hd⟩, hz, c, e, hc, he, hb⟩ := h
  obtain ⟨r1, r2, r3, r4, r5, r6, r7⟩ := sf_room hd hb
  have es : (nI s).toNatClampNeg = s := nI_clamp (by omega)
  have e7 : (7 : Int32) * nI s + S.2.2.2.2.1 (nI s).toNatClampNeg = nI (7 * s + c) := by rw [es, hc]; exact sf_i7 s c
  refine And.intro (pk_in s 13 hs) (And.intro (pk_in _ 91 (by omega) e7) ?_)
  rw [pk_cl _ e7, he]
  exact H e r2 r3 r4 r5 r6 r7
theorem sf_filled {post : Int32 → Prop} {S : sf_Sl} {p : sf_A} {F : sf_Fm} {W : sf_Wk} {s rk n m f : Nat} {M : Nat → sf_A} (h : sf_slot S s rk n m f M) (hs6 : s < 6)
    (H : post (nI (sf_cn n m M))) : wpX_filled post (sf_mk S p F W) (nI s) := by
  unfold wpX_filled
  refine sf_badR (S := S) (p := p) (F := F) (W := W) hs6 (br_t rfl (sf_roomOf (S := S) (p := p) (F := F) (W := W) h (fun e a1 a2 a3 a4 a5 a6 => ?_)))
  refine pk_loop (fun k i (x : Nat) => wX_filled_22 post (nI s) (nI e) F.1 F.2.1 F.2.2.1 W.1 S.1 S.2.1 S.2.2.1 S.2.2.2.1 S.2.2.2.2.1 S.2.2.2.2.2.1 S.2.2.2.2.2.2.1 S.2.2.2.2.2.2.2.1 S.2.2.2.2.2.2.2.2 F.2.2.2.1 F.2.2.2.2.1 F.2.2.2.2.2.1 F.2.2.2.2.2.2.1 F.2.2.2.2.2.2.2.1 F.2.2.2.2.2.2.2.2.1 F.2.2.2.2.2.2.2.2.2 W.2.1 p W.2.2.1 W.2.2.2.1 W.2.2.2.2.1 W.2.2.2.2.2.1 W.2.2.2.2.2.2.1 W.2.2.2.2.2.2.2.1 W.2.2.2.2.2.2.2.2.1 W.2.2.2.2.2.2.2.2.2.1 W.2.2.2.2.2.2.2.2.2.2.1 W.2.2.2.2.2.2.2.2.2.2.2 k (nI x) (nI i)) (fun i x => x = sf_T i (fun t => sf_nz (S.2.2.2.2.2.2.2.2 (36 * s + t)))) e 0 0 (by omega) rfl ?_ ?_
  · intro k x hx
    refine pk_le e e (fun _ => ?_) (fun z => absurd z (by omega))
    rw [hx, a5]; exact H
  · intro k i x hi hx hw
    have e36 := sf_i36 s i
    refine pk_le e i (fun z => absurd z (by omega)) (fun _ => And.intro (pk_in _ 468 (by omega) e36) (br_c (fun z => nm_r (nI_1 i) (hw x ?_)) (fun z => nm_r (nI_1 x) (nm_r (nI_1 i) (hw (x + 1) ?_)))))
    · rw [pk_cl _ e36] at z
      show x = sf_T i (fun t => sf_nz (S.2.2.2.2.2.2.2.2 (36 * s + t))) + sf_nz (S.2.2.2.2.2.2.2.2 (36 * s + i))
      rw [sf_nz0 z, hx]; rfl
    · rw [pk_cl _ e36] at z
      show x + 1 = sf_T i (fun t => sf_nz (S.2.2.2.2.2.2.2.2 (36 * s + t))) + sf_nz (S.2.2.2.2.2.2.2.2 (36 * s + i))
      rw [sf_nz1 z, hx]
def sf_dg (M : Nat → sf_A) : Int32 := sf_Q 36 (fun k => (((7 * (nI k / 6)) + (nI k - nI k / 6 * 6)) + 1) * M (k / 6) (k % 6))
theorem sf_digest {post : Int32 → St1 → Prop} {S : sf_Sl} {p : sf_A} {F : sf_Fm} {W : sf_Wk} {s rk n m f : Nat} {M : Nat → sf_A} (h : sf_slot S s rk n m f M) (hs6 : s < 6)
    (H : ∀ p', post (sf_dg M) (sf_mk S p' F W)) : wpX_digest post (sf_mk S p F W) (nI s) := by
  unfold wpX_digest
  refine sf_badR (S := S) (p := p) (F := F) (W := W) hs6 (br_t rfl (sf_unpack (S := S) (p := p) (F := F) (W := W) h (fun p' hp' => ?_)))
  refine pk_loop (fun k i (x : Int32) => wX_digest_20 post F.1 F.2.1 F.2.2.1 W.1 S.1 S.2.1 S.2.2.1 S.2.2.2.1 S.2.2.2.2.1 S.2.2.2.2.2.1 S.2.2.2.2.2.2.1 S.2.2.2.2.2.2.2.1 S.2.2.2.2.2.2.2.2 F.2.2.2.1 F.2.2.2.2.1 F.2.2.2.2.2.1 F.2.2.2.2.2.2.1 F.2.2.2.2.2.2.2.1 F.2.2.2.2.2.2.2.2.1 F.2.2.2.2.2.2.2.2.2 W.2.1 p' W.2.2.1 W.2.2.2.1 W.2.2.2.2.1 W.2.2.2.2.2.1 W.2.2.2.2.2.2.1 W.2.2.2.2.2.2.2.1 W.2.2.2.2.2.2.2.2.1 W.2.2.2.2.2.2.2.2.2.1 W.2.2.2.2.2.2.2.2.2.2.1 W.2.2.2.2.2.2.2.2.2.2.2 k x (nI i)) (fun i x => x = sf_Q i (fun k => (((7 * (nI k / 6)) + (nI k - nI k / 6 * 6)) + 1) * M (k / 6) (k % 6))) 36 0 0 (by omega) rfl ?_ ?_
  · intro k x hx
    refine pk_le 36 36 (fun _ => ?_) (fun z => absurd z (by omega))
    rw [hx]; exact H p'
  · intro k i x hi hx hw
    refine pk_le 36 i (fun z => absurd z (by omega)) (fun _ => And.intro (by decide) (And.intro (by decide) (And.intro (pk_in i 36 hi) (nm_e (nm_r (nI_1 i) (hw _ ?_))))))
    show _ = sf_Q i _ + _
    rw [nI_clamp (by omega), hp' i hi, hx]
theorem sf_format {post : Int32 → St1 → Prop} {S : sf_Sl} {p : sf_A} {F : sf_Fm} {W : sf_Wk} {s rk n m f f' : Nat} {M : Nat → sf_A} (h : sf_slot S s rk n m f M) (hs6 : s < 6) (hf : f' < 2 ^ 31)
    (H1 : f' ≤ sf_mx rk → ∀ S' p' e, sf_slot S' s rk n m f' M → sf_ne S S' s → e ≤ 36 → sf_cn n m M ≤ e → e ≤ n * m → (sf_sp rk f' = true → e = sf_cn n m M) → post (nI e) (sf_mk S' p' F W))
    (H0 : ¬ f' ≤ sf_mx rk → post (-1000000001) (sf_mk S p F W)) : wpX_format post (sf_mk S p F W) (nI s) (nI f') := by
  have hh := h
  obtain ⟨⟨hs, h1, h2, h3, h4, hd⟩, hz, _⟩ := h
  have e : (nI s).toNatClampNeg = s := nI_clamp (by omega)
  unfold wpX_format
  refine sf_badR (S := S) (p := p) (F := F) (W := W) hs6 (br_t rfl (And.intro (pk_in s 13 hs) ?_))
  rw [e, h1]
  refine sf_badF (S := S) (p := p) (F := F) (W := W) hd.1 hf (fun z => br_t rfl (sf_unpack (S := S) (p := p) (F := F) (W := W) hh (fun p' hp' => And.intro (pk_in s 13 hs) (And.intro (pk_in s 13 hs) (And.intro (pk_in s 13 hs) ?_))))) (fun z => br_f sf_ne0 (H0 z))
  rw [h1, h2, h3]
  have hd' : sf_dm rk n m f' := ⟨hd.1, hd.2.1, hd.2.2.1, hd.2.2.2.1, hd.2.2.2.2.1, z, hd.2.2.2.2.2.2⟩
  refine sf_pack (S := S) (p := p') (F := F) (W := W) hs hd' (fun S' a b => ?_)
  rw [sf_matM hd.2.2.1 hd.2.2.2.2.1 hp' hz] at a
  exact sf_roomOf (S := S') (p := p') (F := F) (W := W) a (fun e a1 a2 a3 a4 a5 a6 => H1 z S' p' e a b a1 a2 a3 a4)
def sf_x4 (f : Nat) : Nat := if f < 4 then f + 4 else f - 4
theorem sf_x4l {f : Nat} (h : f < 8) : sf_x4 f < 8 ∧ (4 ≤ sf_x4 f ↔ ¬ 4 ≤ f) ∧ sf_x4 f % 2 = f % 2 ∧ sf_x4 f / 2 % 2 = f / 2 % 2 := by
  unfold sf_x4
  split <;> exact ⟨by omega, by omega, by omega, by omega⟩
/-- lines stay lines -/
theorem sf_slotT {S S' : sf_Sl} {s n m f : Nat} {M : Nat → sf_A} (h : sf_slot S s 2 n m f M) (h1 : S'.1 s = nI 2) (h2 : S'.2.1 s = nI m) (h3 : S'.2.2.1 s = nI n) (h4 : S'.2.2.2.1 s = nI (sf_x4 f))
    (h5 : S'.2.2.2.2.1 = S.2.2.2.2.1) (h6 : S'.2.2.2.2.2.1 = S.2.2.2.2.2.1) (h7 : S'.2.2.2.2.2.2.1 = S.2.2.2.2.2.2.1) (h8 : S'.2.2.2.2.2.2.2.1 = S.2.2.2.2.2.2.2.1) (h9 : S'.2.2.2.2.2.2.2.2 = S.2.2.2.2.2.2.2.2) : sf_slot S' s 2 m n (sf_x4 f) (fun i j => M j i) := by
  obtain ⟨⟨hs, _, _, _, _, hd⟩, hz, c, e, hc, he, hb⟩ := h
  have hf := sf_dm7 hd
  obtain ⟨x1, x2, x3, x4⟩ := sf_x4l hf
  obtain ⟨d1, d2, d3, d4, d5, d6, d7, d8⟩ := hd
  have hL : sf_L 2 m n (sf_x4 f) = sf_L 2 n m f := by
    by_cases b : 4 ≤ f
    · rw [sf_Lt (by omega) b, sf_Ln (by omega) (fun z => x2.mp z b)]
    · rw [sf_Ln (by omega) b, sf_Lt (by omega) (x2.mpr b)]
  have hK : sf_K 2 m n (sf_x4 f) = sf_K 2 n m f := by
    by_cases b : 4 ≤ f
    · rw [sf_Kt (by omega) b, sf_Kn (by omega) (fun z => x2.mp z b)]
    · rw [sf_Kn (by omega) b, sf_Kt (by omega) (x2.mpr b)]
  have hN : sf_N 2 (sf_x4 f) (fun i j => M j i) = sf_N 2 f M := by
    funext l j
    by_cases b : 4 ≤ f
    · rw [sf_Nt (by omega) b, sf_Nn (by omega) (fun z => x2.mp z b)]
    · rw [sf_Nn (by omega) b, sf_Nt (by omega) (x2.mpr b)]
  have hsl : sf_sl 2 (sf_x4 f) = sf_sl 2 f := by unfold sf_sl; rw [x4]
  have hsp : sf_sp 2 (sf_x4 f) = sf_sp 2 f := by unfold sf_sp; rw [x3]
  refine ⟨⟨hs, h1, h2, h3, h4, d1, d4, d5, d2, d3, ?_, fun z => absurd z (by omega), fun z => absurd z (by omega)⟩, fun i j z => hz j i (fun t => z ⟨t.2, t.1⟩), c, e, by rw [h5]; exact hc, by rw [h7]; exact he, ?_⟩
  · show sf_x4 f ≤ 7
    omega
  · rw [hL, hK, hN, hsl, hsp, h6, h7, h8, h9]; exact hb
theorem sf_turn {post : Int32 → St1 → Prop} {S : sf_Sl} {p : sf_A} {F : sf_Fm} {W : sf_Wk} {s rk n m f : Nat} {M : Nat → sf_A} (h : sf_slot S s rk n m f M) (hs6 : s < 6)
    (H1 : rk = 2 → ∀ S', sf_slot S' s 2 m n (sf_x4 f) (fun i j => M j i) → sf_ne S S' s → post (nI m) (sf_mk S' p F W))
    (H0 : rk ≠ 2 → post (-1000000004) (sf_mk S p F W)) : wpX_turn post (sf_mk S p F W) (nI s) := by
  have hh := h
  obtain ⟨⟨hs, h1, h2, h3, h4, hd⟩, hz, _⟩ := h
  have hf := sf_dm7 hd
  have hr := hd.1
  have e : (nI s).toNatClampNeg = s := nI_clamp (by omega)
  have i13 := pk_in (x := nI s) s 13 hs
  unfold wpX_turn
  refine sf_badR (S := S) (p := p) (F := F) (W := W) hs6 (br_t rfl (And.intro i13 (pk_eq rk 2 (fun z => ?_) (fun z => H0 z) (by rw [e]; exact h1))))
  subst z
  refine And.intro i13 (nm_r (e' := nI n) (by rw [e]; exact h2) (And.intro i13 (And.intro i13 (nm_r (e' := upd S.2.1 s (nI m)) (by rw [e, h3]) (And.intro i13 (nm_r (e' := upd S.2.2.1 s (nI n)) (by rw [e]) (And.intro i13 (And.intro i13 (nm_r (e' := upd S.2.2.2.1 s (nI (sf_x4 f))) (by rw [e, h4, sf_xor4 f hf]; rfl) (And.intro i13 ?_))))))))))
  rw [e, pk_us]
  exact H1 rfl (S.1, (upd S.2.1 s (nI m)), (upd S.2.2.1 s (nI n)), (upd S.2.2.2.1 s (nI (sf_x4 f))), S.2.2.2.2.1, S.2.2.2.2.2.1, S.2.2.2.2.2.2.1, S.2.2.2.2.2.2.2.1, S.2.2.2.2.2.2.2.2) (sf_slotT hh h1 pk_us pk_us pk_us rfl rfl rfl rfl rfl)
    ⟨fun x hx => ⟨rfl, pk_un hx, pk_un hx, pk_un hx, rfl⟩, fun _ _ => rfl, fun _ _ => rfl, fun _ _ => ⟨rfl, rfl⟩⟩
theorem sf_len0 {post : Int32 → Prop} {S : sf_Sl} {p : sf_A} {F : sf_Fm} {W : sf_Wk} {s rk n m f : Nat} {M : Nat → sf_A} (h : sf_slot S s rk n m f M) (hs6 : s < 6) (H : post (nI n)) : wpX_length post (sf_mk S p F W) (nI s) 0 := by
  obtain ⟨⟨hs, h1, h2, h3, h4, hd⟩, hz, _⟩ := h
  have e : (nI s).toNatClampNeg = s := nI_clamp (by omega)
  unfold wpX_length
  refine sf_badR (S := S) (p := p) (F := F) (W := W) hs6 (br_t rfl (br_f (by decide) (br_t (by decide) (br_t rfl (And.intro (pk_in s 13 hs) ?_)))))
  rw [e, h2]; exact H
theorem sf_len1 {post : Int32 → Prop} {S : sf_Sl} {p : sf_A} {F : sf_Fm} {W : sf_Wk} {s rk n m f : Nat} {M : Nat → sf_A} (h : sf_slot S s rk n m f M) (hs6 : s < 6) (H : post (nI m)) : wpX_length post (sf_mk S p F W) (nI s) 1 := by
  obtain ⟨⟨hs, h1, h2, h3, h4, hd⟩, hz, _⟩ := h
  have e : (nI s).toNatClampNeg = s := nI_clamp (by omega)
  unfold wpX_length
  refine sf_badR (S := S) (p := p) (F := F) (W := W) hs6 (br_t rfl (br_f (by decide) (br_t (by decide) (br_f (by decide) (And.intro (pk_in s 13 hs) ?_)))))
  rw [e, h3]; exact H
theorem sf_same {post : Int32 → Prop} {S : sf_Sl} {p : sf_A} {F : sf_Fm} {W : sf_Wk} {s t rk n m f f' : Nat} {M : Nat → sf_A} (h : sf_slot S s rk n m f M) (h' : sf_slot S t rk n m f' M) (hs6 : s < 6) (ht6 : t < 6)
    (H : post 1) : wpX_same post (sf_mk S p F W) (nI s) (nI t) := by
  obtain ⟨⟨hs, h1, h2, h3, h4, hd⟩, hz, _⟩ := id h
  obtain ⟨⟨ht, k1, k2, k3, k4, _⟩, _⟩ := id h'
  have hn := hd.2.2.1
  have hm := hd.2.2.2.2.1
  have es : (nI s).toNatClampNeg = s := nI_clamp (by omega)
  have et : (nI t).toNatClampNeg = t := nI_clamp (by omega)
  have i13 := pk_in (x := nI s) s 13 hs
  have j13 := pk_in (x := nI t) t 13 ht
  unfold wpX_same
  refine sf_badR (S := S) (p := p) (F := F) (W := W) hs6 (br_t rfl (sf_badR (S := S) (p := p) (F := F) (W := W) ht6 (br_t rfl (And.intro i13 (And.intro j13 (br_t (by rw [es, et, h1, k1]) (And.intro i13 (And.intro j13 (br_t (by rw [es, et, h2, k2]) (And.intro i13 (And.intro j13 (br_t (by rw [es, et, h3, k3]) ?_))))))))))))
  refine pk_loop (fun k i (_ : Unit) => wX_same_68 post (nI s) (nI t) F.1 F.2.1 F.2.2.1 W.1 S.1 S.2.1 S.2.2.1 S.2.2.2.1 S.2.2.2.2.1 S.2.2.2.2.2.1 S.2.2.2.2.2.2.1 S.2.2.2.2.2.2.2.1 S.2.2.2.2.2.2.2.2 F.2.2.2.1 F.2.2.2.2.1 F.2.2.2.2.2.1 F.2.2.2.2.2.2.1 F.2.2.2.2.2.2.2.1 F.2.2.2.2.2.2.2.2.1 F.2.2.2.2.2.2.2.2.2 W.2.1 p W.2.2.1 W.2.2.2.1 W.2.2.2.2.1 W.2.2.2.2.2.1 W.2.2.2.2.2.2.1 W.2.2.2.2.2.2.2.1 W.2.2.2.2.2.2.2.2.1 W.2.2.2.2.2.2.2.2.2.1 W.2.2.2.2.2.2.2.2.2.2.1 W.2.2.2.2.2.2.2.2.2.2.2 k 1 (nI i)) (fun _ _ => True) n 0 () (by omega) trivial ?_ ?_
  · intro k _ _
    exact And.intro i13 (pk_le n n (fun _ => And.intro (by decide) H) (fun z => absurd z (by omega)) (by rw [es]; exact h2))
  · intro k i _ hi _ hw
    refine And.intro i13 (pk_le n i (fun z => absurd z (by omega)) (fun _ => ?_) (by rw [es]; exact h2))
    refine pk_loop (fun k' j (_ : Unit) => wX_same_82 post (wX_same_68 post (nI s) (nI t) F.1 F.2.1 F.2.2.1 W.1 S.1 S.2.1 S.2.2.1 S.2.2.2.1 S.2.2.2.2.1 S.2.2.2.2.2.1 S.2.2.2.2.2.2.1 S.2.2.2.2.2.2.2.1 S.2.2.2.2.2.2.2.2 F.2.2.2.1 F.2.2.2.2.1 F.2.2.2.2.2.1 F.2.2.2.2.2.2.1 F.2.2.2.2.2.2.2.1 F.2.2.2.2.2.2.2.2.1 F.2.2.2.2.2.2.2.2.2 W.2.1 p W.2.2.1 W.2.2.2.1 W.2.2.2.2.1 W.2.2.2.2.2.1 W.2.2.2.2.2.2.1 W.2.2.2.2.2.2.2.1 W.2.2.2.2.2.2.2.2.1 W.2.2.2.2.2.2.2.2.2.1 W.2.2.2.2.2.2.2.2.2.2.1 W.2.2.2.2.2.2.2.2.2.2.2 k) (nI s) (nI t) (nI i) F.1 F.2.1 F.2.2.1 W.1 S.1 S.2.1 S.2.2.1 S.2.2.2.1 S.2.2.2.2.1 S.2.2.2.2.2.1 S.2.2.2.2.2.2.1 S.2.2.2.2.2.2.2.1 S.2.2.2.2.2.2.2.2 F.2.2.2.1 F.2.2.2.2.1 F.2.2.2.2.2.1 F.2.2.2.2.2.2.1 F.2.2.2.2.2.2.2.1 F.2.2.2.2.2.2.2.2.1 F.2.2.2.2.2.2.2.2.2 W.2.1 p W.2.2.1 W.2.2.2.1 W.2.2.2.2.1 W.2.2.2.2.2.1 W.2.2.2.2.2.2.1 W.2.2.2.2.2.2.2.1 W.2.2.2.2.2.2.2.2.1 W.2.2.2.2.2.2.2.2.2.1 W.2.2.2.2.2.2.2.2.2.2.1 W.2.2.2.2.2.2.2.2.2.2.2 k' 1 (nI j)) (fun _ _ => True) m 0 () (by omega) trivial ?_ ?_
    · intro k' _ _
      exact And.intro i13 (pk_le m m (fun _ => nm_r (nI_1 i) (hw () trivial)) (fun z => absurd z (by omega)) (by rw [es]; exact h3))
    · intro k' j _ hj _ hw'
      refine And.intro i13 (pk_le m j (fun z => absurd z (by omega)) (fun _ => sf_get (S := S) (p := p) (F := F) (W := W) h hs6 hi hj (sf_get (S := S) (p := p) (F := F) (W := W) h' ht6 hi hj (br_f sf_ne0 (br_t rfl (nm_r (nI_1 j) (hw' () trivial)))))) (by rw [es]; exact h3))
/-- a number is put -/
theorem sf_put {post : Int32 → St1 → Prop} {S : sf_Sl} {p : sf_A} {F : sf_Fm} {W : sf_Wk} {r i j : Nat} {x : Int32} (h : sf_all S) (hr : r < 6) (hi : i < 2 ^ 31) (hj : j < 2 ^ 31)
    (H : ∀ y S' p', sf_all S' → post y (sf_mk S' p' F W)) : wpX_put post (sf_mk S p F W) (nI r) (nI i) (nI j) x := by
  obtain ⟨rk, n, m, f, M, hM⟩ := h r hr
  obtain ⟨⟨hs, h1, h2, h3, h4, hd⟩, hz, c0, e0, hc0, he0, hb0⟩ := id hM
  have hn := hd.2.2.1
  have hm := hd.2.2.2.2.1
  obtain ⟨l1, l2, l3, l4, l5⟩ := sf_LK hd
  obtain ⟨r1, r2, _⟩ := sf_room hd hb0
  have es : (nI r).toNatClampNeg = r := nI_clamp (by omega)
  have i13 := pk_in (x := nI r) r 13 hs
  have anew : i < n → j < m → ∀ z : Int32, wX_put_84 post (nI r) (nI i) (nI j) x z F.1 F.2.1 F.2.2.1 W.1 S.1 S.2.1 S.2.2.1 S.2.2.2.1 S.2.2.2.2.1 S.2.2.2.2.2.1 S.2.2.2.2.2.2.1 S.2.2.2.2.2.2.2.1 S.2.2.2.2.2.2.2.2 F.2.2.2.1 F.2.2.2.2.1 F.2.2.2.2.2.1 F.2.2.2.2.2.2.1 F.2.2.2.2.2.2.2.1 F.2.2.2.2.2.2.2.2.1 F.2.2.2.2.2.2.2.2.2 W.2.1 p W.2.2.1 W.2.2.2.1 W.2.2.2.2.1 W.2.2.2.2.2.1 W.2.2.2.2.2.2.1 W.2.2.2.2.2.2.2.1 W.2.2.2.2.2.2.2.2.1 W.2.2.2.2.2.2.2.2.2.1 W.2.2.2.2.2.2.2.2.2.2.1 W.2.2.2.2.2.2.2.2.2.2.2 := by
    intro hin hjm z
    refine br_c (fun _ => H z S p h) (fun _ => sf_unpack (S := S) (p := p) (F := F) (W := W) hM (fun p' hp' => ?_))
    have e6 := sf_i6 i j
    refine And.intro (pk_in _ 36 (by omega) e6) (nm_e (And.intro i13 (And.intro i13 (And.intro i13 (And.intro i13 ?_)))))
    rw [es, h1, h2, h3, h4]
    exact sf_pack (S := S) (F := F) (W := W) hs hd (fun S' a b => H z S' _ (sf_allN h ⟨rk, n, m, f, _, a⟩ b))
  unfold wpX_put
  refine sf_badR (S := S) (p := p) (F := F) (W := W) hr (br_t rfl (sf_noPl (S := S) (p := p) (F := F) (W := W) hM.1 hi hj (fun hin hjm => br_t rfl ?_) (fun _ => br_f sf_ne0 (H _ S p h))))
  refine sf_pos (S := S) (p := p) (F := F) (W := W) hM hin hjm (fun z => br_t rfl (br_t rfl (anew hin hjm 0))) (fun c k e b0 b1 a1 a2 a3 a4 a5 a6 a7 a8 a9 a10 a11 a12 a13 => br_f (sf_neg1 (by omega)) (And.intro (pk_in _ 468 (by omega) (sf_i36 r e)) ?_))
  rw [pk_cl _ (sf_i36 r e), a13]
  refine br_c (fun _ => anew hin hjm _) (fun y => br_c (fun _ => anew hin hjm _) (fun w => And.intro (pk_in _ 468 (by omega) (sf_i36 r e)) (nm_r (e' := upd S.2.2.2.2.2.2.2.2 (36 * r + e) x) (by rw [pk_cl _ (sf_i36 r e)]) ?_)))
  obtain rfl : c = c0 := sf_inj (by omega) (by omega) (a1.symm.trans hc0)
  refine H _ (S.1, S.2.1, S.2.2.1, S.2.2.2.1, S.2.2.2.2.1, S.2.2.2.2.2.1, S.2.2.2.2.2.2.1, S.2.2.2.2.2.2.2.1, (upd S.2.2.2.2.2.2.2.2 (36 * r + e) x)) p (sf_allN h (s := r) ⟨rk, n, m, f, fun a b => if a = i ∧ b = j then x else M a b, ⟨hs, h1, h2, h3, h4, hd⟩, ?_, c, e0, hc0, he0, ?_⟩ ?_)
  · intro a b q
    by_cases t : a = i ∧ b = j
    · exact absurd ⟨by omega, by omega⟩ q
    · show (if a = i ∧ b = j then x else M a b) = 0
      rw [if_neg t]; exact hz a b q
  · exact sf_bdU hb0 w a2 a4 a8 a9 he0 a5 a6 a7 a10 a12 a11 (by rw [sf_lwN hd hjm]; exact y) (fun l' i' => sf_lwU hd hjm) l4 l2 r2
  · exact ⟨fun x _ => ⟨rfl, rfl, rfl, rfl, rfl⟩, fun _ _ => rfl, fun _ _ => rfl, fun y hy => ⟨rfl, pk_un (by omega)⟩⟩
/-- a register is made anew -/
theorem sf_make {post : Int32 → St1 → Prop} {S : sf_Sl} {p : sf_A} {F : sf_Fm} {W : sf_Wk} {r n m f : Nat} (h : sf_all S) (hr : r < 6) (hn1 : 1 ≤ n) (hn : n ≤ 6) (hm : m ≤ 6) (hf : f < 2 ^ 31)
    (H : ∀ y S' p', sf_all S' → post y (sf_mk S' p' F W)) : wpX_make post (sf_mk S p F W) (nI r) (nI n) (nI m) (nI f) := by
  have fin : ∀ rk m', sf_dm rk n m' 0 → ∀ x3 : Int32, rk ≤ 2 → (x3 = 0 ∧ m' = 1 ∨ (¬ x3 = 0) ∧ x3 = nI m') → wX_make_60 post (nI r) (nI n) x3 (nI f) 0 (nI rk) F.1 F.2.1 F.2.2.1 W.1 S.1 S.2.1 S.2.2.1 S.2.2.2.1 S.2.2.2.2.1 S.2.2.2.2.2.1 S.2.2.2.2.2.2.1 S.2.2.2.2.2.2.2.1 S.2.2.2.2.2.2.2.2 F.2.2.2.1 F.2.2.2.2.1 F.2.2.2.2.2.1 F.2.2.2.2.2.2.1 F.2.2.2.2.2.2.2.1 F.2.2.2.2.2.2.2.2.1 F.2.2.2.2.2.2.2.2.2 W.2.1 p W.2.2.1 W.2.2.2.1 W.2.2.2.2.1 W.2.2.2.2.2.1 W.2.2.2.2.2.2.1 W.2.2.2.2.2.2.2.1 W.2.2.2.2.2.2.2.2.1 W.2.2.2.2.2.2.2.2.2.1 W.2.2.2.2.2.2.2.2.2.2.1 W.2.2.2.2.2.2.2.2.2.2.2 := by
    intro rk m' hd x3 hrk hx
    refine br_t rfl (sf_badF (S := S) (p := p) (F := F) (W := W) hrk hf (fun z => br_t rfl (sf_clear (S := S) (p := p) (F := F) (W := W) (fun p' hp' => br_f (nI_ne0 hn1 (by omega)) ?_))) (fun z => br_f sf_ne0 (H _ S p h)))
    have hd' : sf_dm rk n m' f := ⟨hd.1, hd.2.1, hd.2.2.1, hd.2.2.2.1, hd.2.2.2.2.1, z, hd.2.2.2.2.2.2⟩
    have q : wX_make_107 post (nI f) (nI rk) (nI m') (nI n) (nI rk) (nI r) F.1 F.2.1 F.2.2.1 W.1 S.1 S.2.1 S.2.2.1 S.2.2.2.1 S.2.2.2.2.1 S.2.2.2.2.2.1 S.2.2.2.2.2.2.1 S.2.2.2.2.2.2.2.1 S.2.2.2.2.2.2.2.2 F.2.2.2.1 F.2.2.2.2.1 F.2.2.2.2.2.1 F.2.2.2.2.2.2.1 F.2.2.2.2.2.2.2.1 F.2.2.2.2.2.2.2.2.1 F.2.2.2.2.2.2.2.2.2 W.2.1 p' W.2.2.1 W.2.2.2.1 W.2.2.2.2.1 W.2.2.2.2.2.1 W.2.2.2.2.2.2.1 W.2.2.2.2.2.2.2.1 W.2.2.2.2.2.2.2.2.1 W.2.2.2.2.2.2.2.2.2.1 W.2.2.2.2.2.2.2.2.2.2.1 W.2.2.2.2.2.2.2.2.2.2.2 := by
      unfold wX_make_107
      exact sf_pack (S := S) (p := p') (F := F) (W := W) (by omega) hd' (fun S' a b => H _ S' _ (sf_allN h ⟨rk, n, m', f, _, a⟩ b))
    rcases hx with ⟨hx, hm'⟩ | ⟨hx, hm'⟩
    · subst hx hm'
      exact br_t rfl q
    · refine br_f hx ?_
      rw [hm']; exact q
  have q : wX_make_40 post (nI r) (nI n) (nI m) (nI f) F.1 F.2.1 F.2.2.1 W.1 S.1 S.2.1 S.2.2.1 S.2.2.2.1 S.2.2.2.2.1 S.2.2.2.2.2.1 S.2.2.2.2.2.2.1 S.2.2.2.2.2.2.2.1 S.2.2.2.2.2.2.2.2 F.2.2.2.1 F.2.2.2.2.1 F.2.2.2.2.2.1 F.2.2.2.2.2.2.1 F.2.2.2.2.2.2.2.1 F.2.2.2.2.2.2.2.2.1 F.2.2.2.2.2.2.2.2.2 W.2.1 p W.2.2.1 W.2.2.2.1 W.2.2.2.2.1 W.2.2.2.2.2.1 W.2.2.2.2.2.2.1 W.2.2.2.2.2.2.2.1 W.2.2.2.2.2.2.2.2.1 W.2.2.2.2.2.2.2.2.2.1 W.2.2.2.2.2.2.2.2.2.2.1 W.2.2.2.2.2.2.2.2.2.2.2 := by
    refine br_f (nI_ne0 hn1 (by omega)) (pk_eq m 0 (fun z => ?_) (fun z => ?_))
    · subst z
      exact fin 1 1 ⟨by omega, hn1, hn, by omega, by omega, Nat.zero_le _, fun _ => rfl, fun z => absurd z (by omega)⟩ _ (by omega) (Or.inl ⟨rfl, rfl⟩)
    · exact fin 2 m ⟨by omega, hn1, hn, by omega, hm, Nat.zero_le _, fun z => absurd z (by omega), fun z => absurd z (by omega)⟩ _ (by omega) (Or.inr ⟨nI_ne0 (by omega) (by omega), rfl⟩)
  unfold wpX_make
  exact sf_badR (S := S) (p := p) (F := F) (W := W) hr (br_t rfl (br_f (nI_pos (by omega)) (pk_lt 6 n (fun z => absurd z (by omega)) (fun _ => br_f (nI_pos (by omega)) (pk_lt 6 m (fun z => absurd z (by omega)) (fun _ => br_f (nI_ne0 hn1 (by omega)) q))))))
end
section
/-! formulas -/
def sf_arr (S : sf_Sl) (F : sf_Fm) (a rk n m : Nat) (M : Nat → sf_A) : Prop :=
  (∃ f, sf_slot S (6 + a) rk n m f M) ∧ ((rk = 0 ∧ F.2.2.2.2.2.2.2.1 a = -1 ∧ F.2.2.2.2.2.2.2.2.1 a = -1) ∨ (rk = 1 ∧ (∃ x, x < 3 ∧ F.2.2.2.2.2.2.2.1 a = nI x) ∧ F.2.2.2.2.2.2.2.2.1 a = -1) ∨ (rk = 2 ∧ ∃ x y, x < 3 ∧ y < 3 ∧ x ≠ y ∧ F.2.2.2.2.2.2.2.1 a = nI x ∧ F.2.2.2.2.2.2.2.2.1 a = nI y))
def sf_part (F : sf_Fm) (A k : Nat) : Prop :=
  (F.2.2.2.1 k = 0 ∧ F.2.2.2.2.2.1 k = -1 ∧ F.2.2.2.2.2.2.1 k = -1) ∨ (F.2.2.2.1 k = 1 ∧ (∃ a, a < A ∧ F.2.2.2.2.1 k = nI a) ∧ F.2.2.2.2.2.1 k = -1 ∧ F.2.2.2.2.2.2.1 k = -1) ∨
  ((F.2.2.2.1 k = 3 ∨ F.2.2.2.1 k = 4 ∨ F.2.2.2.1 k = 5) ∧ (∃ x, x < k ∧ F.2.2.2.2.2.1 k = nI x) ∧ (∃ y, y < k ∧ F.2.2.2.2.2.2.1 k = nI y))
abbrev sf_Da : Type := Nat → Nat × Nat × Nat × (Nat → sf_A)
def sf_fo (S : sf_Sl) (F : sf_Fm) (P A H : Nat) (D : sf_Da) : Prop :=
  F.1 = nI P ∧ P ≤ 20 ∧ F.2.1 = nI A ∧ A ≤ 6 ∧ F.2.2.1 = nI H ∧ H ≤ 6 ∧ (∀ k, k < H → ∃ t, t < P ∧ F.2.2.2.2.2.2.2.2.2 k = nI t) ∧ (∀ k, k < P → sf_part F A k) ∧
  (∀ a, a < A → sf_arr S F a (D a).1 (D a).2.1 (D a).2.2.1 (D a).2.2.2)
theorem sf_fo0 (S : sf_Sl) (F : sf_Fm) (D : sf_Da) : sf_fo S ((0), (0), (0), F.2.2.2.1, F.2.2.2.2.1, F.2.2.2.2.2.1, F.2.2.2.2.2.2.1, F.2.2.2.2.2.2.2.1, F.2.2.2.2.2.2.2.2.1, F.2.2.2.2.2.2.2.2.2) 0 0 0 D :=
  ⟨rfl, by omega, rfl, by omega, rfl, by omega, fun k h => absurd h (by omega), fun k h => absurd h (by omega), fun k h => absurd h (by omega)⟩
theorem sf_scrap {post : St1 → Prop} {S : sf_Sl} {p : sf_A} {F : sf_Fm} {W : sf_Wk} (H : post (sf_mk S p ((0), (0), (0), F.2.2.2.1, F.2.2.2.2.1, F.2.2.2.2.2.1, F.2.2.2.2.2.2.1, F.2.2.2.2.2.2.2.1, F.2.2.2.2.2.2.2.2.1, F.2.2.2.2.2.2.2.2.2) W)) : wpX_scrap post (sf_mk S p F W) := H
theorem sf_partL {post : Int32 → St1 → Prop} {S : sf_Sl} {p : sf_A} {F : sf_Fm} {W : sf_Wk} {P : Nat} {x1 x2 x3 x4 : Int32} (hP : F.1 = nI P) (h : P < 20)
    (H : post (nI P) (sf_mk S p ((nI (P + 1)), F.2.1, F.2.2.1, (upd F.2.2.2.1 P x1), (upd F.2.2.2.2.1 P x2), (upd F.2.2.2.2.2.1 P x3), (upd F.2.2.2.2.2.2.1 P x4), F.2.2.2.2.2.2.2.1, F.2.2.2.2.2.2.2.2.1, F.2.2.2.2.2.2.2.2.2) W)) : wpX_part post (sf_mk S p F W) x1 x2 x3 x4 := by
  have e : (F.1).toNatClampNeg = P := by rw [hP]; exact nI_clamp (by omega)
  have i20 : vp_in F.1 20 := pk_in P 20 h hP
  refine And.intro i20 (nm_r (e' := upd F.2.2.2.1 P x1) (by rw [e]) (And.intro i20 (nm_r (e' := upd F.2.2.2.2.1 P x2) (by rw [e]) (And.intro i20 (nm_r (e' := upd F.2.2.2.2.2.1 P x3) (by rw [e]) (And.intro i20 (nm_r (e' := upd F.2.2.2.2.2.2.1 P x4) (by rw [e]) (nm_r (e' := nI (P + 1)) (by rw [hP, nI_1]) ?_))))))))
  rw [nI_pred]
  exact H
theorem sf_badI {post : Int32 → Prop} {S : sf_Sl} {p : sf_A} {F : sf_Fm} {W : sf_Wk} {x : Int32} (hx : x = -1 ∨ ∃ i, i < 3 ∧ x = nI i) (H : post 0) : wpX_badIndex post (sf_mk S p F W) x := by
  rcases hx with hx | ⟨i, hi, hx⟩
  · subst hx
    exact br_f (by decide) (br_t (by decide) H)
  · refine br_f ?_ (pk_le i 2 (fun _ => H) (fun z => absurd z (by omega)) hx)
    rw [hx, Int32.lt_iff_toInt_lt, nI_toInt (by omega), show (-1 : Int32).toInt = -1 by decide]
    omega
def sf_acc (rk : Nat) (x y : Int32) : Prop := (0 < rk ↔ ¬ x = -1) ∧ (rk = 2 ↔ ¬ y = -1) ∧ (rk = 2 → ¬ x = y)
/-- an array stands in the formula -/
theorem sf_array {post : Int32 → St1 → Prop} {S : sf_Sl} {p : sf_A} {F : sf_Fm} {W : sf_Wk} {r rk n m f P A H : Nat} {M : Nat → sf_A} {D : sf_Da} {x y : Int32} (h : sf_slot S r rk n m f M) (hr : r < 6) (hf : sf_fo S F P A H D)
    (hx : x = -1 ∨ ∃ i, i < 3 ∧ x = nI i) (hy : y = -1 ∨ ∃ i, i < 3 ∧ y = nI i)
    (HB : ¬ sf_acc rk x y → post (-1000000001) (sf_mk S p F W))
    (HF : sf_acc rk x y → ¬ (P < 20 ∧ A < 6 ∧ H < 6) → post (-1000000002) (sf_mk S p F W))
    (HS : sf_acc rk x y → P < 20 → A < 6 → H < 6 → ∀ S' p', sf_slot S' (6 + A) rk n m f M → sf_ne S S' (6 + A) →
      post (nI (H + 1)) (sf_mk S' p' ((nI (P + 1)), (nI (A + 1)), (nI (H + 1)), (upd F.2.2.2.1 P 1), (upd F.2.2.2.2.1 P (nI A)), (upd F.2.2.2.2.2.1 P (-1)), (upd F.2.2.2.2.2.2.1 P (-1)), (upd F.2.2.2.2.2.2.2.1 A x), (upd F.2.2.2.2.2.2.2.2.1 A y), (upd F.2.2.2.2.2.2.2.2.2 H (nI P))) W)) :
    wpX_array post (sf_mk S p F W) (nI r) x y := by
  obtain ⟨⟨hs, h1, h2, h3, h4, hd⟩, hz, _⟩ := id h
  obtain ⟨f1, f2, f3, f4, f5, f6, f7, f8, f9⟩ := hf
  have hrk := hd.1
  have er : (nI r).toNatClampNeg = r := nI_clamp (by omega)
  have good : sf_acc rk x y → wX_array_103 post (nI r) x y F.1 F.2.1 F.2.2.1 W.1 S.1 S.2.1 S.2.2.1 S.2.2.2.1 S.2.2.2.2.1 S.2.2.2.2.2.1 S.2.2.2.2.2.2.1 S.2.2.2.2.2.2.2.1 S.2.2.2.2.2.2.2.2 F.2.2.2.1 F.2.2.2.2.1 F.2.2.2.2.2.1 F.2.2.2.2.2.2.1 F.2.2.2.2.2.2.2.1 F.2.2.2.2.2.2.2.2.1 F.2.2.2.2.2.2.2.2.2 W.2.1 p W.2.2.1 W.2.2.2.1 W.2.2.2.2.1 W.2.2.2.2.2.1 W.2.2.2.2.2.2.1 W.2.2.2.2.2.2.2.1 W.2.2.2.2.2.2.2.2.1 W.2.2.2.2.2.2.2.2.2.1 W.2.2.2.2.2.2.2.2.2.2.1 W.2.2.2.2.2.2.2.2.2.2.2 := by
    intro acc
    refine pk_eq P 20 (fun z => HF acc (fun t => absurd t.1 (by omega))) (fun z1 => pk_eq A 6 (fun z => HF acc (fun t => absurd t.2.1 (by omega))) (fun z2 => pk_eq H 6 (fun z => HF acc (fun t => absurd t.2.2 (by omega))) (fun z3 => ?_) f5) f3) f1
    rw [show (6 : Int32) + F.2.1 = nI (6 + A) by rw [f3]; exact sf_6p A]
    refine sf_copy (S := S) (p := p) (F := F) (W := W) (t := 6 + A) h (by omega) (fun S' p' a b => ?_)
    have eA : (F.2.1).toNatClampNeg = A := by rw [f3]; exact nI_clamp (by omega)
    have eH : (F.2.2.1).toNatClampNeg = H := by rw [f5]; exact nI_clamp (by omega)
    refine And.intro (pk_in A 6 (by omega) f3) (nm_r (e' := upd F.2.2.2.2.2.2.2.1 A x) (by rw [eA]) (And.intro (pk_in A 6 (by omega) f3) (nm_r (e' := upd F.2.2.2.2.2.2.2.2.1 A y) (by rw [eA]) ?_)))
    refine sf_partL (S := S') (p := p') (F := (F.1, F.2.1, F.2.2.1, F.2.2.2.1, F.2.2.2.2.1, F.2.2.2.2.2.1, F.2.2.2.2.2.2.1, (upd F.2.2.2.2.2.2.2.1 A x), (upd F.2.2.2.2.2.2.2.2.1 A y), F.2.2.2.2.2.2.2.2.2)) (W := W) (P := P) f1 (by omega) ?_
    have q := HS acc (by omega) (by omega) (by omega) S' p' a b
    rw [← f3] at q
    exact And.intro (pk_in H 6 (by omega) f5) (nm_r (e' := upd F.2.2.2.2.2.2.2.2.2 H (nI P)) (by dsimp only; rw [eH]) (nm_r (e' := nI (A + 1)) (by dsimp only; rw [f3, nI_1]) (nm_r (e' := nI (H + 1)) (by dsimp only; rw [f5, nI_1]) q)))
  have g87 : ∀ x5 z0 : Int32, (x5 = 1 ∧ rk = 2 ∨ x5 = 0 ∧ ¬ rk = 2) → (z0 = 1 ∧ ¬ y = -1 ∨ z0 = 0 ∧ y = -1) → (0 < rk ↔ ¬ x = -1) → wX_array_87 post (nI r) x y x5 z0 x5 F.1 F.2.1 F.2.2.1 W.1 S.1 S.2.1 S.2.2.1 S.2.2.2.1 S.2.2.2.2.1 S.2.2.2.2.2.1 S.2.2.2.2.2.2.1 S.2.2.2.2.2.2.2.1 S.2.2.2.2.2.2.2.2 F.2.2.2.1 F.2.2.2.2.1 F.2.2.2.2.2.1 F.2.2.2.2.2.2.1 F.2.2.2.2.2.2.2.1 F.2.2.2.2.2.2.2.2.1 F.2.2.2.2.2.2.2.2.2 W.2.1 p W.2.2.1 W.2.2.2.1 W.2.2.2.2.1 W.2.2.2.2.2.1 W.2.2.2.2.2.2.1 W.2.2.2.2.2.2.2.1 W.2.2.2.2.2.2.2.2.1 W.2.2.2.2.2.2.2.2.2.1 W.2.2.2.2.2.2.2.2.2.2.1 W.2.2.2.2.2.2.2.2.2.2.2 := by
    intro x5 z0 k5 k0 kx
    have e1 : ¬ (1 : Int32) = 0 := by decide
    have e2 : ¬ (0 : Int32) = 1 := by decide
    rcases k5 with ⟨k5, kr⟩ | ⟨k5, kr⟩ <;> rcases k0 with ⟨k0, ky⟩ | ⟨k0, ky⟩ <;> subst k5 k0
    · refine br_t rfl (br_f e1 (br_c (fun e => HB (fun t => t.2.2 kr e)) (fun e => good ⟨kx, ⟨fun _ => ky, fun _ => kr⟩, fun _ => e⟩)))
    · exact br_f e1 (HB (fun t => t.2.1.mp kr ky))
    · exact br_f e2 (HB (fun t => kr (t.2.1.mpr ky)))
    · exact br_t rfl (br_t rfl (good ⟨kx, ⟨fun t => absurd t kr, fun t => absurd ky t⟩, fun t => absurd t kr⟩))
  have g72 : ∀ x5 z0 z1 : Int32, (x5 = 1 ∧ rk = 2 ∨ x5 = 0 ∧ ¬ rk = 2) → (z0 = 1 ∧ ¬ x = -1 ∨ z0 = 0 ∧ x = -1) → (z1 = 1 ∧ 0 < rk ∨ z1 = 0 ∧ ¬ 0 < rk) → wX_array_72 post (nI r) x y x5 z0 z1 F.1 F.2.1 F.2.2.1 W.1 S.1 S.2.1 S.2.2.1 S.2.2.2.1 S.2.2.2.2.1 S.2.2.2.2.2.1 S.2.2.2.2.2.2.1 S.2.2.2.2.2.2.2.1 S.2.2.2.2.2.2.2.2 F.2.2.2.1 F.2.2.2.2.1 F.2.2.2.2.2.1 F.2.2.2.2.2.2.1 F.2.2.2.2.2.2.2.1 F.2.2.2.2.2.2.2.2.1 F.2.2.2.2.2.2.2.2.2 W.2.1 p W.2.2.1 W.2.2.2.1 W.2.2.2.2.1 W.2.2.2.2.2.1 W.2.2.2.2.2.2.1 W.2.2.2.2.2.2.2.1 W.2.2.2.2.2.2.2.2.1 W.2.2.2.2.2.2.2.2.2.1 W.2.2.2.2.2.2.2.2.2.2.1 W.2.2.2.2.2.2.2.2.2.2.2 := by
    intro x5 z0 z1 k5 k0 k1
    have e1 : ¬ (1 : Int32) = 0 := by decide
    have e2 : ¬ (0 : Int32) = 1 := by decide
    rcases k0 with ⟨k0, kx⟩ | ⟨k0, kx⟩ <;> rcases k1 with ⟨k1, kr⟩ | ⟨k1, kr⟩ <;> subst k0 k1
    · exact br_t rfl (br_c (fun e => g87 x5 0 k5 (Or.inr ⟨rfl, e⟩) ⟨fun _ => kx, fun _ => kr⟩) (fun e => g87 x5 1 k5 (Or.inl ⟨rfl, e⟩) ⟨fun _ => kx, fun _ => kr⟩))
    · exact br_f e2 (HB (fun t => kr (t.1.mpr kx)))
    · exact br_f e1 (HB (fun t => t.1.mp kr kx))
    · exact br_t rfl (br_c (fun e => g87 x5 0 k5 (Or.inr ⟨rfl, e⟩) ⟨fun t => absurd t kr, fun t => absurd kx t⟩) (fun e => g87 x5 1 k5 (Or.inl ⟨rfl, e⟩) ⟨fun t => absurd t kr, fun t => absurd kx t⟩))
  have g58 : ∀ x4 z0 : Int32, (z0 = 1 ∧ rk = 2 ∨ z0 = 0 ∧ ¬ rk = 2) → (x4 = 1 ∧ 0 < rk ∨ x4 = 0 ∧ ¬ 0 < rk) → wX_array_58 post (nI r) x y x4 z0 F.1 F.2.1 F.2.2.1 W.1 S.1 S.2.1 S.2.2.1 S.2.2.2.1 S.2.2.2.2.1 S.2.2.2.2.2.1 S.2.2.2.2.2.2.1 S.2.2.2.2.2.2.2.1 S.2.2.2.2.2.2.2.2 F.2.2.2.1 F.2.2.2.2.1 F.2.2.2.2.2.1 F.2.2.2.2.2.2.1 F.2.2.2.2.2.2.2.1 F.2.2.2.2.2.2.2.2.1 F.2.2.2.2.2.2.2.2.2 W.2.1 p W.2.2.1 W.2.2.2.1 W.2.2.2.2.1 W.2.2.2.2.2.1 W.2.2.2.2.2.2.1 W.2.2.2.2.2.2.2.1 W.2.2.2.2.2.2.2.2.1 W.2.2.2.2.2.2.2.2.2.1 W.2.2.2.2.2.2.2.2.2.2.1 W.2.2.2.2.2.2.2.2.2.2.2 :=
    fun x4 z0 k0 k4 => br_c (fun e => g72 z0 0 x4 k0 (Or.inr ⟨rfl, e⟩) k4) (fun e => g72 z0 1 x4 k0 (Or.inl ⟨rfl, e⟩) k4)
  have g41 : ∀ z0 : Int32, (z0 = 1 ∧ 0 < rk ∨ z0 = 0 ∧ ¬ 0 < rk) → wX_array_41 post (nI r) x y z0 F.1 F.2.1 F.2.2.1 W.1 S.1 S.2.1 S.2.2.1 S.2.2.2.1 S.2.2.2.2.1 S.2.2.2.2.2.1 S.2.2.2.2.2.2.1 S.2.2.2.2.2.2.2.1 S.2.2.2.2.2.2.2.2 F.2.2.2.1 F.2.2.2.2.1 F.2.2.2.2.2.1 F.2.2.2.2.2.2.1 F.2.2.2.2.2.2.2.1 F.2.2.2.2.2.2.2.2.1 F.2.2.2.2.2.2.2.2.2 W.2.1 p W.2.2.1 W.2.2.2.1 W.2.2.2.2.1 W.2.2.2.2.2.1 W.2.2.2.2.2.2.1 W.2.2.2.2.2.2.2.1 W.2.2.2.2.2.2.2.2.1 W.2.2.2.2.2.2.2.2.2.1 W.2.2.2.2.2.2.2.2.2.2.1 W.2.2.2.2.2.2.2.2.2.2.2 :=
    fun z0 k0 => And.intro (pk_in r 13 hs) (pk_eq rk 2 (fun e => g58 z0 1 (Or.inl ⟨rfl, e⟩) k0) (fun e => g58 z0 0 (Or.inr ⟨rfl, e⟩) k0) (by rw [er]; exact h1))
  unfold wpX_array
  exact sf_badR (S := S) (p := p) (F := F) (W := W) hr (br_t rfl (sf_badI (S := S) (p := p) (F := F) (W := W) hx (br_t rfl (sf_badI (S := S) (p := p) (F := F) (W := W) hy (br_t rfl (And.intro (pk_in r 13 hs) (pk_le rk 0 (fun e => g41 0 (Or.inr ⟨rfl, by omega⟩)) (fun e => g41 1 (Or.inl ⟨rfl, e⟩)) (by rw [er]; exact h1))))))))
theorem sf_partU {F : sf_Fm} {P A A' k : Nat} {x1 x2 x3 x4 : Int32} {i0 i1 i2 : Int32} {j1 j2 j3 : sf_A} (h : sf_part F A k) (hk : k < P) (hA : A ≤ A') :
    sf_part (i0, i1, i2, upd F.2.2.2.1 P x1, upd F.2.2.2.2.1 P x2, upd F.2.2.2.2.2.1 P x3, upd F.2.2.2.2.2.2.1 P x4, j1, j2, j3) A' k := by
  unfold sf_part at h ⊢
  dsimp only
  have e : k ≠ P := by omega
  rw [pk_un e, pk_un e, pk_un e, pk_un e]
  rcases h with h | ⟨h1, ⟨a, ha, h2⟩, h3⟩ | h
  · exact Or.inl h
  · exact Or.inr (Or.inl ⟨h1, ⟨a, by omega, h2⟩, h3⟩)
  · exact Or.inr (Or.inr h)
theorem sf_foA {S S' : sf_Sl} {F : sf_Fm} {rk n m f P A H : Nat} {M : Nat → sf_A} {D : sf_Da} {x y : Int32} (hf : sf_fo S F P A H D) (hP : P < 20) (hA : A < 6) (hH : H < 6)
    (hs : sf_slot S' (6 + A) rk n m f M) (hn : sf_ne S S' (6 + A)) (hx : x = -1 ∨ ∃ i, i < 3 ∧ x = nI i) (hy : y = -1 ∨ ∃ i, i < 3 ∧ y = nI i) (acc : sf_acc rk x y) :
    sf_fo S' ((nI (P + 1)), (nI (A + 1)), (nI (H + 1)), (upd F.2.2.2.1 P 1), (upd F.2.2.2.2.1 P (nI A)), (upd F.2.2.2.2.2.1 P (-1)), (upd F.2.2.2.2.2.2.1 P (-1)), (upd F.2.2.2.2.2.2.2.1 A x), (upd F.2.2.2.2.2.2.2.2.1 A y), (upd F.2.2.2.2.2.2.2.2.2 H (nI P))) (P + 1) (A + 1) (H + 1) (fun a => if a = A then (rk, n, m, M) else D a) := by
  obtain ⟨f1, f2, f3, f4, f5, f6, f7, f8, f9⟩ := hf
  have hrk := hs.1.2.2.2.2.2.1
  refine ⟨rfl, by omega, rfl, by omega, rfl, by omega, ?_, ?_, ?_⟩
  · intro k hk
    dsimp only
    by_cases e : k = H
    · exact ⟨P, by omega, by rw [e, pk_us]⟩
    · obtain ⟨t, t1, t2⟩ := f7 k (by omega)
      exact ⟨t, by omega, by rw [pk_un e]; exact t2⟩
  · intro k hk
    by_cases e : k = P
    · subst e
      exact Or.inr (Or.inl ⟨pk_us, ⟨A, by omega, pk_us⟩, pk_us, pk_us⟩)
    · exact sf_partU (f8 k (by omega)) (by omega) (by omega)
  · intro a ha
    by_cases e : a = A
    · subst e
      dsimp only
      rw [if_pos rfl]
      refine ⟨⟨f, hs⟩, ?_⟩
      dsimp only
      rw [pk_us, pk_us]
      obtain ⟨a1, a2, a3⟩ := acc
      rcases Nat.lt_or_ge rk 1 with z | z
      · refine Or.inl ⟨by omega, Classical.byContradiction (fun t => absurd (a1.mpr t) (by omega)), Classical.byContradiction (fun t => absurd (a2.mpr t) (by omega))⟩
      · have hx' : ∃ i, i < 3 ∧ x = nI i := hx.resolve_left (a1.mp (by omega))
        by_cases w : rk = 2
        · obtain ⟨i, i1, i2⟩ := hx'
          obtain ⟨j, j1, j2⟩ := hy.resolve_left (a2.mp w)
          exact Or.inr (Or.inr ⟨w, i, j, i1, j1, fun t => a3 w (by rw [i2, j2, t]), i2, j2⟩)
        · exact Or.inr (Or.inl ⟨by omega, hx', Classical.byContradiction (fun t => w (a2.mpr t))⟩)
    · obtain ⟨⟨g, hg⟩, q⟩ := f9 a (by omega)
      dsimp only
      rw [if_neg e]
      refine ⟨⟨g, sf_slotN hg hn (by omega)⟩, ?_⟩
      dsimp only
      rw [pk_un e, pk_un e]
      exact q
theorem sf_joinL {post : Int32 → St1 → Prop} {S : sf_Sl} {p : sf_A} {F : sf_Fm} {W : sf_Wk} {P A H o : Nat} {D : sf_Da} (hf : sf_fo S F P A H D) (ho : o ≤ 2)
    (HF : ¬ (P < 20 ∧ 2 ≤ H) → ∀ e, post e (sf_mk S p F W))
    (HS : P < 20 → 2 ≤ H → post (nI (H - 1)) (sf_mk S p ((nI (P + 1)), F.2.1, (nI (H - 1)), (upd F.2.2.2.1 P (nI (3 + o))), (upd F.2.2.2.2.1 P 0), (upd F.2.2.2.2.2.1 P (F.2.2.2.2.2.2.2.2.2 (H - 2))), (upd F.2.2.2.2.2.2.1 P (F.2.2.2.2.2.2.2.2.2 (H - 1))), F.2.2.2.2.2.2.2.1, F.2.2.2.2.2.2.2.2.1, (upd F.2.2.2.2.2.2.2.2.2 (H - 2) (nI P))) W)) :
    wpX_join post (sf_mk S p F W) (nI o) := by
  obtain ⟨f1, f2, f3, f4, f5, f6, f7, f8, f9⟩ := hf
  refine br_f (nI_pos (by omega)) (pk_le o 2 (fun _ => ?_) (fun z => absurd z (by omega)))
  refine pk_eq P 20 (fun z => HF (fun t => absurd t.1 (by omega)) _) (fun z => pk_le 2 H (fun y => ?_) (fun y => HF (fun t => absurd t.2 (by omega)) _) rfl f5) f1
  have e1 : F.2.2.1 - 1 = nI (H - 1) := by rw [f5]; exact pk_sub (b := 1) (by omega)
  have e2 : nI (H - 1) - 1 = nI (H - 2) := pk_sub (b := 1) (a := H - 1) (by omega)
  refine nm_r e1 (And.intro (pk_in (H - 2) 6 (by omega) e2) (And.intro (pk_in (H - 1) 6 (by omega)) ?_))
  rw [show (3 : Int32) + nI o = nI (3 + o) from nI_add 3 o, e2, nI_clamp (show H - 2 < 2 ^ 31 by omega), nI_clamp (show H - 1 < 2 ^ 31 by omega)]
  refine sf_partL (S := S) (p := p) (F := (F.1, F.2.1, (nI (H - 1)), F.2.2.2.1, F.2.2.2.2.1, F.2.2.2.2.2.1, F.2.2.2.2.2.2.1, F.2.2.2.2.2.2.2.1, F.2.2.2.2.2.2.2.2.1, F.2.2.2.2.2.2.2.2.2)) (W := W) (P := P) f1 (by omega) ?_
  exact And.intro (pk_in (H - 2) 6 (by omega)) (nm_r (e' := upd F.2.2.2.2.2.2.2.2.2 (H - 2) (nI P)) (by rfl) (HS (by omega) y))
theorem sf_foJ {S : sf_Sl} {F : sf_Fm} {P A H o : Nat} {D : sf_Da} (hf : sf_fo S F P A H D) (ho : o ≤ 2) (hP : P < 20) (hH : 2 ≤ H) :
    sf_fo S ((nI (P + 1)), F.2.1, (nI (H - 1)), (upd F.2.2.2.1 P (nI (3 + o))), (upd F.2.2.2.2.1 P 0), (upd F.2.2.2.2.2.1 P (F.2.2.2.2.2.2.2.2.2 (H - 2))), (upd F.2.2.2.2.2.2.1 P (F.2.2.2.2.2.2.2.2.2 (H - 1))), F.2.2.2.2.2.2.2.1, F.2.2.2.2.2.2.2.2.1, (upd F.2.2.2.2.2.2.2.2.2 (H - 2) (nI P))) (P + 1) A (H - 1) D := by
  obtain ⟨f1, f2, f3, f4, f5, f6, f7, f8, f9⟩ := hf
  refine ⟨rfl, by omega, f3, by omega, rfl, by omega, ?_, ?_, f9⟩
  · intro k hk
    dsimp only
    by_cases e : k = H - 2
    · exact ⟨P, by omega, by rw [e, pk_us]⟩
    · obtain ⟨t, t1, t2⟩ := f7 k (by omega)
      exact ⟨t, by omega, by rw [pk_un e]; exact t2⟩
  · intro k hk
    by_cases e : k = P
    · subst e
      refine Or.inr (Or.inr ⟨?_, ?_, ?_⟩)
      · dsimp only
        rw [pk_us]
        rcases o with _ | _ | _ | o
        · exact Or.inl rfl
        · exact Or.inr (Or.inl rfl)
        · exact Or.inr (Or.inr rfl)
        · omega
      · obtain ⟨t, t1, t2⟩ := f7 (H - 2) (by omega)
        exact ⟨t, t1, by dsimp only; rw [pk_us]; exact t2⟩
      · obtain ⟨t, t1, t2⟩ := f7 (H - 1) (by omega)
        exact ⟨t, t1, by dsimp only; rw [pk_us]; exact t2⟩
    · exact sf_partU (f8 k (by omega)) (by omega) (by omega)
theorem sf_const {post : Int32 → St1 → Prop} {S : sf_Sl} {p : sf_A} {F : sf_Fm} {W : sf_Wk} {P A H : Nat} {x : Int32} {D : sf_Da} (hf : sf_fo S F P A H D)
    (HS : ∀ e F' P' H', sf_fo S F' P' A H' D → post e (sf_mk S p F' W)) : wpX_constant post (sf_mk S p F W) x := by
  have hf' := hf
  obtain ⟨f1, f2, f3, f4, f5, f6, f7, f8, f9⟩ := hf
  have eH : (F.2.2.1).toNatClampNeg = H := by rw [f5]; exact nI_clamp (by omega)
  refine br_c (fun _ => HS _ F P H hf') (fun _ => br_c (fun _ => pk_eq P 20 (fun _ => HS _ F P H hf') (fun z1 => pk_eq H 6 (fun _ => HS _ F P H hf') (fun z2 => ?_) f5) f1) (fun _ => HS _ F P H hf'))
  refine sf_partL (S := S) (p := p) (F := F) (W := W) (P := P) f1 (by omega) ?_
  refine And.intro (pk_in H 6 (by omega) f5) (nm_r (e' := upd F.2.2.2.2.2.2.2.2.2 H (nI P)) (by rw [eH]) (nm_r (e' := nI (H + 1)) (by dsimp only; rw [f5, nI_1]) (HS _ ((nI (P + 1)), F.2.1, (nI (H + 1)), (upd F.2.2.2.1 P 0), (upd F.2.2.2.2.1 P x), (upd F.2.2.2.2.2.1 P (-1)), (upd F.2.2.2.2.2.2.1 P (-1)), F.2.2.2.2.2.2.2.1, F.2.2.2.2.2.2.2.2.1, (upd F.2.2.2.2.2.2.2.2.2 H (nI P))) (P + 1) (H + 1) ⟨rfl, by omega, f3, by omega, rfl, by omega, ?_, ?_, f9⟩)))
  · intro k hk
    dsimp only
    by_cases e : k = H
    · exact ⟨P, by omega, by rw [e, pk_us]⟩
    · obtain ⟨t, t1, t2⟩ := f7 k (by omega)
      exact ⟨t, by omega, by rw [pk_un e]; exact t2⟩
  · intro k hk
    by_cases e : k = P
    · subst e
      exact Or.inl ⟨pk_us, pk_us, pk_us⟩
    · exact sf_partU (f8 k (by omega)) (by omega) (by omega)
end
section
/-- the parts of a formula are marked -/
def sf_ins (F : sf_Fm) (ins : sf_A) (top : Nat) : Prop :=
  ¬ ins top = 0 ∧ ∀ k, k ≤ top → ¬ ins k = 0 → (∀ x, x < k → F.2.2.2.2.2.1 k = nI x → ¬ ins x = 0) ∧ (∀ x, x < k → F.2.2.2.2.2.2.1 k = nI x → ¬ ins x = 0)
theorem sf_up1 {s : sf_A} {x z : Nat} (h : ¬ s z = 0) : ¬ upd s x 1 z = 0 := by
  by_cases e : z = x
  · rw [e, pk_us]; decide
  · rw [pk_un e]; exact h
theorem sf_mark {post : St1 → Prop} {S : sf_Sl} {p : sf_A} {F : sf_Fm} {W : sf_Wk} {P A H top : Nat} {D : sf_Da} (hf : sf_fo S F P A H D) (ht : top < P)
    (HS : ∀ ins, sf_ins F ins top → post (sf_mk S p F (W.1, (ins), W.2.2.1, W.2.2.2.1, W.2.2.2.2.1, W.2.2.2.2.2.1, W.2.2.2.2.2.2.1, W.2.2.2.2.2.2.2.1, W.2.2.2.2.2.2.2.2.1, W.2.2.2.2.2.2.2.2.2.1, W.2.2.2.2.2.2.2.2.2.2.1, W.2.2.2.2.2.2.2.2.2.2.2))) : wpX_markParts post (sf_mk S p F W) (nI top) := by
  obtain ⟨f1, f2, f3, f4, f5, f6, f7, f8, f9⟩ := hf
  have down : ∀ s : sf_A, ¬ s top = 0 → ∃ fu, wX_markParts_34 post F.1 F.2.1 F.2.2.1 W.1 fu (nI top) S.1 S.2.1 S.2.2.1 S.2.2.2.1 S.2.2.2.2.1 S.2.2.2.2.2.1 S.2.2.2.2.2.2.1 S.2.2.2.2.2.2.2.1 S.2.2.2.2.2.2.2.2 F.2.2.2.1 F.2.2.2.2.1 F.2.2.2.2.2.1 F.2.2.2.2.2.2.1 F.2.2.2.2.2.2.2.1 F.2.2.2.2.2.2.2.2.1 F.2.2.2.2.2.2.2.2.2 (s) p W.2.2.1 W.2.2.2.1 W.2.2.2.2.1 W.2.2.2.2.2.1 W.2.2.2.2.2.2.1 W.2.2.2.2.2.2.2.1 W.2.2.2.2.2.2.2.2.1 W.2.2.2.2.2.2.2.2.2.1 W.2.2.2.2.2.2.2.2.2.2.1 W.2.2.2.2.2.2.2.2.2.2.2 := by
    intro s hs
    have q := pk_loopD (fun n i (s : sf_A) => wX_markParts_34 post F.1 F.2.1 F.2.2.1 W.1 n (nI i + (-1)) S.1 S.2.1 S.2.2.1 S.2.2.2.1 S.2.2.2.2.1 S.2.2.2.2.2.1 S.2.2.2.2.2.2.1 S.2.2.2.2.2.2.2.1 S.2.2.2.2.2.2.2.2 F.2.2.2.1 F.2.2.2.2.1 F.2.2.2.2.2.1 F.2.2.2.2.2.2.1 F.2.2.2.2.2.2.2.1 F.2.2.2.2.2.2.2.2.1 F.2.2.2.2.2.2.2.2.2 (s) p W.2.2.1 W.2.2.2.1 W.2.2.2.2.1 W.2.2.2.2.2.1 W.2.2.2.2.2.2.1 W.2.2.2.2.2.2.2.1 W.2.2.2.2.2.2.2.2.1 W.2.2.2.2.2.2.2.2.2.1 W.2.2.2.2.2.2.2.2.2.2.1 W.2.2.2.2.2.2.2.2.2.2.2)
      (fun i s => i ≤ top + 1 ∧ ¬ s top = 0 ∧ ∀ k, i ≤ k → k ≤ top → ¬ s k = 0 → (∀ x, x < k → F.2.2.2.2.2.1 k = nI x → ¬ s x = 0) ∧ (∀ x, x < k → F.2.2.2.2.2.2.1 k = nI x → ¬ s x = 0)) ?_ ?_ (top + 1) s ⟨by omega, hs, fun k a b => absurd a (by omega)⟩
    · rw [pk_m1] at q
      exact ⟨_, q⟩
    · intro n s hs
      exact br_t (by decide) (HS s ⟨hs.2.1, fun k a b => hs.2.2 k (by omega) a b⟩)
    · intro n i s hs hw
      obtain ⟨s1, s2, s3⟩ := hs
      show wX_markParts_34 post F.1 F.2.1 F.2.2.1 W.1 (n + 1) (nI (i + 1) + (-1)) S.1 S.2.1 S.2.2.1 S.2.2.2.1 S.2.2.2.2.1 S.2.2.2.2.2.1 S.2.2.2.2.2.2.1 S.2.2.2.2.2.2.2.1 S.2.2.2.2.2.2.2.2 F.2.2.2.1 F.2.2.2.2.1 F.2.2.2.2.2.1 F.2.2.2.2.2.2.1 F.2.2.2.2.2.2.2.1 F.2.2.2.2.2.2.2.2.1 F.2.2.2.2.2.2.2.2.2 (s) p W.2.2.1 W.2.2.2.1 W.2.2.2.2.1 W.2.2.2.2.2.1 W.2.2.2.2.2.2.1 W.2.2.2.2.2.2.2.1 W.2.2.2.2.2.2.2.2.1 W.2.2.2.2.2.2.2.2.2.1 W.2.2.2.2.2.2.2.2.2.2.1 W.2.2.2.2.2.2.2.2.2.2.2
      rw [pk_m1]
      have ei : (nI i).toNatClampNeg = i := nI_clamp (by omega)
      have i20 := pk_in (x := nI i) i 20 (by omega)
      refine br_f (nI_pos (by omega)) (And.intro i20 (br_c (fun z => ?_) (fun z => And.intro i20 ?_)))
      · rw [ei] at z
        refine And.intro i20 (br_t (by rw [ei]; exact z) (nm_e (hw s ⟨by omega, s2, fun k a b c => ?_⟩)))
        by_cases e : k = i
        · subst e; exact absurd z c
        · exact s3 k (by omega) b c
      · rw [ei] at z
        rcases f8 i (by omega) with ⟨c1, c2, c3⟩ | ⟨c1, c2, c3, c4⟩ | ⟨c1, ⟨x, x1, x2⟩, ⟨y, y1, y2⟩⟩
        · refine br_t (by rw [ei]; exact c2) (And.intro i20 (br_f (by rw [ei]; exact z) (And.intro i20 (br_t (by rw [ei]; exact c3) (nm_e (hw s ⟨by omega, s2, fun k a b c => ?_⟩))))))
          by_cases e : k = i
          · subst e
            exact ⟨fun x _ w => absurd (w.symm.trans c2) (sf_neg1 (by omega)), fun x _ w => absurd (w.symm.trans c3) (sf_neg1 (by omega))⟩
          · exact s3 k (by omega) b c
        · refine br_t (by rw [ei]; exact c3) (And.intro i20 (br_f (by rw [ei]; exact z) (And.intro i20 (br_t (by rw [ei]; exact c4) (nm_e (hw s ⟨by omega, s2, fun k a b c => ?_⟩))))))
          by_cases e : k = i
          · subst e
            exact ⟨fun x _ w => absurd (w.symm.trans c3) (sf_neg1 (by omega)), fun x _ w => absurd (w.symm.trans c4) (sf_neg1 (by omega))⟩
          · exact s3 k (by omega) b c
        · have ex : (F.2.2.2.2.2.1 i).toNatClampNeg = x := by rw [x2]; exact nI_clamp (by omega)
          have ey : (F.2.2.2.2.2.2.1 i).toNatClampNeg = y := by rw [y2]; exact nI_clamp (by omega)
          refine br_f (by rw [ei, x2]; exact sf_neg1 (by omega)) (And.intro i20 (And.intro (pk_in x 20 (by omega) (by rw [ei]; exact x2)) (nm_r (e' := upd s x 1) (by rw [ei, ex]) ?_)))
          have s1i : ¬ upd s x 1 i = 0 := sf_up1 z
          refine And.intro i20 (br_f (by rw [ei]; exact s1i) (And.intro i20 (br_f (by rw [ei, y2]; exact sf_neg1 (by omega)) (And.intro i20 (And.intro (pk_in y 20 (by omega) (by rw [ei]; exact y2)) (nm_r (e' := upd (upd s x 1) y 1) (by rw [ei, ey]) (nm_e (hw _ ⟨by omega, sf_up1 (sf_up1 s2), fun k a b c => ?_⟩))))))))
          by_cases e : k = i
          · subst e
            refine ⟨fun v v1 v2 => ?_, fun v v1 v2 => ?_⟩
            · obtain rfl : v = x := sf_inj (by omega) (by omega) (v2.symm.trans x2)
              exact sf_up1 (by rw [pk_us]; decide)
            · obtain rfl : v = y := sf_inj (by omega) (by omega) (v2.symm.trans y2)
              rw [pk_us]; decide
          · rw [pk_un (by omega), pk_un (by omega)] at c
            obtain ⟨d1, d2⟩ := s3 k (by omega) b c
            exact ⟨fun v v1 v2 => sf_up1 (sf_up1 (d1 v v1 v2)), fun v v1 v2 => sf_up1 (sf_up1 (d2 v v1 v2))⟩
  refine pk_loop (fun n i (s : sf_A) => wX_markParts_2 post (nI top) F.1 F.2.1 F.2.2.1 W.1 n (nI i) S.1 S.2.1 S.2.2.1 S.2.2.2.1 S.2.2.2.2.1 S.2.2.2.2.2.1 S.2.2.2.2.2.2.1 S.2.2.2.2.2.2.2.1 S.2.2.2.2.2.2.2.2 F.2.2.2.1 F.2.2.2.2.1 F.2.2.2.2.2.1 F.2.2.2.2.2.2.1 F.2.2.2.2.2.2.2.1 F.2.2.2.2.2.2.2.2.1 F.2.2.2.2.2.2.2.2.2 (s) p W.2.2.1 W.2.2.2.1 W.2.2.2.2.1 W.2.2.2.2.2.1 W.2.2.2.2.2.2.1 W.2.2.2.2.2.2.2.1 W.2.2.2.2.2.2.2.2.1 W.2.2.2.2.2.2.2.2.2.1 W.2.2.2.2.2.2.2.2.2.2.1 W.2.2.2.2.2.2.2.2.2.2.2) (fun i s => top < i → ¬ s top = 0) P 0 W.2.1 (by omega) (fun z => absurd z (by omega)) ?_ ?_
  · intro n s hs
    exact pk_le P P (fun _ => down s (hs ht)) (fun z => absurd z (by omega)) f1
  · intro n i s hi hs hw
    have ei : (nI i).toNatClampNeg = i := nI_clamp (by omega)
    refine pk_le P i (fun z => absurd z (by omega)) (fun _ => pk_eq i top (fun z => And.intro (pk_in i 20 (by omega)) (nm_r (e' := upd s i 1) (by rw [ei]) (nm_r (nI_1 i) (hw _ (fun _ => ?_))))) (fun z => And.intro (pk_in i 20 (by omega)) (nm_r (e' := upd s i 0) (by rw [ei]) (nm_r (nI_1 i) (hw _ (fun y => ?_)))))) f1
    · rw [z, pk_us]; decide
    · rw [pk_un (by omega)]; exact hs (by omega)
def sf_add (sp : sf_A) (x l : Int32) : sf_A :=
  if x = -1 then sp else upd sp x.toNatClampNeg (if sp x.toNatClampNeg = 0 then l else if sp x.toNatClampNeg = l then l else -1000000005)
theorem sf_addSpan {post : St1 → Prop} {S : sf_Sl} {p : sf_A} {F : sf_Fm} {W : sf_Wk} {x l : Int32} (hx : x = -1 ∨ ∃ i, i < 3 ∧ x = nI i)
    (H : post (sf_mk S p F (W.1, W.2.1, W.2.2.1, (sf_add W.2.2.2.1 x l), W.2.2.2.2.1, W.2.2.2.2.2.1, W.2.2.2.2.2.2.1, W.2.2.2.2.2.2.2.1, W.2.2.2.2.2.2.2.2.1, W.2.2.2.2.2.2.2.2.2.1, W.2.2.2.2.2.2.2.2.2.2.1, W.2.2.2.2.2.2.2.2.2.2.2))) : wpX_addSpan post (sf_mk S p F W) x l := by
  unfold sf_add at H
  rcases hx with hx | ⟨i, hi, hx⟩
  · rw [if_pos hx] at H
    exact br_t hx H
  · have h1 : ¬ x = -1 := by rw [hx]; exact sf_neg1 (by omega)
    rw [if_neg h1] at H
    have i3 := pk_in (x := x) i 3 hi hx
    refine br_f h1 (And.intro i3 (br_c (fun z => ?_) (fun z => And.intro i3 (br_c (fun y => ?_) (fun y => ?_)))))
    · rw [if_pos z] at H
      exact And.intro i3 (nm_e H)
    · rw [if_neg z, if_pos y] at H
      exact And.intro i3 (nm_e H)
    · rw [if_neg z, if_neg y] at H
      exact And.intro i3 (nm_e H)
/-- what is known of the lengths of indices when the parts below i have been looked at -/
def sf_spn (S : sf_Sl) (F : sf_Fm) (ins sp : sf_A) (A i : Nat) : Prop :=
  (∀ k, k < i → ¬ ins k = 0 → F.2.2.2.1 k = 1 → ∀ a, a < A → F.2.2.2.2.1 k = nI a → ∀ x, x < 3 → (F.2.2.2.2.2.2.2.1 a = nI x → sp x = S.2.1 (6 + a) ∨ sp x = -1000000005) ∧ (F.2.2.2.2.2.2.2.2.1 a = nI x → sp x = S.2.2.1 (6 + a) ∨ sp x = -1000000005)) ∧
  (∀ x, x < 3 → sp x = 0 ∨ sp x = -1000000005 ∨ ∃ l, 1 ≤ l ∧ l ≤ 6 ∧ sp x = nI l) ∧
  (∀ x, x < 3 → ∀ c : Int32, (∀ k, k < i → F.2.2.2.1 k = 1 → ∀ a, a < A → F.2.2.2.2.1 k = nI a → (F.2.2.2.2.2.2.2.1 a = nI x → S.2.1 (6 + a) = c) ∧ (F.2.2.2.2.2.2.2.2.1 a = nI x → S.2.2.1 (6 + a) = c)) → sp x = 0 ∨ sp x = c)
theorem sf_mm : ¬ (-1000000005 : Int32) = 0 := by decide
theorem sf_nmm {l : Nat} (h : l < 2 ^ 31) : ¬ nI l = (-1000000005 : Int32) := by
  intro e
  have h1 := congrArg Int32.toInt e
  rw [nI_toInt h] at h1
  have h2 : (-1000000005 : Int32).toInt = -1000000005 := by decide
  omega
/-- one length more -/
theorem sf_add1 {sp : sf_A} {x l : Int32} (hx : x = -1 ∨ ∃ i, i < 3 ∧ x = nI i) (hl : ∃ n, 1 ≤ n ∧ n ≤ 6 ∧ l = nI n) (h2 : ∀ x, x < 3 → sp x = 0 ∨ sp x = -1000000005 ∨ ∃ l, 1 ≤ l ∧ l ≤ 6 ∧ sp x = nI l) :
    (∀ y, y < 3 → x = nI y → sf_add sp x l y = l ∨ sf_add sp x l y = -1000000005) ∧
    (∀ y, y < 3 → ∀ c : Int32, ¬ c = 0 → sp y = c ∨ sp y = -1000000005 → sf_add sp x l y = c ∨ sf_add sp x l y = -1000000005) ∧
    (∀ x', x' < 3 → sf_add sp x l x' = 0 ∨ sf_add sp x l x' = -1000000005 ∨ ∃ l', 1 ≤ l' ∧ l' ≤ 6 ∧ sf_add sp x l x' = nI l') ∧
    (∀ y, y < 3 → ∀ c : Int32, sp y = 0 ∨ sp y = c → (x = nI y → l = c) → sf_add sp x l y = 0 ∨ sf_add sp x l y = c) := by
  obtain ⟨n, n1, n6, hn⟩ := hl
  unfold sf_add
  rcases hx with hx | ⟨i, hi, hx⟩
  · rw [if_pos hx]
    refine ⟨fun y hy e => absurd (e.symm.trans hx) (sf_neg1 (by omega)), fun y hy c _ h => h, h2, fun y hy c h _ => h⟩
  · have h1 : ¬ x = -1 := by rw [hx]; exact sf_neg1 (by omega)
    have ex : x.toNatClampNeg = i := by rw [hx]; exact nI_clamp (by omega)
    rw [if_neg h1, ex]
    have key : ∀ v : Int32, v = (if sp i = 0 then l else if sp i = l then l else -1000000005) → v = l ∨ v = -1000000005 := by
      intro v hv
      rw [hv]
      split
      · exact Or.inl rfl
      · split
        · exact Or.inl rfl
        · exact Or.inr rfl
    refine ⟨fun y hy e => ?_, fun y hy c c0 h => ?_, fun y hy => ?_, fun y hy c h e => ?_⟩
    · obtain rfl : y = i := sf_inj (by omega) (by omega) (e.symm.trans hx)
      rw [pk_us]; exact key _ rfl
    · by_cases a : y = i
      · subst a
        rw [pk_us]
        rcases h with h | h
        · rw [if_neg (by rw [h]; exact c0)]
          by_cases b : sp y = l
          · rw [if_pos b]; exact Or.inl (b.symm.trans h)
          · rw [if_neg b]; exact Or.inr rfl
        · rw [if_neg (by rw [h]; exact sf_mm), if_neg (by rw [h, hn]; exact fun z => sf_nmm (by omega) z.symm)]
          exact Or.inr rfl
      · rw [pk_un a]; exact h
    · by_cases a : y = i
      · subst a
        rw [pk_us]
        rcases key _ rfl with k | k
        · rw [k]; exact Or.inr (Or.inr ⟨n, n1, n6, hn⟩)
        · rw [k]; exact Or.inr (Or.inl rfl)
      · rw [pk_un a]; exact h2 y hy
    · by_cases a : y = i
      · subst a
        have el := e hx
        rw [pk_us]
        rcases h with h | h
        · rw [if_pos h]; exact Or.inr el
        · by_cases b : sp y = 0
          · rw [if_pos b]; exact Or.inr el
          · rw [if_neg b, if_pos (h.trans el.symm)]; exact Or.inr el
      · rw [pk_un a]; exact h
theorem sf_findSpans {post : St1 → Prop} {S : sf_Sl} {p : sf_A} {F : sf_Fm} {W : sf_Wk} {P A H top : Nat} {D : sf_Da} (hf : sf_fo S F P A H D) (ht : top < P)
    (HS : ∀ ins sp, sf_ins F ins top → sf_spn S F ins sp A (top + 1) → post (sf_mk S p F (W.1, (ins), W.2.2.1, (sp), W.2.2.2.2.1, W.2.2.2.2.2.1, W.2.2.2.2.2.2.1, W.2.2.2.2.2.2.2.1, W.2.2.2.2.2.2.2.2.1, W.2.2.2.2.2.2.2.2.2.1, W.2.2.2.2.2.2.2.2.2.2.1, W.2.2.2.2.2.2.2.2.2.2.2))) : wpX_findSpans post (sf_mk S p F W) (nI top) := by
  unfold wpX_findSpans
  refine sf_mark (S := S) (p := p) (F := F) (W := W) hf ht (fun ins hins => ?_)
  obtain ⟨f1, f2, f3, f4, f5, f6, f7, f8, f9⟩ := hf
  have go : ∀ sp : sf_A, (∀ x, x < 3 → sp x = 0) → ∃ fu, wX_findSpans_27 post (nI top) fu 0 F.1 F.2.1 F.2.2.1 W.1 S.1 S.2.1 S.2.2.1 S.2.2.2.1 S.2.2.2.2.1 S.2.2.2.2.2.1 S.2.2.2.2.2.2.1 S.2.2.2.2.2.2.2.1 S.2.2.2.2.2.2.2.2 F.2.2.2.1 F.2.2.2.2.1 F.2.2.2.2.2.1 F.2.2.2.2.2.2.1 F.2.2.2.2.2.2.2.1 F.2.2.2.2.2.2.2.2.1 F.2.2.2.2.2.2.2.2.2 (ins) p W.2.2.1 (sp) W.2.2.2.2.1 W.2.2.2.2.2.1 W.2.2.2.2.2.2.1 W.2.2.2.2.2.2.2.1 W.2.2.2.2.2.2.2.2.1 W.2.2.2.2.2.2.2.2.2.1 W.2.2.2.2.2.2.2.2.2.2.1 W.2.2.2.2.2.2.2.2.2.2.2 := by
    intro sp hsp
    refine pk_loop (fun n i (sp : sf_A) => wX_findSpans_27 post (nI top) n (nI i) F.1 F.2.1 F.2.2.1 W.1 S.1 S.2.1 S.2.2.1 S.2.2.2.1 S.2.2.2.2.1 S.2.2.2.2.2.1 S.2.2.2.2.2.2.1 S.2.2.2.2.2.2.2.1 S.2.2.2.2.2.2.2.2 F.2.2.2.1 F.2.2.2.2.1 F.2.2.2.2.2.1 F.2.2.2.2.2.2.1 F.2.2.2.2.2.2.2.1 F.2.2.2.2.2.2.2.2.1 F.2.2.2.2.2.2.2.2.2 (ins) p W.2.2.1 (sp) W.2.2.2.2.1 W.2.2.2.2.2.1 W.2.2.2.2.2.2.1 W.2.2.2.2.2.2.2.1 W.2.2.2.2.2.2.2.2.1 W.2.2.2.2.2.2.2.2.2.1 W.2.2.2.2.2.2.2.2.2.2.1 W.2.2.2.2.2.2.2.2.2.2.2) (fun i sp => sf_spn S F ins sp A i) (top + 1) 0 sp (by omega)
      ⟨fun k hk => absurd hk (by omega), fun x hx => Or.inl (hsp x hx), fun x hx c _ => Or.inl (hsp x hx)⟩ ?_ ?_
    · intro n sp h
      exact pk_lt top (top + 1) (fun _ => HS ins sp hins h) (fun z => absurd z (by omega))
    · intro n i sp hi h hw
      have ei : (nI i).toNatClampNeg = i := nI_clamp (by omega)
      have i20 := pk_in (x := nI i) i 20 (by omega)
      obtain ⟨h1, h2, h3⟩ := h
      refine pk_lt top i (fun z => absurd z (by omega)) (fun _ => And.intro i20 (br_c (fun z => nm_r (nI_1 i) (hw sp ⟨?_, h2, ?_⟩)) (fun z => And.intro i20 (br_c (fun y => ?_) (fun y => nm_r (nI_1 i) (hw sp ⟨?_, h2, ?_⟩))))))
      · intro k hk kin kd
        rw [ei] at z
        by_cases e : k = i
        · subst e; exact absurd z kin
        · exact h1 k (by omega) kin kd
      · exact fun x hx c hc => h3 x hx c (fun k hk => hc k (by omega))
      · rw [ei] at y
        rcases f8 i (by omega) with ⟨c1, c2, c3⟩ | ⟨c1, ⟨a, ha, c2⟩, c3, c4⟩ | ⟨c1, _⟩
        · exact absurd (y.symm.trans c1) (by decide)
        · obtain ⟨⟨g, ⟨⟨b1, b2, b3, b4, b5, bd⟩, _⟩⟩, q⟩ := f9 a ha
          have hxA : F.2.2.2.2.2.2.2.1 a = -1 ∨ ∃ i, i < 3 ∧ F.2.2.2.2.2.2.2.1 a = nI i := by
            rcases q with ⟨_, q, _⟩ | ⟨_, q, _⟩ | ⟨_, x, y, x1, _, _, x2, _⟩
            · exact Or.inl q
            · exact Or.inr q
            · exact Or.inr ⟨x, x1, x2⟩
          have hxB : F.2.2.2.2.2.2.2.2.1 a = -1 ∨ ∃ i, i < 3 ∧ F.2.2.2.2.2.2.2.2.1 a = nI i := by
            rcases q with ⟨_, _, q⟩ | ⟨_, _, q⟩ | ⟨_, x, y, _, x1, _, _, x2⟩
            · exact Or.inl q
            · exact Or.inl q
            · exact Or.inr ⟨y, x1, x2⟩
          have l1 : ∃ n, 1 ≤ n ∧ n ≤ 6 ∧ S.2.1 (6 + a) = nI n := ⟨_, bd.2.1, bd.2.2.1, b3⟩
          have l2 : ∃ n, 1 ≤ n ∧ n ≤ 6 ∧ S.2.2.1 (6 + a) = nI n := ⟨_, bd.2.2.2.1, bd.2.2.2.2.1, b4⟩
          have n1 : ¬ S.2.1 (6 + a) = 0 := by
            obtain ⟨v, v1, v2, v3⟩ := l1
            rw [v3]; exact nI_ne0 v1 (by omega)
          obtain ⟨p1, p2, p3, p4⟩ := sf_add1 hxA l1 h2
          obtain ⟨q1, q2, q3, q4⟩ := sf_add1 hxB l2 p3
          have ea : (nI a).toNatClampNeg = a := nI_clamp (by omega)
          have e6 := sf_6p a
          refine And.intro i20 (nm_r (e' := nI a) (by rw [ei]; exact c2) (And.intro (pk_in a 6 (by omega)) (And.intro (pk_in (6 + a) 13 (by omega) e6) ?_)))
          rw [ea, pk_cl _ e6]
          refine sf_addSpan (S := S) (p := p) (F := F) (W := (W.1, (ins), W.2.2.1, (sp), W.2.2.2.2.1, W.2.2.2.2.2.1, W.2.2.2.2.2.2.1, W.2.2.2.2.2.2.2.1, W.2.2.2.2.2.2.2.2.1, W.2.2.2.2.2.2.2.2.2.1, W.2.2.2.2.2.2.2.2.2.2.1, W.2.2.2.2.2.2.2.2.2.2.2)) hxA (And.intro (pk_in a 6 (by omega)) (And.intro (pk_in (6 + a) 13 (by omega) e6) ?_))
          dsimp only
          refine sf_addSpan (S := S) (p := p) (F := F) (W := (W.1, (ins), W.2.2.1, (sf_add sp (F.2.2.2.2.2.2.2.1 a) (S.2.1 (6 + a))), W.2.2.2.2.1, W.2.2.2.2.2.1, W.2.2.2.2.2.2.1, W.2.2.2.2.2.2.2.1, W.2.2.2.2.2.2.2.2.1, W.2.2.2.2.2.2.2.2.2.1, W.2.2.2.2.2.2.2.2.2.2.1, W.2.2.2.2.2.2.2.2.2.2.2)) hxB (nm_r (nI_1 i) (hw _ ⟨?_, q3, ?_⟩))
          · intro k hk kin kd a' ha' hn' x hx
            by_cases e : k = i
            · subst e
              obtain rfl : a' = a := sf_inj (by omega) (by omega) (hn'.symm.trans c2)
              exact ⟨fun w => q2 x hx _ n1 (p1 x hx w), fun w => q1 x hx w⟩
            · obtain ⟨⟨g', ⟨⟨b1', b2', b3', b4', b5', bd'⟩, _⟩⟩, _⟩ := f9 a' ha'
              obtain ⟨w1, w2⟩ := h1 k (by omega) kin kd a' ha' hn' x hx
              have m1 : ¬ S.2.1 (6 + a') = 0 := by rw [b3']; exact nI_ne0 bd'.2.1 (by have := bd'.2.2.1; omega)
              have m2 : ¬ S.2.2.1 (6 + a') = 0 := by rw [b4']; exact nI_ne0 bd'.2.2.2.1 (by have := bd'.2.2.2.2.1; omega)
              exact ⟨fun w => q2 x hx _ m1 (p2 x hx _ m1 (w1 w)), fun w => q2 x hx _ m2 (p2 x hx _ m2 (w2 w))⟩
          · intro x hx c hc
            have hi' := hc i (by omega) c1 a ha c2
            exact q4 x hx c (p4 x hx c (h3 x hx c (fun k hk => hc k (by omega))) hi'.1) hi'.2
        · exact absurd c1 (by rw [y]; decide)
      · intro k hk kin kd
        rw [ei] at y
        by_cases e : k = i
        · subst e; exact absurd kd y
        · exact h1 k (by omega) kin kd
      · exact fun x hx c hc => h3 x hx c (fun k hk => hc k (by omega))
  refine pk_loop (fun n i (sp : sf_A) => wX_findSpans_7 post (nI top) F.1 F.2.1 F.2.2.1 W.1 n (nI i) S.1 S.2.1 S.2.2.1 S.2.2.2.1 S.2.2.2.2.1 S.2.2.2.2.2.1 S.2.2.2.2.2.2.1 S.2.2.2.2.2.2.2.1 S.2.2.2.2.2.2.2.2 F.2.2.2.1 F.2.2.2.2.1 F.2.2.2.2.2.1 F.2.2.2.2.2.2.1 F.2.2.2.2.2.2.2.1 F.2.2.2.2.2.2.2.2.1 F.2.2.2.2.2.2.2.2.2 (ins) p W.2.2.1 (sp) W.2.2.2.2.1 W.2.2.2.2.2.1 W.2.2.2.2.2.2.1 W.2.2.2.2.2.2.2.1 W.2.2.2.2.2.2.2.2.1 W.2.2.2.2.2.2.2.2.2.1 W.2.2.2.2.2.2.2.2.2.2.1 W.2.2.2.2.2.2.2.2.2.2.2) (fun i sp => ∀ x, x < i → sp x = 0) 3 0 W.2.2.2.1 (by omega) (fun x hx => absurd hx (by omega)) ?_ ?_
  · intro n sp h
    exact pk_le 3 3 (fun _ => go sp h) (fun z => absurd z (by omega))
  · intro n i sp hi h hw
    refine pk_le 3 i (fun z => absurd z (by omega)) (fun _ => And.intro (pk_in i 3 hi) (nm_r (e' := upd sp i 0) (by rw [nI_clamp (by omega)]) (nm_r (nI_1 i) (hw _ (fun x hx => ?_)))))
    by_cases e : x = i
    · rw [e, pk_us]
    · rw [pk_un e]; exact h x (by omega)
end
section
/-! the order of loops -/
def sf_X (rk f : Nat) (i j : Int32) : Int32 := if rk < 2 then -1 else if 4 ≤ f then j else i
def sf_Y (rk f : Nat) (i j : Int32) : Int32 := if rk < 2 then i else if 4 ≤ f then i else j
theorem sf_levels {post : St1 → Prop} {S : sf_Sl} {p : sf_A} {F : sf_Fm} {W : sf_Wk} {a rk n m f : Nat} (h : sf_hd S (6 + a) rk n m f) (ha : a < 6)
    (H : post (sf_mk S p F (W.1, W.2.1, W.2.2.1, W.2.2.2.1, (upd W.2.2.2.2.1 a (sf_X rk f (F.2.2.2.2.2.2.2.1 a) (F.2.2.2.2.2.2.2.2.1 a))), (upd W.2.2.2.2.2.1 a (sf_Y rk f (F.2.2.2.2.2.2.2.1 a) (F.2.2.2.2.2.2.2.2.1 a))), W.2.2.2.2.2.2.1, W.2.2.2.2.2.2.2.1, W.2.2.2.2.2.2.2.2.1, W.2.2.2.2.2.2.2.2.2.1, W.2.2.2.2.2.2.2.2.2.2.1, W.2.2.2.2.2.2.2.2.2.2.2))) : wpX_findLevels post (sf_mk S p F W) (nI a) := by
  have hh := h
  obtain ⟨hs, h1, h2, h3, h4, hd⟩ := h
  have hr := hd.1
  have e : (nI (6 + a)).toNatClampNeg = 6 + a := nI_clamp (by omega)
  have ea : (nI a).toNatClampNeg = a := nI_clamp (by omega)
  have i13 := pk_in (x := nI (6 + a)) (6 + a) 13 hs
  have i6 := pk_in (x := nI a) a 6 ha
  unfold sf_X sf_Y at H
  refine nm_r (sf_6p a) (sf_isT (S := S) (p := p) (F := F) (W := W) hh (fun y1 y2 => And.intro i13 (pk_le 2 rk (fun z => br_f sf_ne0 (And.intro i6 ?_)) (fun z => absurd z (by omega)) rfl (by rw [e]; exact h1))) (fun y => And.intro i13 (pk_le 2 rk (fun z => br_t rfl (And.intro i6 ?_)) (fun z => ?_) rfl (by rw [e]; exact h1))))
  · rw [if_neg (show ¬ rk < 2 by omega), if_neg (show ¬ rk < 2 by omega), if_pos y2, if_pos y2] at H
    exact And.intro i6 (nm_r (e' := upd W.2.2.2.2.1 a (F.2.2.2.2.2.2.2.2.1 a)) (by rw [ea]) (And.intro i13 (pk_lt rk 2 (fun z => absurd z (by omega)) (fun z => br_f sf_ne0 (And.intro i6 (And.intro i6 (nm_r (e' := upd W.2.2.2.2.2.1 a (F.2.2.2.2.2.2.2.1 a)) (by rw [ea]) H)))) (by rw [e]; exact h1))))
  · have y' : ¬ 4 ≤ f := fun t => y ⟨by omega, t⟩
    rw [if_neg (show ¬ rk < 2 by omega), if_neg (show ¬ rk < 2 by omega), if_neg y', if_neg y'] at H
    exact And.intro i6 (nm_r (e' := upd W.2.2.2.2.1 a (F.2.2.2.2.2.2.2.1 a)) (by rw [ea]) (And.intro i13 (pk_lt rk 2 (fun z => absurd z (by omega)) (fun z => br_t rfl (And.intro i6 (And.intro i6 (nm_r (e' := upd W.2.2.2.2.2.1 a (F.2.2.2.2.2.2.2.2.1 a)) (by rw [ea]) H)))) (by rw [e]; exact h1))))
  · rw [if_pos (show rk < 2 by omega), if_pos (show rk < 2 by omega)] at H
    exact And.intro i6 (nm_r (e' := upd W.2.2.2.2.1 a (-1)) (by rw [ea]) (And.intro i13 (pk_lt rk 2 (fun z => And.intro i6 (And.intro i6 (nm_r (e' := upd W.2.2.2.2.2.1 a (F.2.2.2.2.2.2.2.1 a)) (by rw [ea]) H))) (fun z => absurd z (by omega)) (by rw [e]; exact h1))))
theorem sf_repack {post : St1 → Prop} {S : sf_Sl} {p : sf_A} {F : sf_Fm} {W : sf_Wk} {a n m f : Nat} {M : Nat → sf_A} (h : sf_slot S (6 + a) 2 n m f M) (ha : a < 6)
    (H : ∀ S' p', sf_slot S' (6 + a) 2 n m (sf_x4 f) M → sf_ne S S' (6 + a) → post (sf_mk S' p' F (W.1, W.2.1, W.2.2.1, W.2.2.2.1, (upd W.2.2.2.2.1 a (sf_X 2 (sf_x4 f) (F.2.2.2.2.2.2.2.1 a) (F.2.2.2.2.2.2.2.2.1 a))), (upd W.2.2.2.2.2.1 a (sf_Y 2 (sf_x4 f) (F.2.2.2.2.2.2.2.1 a) (F.2.2.2.2.2.2.2.2.1 a))), W.2.2.2.2.2.2.1, W.2.2.2.2.2.2.2.1, W.2.2.2.2.2.2.2.2.1, W.2.2.2.2.2.2.2.2.2.1, W.2.2.2.2.2.2.2.2.2.2.1, W.2.2.2.2.2.2.2.2.2.2.2))) : wpX_repack post (sf_mk S p F W) (nI a) := by
  obtain ⟨⟨hs, h1, h2, h3, h4, hd⟩, hz, _⟩ := id h
  have hf := sf_dm7 hd
  have e : (nI (6 + a)).toNatClampNeg = 6 + a := nI_clamp (by omega)
  have i13 := pk_in (x := nI (6 + a)) (6 + a) 13 hs
  refine nm_r (sf_6p a) (sf_unpack (S := S) (p := p) (F := F) (W := W) h (fun p' hp' => And.intro i13 (And.intro i13 (And.intro i13 ?_))))
  rw [e, h2, h3, h4, sf_xor4 f hf]
  have hd' : sf_dm 2 n m (sf_x4 f) := ⟨hd.1, hd.2.1, hd.2.2.1, hd.2.2.2.1, hd.2.2.2.2.1, by show sf_x4 f ≤ 7; have := (sf_x4l hf).1; omega, hd.2.2.2.2.2.2⟩
  refine sf_pack (S := S) (p := p') (F := F) (W := W) (f := sf_x4 f) (rk := 2) hs hd' (fun S' c b => ?_)
  rw [sf_matM hd.2.2.1 hd.2.2.2.2.1 hp' hz] at c
  exact sf_levels (S := S') (p := p') (F := F) (W := W) c.1 ha (H S' p' c b)
def sf_pm (u v w : Nat) : Prop := u < 3 ∧ v < 3 ∧ w < 3 ∧ u ≠ v ∧ u ≠ w ∧ v ≠ w
def sf_ps (u v x : Nat) : Nat := if x = u then 0 else if x = v then 1 else 2
theorem sf_psn {u v w x y : Nat} (h : sf_pm u v w) (hx : x < 3) (hy : y < 3) (hn : x ≠ y) : sf_ps u v x ≠ sf_ps u v y := by
  obtain ⟨h1, h2, h3, h4, h5, h6⟩ := h
  unfold sf_ps
  by_cases a : x = u
  · rw [if_pos a]
    by_cases b : y = u
    · omega
    · rw [if_neg b]
      split <;> omega
  · rw [if_neg a]
    by_cases b : x = v
    · rw [if_pos b]
      by_cases c : y = u
      · rw [if_pos c]; omega
      · rw [if_neg c]
        by_cases d : y = v
        · omega
        · rw [if_neg d]; omega
    · rw [if_neg b]
      by_cases c : y = u
      · rw [if_pos c]; omega
      · rw [if_neg c]
        by_cases d : y = v
        · rw [if_pos d]; omega
        · omega
theorem sf_psl (u v x : Nat) : sf_ps u v x ≤ 2 := by
  unfold sf_ps
  split
  · omega
  · split <;> omega
theorem sf_loopOf {post : Int32 → Prop} {S : sf_Sl} {p : sf_A} {F : sf_Fm} {W : sf_Wk} {u v x : Nat} (hu : u < 3) (hv : v < 3) (hx : x < 3) (h0 : W.2.2.1 0 = nI u) (h1 : W.2.2.1 1 = nI v)
    (H : post (nI (sf_ps u v x))) : wpX_loopOf post (sf_mk S p F W) (nI x) := by
  unfold sf_ps at H
  refine pk_eq u x (fun z => ?_) (fun z => pk_eq v x (fun y => ?_) (fun y => ?_) h1) h0
  · rw [if_pos z.symm] at H; exact H
  · rw [if_neg (fun t => z t.symm), if_pos y.symm] at H; exact H
  · rw [if_neg (fun t => z t.symm), if_neg (fun t => y t.symm)] at H; exact H
theorem sf_against {post : Int32 → Prop} {S : sf_Sl} {p : sf_A} {F : sf_Fm} {W : sf_Wk} {A : Nat} {x1 x2 x3 : Int32} (hA : F.2.1 = nI A) (h6 : A ≤ 6) (H : ∀ c, c ≤ 6 → post (nI c)) :
    wpX_against post (sf_mk S p F W) x1 x2 x3 := by
  refine pk_loop (fun n i (c : Nat) => wX_against_6 post x1 x2 F.1 F.2.1 F.2.2.1 W.1 S.1 S.2.1 S.2.2.1 S.2.2.2.1 S.2.2.2.2.1 S.2.2.2.2.2.1 S.2.2.2.2.2.2.1 S.2.2.2.2.2.2.2.1 S.2.2.2.2.2.2.2.2 F.2.2.2.1 F.2.2.2.2.1 F.2.2.2.2.2.1 F.2.2.2.2.2.2.1 F.2.2.2.2.2.2.2.1 F.2.2.2.2.2.2.2.2.1 F.2.2.2.2.2.2.2.2.2 W.2.1 p W.2.2.1 W.2.2.2.1 W.2.2.2.2.1 W.2.2.2.2.2.1 W.2.2.2.2.2.2.1 W.2.2.2.2.2.2.2.1 W.2.2.2.2.2.2.2.2.1 W.2.2.2.2.2.2.2.2.2.1 W.2.2.2.2.2.2.2.2.2.2.1 W.2.2.2.2.2.2.2.2.2.2.2 n (nI c) (nI i)) (fun i c => c ≤ i) A 0 0 (by omega) (by omega) ?_ ?_
  · intro n c hc
    exact pk_le A A (fun _ => H c (by omega)) (fun z => absurd z (by omega)) hA
  · intro n i c hi hc hw
    have i6 := pk_in (x := nI i) i 6 (by omega)
    have g90 : ∀ x6 z0 : Int32, wX_against_90 post (wX_against_6 post x1 x2 F.1 F.2.1 F.2.2.1 W.1 S.1 S.2.1 S.2.2.1 S.2.2.2.1 S.2.2.2.2.1 S.2.2.2.2.2.1 S.2.2.2.2.2.2.1 S.2.2.2.2.2.2.2.1 S.2.2.2.2.2.2.2.2 F.2.2.2.1 F.2.2.2.2.1 F.2.2.2.2.2.1 F.2.2.2.2.2.2.1 F.2.2.2.2.2.2.2.1 F.2.2.2.2.2.2.2.2.1 F.2.2.2.2.2.2.2.2.2 W.2.1 p W.2.2.1 W.2.2.2.1 W.2.2.2.2.1 W.2.2.2.2.2.1 W.2.2.2.2.2.2.1 W.2.2.2.2.2.2.2.1 W.2.2.2.2.2.2.2.2.1 W.2.2.2.2.2.2.2.2.2.1 W.2.2.2.2.2.2.2.2.2.2.1 W.2.2.2.2.2.2.2.2.2.2.2 n) x1 x2 (nI c) (nI i) x6 z0 F.1 F.2.1 F.2.2.1 W.1 S.1 S.2.1 S.2.2.1 S.2.2.2.1 S.2.2.2.2.1 S.2.2.2.2.2.1 S.2.2.2.2.2.2.1 S.2.2.2.2.2.2.2.1 S.2.2.2.2.2.2.2.2 F.2.2.2.1 F.2.2.2.2.1 F.2.2.2.2.2.1 F.2.2.2.2.2.2.1 F.2.2.2.2.2.2.2.1 F.2.2.2.2.2.2.2.2.1 F.2.2.2.2.2.2.2.2.2 W.2.1 p W.2.2.1 W.2.2.2.1 W.2.2.2.2.1 W.2.2.2.2.2.1 W.2.2.2.2.2.2.1 W.2.2.2.2.2.2.2.1 W.2.2.2.2.2.2.2.2.1 W.2.2.2.2.2.2.2.2.2.1 W.2.2.2.2.2.2.2.2.2.2.1 W.2.2.2.2.2.2.2.2.2.2.2 :=
      fun x6 z0 => br_c (fun _ => nm_r (nI_1 i) (hw c (by omega))) (fun _ => nm_r (nI_1 c) (nm_r (nI_1 i) (hw (c + 1) (by omega))))
    have g57 : ∀ z0 : Int32, wX_against_57 post (wX_against_6 post x1 x2 F.1 F.2.1 F.2.2.1 W.1 S.1 S.2.1 S.2.2.1 S.2.2.2.1 S.2.2.2.2.1 S.2.2.2.2.2.1 S.2.2.2.2.2.2.1 S.2.2.2.2.2.2.2.1 S.2.2.2.2.2.2.2.2 F.2.2.2.1 F.2.2.2.2.1 F.2.2.2.2.2.1 F.2.2.2.2.2.2.1 F.2.2.2.2.2.2.2.1 F.2.2.2.2.2.2.2.2.1 F.2.2.2.2.2.2.2.2.2 W.2.1 p W.2.2.1 W.2.2.2.1 W.2.2.2.2.1 W.2.2.2.2.2.1 W.2.2.2.2.2.2.1 W.2.2.2.2.2.2.2.1 W.2.2.2.2.2.2.2.2.1 W.2.2.2.2.2.2.2.2.2.1 W.2.2.2.2.2.2.2.2.2.2.1 W.2.2.2.2.2.2.2.2.2.2.2 n) x1 x2 (nI c) (nI i) z0 F.1 F.2.1 F.2.2.1 W.1 S.1 S.2.1 S.2.2.1 S.2.2.2.1 S.2.2.2.2.1 S.2.2.2.2.2.1 S.2.2.2.2.2.2.1 S.2.2.2.2.2.2.2.1 S.2.2.2.2.2.2.2.2 F.2.2.2.1 F.2.2.2.2.1 F.2.2.2.2.2.1 F.2.2.2.2.2.2.1 F.2.2.2.2.2.2.2.1 F.2.2.2.2.2.2.2.2.1 F.2.2.2.2.2.2.2.2.2 W.2.1 p W.2.2.1 W.2.2.2.1 W.2.2.2.2.1 W.2.2.2.2.2.1 W.2.2.2.2.2.2.1 W.2.2.2.2.2.2.2.1 W.2.2.2.2.2.2.2.2.1 W.2.2.2.2.2.2.2.2.2.1 W.2.2.2.2.2.2.2.2.2.2.1 W.2.2.2.2.2.2.2.2.2.2.2 :=
      fun z0 => And.intro i6 (br_c (fun _ => g90 _ _) (fun _ => And.intro i6 (br_c (fun _ => g90 _ _) (fun _ => g90 _ _))))
    exact pk_le A i (fun z => absurd z (by omega)) (fun _ => And.intro i6 (br_c (fun _ => nm_r (nI_1 i) (hw c (by omega))) (fun _ => And.intro i6 (br_c (fun _ => g57 _) (fun _ => And.intro i6 (br_c (fun _ => g57 _) (fun _ => g57 _))))))) hA
theorem sf_gd (l : List Nat) (x : Nat) (r : List Nat) : (l ++ x :: r).getD l.length 0 = x := by
  induction l with
  | nil => rfl
  | cons a l ih => exact ih
theorem sf_gdA (l : List Nat) (x d : Nat) (h : d < l.length) : (l ++ [x]).getD d 0 = l.getD d 0 := by
  induction l generalizing d with
  | nil => exact absurd h (by simp)
  | cons a l ih =>
    cases d with
    | zero => rfl
    | succ d => exact ih d (by simpa using h)
def sf_ol (o s : Nat → Nat) (i : Nat) : List Nat := ((List.range i).map o).filter (fun x => decide (0 < s x))
theorem sf_olS (o s : Nat → Nat) (i : Nat) : sf_ol o s (i + 1) = if 0 < s (o i) then sf_ol o s i ++ [o i] else sf_ol o s i := by
  unfold sf_ol
  rw [List.range_succ, List.map_append, List.filter_append]
  by_cases h : 0 < s (o i)
  · rw [if_pos h]
    simp [h]
  · rw [if_neg h]
    simp [h]
theorem sf_olL (o s : Nat → Nat) (i : Nat) : (sf_ol o s i).length ≤ i := by
  induction i with
  | zero => exact Nat.le_refl 0
  | succ i ih =>
    rw [sf_olS]
    split
    · rw [List.length_append]
      show _ + 1 ≤ _
      omega
    · omega
theorem sf_drop {post : St1 → Prop} {S : sf_Sl} {p : sf_A} {F : sf_Fm} {W : sf_Wk} {o s : Nat → Nat} (ho : ∀ k, k < 3 → o k < 3 ∧ W.2.2.1 k = nI (o k)) (hs : ∀ x, x < 3 → s x ≤ 6 ∧ W.2.2.2.1 x = nI (s x))
    (H : ∀ li : sf_A, (∀ d, d < (sf_ol o s 3).length → li d = nI ((sf_ol o s 3).getD d 0)) → post (sf_mk S p F ((nI (sf_ol o s 3).length), W.2.1, (li), W.2.2.2.1, W.2.2.2.2.1, W.2.2.2.2.2.1, W.2.2.2.2.2.2.1, W.2.2.2.2.2.2.2.1, W.2.2.2.2.2.2.2.2.1, W.2.2.2.2.2.2.2.2.2.1, W.2.2.2.2.2.2.2.2.2.2.1, W.2.2.2.2.2.2.2.2.2.2.2))) : wpX_dropLoops post (sf_mk S p F W) := by
  refine pk_loop (σ := sf_A) (fun n i t => wX_dropLoops_7 post F.1 F.2.1 F.2.2.1 n (nI i) (nI (sf_ol o s i).length) S.1 S.2.1 S.2.2.1 S.2.2.2.1 S.2.2.2.2.1 S.2.2.2.2.2.1 S.2.2.2.2.2.2.1 S.2.2.2.2.2.2.2.1 S.2.2.2.2.2.2.2.2 F.2.2.2.1 F.2.2.2.2.1 F.2.2.2.2.2.1 F.2.2.2.2.2.2.1 F.2.2.2.2.2.2.2.1 F.2.2.2.2.2.2.2.2.1 F.2.2.2.2.2.2.2.2.2 W.2.1 p (t) W.2.2.2.1 W.2.2.2.2.1 W.2.2.2.2.2.1 W.2.2.2.2.2.2.1 W.2.2.2.2.2.2.2.1 W.2.2.2.2.2.2.2.2.1 W.2.2.2.2.2.2.2.2.2.1 W.2.2.2.2.2.2.2.2.2.2.1 W.2.2.2.2.2.2.2.2.2.2.2)
    (fun i t => (∀ d, d < (sf_ol o s i).length → t d = nI ((sf_ol o s i).getD d 0)) ∧ (∀ k, i ≤ k → k < 3 → t k = nI (o k))) 3 0 W.2.2.1 (by omega) ⟨fun d hd => absurd hd (by show ¬ d < 0; omega), fun k _ hk => (ho k hk).2⟩ ?_ ?_
  · intro n t ht
    exact pk_le 3 3 (fun _ => H t ht.1) (fun z => absurd z (by omega))
  · intro n i t hi ht hw
    obtain ⟨t1, t2⟩ := ht
    have ei : (nI i).toNatClampNeg = i := nI_clamp (by omega)
    have ti := t2 i (Nat.le_refl _) hi
    obtain ⟨o1, o2⟩ := ho i hi
    obtain ⟨s1, s2⟩ := hs (o i) o1
    have hL := sf_olL o s i
    have eo : (nI (o i)).toNatClampNeg = o i := nI_clamp (by omega)
    have hS := sf_olS o s i
    have hw' : ∀ (k : Nat) (t' : sf_A), k = (sf_ol o s (i + 1)).length → (∀ d, d < (sf_ol o s (i + 1)).length → t' d = nI ((sf_ol o s (i + 1)).getD d 0)) → (∀ k, i + 1 ≤ k → k < 3 → t' k = nI (o k)) → wX_dropLoops_7 post F.1 F.2.1 F.2.2.1 n (nI (i + 1)) (nI k) S.1 S.2.1 S.2.2.1 S.2.2.2.1 S.2.2.2.2.1 S.2.2.2.2.2.1 S.2.2.2.2.2.2.1 S.2.2.2.2.2.2.2.1 S.2.2.2.2.2.2.2.2 F.2.2.2.1 F.2.2.2.2.1 F.2.2.2.2.2.1 F.2.2.2.2.2.2.1 F.2.2.2.2.2.2.2.1 F.2.2.2.2.2.2.2.2.1 F.2.2.2.2.2.2.2.2.2 W.2.1 p (t') W.2.2.2.1 W.2.2.2.2.1 W.2.2.2.2.2.1 W.2.2.2.2.2.2.1 W.2.2.2.2.2.2.2.1 W.2.2.2.2.2.2.2.2.1 W.2.2.2.2.2.2.2.2.2.1 W.2.2.2.2.2.2.2.2.2.2.1 W.2.2.2.2.2.2.2.2.2.2.2 := by
      intro k t' hk a b
      rw [hk]
      exact hw t' ⟨a, b⟩
    refine pk_le 3 i (fun z => absurd z (by omega)) (fun _ => And.intro (pk_in i 3 hi) (And.intro (pk_in (o i) 3 o1 (by rw [ei]; exact ti)) (pk_le (s (o i)) 0 (fun z => nm_r (nI_1 i) (hw' _ t ?_ ?_ ?_)) (fun z => And.intro (pk_in i 3 hi) (And.intro (pk_in (sf_ol o s i).length 3 (by omega)) (nm_r (e' := upd t (sf_ol o s i).length (nI (o i))) (by rw [ei, ti, nI_clamp (by omega)]) (nm_r (nI_1 _) (nm_r (nI_1 i) (hw' _ _ ?_ ?_ ?_)))))) (by rw [ei, ti, eo]; exact s2))))
    · rw [hS, if_neg (by omega)]
    · rw [hS, if_neg (by omega)]; exact t1
    · exact fun k a b => t2 k (by omega) b
    · rw [hS, if_pos z, List.length_append]; rfl
    · rw [hS, if_pos z]
      intro d hd
      rw [List.length_append] at hd
      have hd' : d < (sf_ol o s i).length + 1 := hd
      by_cases e : d = (sf_ol o s i).length
      · rw [e, pk_us, sf_gd]
      · rw [pk_un e, sf_gdA _ _ _ (by omega)]
        exact t1 d (by omega)
    · intro k a b
      rw [pk_un (by omega)]
      exact t2 k (by omega) b
/-- registers stay -/
def sf_keep (S S' : sf_Sl) : Prop := ∀ r, r < 6 → ∀ rk n m f M, sf_slot S r rk n m f M → sf_slot S' r rk n m f M
theorem sf_keepN {S S' S'' : sf_Sl} {a : Nat} (h : sf_keep S S') (hn : sf_ne S' S'' (6 + a)) : sf_keep S S'' :=
  fun r hr rk n m f M hM => sf_slotN (h r hr rk n m f M hM) hn (by omega)
def sf_ar2 (S : sf_Sl) (F : sf_Fm) (lx px : sf_A) (a rk n m : Nat) (M : Nat → sf_A) : Prop :=
  ∃ f, sf_slot S (6 + a) rk n m f M ∧ lx a = sf_X rk f (F.2.2.2.2.2.2.2.1 a) (F.2.2.2.2.2.2.2.2.1 a) ∧ px a = sf_Y rk f (F.2.2.2.2.2.2.2.1 a) (F.2.2.2.2.2.2.2.2.1 a)
theorem sf_choose {post : St1 → Prop} {S : sf_Sl} {p : sf_A} {F : sf_Fm} {W : sf_Wk} {P A H : Nat} {D : sf_Da} {s : Nat → Nat} (hf : sf_fo S F P A H D) (hs : ∀ x, x < 3 → s x ≤ 6 ∧ W.2.2.2.1 x = nI (s x))
    (HS : ∀ S' p' (li lx px : sf_A) (o : Nat → Nat), sf_pm (o 0) (o 1) (o 2) → (∀ d, d < (sf_ol o s 3).length → li d = nI ((sf_ol o s 3).getD d 0)) → sf_keep S S' →
      (∀ a, a < A → sf_ar2 S' F lx px a (D a).1 (D a).2.1 (D a).2.2.1 (D a).2.2.2) →
      (∀ a, a < A → ∀ x y, x < 3 → y < 3 → lx a = nI x → px a = nI y → sf_ps (o 0) (o 1) x < sf_ps (o 0) (o 1) y) →
      post (sf_mk S' p' F ((nI (sf_ol o s 3).length), W.2.1, (li), W.2.2.2.1, (lx), (px), W.2.2.2.2.2.2.1, W.2.2.2.2.2.2.2.1, W.2.2.2.2.2.2.2.2.1, W.2.2.2.2.2.2.2.2.2.1, W.2.2.2.2.2.2.2.2.2.2.1, W.2.2.2.2.2.2.2.2.2.2.2))) : wpX_chooseOrder post (sf_mk S p F W) := by
  obtain ⟨f1, f2, f3, f4, f5, f6, f7, f8, f9⟩ := hf
  have third : ∀ (lx px li : sf_A) (o : Nat → Nat), sf_pm (o 0) (o 1) (o 2) → li 0 = nI (o 0) → li 1 = nI (o 1) → li 2 = nI (o 2) → (∀ a, a < A → sf_ar2 S F lx px a (D a).1 (D a).2.1 (D a).2.2.1 (D a).2.2.2) →
      ∃ fu, wX_chooseOrder_116 post fu 0 F.1 F.2.1 F.2.2.1 W.1 S.1 S.2.1 S.2.2.1 S.2.2.2.1 S.2.2.2.2.1 S.2.2.2.2.2.1 S.2.2.2.2.2.2.1 S.2.2.2.2.2.2.2.1 S.2.2.2.2.2.2.2.2 F.2.2.2.1 F.2.2.2.2.1 F.2.2.2.2.2.1 F.2.2.2.2.2.2.1 F.2.2.2.2.2.2.2.1 F.2.2.2.2.2.2.2.2.1 F.2.2.2.2.2.2.2.2.2 W.2.1 p (li) W.2.2.2.1 (lx) (px) W.2.2.2.2.2.2.1 W.2.2.2.2.2.2.2.1 W.2.2.2.2.2.2.2.2.1 W.2.2.2.2.2.2.2.2.2.1 W.2.2.2.2.2.2.2.2.2.2.1 W.2.2.2.2.2.2.2.2.2.2.2 := by
    intro lx px li o hpm e0 e1 e2 har
    refine pk_loop (σ := sf_Sl × sf_A × sf_A × sf_A) (fun n i t => wX_chooseOrder_116 post n (nI i) F.1 F.2.1 F.2.2.1 W.1 t.1.1 t.1.2.1 t.1.2.2.1 t.1.2.2.2.1 t.1.2.2.2.2.1 t.1.2.2.2.2.2.1 t.1.2.2.2.2.2.2.1 t.1.2.2.2.2.2.2.2.1 t.1.2.2.2.2.2.2.2.2 F.2.2.2.1 F.2.2.2.2.1 F.2.2.2.2.2.1 F.2.2.2.2.2.2.1 F.2.2.2.2.2.2.2.1 F.2.2.2.2.2.2.2.2.1 F.2.2.2.2.2.2.2.2.2 W.2.1 t.2.1 li W.2.2.2.1 t.2.2.1 t.2.2.2 W.2.2.2.2.2.2.1 W.2.2.2.2.2.2.2.1 W.2.2.2.2.2.2.2.2.1 W.2.2.2.2.2.2.2.2.2.1 W.2.2.2.2.2.2.2.2.2.2.1 W.2.2.2.2.2.2.2.2.2.2.2)
      (fun i t => sf_keep S t.1 ∧ (∀ a, a < A → sf_ar2 t.1 F t.2.2.1 t.2.2.2 a (D a).1 (D a).2.1 (D a).2.2.1 (D a).2.2.2) ∧
        (∀ a, a < i → ∀ x y, x < 3 → y < 3 → t.2.2.1 a = nI x → t.2.2.2 a = nI y → sf_ps (o 0) (o 1) x < sf_ps (o 0) (o 1) y)) A 0 (S, p, lx, px) (by omega)
      ⟨fun _ _ _ _ _ _ _ hM => hM, har, fun a ha => absurd ha (by omega)⟩ ?_ ?_
    · intro n t ht
      obtain ⟨S', p', lx', px'⟩ := t
      obtain ⟨t1, t2, t3⟩ := ht
      refine pk_le A A (fun _ => ?_) (fun z => absurd z (by omega)) f3
      refine sf_drop (S := S') (p := p') (F := F) (W := (W.1, W.2.1, (li), W.2.2.2.1, (lx'), (px'), W.2.2.2.2.2.2.1, W.2.2.2.2.2.2.2.1, W.2.2.2.2.2.2.2.2.1, W.2.2.2.2.2.2.2.2.2.1, W.2.2.2.2.2.2.2.2.2.2.1, W.2.2.2.2.2.2.2.2.2.2.2)) (o := o) (s := s) ?_ hs (fun li' hli' => HS S' p' li' lx' px' o hpm hli' t1 t2 t3)
      obtain ⟨m1, m2, m3, _⟩ := hpm
      intro k hk
      rcases k with _ | _ | _ | k
      · exact ⟨m1, e0⟩
      · exact ⟨m2, e1⟩
      · exact ⟨m3, e2⟩
      · omega
    · intro n i t hi ht hw
      obtain ⟨S', p', lx', px'⟩ := t
      obtain ⟨t1, t2, t3⟩ := ht
      dsimp only at t1 t2 t3
      have ei : (nI i).toNatClampNeg = i := nI_clamp (by omega)
      have i6 := pk_in (x := nI i) i 6 (by omega)
      obtain ⟨m1, m2, m3, m4, m5, m6⟩ := id hpm
      obtain ⟨f, hM, hlx, hpx⟩ := t2 i hi
      refine pk_le A i (fun z => absurd z (by omega)) (fun _ => And.intro i6 (br_c (fun z => nm_r (nI_1 i) (hw (S', p', lx', px') ⟨t1, t2, fun a ha x y hx hy ex ey => ?_⟩)) (fun z => And.intro i6 ?_))) f3
      · by_cases e : a = i
        · subst e
          rw [ei] at z
          exact absurd (ex.symm.trans z) (sf_neg1 (by omega))
        · exact t3 a (by omega) x y hx hy ex ey
      · rw [ei] at z ⊢
        have q := (f9 i hi).2
        have hrk : (D i).1 = 2 := by
          rcases q with ⟨q1, _⟩ | ⟨q1, _⟩ | ⟨q1, _⟩
          · exact absurd (show lx' i = -1 by rw [hlx]; unfold sf_X; rw [if_pos (by omega)]) z
          · exact absurd (show lx' i = -1 by rw [hlx]; unfold sf_X; rw [if_pos (by omega)]) z
          · exact q1
        have q' : ∃ x y, x < 3 ∧ y < 3 ∧ x ≠ y ∧ F.2.2.2.2.2.2.2.1 i = nI x ∧ F.2.2.2.2.2.2.2.2.1 i = nI y := by
          rcases q with ⟨q1, _⟩ | ⟨q1, _⟩ | ⟨q1, q2⟩
          · omega
          · omega
          · exact q2
        obtain ⟨x, y, x3, y3, xy, eA, eB⟩ := q'
        rw [hrk] at hM hlx hpx
        have hf8 := sf_dm7 hM.1.2.2.2.2.2
        obtain ⟨w1, w2, w3, w4⟩ := sf_x4l hf8
        have psne := sf_psn hpm x3 y3 xy
        have pl := sf_psl (o 0) (o 1)
        have two : ∃ x' y', x' < 3 ∧ y' < 3 ∧ sf_ps (o 0) (o 1) x' ≠ sf_ps (o 0) (o 1) y' ∧ lx' i = nI x' ∧ px' i = nI y' ∧ sf_X 2 (sf_x4 f) (F.2.2.2.2.2.2.2.1 i) (F.2.2.2.2.2.2.2.2.1 i) = nI y' ∧ sf_Y 2 (sf_x4 f) (F.2.2.2.2.2.2.2.1 i) (F.2.2.2.2.2.2.2.2.1 i) = nI x' := by
          rw [hlx, hpx]
          unfold sf_X sf_Y
          by_cases b : 4 ≤ f
          · have b' : ¬ 4 ≤ sf_x4 f := fun t => w2.mp t b
            refine ⟨y, x, y3, x3, fun t => psne t.symm, ?_, ?_, ?_, ?_⟩
            · rw [if_neg (show ¬ 2 < 2 by omega), if_pos b]; exact eB
            · rw [if_neg (show ¬ 2 < 2 by omega), if_pos b]; exact eA
            · rw [if_neg (show ¬ 2 < 2 by omega), if_neg b']; exact eA
            · rw [if_neg (show ¬ 2 < 2 by omega), if_neg b']; exact eB
          · have b' : 4 ≤ sf_x4 f := w2.mpr b
            refine ⟨x, y, x3, y3, psne, ?_, ?_, ?_, ?_⟩
            · rw [if_neg (show ¬ 2 < 2 by omega), if_neg b]; exact eA
            · rw [if_neg (show ¬ 2 < 2 by omega), if_neg b]; exact eB
            · rw [if_neg (show ¬ 2 < 2 by omega), if_pos b']; exact eB
            · rw [if_neg (show ¬ 2 < 2 by omega), if_pos b']; exact eA
        obtain ⟨x', y', x3', y3', ne', ex', ey', eX, eY⟩ := two
        dsimp only
        rw [ex', ey']
        refine sf_loopOf (S := S') (p := p') (F := F) (W := (W.1, W.2.1, (li), W.2.2.2.1, (lx'), (px'), W.2.2.2.2.2.2.1, W.2.2.2.2.2.2.2.1, W.2.2.2.2.2.2.2.2.1, W.2.2.2.2.2.2.2.2.2.1, W.2.2.2.2.2.2.2.2.2.2.1, W.2.2.2.2.2.2.2.2.2.2.2)) m1 m2 y3' e0 e1 (And.intro i6 (sf_loopOf (S := S') (p := p') (F := F) (W := (W.1, W.2.1, (li), W.2.2.2.1, (lx'), (px'), W.2.2.2.2.2.2.1, W.2.2.2.2.2.2.2.1, W.2.2.2.2.2.2.2.2.1, W.2.2.2.2.2.2.2.2.2.1, W.2.2.2.2.2.2.2.2.2.2.1, W.2.2.2.2.2.2.2.2.2.2.2)) m1 m2 x3' e0 e1 ?_))
        have pl1 := pl x'
        have pl2 := pl y'
        refine pk_le (sf_ps (o 0) (o 1) x') (sf_ps (o 0) (o 1) y') (fun c => nm_r (nI_1 i) (hw (S', p', lx', px') ⟨t1, t2, fun a ha xx yy hx hy ex ey => ?_⟩)) (fun c => ?_)
        · by_cases e : a = i
          · subst e
            obtain rfl : xx = x' := sf_inj (by omega) (by omega) (ex.symm.trans ex')
            obtain rfl : yy = y' := sf_inj (by omega) (by omega) (ey.symm.trans ey')
            omega
          · exact t3 a (by omega) xx yy hx hy ex ey
        · refine sf_repack (S := S') (p := p') (F := F) (W := (W.1, W.2.1, (li), W.2.2.2.1, (lx'), (px'), W.2.2.2.2.2.2.1, W.2.2.2.2.2.2.2.1, W.2.2.2.2.2.2.2.2.1, W.2.2.2.2.2.2.2.2.2.1, W.2.2.2.2.2.2.2.2.2.2.1, W.2.2.2.2.2.2.2.2.2.2.2)) hM (by omega) (fun S2 p2 hM2 hn2 => nm_r (nI_1 i) (hw (S2, p2, upd lx' i (sf_X 2 (sf_x4 f) (F.2.2.2.2.2.2.2.1 i) (F.2.2.2.2.2.2.2.2.1 i)), upd px' i (sf_Y 2 (sf_x4 f) (F.2.2.2.2.2.2.2.1 i) (F.2.2.2.2.2.2.2.2.1 i))) ⟨sf_keepN t1 hn2, fun a ha => ?_, fun a ha xx yy hx hy ex ey => ?_⟩))
          · by_cases e : a = i
            · subst e
              rw [hrk]
              exact ⟨sf_x4 f, hM2, pk_us, pk_us⟩
            · obtain ⟨g, g1, g2, g3⟩ := t2 a ha
              exact ⟨g, sf_slotN g1 hn2 (by omega), by dsimp only; rw [pk_un e]; exact g2, by dsimp only; rw [pk_un e]; exact g3⟩
          · dsimp only at ex ey
            by_cases e : a = i
            · subst e
              rw [pk_us, eX] at ex
              rw [pk_us, eY] at ey
              obtain rfl : y' = xx := sf_inj (by omega) (by omega) ex
              obtain rfl : x' = yy := sf_inj (by omega) (by omega) ey
              exact c
            · rw [pk_un e] at ex ey
              exact t3 a (by omega) xx yy hx hy ex ey
  have second : ∀ (lx px : sf_A), (∀ a, a < A → sf_ar2 S F lx px a (D a).1 (D a).2.1 (D a).2.2.1 (D a).2.2.2) → ∃ fu, wX_chooseOrder_26 post F.1 F.2.1 F.2.2.1 W.1 fu 100 0 S.1 S.2.1 S.2.2.1 S.2.2.2.1 S.2.2.2.2.1 S.2.2.2.2.2.1 S.2.2.2.2.2.2.1 S.2.2.2.2.2.2.2.1 S.2.2.2.2.2.2.2.2 F.2.2.2.1 F.2.2.2.2.1 F.2.2.2.2.2.1 F.2.2.2.2.2.2.1 F.2.2.2.2.2.2.2.1 F.2.2.2.2.2.2.2.2.1 F.2.2.2.2.2.2.2.2.2 W.2.1 p W.2.2.1 W.2.2.2.1 (lx) (px) W.2.2.2.2.2.2.1 W.2.2.2.2.2.2.2.1 W.2.2.2.2.2.2.2.2.1 W.2.2.2.2.2.2.2.2.2.1 W.2.2.2.2.2.2.2.2.2.2.1 W.2.2.2.2.2.2.2.2.2.2.2 := by
    intro lx px har
    refine pk_loop (σ := Nat × sf_A) (fun n i t => wX_chooseOrder_26 post F.1 F.2.1 F.2.2.1 W.1 n (nI t.1) (nI i) S.1 S.2.1 S.2.2.1 S.2.2.2.1 S.2.2.2.2.1 S.2.2.2.2.2.1 S.2.2.2.2.2.2.1 S.2.2.2.2.2.2.2.1 S.2.2.2.2.2.2.2.2 F.2.2.2.1 F.2.2.2.2.1 F.2.2.2.2.2.1 F.2.2.2.2.2.2.1 F.2.2.2.2.2.2.2.1 F.2.2.2.2.2.2.2.2.1 F.2.2.2.2.2.2.2.2.2 W.2.1 p (t.2) W.2.2.2.1 (lx) (px) W.2.2.2.2.2.2.1 W.2.2.2.2.2.2.2.1 W.2.2.2.2.2.2.2.2.1 W.2.2.2.2.2.2.2.2.2.1 W.2.2.2.2.2.2.2.2.2.2.1 W.2.2.2.2.2.2.2.2.2.2.2)
      (fun i t => t.1 ≤ 100 ∧ (i = 0 ∧ t.1 = 100 ∨ ∃ u v w, sf_pm u v w ∧ t.2 0 = nI u ∧ t.2 1 = nI v ∧ t.2 2 = nI w)) 6 0 (100, W.2.2.1) (by omega) ⟨Nat.le_refl _, Or.inl ⟨rfl, rfl⟩⟩ ?_ ?_
    · intro n t ht
      obtain ⟨b, li⟩ := t
      refine pk_le 6 6 (fun _ => ?_) (fun z => absurd z (by omega))
      rcases ht.2 with z | ⟨u, v, w, h1, h2, h3, h4⟩
      · exact absurd z.1 (by omega)
      · exact third lx px li (fun k => if k = 0 then u else if k = 1 then v else w) h1 h2 h3 h4 har
    · intro n i t hi ht hw
      obtain ⟨b, li⟩ := t
      obtain ⟨t1, t2⟩ := ht
      dsimp only at t1 t2
      have g55 : ∀ u v, u = i / 2 → (v = (i / 2 + 1) % 3 ∨ v = (i / 2 + 2) % 3) → wX_chooseOrder_55 post (wX_chooseOrder_26 post F.1 F.2.1 F.2.2.1 W.1 n) (nI b) (nI i) (nI u) (nI v) F.1 F.2.1 F.2.2.1 W.1 S.1 S.2.1 S.2.2.1 S.2.2.2.1 S.2.2.2.2.1 S.2.2.2.2.2.1 S.2.2.2.2.2.2.1 S.2.2.2.2.2.2.2.1 S.2.2.2.2.2.2.2.2 F.2.2.2.1 F.2.2.2.2.1 F.2.2.2.2.2.1 F.2.2.2.2.2.2.1 F.2.2.2.2.2.2.2.1 F.2.2.2.2.2.2.2.2.1 F.2.2.2.2.2.2.2.2.2 W.2.1 p (li) W.2.2.2.1 (lx) (px) W.2.2.2.2.2.2.1 W.2.2.2.2.2.2.2.1 W.2.2.2.2.2.2.2.2.1 W.2.2.2.2.2.2.2.2.2.1 W.2.2.2.2.2.2.2.2.2.2.1 W.2.2.2.2.2.2.2.2.2.2.2 := by
        intro u v hu hv
        have hpm : sf_pm u v (3 - u - v) := by
          unfold sf_pm
          rcases hv with hv | hv <;> exact ⟨by omega, by omega, by omega, by omega, by omega, by omega⟩
        refine nm_r (e' := nI (3 - u - v)) (by rw [show (3 : Int32) = nI 3 from rfl, pk_sub (by have := hpm.1; omega), pk_sub (by rcases hv with hv | hv <;> omega)]) ?_
        refine sf_against (S := S) (p := p) (F := F) (W := (W.1, W.2.1, (li), W.2.2.2.1, (lx), (px), W.2.2.2.2.2.2.1, W.2.2.2.2.2.2.2.1, W.2.2.2.2.2.2.2.2.1, W.2.2.2.2.2.2.2.2.2.1, W.2.2.2.2.2.2.2.2.2.2.1, W.2.2.2.2.2.2.2.2.2.2.2)) f3 f4 (fun c hc => pk_le b c (fun z => nm_r (nI_1 i) (hw (b, li) ⟨t1, Or.inr ?_⟩)) (fun z => nm_e (nm_e (nm_e (nm_r (nI_1 i) (hw (c, upd (upd (upd li 0 (nI u)) 1 (nI v)) 2 (nI (3 - u - v))) ⟨by dsimp only; omega, Or.inr ⟨u, v, 3 - u - v, hpm, rfl, rfl, rfl⟩⟩))))))
        · rcases t2 with z' | z'
          · omega
          · exact z'
      have e2 : nI i / 2 = nI (i / 2) := pk_div (d := 2) (by omega) (by omega) (by omega)
      have e3 : nI i - nI i / 2 * 2 = nI (i % 2) := pk_rem (d := 2) (by omega) (by omega) (by omega)
      refine pk_le 6 i (fun z => absurd z (by omega)) (fun _ => And.intro (by decide) (nm_r e2 (And.intro (by decide) (pk_eq (i % 2) 0 (fun z => And.intro (by decide) ?_) (fun z => And.intro (by decide) ?_) e3))))
      · rw [nI_1, show nI (i / 2 + 1) - nI (i / 2 + 1) / 3 * 3 = nI ((i / 2 + 1) % 3) from pk_rem (d := 3) (by omega) (by omega) (by omega)]
        exact g55 _ _ rfl (Or.inl rfl)
      · rw [show nI (i / 2) + 2 = nI (i / 2 + 2) from nI_add _ 2, show nI (i / 2 + 2) - nI (i / 2 + 2) / 3 * 3 = nI ((i / 2 + 2) % 3) from pk_rem (d := 3) (by omega) (by omega) (by omega)]
        exact g55 _ _ rfl (Or.inr rfl)
  refine pk_loop (σ := sf_A × sf_A) (fun n i t => wX_chooseOrder_2 post n (nI i) F.1 F.2.1 F.2.2.1 W.1 S.1 S.2.1 S.2.2.1 S.2.2.2.1 S.2.2.2.2.1 S.2.2.2.2.2.1 S.2.2.2.2.2.2.1 S.2.2.2.2.2.2.2.1 S.2.2.2.2.2.2.2.2 F.2.2.2.1 F.2.2.2.2.1 F.2.2.2.2.2.1 F.2.2.2.2.2.2.1 F.2.2.2.2.2.2.2.1 F.2.2.2.2.2.2.2.2.1 F.2.2.2.2.2.2.2.2.2 W.2.1 p W.2.2.1 W.2.2.2.1 (t.1) (t.2) W.2.2.2.2.2.2.1 W.2.2.2.2.2.2.2.1 W.2.2.2.2.2.2.2.2.1 W.2.2.2.2.2.2.2.2.2.1 W.2.2.2.2.2.2.2.2.2.2.1 W.2.2.2.2.2.2.2.2.2.2.2) (fun i t => ∀ a, a < i → sf_ar2 S F t.1 t.2 a (D a).1 (D a).2.1 (D a).2.2.1 (D a).2.2.2) A 0 (W.2.2.2.2.1, W.2.2.2.2.2.1) (by omega) (fun a ha => absurd ha (by omega)) ?_ ?_
  · intro n t ht
    exact pk_le A A (fun _ => second t.1 t.2 ht) (fun z => absurd z (by omega)) f3
  · intro n i t hi ht hw
    obtain ⟨⟨f, hM⟩, _⟩ := f9 i hi
    refine pk_le A i (fun z => absurd z (by omega)) (fun _ => ?_) f3
    refine sf_levels (S := S) (p := p) (F := F) (W := (W.1, W.2.1, W.2.2.1, W.2.2.2.1, (t.1), (t.2), W.2.2.2.2.2.2.1, W.2.2.2.2.2.2.2.1, W.2.2.2.2.2.2.2.2.1, W.2.2.2.2.2.2.2.2.2.1, W.2.2.2.2.2.2.2.2.2.2.1, W.2.2.2.2.2.2.2.2.2.2.2)) hM.1 (by omega) (nm_r (nI_1 i) (hw (_, _) (fun a ha => ?_)))
    dsimp only
    by_cases e : a = i
    · subst e
      exact ⟨f, hM, pk_us, pk_us⟩
    · obtain ⟨g, g1, g2, g3⟩ := ht a (by omega)
      exact ⟨g, g1, (pk_un e).trans g2, (pk_un e).trans g3⟩
end
section
/-! sets of numbers below 6, as masks -/
theorem sf_or1 : ∀ μ, μ < 64 → ∀ v, v < 6 → nI μ ||| ((1 : Int32) <<< (nI v &&& 31)) = nI (μ ||| 2 ^ v) := by decide +kernel
theorem sf_or2 : ∀ μ, μ < 64 → ∀ v, v < 6 → (μ ||| 2 ^ v) < 64 ∧ ∀ w, w < 6 → (μ ||| 2 ^ v).testBit w = (μ.testBit w || decide (w = v)) := by decide +kernel
theorem sf_span1 : ∀ μ, μ < 64 → ∀ s, s < 7 → nI μ &&& (((1 : Int32) <<< (nI s &&& 31)) - 1) = nI (μ &&& (2 ^ s - 1)) := by decide +kernel
theorem sf_span2 : ∀ μ, μ < 64 → ∀ s, s < 7 → (μ &&& (2 ^ s - 1)) < 64 ∧ ∀ w, w < 6 → (μ &&& (2 ^ s - 1)).testBit w = (μ.testBit w && decide (w < s)) := by decide +kernel
theorem sf_clr1 : ∀ μ, μ < 64 → ∀ v, v < 6 → μ.testBit v = true → nI μ &&& (((1 : Int32) <<< (nI v &&& 31)) ^^^ (-1)) = nI (μ - 2 ^ v) := by decide +kernel
theorem sf_clr2 : ∀ μ, μ < 64 → ∀ v, v < 6 → μ.testBit v = true → ∀ w, w < 6 → (μ - 2 ^ v).testBit w = (μ.testBit w && !decide (w = v)) := by decide +kernel
theorem sf_bit1 : ∀ μ, μ < 64 → ∀ v, v < 6 → ((nI μ >>> (nI v &&& 31)) &&& 1 = 1 ↔ μ.testBit v = true) := by decide +kernel
theorem sf_some : ∀ μ, μ < 64 → μ ≠ 0 → ∃ v, v < 6 ∧ μ.testBit v = true := by decide +kernel
theorem sf_63 : ∀ v, v < 6 → (63 : Nat).testBit v = true := by decide +kernel
theorem sf_andB : ∀ a, a < 64 → ∀ b, b < 64 → nI a &&& nI b = nI (a &&& b) ∧ (a &&& b) < 64 ∧ ∀ w, w < 6 → (a &&& b).testBit w = (a.testBit w && b.testBit w) := by decide +kernel
theorem sf_orB : ∀ a, a < 64 → ∀ b, b < 64 → nI a ||| nI b = nI (a ||| b) ∧ (a ||| b) < 64 ∧ ∀ w, w < 6 → (a ||| b).testBit w = (a.testBit w || b.testBit w) := by decide +kernel
def sf_pc (μ : Nat) : Nat := sf_T 6 (fun v => if μ.testBit v then 1 else 0)
theorem sf_pc6 (μ : Nat) : sf_pc μ ≤ 6 := sf_Tle (fun i _ => by split <;> omega)
theorem sf_pc0 : ∀ μ, μ < 64 → sf_pc μ = 0 → μ = 0 := by decide +kernel
theorem sf_pc1 : ∀ μ, μ < 64 → ∀ v, v < 6 → μ.testBit v = true → sf_pc (μ - 2 ^ v) + 1 = sf_pc μ := by decide +kernel
/-! the value of a formula -/
def sf_ix (σ : Nat → Nat) (x : Int32) : Nat := if x = -1 then 0 else σ x.toNatClampNeg
def sf_av (F : sf_Fm) (D : sf_Da) (σ : Nat → Nat) (a : Nat) : Int32 := (D a).2.2.2 (sf_ix σ (F.2.2.2.2.2.2.2.1 a)) (sf_ix σ (F.2.2.2.2.2.2.2.2.1 a))
def sf_ev (F : sf_Fm) (av : Nat → Int32) : Nat → Nat → Int32
  | 0, _ => 0
  | g + 1, k => if F.2.2.2.1 k = 0 then F.2.2.2.2.1 k else if F.2.2.2.1 k = 1 then av (F.2.2.2.2.1 k).toNatClampNeg else
      if F.2.2.2.1 k = 3 then sf_ev F av g (F.2.2.2.2.2.1 k).toNatClampNeg + sf_ev F av g (F.2.2.2.2.2.2.1 k).toNatClampNeg else
      if F.2.2.2.1 k = 4 then sf_ev F av g (F.2.2.2.2.2.1 k).toNatClampNeg - sf_ev F av g (F.2.2.2.2.2.2.1 k).toNatClampNeg else
      sf_ev F av g (F.2.2.2.2.2.1 k).toNatClampNeg * sf_ev F av g (F.2.2.2.2.2.2.1 k).toNatClampNeg
theorem sf_evE (F : sf_Fm) (av : Nat → Int32) (g k : Nat) : sf_ev F av (g + 1) k = if F.2.2.2.1 k = 0 then F.2.2.2.2.1 k else if F.2.2.2.1 k = 1 then av (F.2.2.2.2.1 k).toNatClampNeg else
      if F.2.2.2.1 k = 3 then sf_ev F av g (F.2.2.2.2.2.1 k).toNatClampNeg + sf_ev F av g (F.2.2.2.2.2.2.1 k).toNatClampNeg else
      if F.2.2.2.1 k = 4 then sf_ev F av g (F.2.2.2.2.2.1 k).toNatClampNeg - sf_ev F av g (F.2.2.2.2.2.2.1 k).toNatClampNeg else
      sf_ev F av g (F.2.2.2.2.2.1 k).toNatClampNeg * sf_ev F av g (F.2.2.2.2.2.2.1 k).toNatClampNeg := rfl
theorem sf_ix1 (σ : Nat → Nat) {x : Int32} (h : x = -1) : sf_ix σ x = 0 := by unfold sf_ix; rw [if_pos h]
theorem sf_ixn (σ : Nat → Nat) {x : Int32} {v : Nat} (hv : v < 3) (h : x = nI v) : sf_ix σ x = σ v := by
  unfold sf_ix
  rw [h, if_neg (sf_neg1 (by omega)), nI_clamp (by omega)]
theorem sf_evS {F : sf_Fm} {A P : Nat} (av : Nat → Int32) (hp : ∀ k, k < P → sf_part F A k) (hP : P ≤ 20) : ∀ g k, k < P → k < g → sf_ev F av (g + 1) k = sf_ev F av g k := by
  intro g
  induction g with
  | zero => intro k _ h; exact absurd h (by omega)
  | succ g ih =>
    intro k hk hg
    rcases hp k hk with ⟨c, _⟩ | ⟨c, _⟩ | ⟨c, ⟨x, x1, x2⟩, ⟨y, y1, y2⟩⟩
    · unfold sf_ev
      rw [if_pos c, if_pos c]
    · unfold sf_ev
      have c0 : ¬ F.2.2.2.1 k = 0 := by rw [c]; decide
      rw [if_neg c0, if_neg c0, if_pos c, if_pos c]
    · have ex : (F.2.2.2.2.2.1 k).toNatClampNeg = x := by rw [x2]; exact nI_clamp (by omega)
      have ey : (F.2.2.2.2.2.2.1 k).toNatClampNeg = y := by rw [y2]; exact nI_clamp (by omega)
      rw [sf_evE F av (g + 1) k, sf_evE F av g k, ex, ey, ih x (by omega) (by omega), ih y (by omega) (by omega)]
theorem sf_ev0 {F : sf_Fm} {av : Nat → Int32} {k : Nat} (h : F.2.2.2.1 k = 0) : sf_ev F av 20 k = F.2.2.2.2.1 k := by
  rw [sf_ev, if_pos h]
theorem sf_ev1 {F : sf_Fm} {av : Nat → Int32} {k a : Nat} (h : F.2.2.2.1 k = 1) (ha : F.2.2.2.2.1 k = nI a) (h6 : a < 6) : sf_ev F av 20 k = av a := by
  rw [sf_ev, if_neg (by rw [h]; decide), if_pos h, ha, nI_clamp (by omega)]
theorem sf_ev3 {F : sf_Fm} {av : Nat → Int32} {A P k x y : Nat} (hp : ∀ k, k < P → sf_part F A k) (hP : P ≤ 20) (hk : k < P) (hx : x < k) (hy : y < k) (ex : F.2.2.2.2.2.1 k = nI x) (ey : F.2.2.2.2.2.2.1 k = nI y) :
    (F.2.2.2.1 k = 3 → sf_ev F av 20 k = sf_ev F av 20 x + sf_ev F av 20 y) ∧ (F.2.2.2.1 k = 4 → sf_ev F av 20 k = sf_ev F av 20 x - sf_ev F av 20 y) ∧ (F.2.2.2.1 k = 5 → sf_ev F av 20 k = sf_ev F av 20 x * sf_ev F av 20 y) := by
  have e1 : (F.2.2.2.2.2.1 k).toNatClampNeg = x := by rw [ex]; exact nI_clamp (by omega)
  have e2 : (F.2.2.2.2.2.2.1 k).toNatClampNeg = y := by rw [ey]; exact nI_clamp (by omega)
  rw [sf_evS av hp hP 19 x (by omega) (by omega), sf_evS av hp hP 19 y (by omega) (by omega)]
  refine ⟨fun h => ?_, fun h => ?_, fun h => ?_⟩
  · rw [sf_ev, if_neg (by rw [h]; decide), if_neg (by rw [h]; decide), if_pos h, e1, e2]
  · rw [sf_ev, if_neg (by rw [h]; decide), if_neg (by rw [h]; decide), if_neg (by rw [h]; decide), if_pos h, e1, e2]
  · rw [sf_ev, if_neg (by rw [h]; decide), if_neg (by rw [h]; decide), if_neg (by rw [h]; decide), if_neg (by rw [h]; decide), e1, e2]
/-! where the arrays are -/
def sf_LD (dn : List Nat) (x : Int32) : Prop := x = -1 ∨ ∃ v, v ∈ dn ∧ v < 3 ∧ x = nI v
def sf_ok (S : sf_Sl) (t k v : Nat) : Prop := ∃ c, k < c ∧ c ≤ 6 ∧ S.2.2.2.2.1 t = nI c ∧ S.2.2.2.2.2.1 (6 * t + k) = nI v
def sf_pt (S : sf_Sl) (lx px al ap : sf_A) (a rk f : Nat) (M : Nat → sf_A) (σ : Nat → Nat) (dn : List Nat) : Prop :=
  (al a = -1 ∨ ∃ k v, al a = nI k ∧ v < 6 ∧ sf_ok S (6 + a) k v) ∧
  (sf_LD dn (lx a) → (al a = -1 ∧ ∀ j, sf_N rk f M (sf_ix σ (lx a)) j = 0) ∨ ∃ k, al a = nI k ∧ sf_ok S (6 + a) k (sf_ix σ (lx a))) ∧
  (sf_LD dn (lx a) → sf_LD dn (px a) → (ap a = -1 ∧ sf_N rk f M (sf_ix σ (lx a)) (sf_ix σ (px a)) = 0) ∨ ∃ e, e < 36 ∧ ap a = nI e ∧ S.2.2.2.2.2.2.2.2 (36 * (6 + a) + e) = sf_N rk f M (sf_ix σ (lx a)) (sf_ix σ (px a)))
theorem sf_ixC {σ σ' : Nat → Nat} {dn : List Nat} {x : Int32} (h : sf_LD dn x) (e : ∀ v, v ∈ dn → σ' v = σ v) : sf_ix σ' x = sf_ix σ x := by
  rcases h with h | ⟨v, v1, v2, v3⟩
  · rw [sf_ix1 σ h, sf_ix1 σ' h]
  · rw [sf_ixn σ v2 v3, sf_ixn σ' v2 v3, e v v1]
theorem sf_LDm {dn dn' : List Nat} {x : Int32} (h : sf_LD dn x) (e : ∀ v, v ∈ dn → v ∈ dn') : sf_LD dn' x := by
  rcases h with h | ⟨v, v1, v2, v3⟩
  · exact Or.inl h
  · exact Or.inr ⟨v, e v v1, v2, v3⟩
theorem sf_ptW {S : sf_Sl} {lx px al ap : sf_A} {a rk f : Nat} {M : Nat → sf_A} {σ σ' : Nat → Nat} {dn dn' : List Nat} (h : sf_pt S lx px al ap a rk f M σ' dn') (e : ∀ v, v ∈ dn → v ∈ dn') (es : ∀ v, v ∈ dn → σ' v = σ v) :
    sf_pt S lx px al ap a rk f M σ dn := by
  obtain ⟨h1, h2, h3⟩ := h
  refine ⟨h1, fun d => ?_, fun d1 d2 => ?_⟩
  · have := h2 (sf_LDm d e)
    rw [sf_ixC d es] at this
    exact this
  · have := h3 (sf_LDm d1 e) (sf_LDm d2 e)
    rw [sf_ixC d1 es, sf_ixC d2 es] at this
    exact this
/-- what is known of an array: its slot, its indices -/
def sf_wa (S : sf_Sl) (F : sf_Fm) (lx px : sf_A) (a rk f : Nat) (M : Nat → sf_A) : Prop :=
  (∃ n m, sf_slot S (6 + a) rk n m f M) ∧ ((rk < 2 ∧ lx a = -1 ∧ (px a = -1 ∨ ∃ y, y < 3 ∧ px a = nI y)) ∨ (rk = 2 ∧ ∃ x y, x < 3 ∧ y < 3 ∧ x ≠ y ∧ lx a = nI x ∧ px a = nI y)) ∧
  (∀ σ, sf_N rk f M (sf_ix σ (lx a)) (sf_ix σ (px a)) = M (sf_ix σ (F.2.2.2.2.2.2.2.1 a)) (sf_ix σ (F.2.2.2.2.2.2.2.2.1 a))) ∧
  (∀ dn, sf_LD dn (F.2.2.2.2.2.2.2.1 a) → sf_LD dn (F.2.2.2.2.2.2.2.2.1 a) → sf_LD dn (lx a) ∧ sf_LD dn (px a))
theorem sf_waI {S : sf_Sl} {F : sf_Fm} {lx px : sf_A} {a rk n m : Nat} {M : Nat → sf_A} (h : sf_ar2 S F lx px a rk n m M) (h' : sf_arr S F a rk n m M) : ∃ f, sf_wa S F lx px a rk f M := by
  obtain ⟨f, h1, h2, h3⟩ := h
  obtain ⟨_, q⟩ := h'
  refine ⟨f, ⟨n, m, h1⟩, ?_, ?_, ?_⟩
  · rw [h2, h3]
    unfold sf_X sf_Y
    rcases q with ⟨q1, q2, q3⟩ | ⟨q1, q2, q3⟩ | ⟨q1, x, y, x3, y3, xy, q2, q3⟩
    · rw [if_pos (show rk < 2 by omega), if_pos (show rk < 2 by omega)]
      exact Or.inl ⟨by omega, rfl, Or.inl q2⟩
    · rw [if_pos (show rk < 2 by omega), if_pos (show rk < 2 by omega)]
      exact Or.inl ⟨by omega, rfl, Or.inr q2⟩
    · rw [if_neg (show ¬ rk < 2 by omega), if_neg (show ¬ rk < 2 by omega)]
      by_cases b : 4 ≤ f
      · rw [if_pos b, if_pos b]
        exact Or.inr ⟨q1, y, x, y3, x3, fun t => xy t.symm, q3, q2⟩
      · rw [if_neg b, if_neg b]
        exact Or.inr ⟨q1, x, y, x3, y3, xy, q2, q3⟩
  · intro σ
    rw [h2, h3]
    unfold sf_X sf_Y
    rcases q with ⟨q1, q2, q3⟩ | ⟨q1, q2, q3⟩ | ⟨q1, x, y, x3, y3, xy, q2, q3⟩
    · rw [if_pos (show rk < 2 by omega), if_pos (show rk < 2 by omega), sf_ix1 σ rfl, sf_N2 (by omega), sf_ix1 σ q3]
    · rw [if_pos (show rk < 2 by omega), if_pos (show rk < 2 by omega), sf_ix1 σ rfl, sf_N2 (by omega), sf_ix1 σ q3]
    · rw [if_neg (show ¬ rk < 2 by omega), if_neg (show ¬ rk < 2 by omega)]
      by_cases b : 4 ≤ f
      · rw [if_pos b, if_pos b, sf_Nt (by omega) b]
      · rw [if_neg b, if_neg b, sf_Nn (by omega) b]
  · intro dn a1 a2
    rw [h2, h3]
    unfold sf_X sf_Y
    by_cases c : rk < 2
    · rw [if_pos c, if_pos c]
      exact ⟨Or.inl rfl, a1⟩
    · rw [if_neg c, if_neg c]
      by_cases b : 4 ≤ f
      · rw [if_pos b, if_pos b]; exact ⟨a2, a1⟩
      · rw [if_neg b, if_neg b]; exact ⟨a1, a2⟩
/-- a vector has its line -/
theorem sf_line0 {S : sf_Sl} {t rk n m f : Nat} {M : Nat → sf_A} (h : sf_slot S t rk n m f M) (hr : rk < 2) : sf_ok S t 0 0 := by
  obtain ⟨⟨hs, h1, h2, h3, h4, hd⟩, hz, c, e, hc, he, hb⟩ := h
  obtain ⟨b1, b2, b3, b4, b5, ln, bg, g0, gc, g1, g2, g3⟩ := hb
  rw [sf_L2 hr] at b1 g3
  have hsl : sf_sl rk f = false := by
    unfold sf_sl
    exact decide_eq_false (fun t => absurd t.1 (by omega))
  obtain ⟨k, k1, k2⟩ := g3 0 (by omega) (Or.inl hsl)
  obtain rfl : k = 0 := by omega
  refine ⟨c, k1, by omega, hc, ?_⟩
  rw [(g1 0 k1).1, k2]
/-- a line that is there has a number below 6 -/
theorem sf_okv {S : sf_Sl} {t rk n m f k c v : Nat} {M : Nat → sf_A} (h : sf_slot S t rk n m f M) (hc : S.2.2.2.2.1 t = nI c) (hk : k < c) (hc6 : c ≤ 6) (hv : v < 2 ^ 31) (hl : S.2.2.2.2.2.1 (6 * t + k) = nI v) : v < 6 := by
  obtain ⟨⟨hs, h1, h2, h3, h4, hd⟩, hz, c', e, hc', he, hb⟩ := h
  obtain ⟨l1, l2, l3, l4, l5⟩ := sf_LK hd
  obtain ⟨b1, b2, b3, b4, b5, ln, bg, g0, gc, g1, g2, g3⟩ := hb
  obtain rfl : c = c' := sf_inj (by omega) (by omega) (hc.symm.trans hc')
  have g := g1 k hk
  have := sf_inj (by omega) hv (g.1.symm.trans hl)
  omega
end
section
/-- all arrays at their first positions -/
theorem sf_start {post : St1 → Prop} {S : sf_Sl} {p : sf_A} {F : sf_Fm} {W : sf_Wk} {A : Nat} {f : Nat → Nat} {D : sf_Da} {σ : Nat → Nat} (hA : F.2.1 = nI A) (h6 : A ≤ 6)
    (hw : ∀ a, a < A → sf_wa S F W.2.2.2.2.1 W.2.2.2.2.2.1 a (D a).1 (f a) (D a).2.2.2)
    (H : ∀ al ap, (∀ a, a < A → sf_pt S W.2.2.2.2.1 W.2.2.2.2.2.1 al ap a (D a).1 (f a) (D a).2.2.2 σ []) → post (sf_mk S p F (W.1, W.2.1, W.2.2.1, W.2.2.2.1, W.2.2.2.2.1, W.2.2.2.2.2.1, (al), (ap), W.2.2.2.2.2.2.2.2.1, W.2.2.2.2.2.2.2.2.2.1, W.2.2.2.2.2.2.2.2.2.2.1, W.2.2.2.2.2.2.2.2.2.2.2))) : wpX_startArrays post (sf_mk S p F W) := by
  refine pk_loop (σ := sf_A × sf_A) (fun n i t => wX_startArrays_2 post F.1 F.2.1 F.2.2.1 W.1 n (nI i) S.1 S.2.1 S.2.2.1 S.2.2.2.1 S.2.2.2.2.1 S.2.2.2.2.2.1 S.2.2.2.2.2.2.1 S.2.2.2.2.2.2.2.1 S.2.2.2.2.2.2.2.2 F.2.2.2.1 F.2.2.2.2.1 F.2.2.2.2.2.1 F.2.2.2.2.2.2.1 F.2.2.2.2.2.2.2.1 F.2.2.2.2.2.2.2.2.1 F.2.2.2.2.2.2.2.2.2 W.2.1 p W.2.2.1 W.2.2.2.1 W.2.2.2.2.1 W.2.2.2.2.2.1 (t.1) (t.2) W.2.2.2.2.2.2.2.2.1 W.2.2.2.2.2.2.2.2.2.1 W.2.2.2.2.2.2.2.2.2.2.1 W.2.2.2.2.2.2.2.2.2.2.2) (fun i t => ∀ a, a < i → sf_pt S W.2.2.2.2.1 W.2.2.2.2.2.1 t.1 t.2 a (D a).1 (f a) (D a).2.2.2 σ []) A 0 (W.2.2.2.2.2.2.1, W.2.2.2.2.2.2.2.1) (by omega) (fun a ha => absurd ha (by omega)) ?_ ?_
  · intro n t ht
    exact pk_le A A (fun _ => H t.1 t.2 ht) (fun z => absurd z (by omega)) hA
  · intro n i t hi ht hn
    obtain ⟨al, ap⟩ := t
    dsimp only at ht
    have ei : (nI i).toNatClampNeg = i := nI_clamp (by omega)
    have i6 := pk_in (x := nI i) i 6 (by omega)
    obtain ⟨⟨n0, m0, hM⟩, q, _, _⟩ := hw i hi
    have next : ∀ x y : Int32, sf_pt S W.2.2.2.2.1 W.2.2.2.2.2.1 (upd al i x) (upd ap i y) i (D i).1 (f i) (D i).2.2.2 σ [] → wX_startArrays_2 post F.1 F.2.1 F.2.2.1 W.1 n (nI (i + 1)) S.1 S.2.1 S.2.2.1 S.2.2.2.1 S.2.2.2.2.1 S.2.2.2.2.2.1 S.2.2.2.2.2.2.1 S.2.2.2.2.2.2.2.1 S.2.2.2.2.2.2.2.2 F.2.2.2.1 F.2.2.2.2.1 F.2.2.2.2.2.1 F.2.2.2.2.2.2.1 F.2.2.2.2.2.2.2.1 F.2.2.2.2.2.2.2.2.1 F.2.2.2.2.2.2.2.2.2 W.2.1 p W.2.2.1 W.2.2.2.1 W.2.2.2.2.1 W.2.2.2.2.2.1 (upd al i x) (upd ap i y) W.2.2.2.2.2.2.2.2.1 W.2.2.2.2.2.2.2.2.2.1 W.2.2.2.2.2.2.2.2.2.2.1 W.2.2.2.2.2.2.2.2.2.2.2 := by
      intro x y hxy
      refine hn (upd al i x, upd ap i y) (fun a ha => ?_)
      dsimp only
      by_cases e : a = i
      · subst e; exact hxy
      · have := ht a (by omega)
        unfold sf_pt at this ⊢
        rw [pk_un e, pk_un e]
        exact this
    refine pk_le A i (fun z => absurd z (by omega)) (fun _ => And.intro i6 (br_c (fun z => ?_) (fun z => ?_))) hA
    · rw [ei] at z
      rcases q with ⟨q1, q2, q3⟩ | ⟨q1, x, y, x3, y3, xy, q2, q3⟩
      rotate_left
      · exact absurd (q2.symm.trans z) (sf_neg1 (by omega))
      have ok := sf_line0 hM q1
      refine br_f sf_ne0 (And.intro i6 (nm_r (e' := upd al i 0) (by rw [ei]) (br_f sf_ne0 (And.intro i6 (br_c (fun y => ?_) (fun y => ?_))))))
      · rw [ei] at y
        obtain ⟨c, c1, c2, c3, c4⟩ := id ok
        refine br_f sf_ne0 ?_
        rw [sf_6p]
        refine sf_findP (S := S) (p := p) (F := F) (W := (W.1, W.2.1, W.2.2.1, W.2.2.2.1, W.2.2.2.2.1, W.2.2.2.2.2.1, (upd al i 0), (ap), W.2.2.2.2.2.2.2.2.1, W.2.2.2.2.2.2.2.2.2.1, W.2.2.2.2.2.2.2.2.2.2.1, W.2.2.2.2.2.2.2.2.2.2.2)) (k := 0) (v := 0) (w := 0) hM c3 c1 c2 c4 (by omega) (by omega) (fun hz => And.intro i6 (nm_r (e' := upd ap i (-1)) (by rw [ei]) (nm_r (nI_1 i) (next 0 (-1) ⟨?_, ?_, ?_⟩)))) (fun e b0 b1 a1 a2 a3 a4 a5 a6 a7 a8 a9 => And.intro i6 (nm_r (e' := upd ap i (nI e)) (by rw [ei]) (nm_r (nI_1 i) (next 0 (nI e) ⟨?_, ?_, ?_⟩))))
        · exact Or.inr ⟨0, 0, pk_us, by omega, ok⟩
        · intro _
          rw [sf_ix1 σ z]
          exact Or.inr ⟨0, pk_us, ok⟩
        · intro _ _
          rw [sf_ix1 σ z, sf_ix1 σ y]
          exact Or.inl ⟨pk_us, hz⟩
        · exact Or.inr ⟨0, 0, pk_us, by omega, ok⟩
        · intro _
          rw [sf_ix1 σ z]
          exact Or.inr ⟨0, pk_us, ok⟩
        · intro _ _
          rw [sf_ix1 σ z, sf_ix1 σ y]
          exact Or.inr ⟨e, by omega, pk_us, a9⟩
      · rw [ei] at y
        refine br_t rfl (And.intro i6 (nm_r (e' := upd ap i (-1)) (by rw [ei]) (nm_r (nI_1 i) (next 0 (-1) ⟨?_, ?_, ?_⟩))))
        · exact Or.inr ⟨0, 0, pk_us, by omega, ok⟩
        · intro _
          rw [sf_ix1 σ z]
          exact Or.inr ⟨0, pk_us, ok⟩
        · intro _ t
          rcases t with t | ⟨v, v1, _⟩
          · exact absurd t y
          · exact absurd v1 (by simp)
    · rw [ei] at z
      refine br_t rfl (And.intro i6 (nm_r (e' := upd al i (-1)) (by rw [ei]) (br_t rfl (br_t rfl (And.intro i6 (nm_r (e' := upd ap i (-1)) (by rw [ei]) (nm_r (nI_1 i) (next (-1) (-1) ⟨Or.inl pk_us, ?_, ?_⟩))))))))
      · intro t
        rcases t with t | ⟨v, v1, _⟩
        · exact absurd t z
        · exact absurd v1 (by simp)
      · intro t
        rcases t with t | ⟨v, v1, _⟩
        · exact absurd t z
        · exact absurd v1 (by simp)
def sf_su (σ : Nat → Nat) (x v : Nat) : Nat → Nat := fun y => if y = x then v else σ y
theorem sf_su1 (σ : Nat → Nat) (x v : Nat) : sf_su σ x v x = v := by unfold sf_su; rw [if_pos rfl]
theorem sf_su2 (σ : Nat → Nat) {x v y : Nat} (h : y ≠ x) : sf_su σ x v y = σ y := by unfold sf_su; rw [if_neg h]
theorem sf_ixU {σ : Nat → Nat} {x v : Nat} {y : Int32} (hx : x < 3) (h : ¬ y = nI x) (hy : y = -1 ∨ ∃ i, i < 3 ∧ y = nI i) : sf_ix (sf_su σ x v) y = sf_ix σ y := by
  rcases hy with hy | ⟨i, i1, i2⟩
  · rw [sf_ix1 _ hy, sf_ix1 _ hy]
  · rw [sf_ixn _ i1 i2, sf_ixn _ i1 i2, sf_su2]
    intro e
    exact h (by rw [i2, e])
theorem sf_LDU {dn : List Nat} {x : Nat} {y : Int32} (h : ¬ y = nI x) (hy : sf_LD (dn ++ [x]) y) : sf_LD dn y := by
  rcases hy with hy | ⟨v, v1, v2, v3⟩
  · exact Or.inl hy
  · rcases List.mem_append.mp v1 with a | a
    · exact Or.inr ⟨v, a, v2, v3⟩
    · rw [List.mem_singleton] at a
      exact absurd (by rw [v3, a]) h
/-- an index takes a number -/
theorem sf_move {post : St1 → Prop} {S : sf_Sl} {p : sf_A} {F : sf_Fm} {W : sf_Wk} {A x v : Nat} {f : Nat → Nat} {D : sf_Da} {σ : Nat → Nat} {dn : List Nat} (hA : F.2.1 = nI A) (h6 : A ≤ 6) (hx : x < 3) (hv : v < 6) (hσ : ∀ y, σ y < 6)
    (hw : ∀ a, a < A → sf_wa S F W.2.2.2.2.1 W.2.2.2.2.2.1 a (D a).1 (f a) (D a).2.2.2)
    (hp : ∀ a, a < A → sf_pt S W.2.2.2.2.1 W.2.2.2.2.2.1 W.2.2.2.2.2.2.1 W.2.2.2.2.2.2.2.1 a (D a).1 (f a) (D a).2.2.2 σ dn)
    (ho : ∀ a, a < A → W.2.2.2.2.1 a = nI x → ¬ sf_LD dn (W.2.2.2.2.2.1 a))
    (H : ∀ al ap, (∀ a, a < A → sf_pt S W.2.2.2.2.1 W.2.2.2.2.2.1 al ap a (D a).1 (f a) (D a).2.2.2 (sf_su σ x v) (dn ++ [x])) → post (sf_mk S p F (W.1, W.2.1, W.2.2.1, W.2.2.2.1, W.2.2.2.2.1, W.2.2.2.2.2.1, (al), (ap), W.2.2.2.2.2.2.2.2.1, W.2.2.2.2.2.2.2.2.2.1, (upd W.2.2.2.2.2.2.2.2.2.2.1 x (nI v)), W.2.2.2.2.2.2.2.2.2.2.2))) : wpX_moveTo post (sf_mk S p F W) (nI x) (nI v) := by
  have ex : (nI x).toNatClampNeg = x := nI_clamp (by omega)
  refine And.intro (pk_in x 3 hx) (nm_r (e' := upd W.2.2.2.2.2.2.2.2.2.2.1 x (nI v)) (by rw [ex]) ?_)
  refine pk_loop (σ := sf_A × sf_A) (fun n i t => wX_moveTo_9 post (nI x) (nI v) F.1 F.2.1 F.2.2.1 W.1 n (nI i) S.1 S.2.1 S.2.2.1 S.2.2.2.1 S.2.2.2.2.1 S.2.2.2.2.2.1 S.2.2.2.2.2.2.1 S.2.2.2.2.2.2.2.1 S.2.2.2.2.2.2.2.2 F.2.2.2.1 F.2.2.2.2.1 F.2.2.2.2.2.1 F.2.2.2.2.2.2.1 F.2.2.2.2.2.2.2.1 F.2.2.2.2.2.2.2.2.1 F.2.2.2.2.2.2.2.2.2 W.2.1 p W.2.2.1 W.2.2.2.1 W.2.2.2.2.1 W.2.2.2.2.2.1 (t.1) (t.2) W.2.2.2.2.2.2.2.2.1 W.2.2.2.2.2.2.2.2.2.1 (upd W.2.2.2.2.2.2.2.2.2.2.1 x (nI v)) W.2.2.2.2.2.2.2.2.2.2.2)
    (fun i t => (∀ a, a < i → sf_pt S W.2.2.2.2.1 W.2.2.2.2.2.1 t.1 t.2 a (D a).1 (f a) (D a).2.2.2 (sf_su σ x v) (dn ++ [x])) ∧ (∀ a, i ≤ a → t.1 a = W.2.2.2.2.2.2.1 a ∧ t.2 a = W.2.2.2.2.2.2.2.1 a)) A 0 (W.2.2.2.2.2.2.1, W.2.2.2.2.2.2.2.1) (by omega) ⟨fun a ha => absurd ha (by omega), fun a _ => ⟨rfl, rfl⟩⟩ ?_ ?_
  · intro n t ht
    exact pk_le A A (fun _ => H t.1 t.2 ht.1) (fun z => absurd z (by omega)) hA
  · intro n i t hi ht hn
    obtain ⟨al, ap⟩ := t
    obtain ⟨t1, t2⟩ := ht
    dsimp only at t1 t2
    have ei : (nI i).toNatClampNeg = i := nI_clamp (by omega)
    have i6 := pk_in (x := nI i) i 6 (by omega)
    obtain ⟨⟨n0, m0, hM⟩, q, _, _⟩ := hw i hi
    obtain ⟨p1, p2, p3⟩ := hp i hi
    obtain ⟨eal, eap⟩ := t2 i (Nat.le_refl _)
    have hlx : W.2.2.2.2.1 i = -1 ∨ ∃ j, j < 3 ∧ W.2.2.2.2.1 i = nI j := by
      rcases q with ⟨q1, q2, q3⟩ | ⟨q1, x, y, x3, y3, xy, q2, q3⟩
      · exact Or.inl q2
      · exact Or.inr ⟨x, x3, q2⟩
    have hpx : W.2.2.2.2.2.1 i = -1 ∨ ∃ j, j < 3 ∧ W.2.2.2.2.2.1 i = nI j := by
      rcases q with ⟨q1, q2, q3⟩ | ⟨q1, x, y, x3, y3, xy, q2, q3⟩
      · exact q3
      · exact Or.inr ⟨y, y3, q3⟩
    have next : ∀ al' ap' : sf_A, (∀ a, a ≠ i → al' a = al a ∧ ap' a = ap a) → sf_pt S W.2.2.2.2.1 W.2.2.2.2.2.1 al' ap' i (D i).1 (f i) (D i).2.2.2 (sf_su σ x v) (dn ++ [x]) → wX_moveTo_9 post (nI x) (nI v) F.1 F.2.1 F.2.2.1 W.1 n (nI (i + 1)) S.1 S.2.1 S.2.2.1 S.2.2.2.1 S.2.2.2.2.1 S.2.2.2.2.2.1 S.2.2.2.2.2.2.1 S.2.2.2.2.2.2.2.1 S.2.2.2.2.2.2.2.2 F.2.2.2.1 F.2.2.2.2.1 F.2.2.2.2.2.1 F.2.2.2.2.2.2.1 F.2.2.2.2.2.2.2.1 F.2.2.2.2.2.2.2.2.1 F.2.2.2.2.2.2.2.2.2 W.2.1 p W.2.2.1 W.2.2.2.1 W.2.2.2.2.1 W.2.2.2.2.2.1 (al') (ap') W.2.2.2.2.2.2.2.2.1 W.2.2.2.2.2.2.2.2.2.1 (upd W.2.2.2.2.2.2.2.2.2.2.1 x (nI v)) W.2.2.2.2.2.2.2.2.2.2.2 := by
      intro al' ap' hne hxy
      refine hn (al', ap') ⟨fun a ha => ?_, fun a ha => ?_⟩
      · dsimp only
        by_cases e : a = i
        · subst e; exact hxy
        · have := t1 a (by omega)
          obtain ⟨n1, n2⟩ := hne a e
          unfold sf_pt at this ⊢
          rw [n1, n2]
          exact this
      · dsimp only
        obtain ⟨n1, n2⟩ := hne a (by omega)
        rw [n1, n2]
        exact t2 a (by omega)
    show wX_moveTo_9 post (nI x) (nI v) F.1 F.2.1 F.2.2.1 W.1 (n + 1) (nI i) S.1 S.2.1 S.2.2.1 S.2.2.2.1 S.2.2.2.2.1 S.2.2.2.2.2.1 S.2.2.2.2.2.2.1 S.2.2.2.2.2.2.2.1 S.2.2.2.2.2.2.2.2 F.2.2.2.1 F.2.2.2.2.1 F.2.2.2.2.2.1 F.2.2.2.2.2.2.1 F.2.2.2.2.2.2.2.1 F.2.2.2.2.2.2.2.2.1 F.2.2.2.2.2.2.2.2.2 W.2.1 p W.2.2.1 W.2.2.2.1 W.2.2.2.2.1 W.2.2.2.2.2.1 (al) (ap) W.2.2.2.2.2.2.2.2.1 W.2.2.2.2.2.2.2.2.2.1 (upd W.2.2.2.2.2.2.2.2.2.2.1 x (nI v)) W.2.2.2.2.2.2.2.2.2.2.2
    refine pk_le A i (fun z => absurd z (by omega)) (fun _ => nm_r (sf_6p i) (And.intro i6 (br_c (fun z => ?_) (fun z => ?_)))) hA
    · rw [ei] at z
      have rk2 : (D i).1 = 2 ∧ ¬ W.2.2.2.2.2.1 i = nI x ∧ ¬ W.2.2.2.2.2.1 i = -1 := by
        rcases q with ⟨q1, q2, q3⟩ | ⟨q1, x', y', x3, y3, xy, q2, q3⟩
        · exact absurd (z.symm.trans q2) (sf_neg1 (by omega))
        · obtain rfl : x = x' := sf_inj (by omega) (by omega) (z.symm.trans q2)
          refine ⟨q1, ?_, ?_⟩
          · intro t
            exact xy (sf_inj (by omega) (by omega) (t.symm.trans q3))
          · rw [q3]; exact sf_neg1 (by omega)
      have vac : ¬ sf_LD (dn ++ [x]) (W.2.2.2.2.2.1 i) := fun t => ho i hi z (sf_LDU rk2.2.1 t)
      have exx : sf_ix (sf_su σ x v) (W.2.2.2.2.1 i) = v := by rw [sf_ixn _ hx z, sf_su1]
      refine sf_findL (S := S) (p := p) (F := F) (W := (W.1, W.2.1, W.2.2.1, W.2.2.2.1, W.2.2.2.2.1, W.2.2.2.2.2.1, (al), (ap), W.2.2.2.2.2.2.2.2.1, W.2.2.2.2.2.2.2.2.2.1, (upd W.2.2.2.2.2.2.2.2.2.2.1 x (nI v)), W.2.2.2.2.2.2.2.2.2.2.2)) hM (by omega) (fun hz => And.intro i6 (nm_r (e' := upd al i (-1)) (by rw [ei]) (And.intro i6 (br_f (by rw [ei]; exact rk2.2.1) (nm_r (nI_1 i) (next _ _ (fun a ha => ⟨pk_un ha, rfl⟩) ⟨Or.inl pk_us, fun _ => Or.inl ⟨pk_us, ?_⟩, fun _ t => absurd t vac⟩))))))
        (fun k c a1 a2 a3 a4 => And.intro i6 (nm_r (e' := upd al i (nI k)) (by rw [ei]) (And.intro i6 (br_f (by rw [ei]; exact rk2.2.1) (nm_r (nI_1 i) (next _ _ (fun a ha => ⟨pk_un ha, rfl⟩) ⟨Or.inr ⟨k, v, pk_us, hv, c, a2, a3, a1, a4⟩, fun _ => Or.inr ⟨k, pk_us, c, a2, a3, a1, ?_⟩, fun _ t => absurd t vac⟩))))))
      · rw [exx]; exact hz
      · rw [exx]; exact a4
    · rw [ei] at z
      have elx : sf_ix (sf_su σ x v) (W.2.2.2.2.1 i) = sf_ix σ (W.2.2.2.2.1 i) := sf_ixU hx z hlx
      have hld : sf_LD (dn ++ [x]) (W.2.2.2.2.1 i) → sf_LD dn (W.2.2.2.2.1 i) := fun t => sf_LDU z t
      refine And.intro i6 (br_c (fun y => And.intro i6 ?_) (fun y => nm_r (nI_1 i) (next _ _ (fun a ha => ⟨rfl, rfl⟩) ⟨?_, ?_, ?_⟩)))
      · rw [ei] at y
        have epx : sf_ix (sf_su σ x v) (W.2.2.2.2.2.1 i) = v := by rw [sf_ixn _ hx y, sf_su1]
        refine br_c (fun w => And.intro i6 (nm_r (e' := upd ap i (-1)) (by rw [ei]) (nm_r (nI_1 i) (next _ _ (fun a ha => ⟨rfl, pk_un ha⟩) ⟨?_, ?_, ?_⟩)))) (fun w => And.intro i6 ?_)
        · rw [eal]; exact p1
        · intro t
          rw [elx, eal]; exact p2 (hld t)
        · intro t _
          rw [elx, epx]
          rw [ei, eal] at w
          rcases p2 (hld t) with ⟨r1, r2⟩ | ⟨k, r1, r2⟩
          · exact Or.inl ⟨pk_us, r2 v⟩
          · obtain ⟨c, c1, c2, _⟩ := r2
            exact absurd (r1.symm.trans w) (sf_neg1 (by omega))
        · rw [ei] at w ⊢
          rw [eal] at w
          rcases p1 with p1 | ⟨k, v0, k1, k2, ok⟩
          · exact absurd p1 w
          obtain ⟨c, c1, c2, c3, c4⟩ := id ok
          have ev : sf_LD dn (W.2.2.2.2.1 i) → v0 = sf_ix σ (W.2.2.2.2.1 i) := by
            intro t
            rcases p2 t with ⟨r1, _⟩ | ⟨k', r1, c', c1', c2', c3', c4'⟩
            · exact absurd r1 w
            · obtain rfl : k = k' := sf_inj (by omega) (by omega) (k1.symm.trans r1)
              have hb : sf_ix σ (W.2.2.2.2.1 i) < 6 := by
                unfold sf_ix
                split
                · omega
                · exact hσ _
              exact sf_inj (by omega) (by omega) (c4.symm.trans c4')
          rw [eal, k1]
          refine sf_findP (S := S) (p := p) (F := F) (W := (W.1, W.2.1, W.2.2.1, W.2.2.2.1, W.2.2.2.2.1, W.2.2.2.2.2.1, (al), (ap), W.2.2.2.2.2.2.2.2.1, W.2.2.2.2.2.2.2.2.2.1, (upd W.2.2.2.2.2.2.2.2.2.2.1 x (nI v)), W.2.2.2.2.2.2.2.2.2.2.2)) hM c3 c1 c2 c4 (by omega) (by omega) (fun hz => And.intro i6 (nm_r (e' := upd ap i (-1)) (by rfl) (nm_r (nI_1 i) (next _ _ (fun a ha => ⟨rfl, pk_un ha⟩) ⟨?_, ?_, ?_⟩)))) (fun e b0 b1 a1 a2 a3 a4 a5 a6 a7 a8 a9 => And.intro i6 (nm_r (e' := upd ap i (nI e)) (by rfl) (nm_r (nI_1 i) (next _ _ (fun a ha => ⟨rfl, pk_un ha⟩) ⟨?_, ?_, ?_⟩))))
          · rw [eal]; exact Or.inr ⟨k, v0, k1, k2, ok⟩
          · intro t
            rw [elx, eal]; exact p2 (hld t)
          · intro t _
            rw [elx, epx]
            rw [← ev (hld t)]
            exact Or.inl ⟨pk_us, hz⟩
          · rw [eal]; exact Or.inr ⟨k, v0, k1, k2, ok⟩
          · intro t
            rw [elx, eal]; exact p2 (hld t)
          · intro t _
            rw [elx, epx]
            rw [← ev (hld t)]
            exact Or.inr ⟨e, by omega, pk_us, a9⟩
      · rw [eal]; exact p1
      · intro t
        rw [elx, eal]; exact p2 (hld t)
      · intro t u
        rw [ei] at y
        have epx : sf_ix (sf_su σ x v) (W.2.2.2.2.2.1 i) = sf_ix σ (W.2.2.2.2.2.1 i) := sf_ixU hx y hpx
        rw [elx, epx, eap]
        exact p3 (hld t) (sf_LDU y u)
end
section
theorem sf_heldL {post : Int32 → Prop} {S : sf_Sl} {p : sf_A} {F : sf_Fm} {W : sf_Wk} {t rk n m f : Nat} {M : Nat → sf_A} (h : sf_slot S t rk n m f M)
    (H : ∀ μ, μ < 64 → (∀ v, v < 6 → μ.testBit v = false → ∀ j, sf_N rk f M v j = 0) → post (nI μ)) : wpX_heldLines post (sf_mk S p F W) (nI t) := by
  obtain ⟨⟨hs, h1, h2, h3, h4, hd⟩, hz, c, e, hc, he, hb⟩ := h
  obtain ⟨l1, l2, l3, l4, l5⟩ := sf_LK hd
  obtain ⟨b1, b2, b3, b4, b5, ln, bg, g0, gc, g1, g2, g3⟩ := hb
  have et : (nI t).toNatClampNeg = t := nI_clamp (by omega)
  refine pk_loop (fun n i (μ : Nat) => wX_heldLines_4 post (nI t) F.1 F.2.1 F.2.2.1 W.1 S.1 S.2.1 S.2.2.1 S.2.2.2.1 S.2.2.2.2.1 S.2.2.2.2.2.1 S.2.2.2.2.2.2.1 S.2.2.2.2.2.2.2.1 S.2.2.2.2.2.2.2.2 F.2.2.2.1 F.2.2.2.2.1 F.2.2.2.2.2.1 F.2.2.2.2.2.2.1 F.2.2.2.2.2.2.2.1 F.2.2.2.2.2.2.2.2.1 F.2.2.2.2.2.2.2.2.2 W.2.1 p W.2.2.1 W.2.2.2.1 W.2.2.2.2.1 W.2.2.2.2.2.1 W.2.2.2.2.2.2.1 W.2.2.2.2.2.2.2.1 W.2.2.2.2.2.2.2.2.1 W.2.2.2.2.2.2.2.2.2.1 W.2.2.2.2.2.2.2.2.2.2.1 W.2.2.2.2.2.2.2.2.2.2.2 n (nI μ) (nI i)) (fun i μ => μ < 64 ∧ ∀ k, k < i → μ.testBit (ln k) = true) c 0 0 (by omega) ⟨by omega, fun k hk => absurd hk (by omega)⟩ ?_ ?_
  · intro n1 μ hμ
    refine And.intro (pk_in t 13 hs) (pk_le c c (fun _ => H μ hμ.1 (fun v hv hb j => ?_)) (fun z => absurd z (by omega)) (by rw [et]; exact hc))
    by_cases a : v < sf_L rk n m f ∧ j < sf_K rk n m f
    · by_cases b : sf_N rk f M v j = 0
      · exact b
      · obtain ⟨k, k1, k2⟩ := g3 v a.1 (Or.inr ⟨j, a.2, b⟩)
        have := hμ.2 k k1
        rw [k2, hb] at this
        exact absurd this (by decide)
    · exact sf_N0 hd hz a
  · intro n1 i μ hi hμ hn
    have e6 := sf_i6 t i
    have g := g1 i hi
    have hl6 : ln i < 6 := by omega
    obtain ⟨o1, o2⟩ := sf_or2 μ hμ.1 (ln i) hl6
    refine And.intro (pk_in t 13 hs) (pk_le c i (fun z => absurd z (by omega)) (fun _ => And.intro (pk_in _ 78 (by omega) e6) (nm_r (e' := nI (μ ||| 2 ^ ln i)) (by rw [pk_cl _ e6, g.1]; exact sf_or1 μ hμ.1 (ln i) hl6) (nm_r (nI_1 i) (hn _ ⟨o1, fun k hk => ?_⟩)))) (by rw [et]; exact hc))
    rw [o2 (ln k) (by have := (g1 k (by omega)).2.1; omega)]
    by_cases a : k = i
    · rw [a]; simp
    · rw [hμ.2 k (by omega)]; rfl
theorem sf_heldP {post : Int32 → Prop} {S : sf_Sl} {p : sf_A} {F : sf_Fm} {W : sf_Wk} {t rk n m f k v0 : Nat} {M : Nat → sf_A} (h : sf_slot S t rk n m f M) (ok : sf_ok S t k v0) (hv0 : v0 < 2 ^ 31)
    (H : ∀ μ, μ < 64 → (∀ v, v < 6 → μ.testBit v = false → sf_N rk f M v0 v = 0) → post (nI μ)) : wpX_heldPlaces post (sf_mk S p F W) (nI t) (nI k) := by
  obtain ⟨c', c1, c2, c3, c4⟩ := ok
  obtain ⟨⟨hs, h1, h2, h3, h4, hd⟩, hz, c, e, hc, he, hb⟩ := h
  obtain ⟨l1, l2, l3, l4, l5⟩ := sf_LK hd
  obtain ⟨r1, r2, _⟩ := sf_room hd hb
  obtain ⟨b1, b2, b3, b4, b5, ln, bg, g0, gc, g1, g2, g3⟩ := hb
  obtain rfl : c = c' := sf_inj (by omega) (by omega) (hc.symm.trans c3)
  have hm : ∀ k, k ≤ c → bg k ≤ e := by
    intro k hk
    rw [← gc]
    exact sf_mono (fun k hk => (g1 k hk).2.2.2.1) k hk
  have hbg : ∀ k, k ≤ c → S.2.2.2.2.2.2.1 (7 * t + k) = nI (bg k) := by
    intro k hk
    by_cases a : k = c
    · rw [a, he, gc]
    · exact (g1 k (by omega)).2.2.1
  obtain ⟨v1, v2, v3, v4⟩ := g1 k c1
  have ev : ln k = v0 := sf_inj (by omega) hv0 (v1.symm.trans c4)
  rw [ev] at v4 v2
  obtain ⟨s1, s2, s3, q, q1, q2, q3⟩ := v4
  have hm1 := hm (k + 1) (by omega)
  have e7 := sf_i7 t k
  have e8 := sf_i7' t k
  refine br_f (sf_neg1 (by omega)) (And.intro (pk_in _ 91 (by omega) e8) (nm_r (e' := nI (bg (k + 1))) (by rw [pk_cl _ e8]; exact hbg (k + 1) (by omega)) (And.intro (pk_in _ 91 (by omega) e7) (nm_r (e' := nI (bg k)) (by rw [pk_cl _ e7]; exact v3) ?_))))
  refine pk_loop (fun n i (μ : Nat) => wX_heldPlaces_35 post (nI t) (nI (bg (k + 1))) F.1 F.2.1 F.2.2.1 W.1 S.1 S.2.1 S.2.2.1 S.2.2.2.1 S.2.2.2.2.1 S.2.2.2.2.2.1 S.2.2.2.2.2.2.1 S.2.2.2.2.2.2.2.1 S.2.2.2.2.2.2.2.2 F.2.2.2.1 F.2.2.2.2.1 F.2.2.2.2.2.1 F.2.2.2.2.2.2.1 F.2.2.2.2.2.2.2.1 F.2.2.2.2.2.2.2.2.1 F.2.2.2.2.2.2.2.2.2 W.2.1 p W.2.2.1 W.2.2.2.1 W.2.2.2.2.1 W.2.2.2.2.2.1 W.2.2.2.2.2.2.1 W.2.2.2.2.2.2.2.1 W.2.2.2.2.2.2.2.2.1 W.2.2.2.2.2.2.2.2.2.1 W.2.2.2.2.2.2.2.2.2.2.1 W.2.2.2.2.2.2.2.2.2.2.2 n (nI μ) (nI i)) (fun i μ => bg k ≤ i ∧ μ < 64 ∧ ∀ e, bg k ≤ e → e < i → μ.testBit (q e) = true) (bg (k + 1)) (bg k) 0 s1 ⟨Nat.le_refl _, by omega, fun e a b => absurd b (by omega)⟩ ?_ ?_
  · intro n1 μ hμ
    refine pk_le (bg (k + 1)) (bg (k + 1)) (fun _ => H μ hμ.2.1 (fun v hv hb => ?_)) (fun z => absurd z (by omega))
    by_cases a : v0 < sf_L rk n m f ∧ v < sf_K rk n m f
    · by_cases b : sf_N rk f M v0 v = 0
      · exact b
      · obtain ⟨e, e1, e2, e3⟩ := q3 v a.2 b
        have := hμ.2.2 e e1 e2
        rw [e3, hb] at this
        exact absurd this (by decide)
    · exact sf_N0 hd hz a
  · intro n1 i μ hi hμ hn
    obtain ⟨m0, m1, m2⟩ := hμ
    have e36 := sf_i36 t i
    have g := q1 i m0 hi
    have hl6 : q i < 6 := by omega
    obtain ⟨o1, o2⟩ := sf_or2 μ m1 (q i) hl6
    refine pk_le (bg (k + 1)) i (fun z => absurd z (by omega)) (fun _ => And.intro (pk_in _ 468 (by omega) e36) (nm_r (e' := nI (μ ||| 2 ^ q i)) (by rw [pk_cl _ e36, g.1]; exact sf_or1 μ m1 (q i) hl6) (nm_r (nI_1 i) (hn _ ⟨by omega, o1, fun e a b => ?_⟩))))
    rw [o2 (q e) (by have := (q1 e a (by omega)).2.1; omega)]
    by_cases c : e = i
    · rw [c]; simp
    · rw [m2 e a (by omega)]; rfl
theorem sf_loopOf2 {post : Int32 → Prop} {S : sf_Sl} {p : sf_A} {F : sf_Fm} {W : sf_Wk} {x : Int32}
    (H : ∀ r : Nat, r ≤ 2 → (r = 0 → W.2.2.1 0 = x) → (r = 1 → W.2.2.1 1 = x) → (W.2.2.1 0 = x → r = 0) → (W.2.2.1 1 = x → r ≤ 1) → post (nI r)) : wpX_loopOf post (sf_mk S p F W) x := by
  refine br_c (fun z => H 0 (by omega) (fun _ => z) (fun t => absurd t (by omega)) (fun _ => rfl) (fun _ => by omega)) (fun z => br_c (fun y => H 1 (by omega) (fun t => absurd t (by omega)) (fun _ => y) (fun t => absurd t z) (fun _ => by omega)) (fun y => H 2 (by omega) (fun t => absurd t (by omega)) (fun t => absurd t (by omega)) (fun t => absurd t z) (fun t => absurd t y)))
/-- loops: dn outside, x here -/
def sf_lis (li : sf_A) (dn : List Nat) (x : Nat) : Prop :=
  dn.length < 3 ∧ x < 3 ∧ li dn.length = nI x ∧ (∀ d, d < dn.length → ∃ v, v ∈ dn ∧ v < 3 ∧ v ≠ x ∧ li d = nI v)
theorem sf_lisO {li : sf_A} {dn : List Nat} {x rp ry : Nat} {y : Int32} (h : sf_lis li dn x) (hp : rp ≤ 2) (p0 : rp = 0 → li 0 = nI x) (p1 : rp = 1 → li 1 = nI x) (p2 : li 0 = nI x → rp = 0) (p3 : li 1 = nI x → rp ≤ 1)
    (y0 : ry = 0 → li 0 = y) (y1 : ry = 1 → li 1 = y) (hlt : ry < rp) : sf_LD dn y := by
  obtain ⟨h1, h2, h3, h4⟩ := h
  have hne : ∀ d, d < dn.length → ¬ li d = nI x := by
    intro d hd e
    obtain ⟨v, v1, v2, v3, v4⟩ := h4 d hd
    exact v3 (sf_inj (by omega) (by omega) (v4.symm.trans e))
  have hle : rp ≤ dn.length := by
    rcases Nat.lt_or_ge dn.length 1 with a | a
    · have : dn.length = 0 := by omega
      rw [this] at h3
      have := p2 h3
      omega
    · rcases Nat.lt_or_ge dn.length 2 with b | b
      · have : dn.length = 1 := by omega
        rw [this] at h3
        have := p3 h3
        omega
      · omega
  have hcase : ry = 0 ∨ ry = 1 := by omega
  rcases hcase with a | a
  · obtain ⟨v, v1, v2, v3, v4⟩ := h4 0 (by omega)
    exact Or.inr ⟨v, v1, v2, (y0 a).symm.trans v4⟩
  · obtain ⟨v, v1, v2, v3, v4⟩ := h4 1 (by omega)
    exact Or.inr ⟨v, v1, v2, (y1 a).symm.trans v4⟩
/-- for which numbers an array can be other than 0 -/
theorem sf_arrS {post : Int32 → Prop} {S : sf_Sl} {p : sf_A} {F : sf_Fm} {W : sf_Wk} {a rk f x : Nat} {M : Nat → sf_A} {σ : Nat → Nat} {dn : List Nat} (ha : a < 6) (hl : sf_lis W.2.2.1 dn x) (hσ : ∀ y, σ y < 6)
    (hw : sf_wa S F W.2.2.2.2.1 W.2.2.2.2.2.1 a rk f M) (hp : sf_pt S W.2.2.2.2.1 W.2.2.2.2.2.1 W.2.2.2.2.2.2.1 W.2.2.2.2.2.2.2.1 a rk f M σ dn)
    (ho : ∀ y, W.2.2.2.2.1 a = nI y → y < 3 → W.2.2.2.2.2.1 a = nI x → sf_LD dn (W.2.2.2.2.1 a)) (ho2 : sf_LD dn (W.2.2.2.2.2.1 a) → sf_LD dn (W.2.2.2.2.1 a))
    (H : ∀ μ, μ < 64 → (∀ v, v < 6 → μ.testBit v = false → ∀ σ' : Nat → Nat, (∀ y, y ∈ dn → σ' y = σ y) → σ' x = v → M (sf_ix σ' (F.2.2.2.2.2.2.2.1 a)) (sf_ix σ' (F.2.2.2.2.2.2.2.2.1 a)) = 0) → post (nI μ)) :
    wpX_arraySupport post (sf_mk S p F W) (nI a) (nI x) := by
  obtain ⟨⟨n, m, hM⟩, q, hN, _⟩ := hw
  obtain ⟨p1, p2, p3⟩ := hp
  have hx3 := hl.2.1
  have ea : (nI a).toNatClampNeg = a := nI_clamp (by omega)
  have i6 := pk_in (x := nI a) a 6 ha
  have hixb : ∀ y, sf_ix σ y < 6 := by
    intro y
    unfold sf_ix
    split
    · omega
    · exact hσ _
  have g131 : ∀ z0 x4 : Int32, (¬ (x4 = 0 ∧ z0 = 0) → sf_LD dn (W.2.2.2.2.1 a) ∧ ((∀ j, sf_N rk f M (sf_ix σ (W.2.2.2.2.1 a)) j = 0) ∨ (sf_LD dn (W.2.2.2.2.2.1 a) ∧ sf_N rk f M (sf_ix σ (W.2.2.2.2.1 a)) (sf_ix σ (W.2.2.2.2.2.1 a)) = 0))) → wX_arraySupport_131 post x4 z0 F.1 F.2.1 F.2.2.1 W.1 S.1 S.2.1 S.2.2.1 S.2.2.2.1 S.2.2.2.2.1 S.2.2.2.2.2.1 S.2.2.2.2.2.2.1 S.2.2.2.2.2.2.2.1 S.2.2.2.2.2.2.2.2 F.2.2.2.1 F.2.2.2.2.1 F.2.2.2.2.2.1 F.2.2.2.2.2.2.1 F.2.2.2.2.2.2.2.1 F.2.2.2.2.2.2.2.2.1 F.2.2.2.2.2.2.2.2.2 W.2.1 p W.2.2.1 W.2.2.2.1 W.2.2.2.2.1 W.2.2.2.2.2.1 W.2.2.2.2.2.2.1 W.2.2.2.2.2.2.2.1 W.2.2.2.2.2.2.2.2.1 W.2.2.2.2.2.2.2.2.2.1 W.2.2.2.2.2.2.2.2.2.2.1 W.2.2.2.2.2.2.2.2.2.2.2 := by
    intro z0 x4 hh
    have zero : ¬ (x4 = 0 ∧ z0 = 0) → post 0 := by
      intro t
      obtain ⟨d1, d2⟩ := hh t
      refine H 0 (by omega) (fun v hv hb σ' e1 e2 => ?_)
      rw [← hN σ', sf_ixC d1 e1]
      rcases d2 with d2 | ⟨d3, d4⟩
      · exact d2 _
      · rw [sf_ixC d3 e1]; exact d4
    refine br_c (fun e => br_c (fun e' => H 63 (by omega) (fun v hv hb => ?_)) (fun e' => zero (fun t => e' t.2))) (fun e => zero (fun t => e t.1))
    rw [sf_63 v hv] at hb
    exact absurd hb (by decide)
  have g86 : ∀ z0 : Int32, (¬ z0 = 0 → sf_LD dn (W.2.2.2.2.1 a) ∧ ∀ j, sf_N rk f M (sf_ix σ (W.2.2.2.2.1 a)) j = 0) → wX_arraySupport_86 post (nI a) (nI x) z0 F.1 F.2.1 F.2.2.1 W.1 S.1 S.2.1 S.2.2.1 S.2.2.2.1 S.2.2.2.2.1 S.2.2.2.2.2.1 S.2.2.2.2.2.2.1 S.2.2.2.2.2.2.2.1 S.2.2.2.2.2.2.2.2 F.2.2.2.1 F.2.2.2.2.1 F.2.2.2.2.2.1 F.2.2.2.2.2.2.1 F.2.2.2.2.2.2.2.1 F.2.2.2.2.2.2.2.2.1 F.2.2.2.2.2.2.2.2.2 W.2.1 p W.2.2.1 W.2.2.2.1 W.2.2.2.2.1 W.2.2.2.2.2.1 W.2.2.2.2.2.2.1 W.2.2.2.2.2.2.2.1 W.2.2.2.2.2.2.2.2.1 W.2.2.2.2.2.2.2.2.2.1 W.2.2.2.2.2.2.2.2.2.2.1 W.2.2.2.2.2.2.2.2.2.2.2 := by
    intro z0 hh
    have g130 : wX_arraySupport_130 post z0 F.1 F.2.1 F.2.2.1 W.1 S.1 S.2.1 S.2.2.1 S.2.2.2.1 S.2.2.2.2.1 S.2.2.2.2.2.1 S.2.2.2.2.2.2.1 S.2.2.2.2.2.2.2.1 S.2.2.2.2.2.2.2.2 F.2.2.2.1 F.2.2.2.2.1 F.2.2.2.2.2.1 F.2.2.2.2.2.2.1 F.2.2.2.2.2.2.2.1 F.2.2.2.2.2.2.2.2.1 F.2.2.2.2.2.2.2.2.2 W.2.1 p W.2.2.1 W.2.2.2.1 W.2.2.2.2.1 W.2.2.2.2.2.1 W.2.2.2.2.2.2.1 W.2.2.2.2.2.2.2.1 W.2.2.2.2.2.2.2.2.1 W.2.2.2.2.2.2.2.2.2.1 W.2.2.2.2.2.2.2.2.2.2.1 W.2.2.2.2.2.2.2.2.2.2.2 := by
      refine g131 0 z0 (fun t => ?_)
      obtain ⟨d1, d2⟩ := hh (fun e => t ⟨e, rfl⟩)
      exact ⟨d1, Or.inl d2⟩
    refine And.intro i6 (br_c (fun e => g130) (fun e => And.intro i6 ?_))
    refine sf_loopOf2 (S := S) (p := p) (F := F) (W := W) (fun ry y2 y0 y1 _ _ => sf_loopOf2 (S := S) (p := p) (F := F) (W := W) (fun rp r2 r0 r1 r3 r4 => pk_le rp ry (fun _ => g130) (fun lt => And.intro i6 (br_c (fun w => g131 1 z0 (fun _ => ?_)) (fun w => g130)))))
    have d2 := sf_lisO hl r2 r0 r1 r3 r4 y0 y1 lt
    rw [ea] at d2 w
    have d1 := ho2 d2
    refine ⟨d1, Or.inr ⟨d2, ?_⟩⟩
    rcases p3 d1 d2 with ⟨_, t⟩ | ⟨e', e1, e2, _⟩
    · exact t
    · exact absurd (e2.symm.trans w) (sf_neg1 (by omega))
  refine nm_r (sf_6p a) (And.intro i6 (br_c (fun z => ?_) (fun z => And.intro i6 (br_c (fun y => And.intro i6 ?_) (fun y => And.intro i6 (br_c (fun w => ?_) (fun w => And.intro i6 ?_)))))))
  · rw [ea] at z
    refine sf_heldL (S := S) (p := p) (F := F) (W := W) hM (fun μ h1 h2 => H μ h1 (fun v hv hb σ' e1 e2 => ?_))
    rw [← hN σ', sf_ixn σ' hx3 z, e2]
    exact h2 v hv hb _
  · rw [ea] at z y ⊢
    have d1 : sf_LD dn (W.2.2.2.2.1 a) := by
      rcases q with ⟨q1, q2, q3⟩ | ⟨q1, x', y', x3, y3, xy, q2, q3⟩
      · exact Or.inl q2
      · exact ho x' q2 x3 y
    rcases p2 d1 with ⟨k1, k2⟩ | ⟨k, k1, k2⟩
    · rw [k1]
      refine br_t rfl (H 0 (by omega) (fun v hv hb σ' e1 e2 => ?_))
      rw [← hN σ', sf_ixC d1 e1]
      exact k2 _
    · rw [k1]
      refine sf_heldP (S := S) (p := p) (F := F) (W := W) hM k2 (by have := hixb (W.2.2.2.2.1 a); omega) (fun μ h1 h2 => H μ h1 (fun v hv hb σ' e1 e2 => ?_))
      rw [← hN σ', sf_ixC d1 e1, sf_ixn σ' hx3 y, e2]
      exact h2 v hv hb
  · exact g86 0 (fun t => absurd rfl t)
  · refine sf_loopOf2 (S := S) (p := p) (F := F) (W := W) (fun ry y2 y0 y1 _ _ => sf_loopOf2 (S := S) (p := p) (F := F) (W := W) (fun rp r2 r0 r1 r3 r4 => pk_le rp ry (fun _ => g86 0 (fun t => absurd rfl t)) (fun lt => And.intro i6 (br_c (fun w => g86 1 (fun _ => ?_)) (fun w => g86 0 (fun t => absurd rfl t))))))
    have d1 := sf_lisO hl r2 r0 r1 r3 r4 y0 y1 lt
    rw [ea] at d1 w
    refine ⟨d1, ?_⟩
    rcases p2 d1 with ⟨_, t⟩ | ⟨k, k1, c, c1, c2, _⟩
    · exact t
    · exact absurd (k1.symm.trans w) (sf_neg1 (by omega))
end
section
/-- the arrays that stand in the formula, marked -/
def sf_inA (F : sf_Fm) (ins : sf_A) (top A a : Nat) : Prop := a < A ∧ ∃ k, k ≤ top ∧ ¬ ins k = 0 ∧ F.2.2.2.1 k = 1 ∧ F.2.2.2.2.1 k = nI a
theorem sf_findSup {post : Int32 → St1 → Prop} {S : sf_Sl} {p : sf_A} {F : sf_Fm} {W : sf_Wk} {P A top x : Nat} {f : Nat → Nat} {D : sf_Da} {σ : Nat → Nat} {dn : List Nat} (hP : P ≤ 20) (h6 : A ≤ 6) (ht : top < P)
    (hpt : ∀ k, k < P → sf_part F A k) (hin : sf_ins F W.2.1 top)
    (hl : sf_lis W.2.2.1 dn x) (hσ : ∀ y, σ y < 6)
    (hw : ∀ a, a < A → sf_wa S F W.2.2.2.2.1 W.2.2.2.2.2.1 a (D a).1 (f a) (D a).2.2.2) (hp : ∀ a, a < A → sf_pt S W.2.2.2.2.1 W.2.2.2.2.2.1 W.2.2.2.2.2.2.1 W.2.2.2.2.2.2.2.1 a (D a).1 (f a) (D a).2.2.2 σ dn)
    (ho : ∀ a, sf_inA F W.2.1 top A a → (∀ y, W.2.2.2.2.1 a = nI y → y < 3 → W.2.2.2.2.2.1 a = nI x → sf_LD dn (W.2.2.2.2.1 a)) ∧ (sf_LD dn (W.2.2.2.2.2.1 a) → sf_LD dn (W.2.2.2.2.1 a)))
    (H : ∀ μ su, μ < 64 → (∀ v, v < 6 → μ.testBit v = false → ∀ σ' : Nat → Nat, (∀ y, y ∈ dn → σ' y = σ y) → σ' x = v → sf_ev F (sf_av F D σ') 20 top = 0) → post (nI μ) (sf_mk S p F (W.1, W.2.1, W.2.2.1, W.2.2.2.1, W.2.2.2.2.1, W.2.2.2.2.2.1, W.2.2.2.2.2.2.1, W.2.2.2.2.2.2.2.1, (su), W.2.2.2.2.2.2.2.2.2.1, W.2.2.2.2.2.2.2.2.2.2.1, W.2.2.2.2.2.2.2.2.2.2.2))) :
    wpX_findSupport post (sf_mk S p F W) (nI top) (nI x) := by
  refine pk_loop (fun n i (su : sf_A) => wX_findSupport_2 post (nI top) (nI x) F.1 F.2.1 F.2.2.1 W.1 n (nI i) S.1 S.2.1 S.2.2.1 S.2.2.2.1 S.2.2.2.2.1 S.2.2.2.2.2.1 S.2.2.2.2.2.2.1 S.2.2.2.2.2.2.2.1 S.2.2.2.2.2.2.2.2 F.2.2.2.1 F.2.2.2.2.1 F.2.2.2.2.2.1 F.2.2.2.2.2.2.1 F.2.2.2.2.2.2.2.1 F.2.2.2.2.2.2.2.2.1 F.2.2.2.2.2.2.2.2.2 W.2.1 p W.2.2.1 W.2.2.2.1 W.2.2.2.2.1 W.2.2.2.2.2.1 W.2.2.2.2.2.2.1 W.2.2.2.2.2.2.2.1 (su) W.2.2.2.2.2.2.2.2.2.1 W.2.2.2.2.2.2.2.2.2.2.1 W.2.2.2.2.2.2.2.2.2.2.2)
    (fun i su => ∀ k, k < i → ¬ W.2.1 k = 0 → ∃ μ, μ < 64 ∧ su k = nI μ ∧ ∀ v, v < 6 → μ.testBit v = false → ∀ σ' : Nat → Nat, (∀ y, y ∈ dn → σ' y = σ y) → σ' x = v → sf_ev F (sf_av F D σ') 20 k = 0) (top + 1) 0 W.2.2.2.2.2.2.2.2.1 (by omega) (fun k hk => absurd hk (by omega)) ?_ ?_
  · intro n su hsu
    refine pk_lt top (top + 1) (fun _ => And.intro (pk_in top 20 (by omega)) ?_) (fun z => absurd z (by omega))
    obtain ⟨μ, m1, m2, m3⟩ := hsu top (by omega) hin.1
    rw [nI_clamp (by omega), m2]
    exact H μ su m1 m3
  · intro n i su hi hsu hn
    have ei : (nI i).toNatClampNeg = i := nI_clamp (by omega)
    have i20 := pk_in (x := nI i) i 20 (by omega)
    have next : ∀ μ, μ < 64 → (∀ v, v < 6 → μ.testBit v = false → ∀ σ' : Nat → Nat, (∀ y, y ∈ dn → σ' y = σ y) → σ' x = v → sf_ev F (sf_av F D σ') 20 i = 0) → wX_findSupport_2 post (nI top) (nI x) F.1 F.2.1 F.2.2.1 W.1 n (nI (i + 1)) S.1 S.2.1 S.2.2.1 S.2.2.2.1 S.2.2.2.2.1 S.2.2.2.2.2.1 S.2.2.2.2.2.2.1 S.2.2.2.2.2.2.2.1 S.2.2.2.2.2.2.2.2 F.2.2.2.1 F.2.2.2.2.1 F.2.2.2.2.2.1 F.2.2.2.2.2.2.1 F.2.2.2.2.2.2.2.1 F.2.2.2.2.2.2.2.2.1 F.2.2.2.2.2.2.2.2.2 W.2.1 p W.2.2.1 W.2.2.2.1 W.2.2.2.2.1 W.2.2.2.2.2.1 W.2.2.2.2.2.2.1 W.2.2.2.2.2.2.2.1 (upd su i (nI μ)) W.2.2.2.2.2.2.2.2.2.1 W.2.2.2.2.2.2.2.2.2.2.1 W.2.2.2.2.2.2.2.2.2.2.2 := by
      intro μ m1 m2
      refine hn _ (fun k hk kin => ?_)
      by_cases e : k = i
      · subst e
        exact ⟨μ, m1, pk_us, m2⟩
      · obtain ⟨μ', n1, n2, n3⟩ := hsu k (by omega) kin
        exact ⟨μ', n1, (pk_un e).trans n2, n3⟩
    refine pk_lt top i (fun z => absurd z (by omega)) (fun _ => And.intro i20 (br_c (fun z => nm_r (nI_1 i) (hn su (fun k hk kin => ?_))) (fun z => And.intro i20 ?_)))
    · rw [ei] at z
      by_cases e : k = i
      · subst e; exact absurd z kin
      · exact hsu k (by omega) kin
    · rw [ei] at z
      rcases hpt i (by omega) with ⟨c1, c2, c3⟩ | ⟨c1, ⟨a, ha, c2⟩, c3, c4⟩ | ⟨c1, ⟨xx, x1, x2⟩, ⟨yy, y1, y2⟩⟩
      · refine nm_r (e' := 0) (by rw [ei]; exact c1) (br_t rfl (And.intro i20 (br_c (fun w => And.intro i20 (nm_r (e' := upd su i (nI 0)) (by rw [ei]; rfl) (nm_r (nI_1 i) (next 0 (by omega) ?_)))) (fun w => And.intro i20 (nm_r (e' := upd su i (nI 63)) (by rw [ei]; rfl) (nm_r (nI_1 i) (next 63 (by omega) ?_)))))))
        · rw [ei] at w
          intro v hv hb σ' e1 e2
          rw [sf_ev0 c1, w]
        · intro v hv hb
          rw [sf_63 v hv] at hb
          exact absurd hb (by decide)
      · refine nm_r (e' := 1) (by rw [ei]; exact c1) (br_f (by decide) (br_t rfl (And.intro i20 ?_)))
        rw [ei, c2]
        have hia : sf_inA F W.2.1 top A a := ⟨ha, i, by omega, z, c1, c2⟩
        obtain ⟨o1, o2⟩ := ho a hia
        refine sf_arrS (S := S) (p := p) (F := F) (W := (W.1, W.2.1, W.2.2.1, W.2.2.2.1, W.2.2.2.2.1, W.2.2.2.2.2.1, W.2.2.2.2.2.2.1, W.2.2.2.2.2.2.2.1, (su), W.2.2.2.2.2.2.2.2.2.1, W.2.2.2.2.2.2.2.2.2.2.1, W.2.2.2.2.2.2.2.2.2.2.2)) (σ := σ) (dn := dn) (by omega) hl hσ (hw a ha) (hp a ha) o1 o2 (fun μ m1 m2 => And.intro i20 (nm_r (e' := upd su i (nI μ)) (by rfl) (nm_r (nI_1 i) (next μ m1 ?_))))
        intro v hv hb σ' e1 e2
        rw [sf_ev1 c1 c2 (by omega)]
        exact m2 v hv hb σ' e1 e2
      · obtain ⟨kA, kB⟩ := hin.2 i (by omega) z
        obtain ⟨μ1, a1, a2, a3⟩ := hsu xx (by omega) (kA xx x1 x2)
        obtain ⟨μ2, b1, b2, b3⟩ := hsu yy (by omega) (kB yy y1 y2)
        have ex : (F.2.2.2.2.2.1 i).toNatClampNeg = xx := by rw [x2]; exact nI_clamp (by omega)
        have ey : (F.2.2.2.2.2.2.1 i).toNatClampNeg = yy := by rw [y2]; exact nI_clamp (by omega)
        have ix := pk_in (x := F.2.2.2.2.2.1 i) xx 20 (by omega) x2
        have iy := pk_in (x := F.2.2.2.2.2.2.1 i) yy 20 (by omega) y2
        have E : ∀ σ', _ := fun σ' => sf_ev3 (av := sf_av F D σ') hpt hP (by omega) x1 y1 x2 y2
        obtain ⟨n1, n2, n3⟩ := sf_andB μ1 a1 μ2 b1
        obtain ⟨q1, q2, q3⟩ := sf_orB μ1 a1 μ2 b1
        have orr : (F.2.2.2.1 i = 3 ∨ F.2.2.2.1 i = 4) → ∀ v, v < 6 → (μ1 ||| μ2).testBit v = false → ∀ σ' : Nat → Nat, (∀ y, y ∈ dn → σ' y = σ y) → σ' x = v → sf_ev F (sf_av F D σ') 20 i = 0 := by
          intro hk v hv hb σ' e1 e2
          rw [q3 v hv, Bool.or_eq_false_iff] at hb
          have z1 := a3 v hv hb.1 σ' e1 e2
          have z2 := b3 v hv hb.2 σ' e1 e2
          rcases hk with hk | hk
          · rw [(E σ').1 hk, z1, z2]; rfl
          · rw [(E σ').2.1 hk, z1, z2]; rfl
        have other : ∀ x4 : Int32, (x4 = 3 ∨ x4 = 4) → x4 = F.2.2.2.1 i → wX_findSupport_2 post (nI top) (nI x) F.1 F.2.1 F.2.2.1 W.1 n (nI (i + 1)) S.1 S.2.1 S.2.2.1 S.2.2.2.1 S.2.2.2.2.1 S.2.2.2.2.2.1 S.2.2.2.2.2.2.1 S.2.2.2.2.2.2.2.1 S.2.2.2.2.2.2.2.2 F.2.2.2.1 F.2.2.2.2.1 F.2.2.2.2.2.1 F.2.2.2.2.2.2.1 F.2.2.2.2.2.2.2.1 F.2.2.2.2.2.2.2.2.1 F.2.2.2.2.2.2.2.2.2 W.2.1 p W.2.2.1 W.2.2.2.1 W.2.2.2.2.1 W.2.2.2.2.2.1 W.2.2.2.2.2.2.1 W.2.2.2.2.2.2.2.1 (upd su i (nI (μ1 ||| μ2))) W.2.2.2.2.2.2.2.2.2.1 W.2.2.2.2.2.2.2.2.2.2.1 W.2.2.2.2.2.2.2.2.2.2.2 :=
          fun x4 h3 h4 => next _ q2 (orr (by rw [← h4]; exact h3))
        rcases c1 with c1 | c1 | c1
        · refine nm_r (e' := 3) (by rw [ei]; exact c1) (br_f (by decide) (br_f (by decide) (br_f (by decide) (br_f (by decide) (And.intro i20 (And.intro (by rw [ei]; exact ix) (And.intro i20 (And.intro (by rw [ei]; exact iy) (And.intro i20 (nm_r (e' := upd su i (nI (μ1 ||| μ2))) ?_ (nm_r (nI_1 i) (other 3 (Or.inl rfl) c1.symm))))))))))))
          rw [ei, ex, ey, a2, b2, q1]
        · refine nm_r (e' := 4) (by rw [ei]; exact c1) (br_f (by decide) (br_f (by decide) (br_f (by decide) (br_f (by decide) (And.intro i20 (And.intro (by rw [ei]; exact ix) (And.intro i20 (And.intro (by rw [ei]; exact iy) (And.intro i20 (nm_r (e' := upd su i (nI (μ1 ||| μ2))) ?_ (nm_r (nI_1 i) (other 4 (Or.inr rfl) c1.symm))))))))))))
          rw [ei, ex, ey, a2, b2, q1]
        · refine nm_r (e' := 5) (by rw [ei]; exact c1) (br_f (by decide) (br_f (by decide) (br_f (by decide) (br_t rfl (And.intro i20 (And.intro (by rw [ei]; exact ix) (And.intro i20 (And.intro (by rw [ei]; exact iy) (And.intro i20 (nm_r (e' := upd su i (nI (μ1 &&& μ2))) ?_ (nm_r (nI_1 i) (next (μ1 &&& μ2) n2 ?_))))))))))))
          · rw [ei, ex, ey, a2, b2, n1]
          · intro v hv hb σ' e1 e2
            rw [n3 v hv, Bool.and_eq_false_iff] at hb
            rw [(E σ').2.2 c1]
            rcases hb with hb | hb
            · rw [a3 v hv hb σ' e1 e2, Int32.zero_mul]
            · rw [b3 v hv hb σ' e1 e2, Int32.mul_zero]
theorem sf_enter {post : St1 → Prop} {S : sf_Sl} {p : sf_A} {F : sf_Fm} {W : sf_Wk} {P A top x : Nat} {f s : Nat → Nat} {D : sf_Da} {σ : Nat → Nat} {dn : List Nat} (hP : P ≤ 20) (h6 : A ≤ 6) (ht : top < P)
    (hpt : ∀ k, k < P → sf_part F A k) (hin : sf_ins F W.2.1 top)
    (hl : sf_lis W.2.2.1 dn x) (hσ : ∀ y, σ y < 6) (hs : s x ≤ 6 ∧ W.2.2.2.1 x = nI (s x))
    (hw : ∀ a, a < A → sf_wa S F W.2.2.2.2.1 W.2.2.2.2.2.1 a (D a).1 (f a) (D a).2.2.2) (hp : ∀ a, a < A → sf_pt S W.2.2.2.2.1 W.2.2.2.2.2.1 W.2.2.2.2.2.2.1 W.2.2.2.2.2.2.2.1 a (D a).1 (f a) (D a).2.2.2 σ dn)
    (ho : ∀ a, sf_inA F W.2.1 top A a → (∀ y, W.2.2.2.2.1 a = nI y → y < 3 → W.2.2.2.2.2.1 a = nI x → sf_LD dn (W.2.2.2.2.1 a)) ∧ (sf_LD dn (W.2.2.2.2.2.1 a) → sf_LD dn (W.2.2.2.2.1 a)))
    (H : ∀ μ su, μ < 64 → (∀ v, v < 6 → μ.testBit v = true → v < s x) → (∀ v, v < s x → μ.testBit v = false → ∀ σ' : Nat → Nat, (∀ y, y ∈ dn → σ' y = σ y) → σ' x = v → sf_ev F (sf_av F D σ') 20 top = 0) →
      post (sf_mk S p F (W.1, W.2.1, W.2.2.1, W.2.2.2.1, W.2.2.2.2.1, W.2.2.2.2.2.1, W.2.2.2.2.2.2.1, W.2.2.2.2.2.2.2.1, (su), W.2.2.2.2.2.2.2.2.2.1, W.2.2.2.2.2.2.2.2.2.2.1, (upd W.2.2.2.2.2.2.2.2.2.2.2 dn.length (nI μ))))) : wpX_enter post (sf_mk S p F W) (nI top) (nI dn.length) := by
  obtain ⟨l1, l2, l3, l4⟩ := id hl
  have ed : (nI dn.length).toNatClampNeg = dn.length := nI_clamp (by omega)
  have ex : (nI x).toNatClampNeg = x := nI_clamp (by omega)
  refine And.intro (pk_in dn.length 3 l1) (nm_r (e' := nI x) (by rw [ed]; exact l3) ?_)
  refine sf_findSup (S := S) (p := p) (F := F) (W := W) hP h6 ht hpt hin hl hσ hw hp ho (fun μ su m1 m2 => ?_)
  obtain ⟨t1, t2⟩ := sf_span2 μ m1 (s x) (by omega)
  refine And.intro (pk_in x 3 l2) (And.intro (pk_in dn.length 3 l1) (nm_r (e' := upd W.2.2.2.2.2.2.2.2.2.2.2 dn.length (nI (μ &&& (2 ^ s x - 1)))) (by rw [ed, ex]; dsimp only; rw [hs.2, sf_span1 μ m1 (s x) (by omega)]) (H _ su t1 ?_ ?_)))
  · intro v hv hb
    rw [t2 v hv, Bool.and_eq_true] at hb
    exact of_decide_eq_true hb.2
  · intro v hv hb
    rw [t2 v (by omega), decide_eq_true hv, Bool.and_true] at hb
    exact m2 v (by omega) hb
theorem sf_lowest {post : Int32 → Prop} {S : sf_Sl} {p : sf_A} {F : sf_Fm} {W : sf_Wk} {μ : Nat} (h64 : μ < 64) (h0 : μ ≠ 0) (H : ∀ v, v < 6 → μ.testBit v = true → post (nI v)) : wpX_lowestOf post (sf_mk S p F W) (nI μ) := by
  have q := pk_loopD (fun n i (x : Nat) => wX_lowestOf_4 post (nI μ) F.1 F.2.1 F.2.2.1 W.1 S.1 S.2.1 S.2.2.1 S.2.2.2.1 S.2.2.2.2.1 S.2.2.2.2.2.1 S.2.2.2.2.2.2.1 S.2.2.2.2.2.2.2.1 S.2.2.2.2.2.2.2.2 F.2.2.2.1 F.2.2.2.2.1 F.2.2.2.2.2.1 F.2.2.2.2.2.2.1 F.2.2.2.2.2.2.2.1 F.2.2.2.2.2.2.2.2.1 F.2.2.2.2.2.2.2.2.2 W.2.1 p W.2.2.1 W.2.2.2.1 W.2.2.2.2.1 W.2.2.2.2.2.1 W.2.2.2.2.2.2.1 W.2.2.2.2.2.2.2.1 W.2.2.2.2.2.2.2.2.1 W.2.2.2.2.2.2.2.2.2.1 W.2.2.2.2.2.2.2.2.2.2.1 W.2.2.2.2.2.2.2.2.2.2.2 n (nI x) (nI i + (-1)))
    (fun i x => i ≤ 6 ∧ x < 6 ∧ ∀ v, i ≤ v → v < 6 → μ.testBit v = true → μ.testBit x = true) ?_ ?_ 6 0 ⟨by omega, by omega, fun v a b => absurd a (by omega)⟩
  · exact ⟨_, q⟩
  · intro n x hx
    obtain ⟨v, v1, v2⟩ := sf_some μ h64 h0
    exact br_t (by decide) (H x hx.2.1 (hx.2.2 v (by omega) v1 v2))
  · intro n i x hx hn
    show wX_lowestOf_4 post (nI μ) F.1 F.2.1 F.2.2.1 W.1 S.1 S.2.1 S.2.2.1 S.2.2.2.1 S.2.2.2.2.1 S.2.2.2.2.2.1 S.2.2.2.2.2.2.1 S.2.2.2.2.2.2.2.1 S.2.2.2.2.2.2.2.2 F.2.2.2.1 F.2.2.2.2.1 F.2.2.2.2.2.1 F.2.2.2.2.2.2.1 F.2.2.2.2.2.2.2.1 F.2.2.2.2.2.2.2.2.1 F.2.2.2.2.2.2.2.2.2 W.2.1 p W.2.2.1 W.2.2.2.1 W.2.2.2.2.1 W.2.2.2.2.2.1 W.2.2.2.2.2.2.1 W.2.2.2.2.2.2.2.1 W.2.2.2.2.2.2.2.2.1 W.2.2.2.2.2.2.2.2.2.1 W.2.2.2.2.2.2.2.2.2.2.1 W.2.2.2.2.2.2.2.2.2.2.2 (n + 1) (nI x) (nI (i + 1) + (-1))
    rw [pk_m1]
    refine br_f (nI_pos (by omega)) (br_c (fun z => nm_e (hn i ⟨by omega, by omega, fun v _ _ _ => ?_⟩)) (fun z => nm_e (hn x ⟨by omega, hx.2.1, fun v a b c => ?_⟩)))
    · exact (sf_bit1 μ h64 i (by omega)).mp z
    · by_cases e : v = i
      · subst e
        exact absurd ((sf_bit1 μ h64 v (by omega)).mpr c) z
      · exact hx.2.2 v (by omega) b c
/-- the value of a formula is worked out -/
theorem sf_findVal {post : Int32 → St1 → Prop} {S : sf_Sl} {p : sf_A} {F : sf_Fm} {W : sf_Wk} {P A top : Nat} {f : Nat → Nat} {D : sf_Da} {σ : Nat → Nat} {dn : List Nat} (hP : P ≤ 20) (h6 : A ≤ 6) (ht : top < P)
    (hpt : ∀ k, k < P → sf_part F A k) (hin : sf_ins F W.2.1 top)
    (hw : ∀ a, a < A → sf_wa S F W.2.2.2.2.1 W.2.2.2.2.2.1 a (D a).1 (f a) (D a).2.2.2) (hp : ∀ a, a < A → sf_pt S W.2.2.2.2.1 W.2.2.2.2.2.1 W.2.2.2.2.2.2.1 W.2.2.2.2.2.2.2.1 a (D a).1 (f a) (D a).2.2.2 σ dn)
    (hd : ∀ a, sf_inA F W.2.1 top A a → sf_LD dn (W.2.2.2.2.1 a) ∧ sf_LD dn (W.2.2.2.2.2.1 a))
    (H : ∀ va, post (sf_ev F (sf_av F D σ) 20 top) (sf_mk S p F (W.1, W.2.1, W.2.2.1, W.2.2.2.1, W.2.2.2.2.1, W.2.2.2.2.2.1, W.2.2.2.2.2.2.1, W.2.2.2.2.2.2.2.1, W.2.2.2.2.2.2.2.2.1, (va), W.2.2.2.2.2.2.2.2.2.2.1, W.2.2.2.2.2.2.2.2.2.2.2))) : wpX_findValue post (sf_mk S p F W) (nI top) := by
  refine pk_loop (fun n i (va : sf_A) => wX_findValue_2 post (nI top) F.1 F.2.1 F.2.2.1 W.1 n (nI i) S.1 S.2.1 S.2.2.1 S.2.2.2.1 S.2.2.2.2.1 S.2.2.2.2.2.1 S.2.2.2.2.2.2.1 S.2.2.2.2.2.2.2.1 S.2.2.2.2.2.2.2.2 F.2.2.2.1 F.2.2.2.2.1 F.2.2.2.2.2.1 F.2.2.2.2.2.2.1 F.2.2.2.2.2.2.2.1 F.2.2.2.2.2.2.2.2.1 F.2.2.2.2.2.2.2.2.2 W.2.1 p W.2.2.1 W.2.2.2.1 W.2.2.2.2.1 W.2.2.2.2.2.1 W.2.2.2.2.2.2.1 W.2.2.2.2.2.2.2.1 W.2.2.2.2.2.2.2.2.1 (va) W.2.2.2.2.2.2.2.2.2.2.1 W.2.2.2.2.2.2.2.2.2.2.2)
    (fun i va => ∀ k, k < i → ¬ W.2.1 k = 0 → va k = sf_ev F (sf_av F D σ) 20 k) (top + 1) 0 W.2.2.2.2.2.2.2.2.2.1 (by omega) (fun k hk => absurd hk (by omega)) ?_ ?_
  · intro n va hva
    refine pk_lt top (top + 1) (fun _ => And.intro (pk_in top 20 (by omega)) ?_) (fun z => absurd z (by omega))
    rw [nI_clamp (by omega), hva top (by omega) hin.1]
    exact H va
  · intro n i va hi hva hn
    have ei : (nI i).toNatClampNeg = i := nI_clamp (by omega)
    have i20 := pk_in (x := nI i) i 20 (by omega)
    have next : ∀ v : Int32, v = sf_ev F (sf_av F D σ) 20 i → wX_findValue_2 post (nI top) F.1 F.2.1 F.2.2.1 W.1 n (nI (i + 1)) S.1 S.2.1 S.2.2.1 S.2.2.2.1 S.2.2.2.2.1 S.2.2.2.2.2.1 S.2.2.2.2.2.2.1 S.2.2.2.2.2.2.2.1 S.2.2.2.2.2.2.2.2 F.2.2.2.1 F.2.2.2.2.1 F.2.2.2.2.2.1 F.2.2.2.2.2.2.1 F.2.2.2.2.2.2.2.1 F.2.2.2.2.2.2.2.2.1 F.2.2.2.2.2.2.2.2.2 W.2.1 p W.2.2.1 W.2.2.2.1 W.2.2.2.2.1 W.2.2.2.2.2.1 W.2.2.2.2.2.2.1 W.2.2.2.2.2.2.2.1 W.2.2.2.2.2.2.2.2.1 (upd va i v) W.2.2.2.2.2.2.2.2.2.2.1 W.2.2.2.2.2.2.2.2.2.2.2 := by
      intro v hv
      refine hn _ (fun k hk kin => ?_)
      by_cases e : k = i
      · subst e
        rw [pk_us]; exact hv
      · rw [pk_un e]; exact hva k (by omega) kin
    refine pk_lt top i (fun z => absurd z (by omega)) (fun _ => And.intro i20 (br_c (fun z => nm_r (nI_1 i) (hn va (fun k hk kin => ?_))) (fun z => And.intro i20 ?_)))
    · rw [ei] at z
      by_cases e : k = i
      · subst e; exact absurd z kin
      · exact hva k (by omega) kin
    · rw [ei] at z
      rcases hpt i (by omega) with ⟨c1, c2, c3⟩ | ⟨c1, ⟨a, ha, c2⟩, c3, c4⟩ | ⟨c1, ⟨xx, x1, x2⟩, ⟨yy, y1, y2⟩⟩
      · exact nm_r (e' := 0) (by rw [ei]; exact c1) (br_t rfl (And.intro i20 (And.intro i20 (nm_r (e' := upd va i (F.2.2.2.2.1 i)) (by rw [ei]) (nm_r (nI_1 i) (next _ (sf_ev0 c1).symm))))))
      · refine nm_r (e' := 1) (by rw [ei]; exact c1) (br_f (by decide) (br_t rfl (And.intro i20 ?_)))
        rw [ei, c2]
        have ea : (nI a).toNatClampNeg = a := nI_clamp (by omega)
        have a6 := pk_in (x := nI a) a 6 (by omega)
        obtain ⟨d1, d2⟩ := hd a ⟨ha, i, by omega, z, c1, c2⟩
        have hN := (hw a ha).2.2.1 σ
        have e1 : sf_ev F (sf_av F D σ) 20 i = sf_N (D a).1 (f a) (D a).2.2.2 (sf_ix σ (W.2.2.2.2.1 a)) (sf_ix σ (W.2.2.2.2.2.1 a)) := by
          rw [sf_ev1 c1 c2 (by omega), hN]; rfl
        rcases (hp a ha).2.2 d1 d2 with ⟨k1, k2⟩ | ⟨e, k0, k1, k2⟩
        · exact And.intro a6 (br_t (by rw [ea]; exact k1) (And.intro i20 (nm_r (e' := upd va i 0) (by rfl) (nm_r (nI_1 i) (next 0 (by rw [e1, k2]))))))
        · have e36 : (36 : Int32) * (6 + nI a) + W.2.2.2.2.2.2.2.1 a = nI (36 * (6 + a) + e) := by rw [k1, sf_6p]; exact sf_i36 (6 + a) e
          refine And.intro a6 (br_f (by rw [ea, k1]; exact sf_neg1 (by omega)) (And.intro a6 ?_))
          rw [ea]
          refine And.intro (pk_in _ 468 (by omega) e36) ?_
          rw [pk_cl _ e36]
          exact And.intro i20 (nm_r (e' := upd va i (S.2.2.2.2.2.2.2.2 (36 * (6 + a) + e))) (by rfl) (nm_r (nI_1 i) (next _ (by rw [e1, k2]))))
      · obtain ⟨kA, kB⟩ := hin.2 i (by omega) z
        have vx := hva xx (by omega) (kA xx x1 x2)
        have vy := hva yy (by omega) (kB yy y1 y2)
        have ex : (F.2.2.2.2.2.1 i).toNatClampNeg = xx := by rw [x2]; exact nI_clamp (by omega)
        have ey : (F.2.2.2.2.2.2.1 i).toNatClampNeg = yy := by rw [y2]; exact nI_clamp (by omega)
        have ix := pk_in (x := F.2.2.2.2.2.1 i) xx 20 (by omega) x2
        have iy := pk_in (x := F.2.2.2.2.2.2.1 i) yy 20 (by omega) y2
        have E := sf_ev3 (av := sf_av F D σ) hpt hP (by omega) x1 y1 x2 y2
        rcases c1 with c1 | c1 | c1
        · refine nm_r (e' := 3) (by rw [ei]; exact c1) (br_f (by decide) (br_f (by decide) (br_f (by decide) (br_t rfl (And.intro i20 (And.intro (by rw [ei]; exact ix) (And.intro i20 (And.intro (by rw [ei]; exact iy) (And.intro i20 (nm_r (e' := upd va i (va xx + va yy)) (by rw [ei, ex, ey]) (nm_r (nI_1 i) (next _ ?_))))))))))))
          rw [E.1 c1, vx, vy]
        · refine nm_r (e' := 4) (by rw [ei]; exact c1) (br_f (by decide) (br_f (by decide) (br_f (by decide) (br_f (by decide) (br_t rfl (And.intro i20 (And.intro (by rw [ei]; exact ix) (And.intro i20 (And.intro (by rw [ei]; exact iy) (And.intro i20 (nm_r (e' := upd va i (va xx - va yy)) (by rw [ei, ex, ey]) (nm_r (nI_1 i) (next _ ?_)))))))))))))
          rw [E.2.1 c1, vx, vy]
        · refine nm_r (e' := 5) (by rw [ei]; exact c1) (br_f (by decide) (br_f (by decide) (br_f (by decide) (br_f (by decide) (br_f (by decide) (And.intro i20 (And.intro (by rw [ei]; exact ix) (And.intro i20 (And.intro (by rw [ei]; exact iy) (And.intro i20 (nm_r (e' := upd va i (va xx * va yy)) (by rw [ei, ex, ey]) (nm_r (nI_1 i) (next _ ?_)))))))))))))
          rw [E.2.2 c1, vx, vy]
/-- it is added where it belongs -/
theorem sf_addVal {post : St1 → Prop} {S : sf_Sl} {p : sf_A} {F : sf_Fm} {W : sf_Wk} {P A top : Nat} {f : Nat → Nat} {D : sf_Da} {σ : Nat → Nat} {dn : List Nat} {x y : Int32} (hP : P ≤ 20) (h6 : A ≤ 6) (ht : top < P)
    (hpt : ∀ k, k < P → sf_part F A k) (hin : sf_ins F W.2.1 top)
    (hw : ∀ a, a < A → sf_wa S F W.2.2.2.2.1 W.2.2.2.2.2.1 a (D a).1 (f a) (D a).2.2.2) (hp : ∀ a, a < A → sf_pt S W.2.2.2.2.1 W.2.2.2.2.2.1 W.2.2.2.2.2.2.1 W.2.2.2.2.2.2.2.1 a (D a).1 (f a) (D a).2.2.2 σ dn)
    (hd : ∀ a, sf_inA F W.2.1 top A a → sf_LD dn (W.2.2.2.2.1 a) ∧ sf_LD dn (W.2.2.2.2.2.1 a)) (hσ : ∀ y, σ y < 6) (hnw : ∀ v, v ∈ dn → W.2.2.2.2.2.2.2.2.2.2.1 v = nI (σ v)) (hx : sf_LD dn x) (hy : sf_LD dn y)
    (H : ∀ va, post (sf_mk S (upd p (6 * sf_ix σ x + sf_ix σ y) (p (6 * sf_ix σ x + sf_ix σ y) + sf_ev F (sf_av F D σ) 20 top)) F (W.1, W.2.1, W.2.2.1, W.2.2.2.1, W.2.2.2.2.1, W.2.2.2.2.2.1, W.2.2.2.2.2.2.1, W.2.2.2.2.2.2.2.1, W.2.2.2.2.2.2.2.2.1, (va), W.2.2.2.2.2.2.2.2.2.2.1, W.2.2.2.2.2.2.2.2.2.2.2))) : wpX_addValue post (sf_mk S p F W) (nI top) x y := by
  have hixb : ∀ y, sf_ix σ y < 6 := by
    intro y
    unfold sf_ix
    split
    · omega
    · exact hσ _
  have bx := hixb x
  have bY := hixb y
  have g33 : ∀ z0 z1 : Int32, z0 = nI (sf_ix σ y) → z1 = nI (6 * sf_ix σ x) → wX_addValue_33 post (nI top) z0 z1 F.1 F.2.1 F.2.2.1 W.1 S.1 S.2.1 S.2.2.1 S.2.2.2.1 S.2.2.2.2.1 S.2.2.2.2.2.1 S.2.2.2.2.2.2.1 S.2.2.2.2.2.2.2.1 S.2.2.2.2.2.2.2.2 F.2.2.2.1 F.2.2.2.2.1 F.2.2.2.2.2.1 F.2.2.2.2.2.2.1 F.2.2.2.2.2.2.2.1 F.2.2.2.2.2.2.2.2.1 F.2.2.2.2.2.2.2.2.2 W.2.1 p W.2.2.1 W.2.2.2.1 W.2.2.2.2.1 W.2.2.2.2.2.1 W.2.2.2.2.2.2.1 W.2.2.2.2.2.2.2.1 W.2.2.2.2.2.2.2.2.1 W.2.2.2.2.2.2.2.2.2.1 W.2.2.2.2.2.2.2.2.2.2.1 W.2.2.2.2.2.2.2.2.2.2.2 := by
    intro z0 z1 e0 e1
    have e2 : z1 + z0 = nI (6 * sf_ix σ x + sf_ix σ y) := by rw [e0, e1, nI_add]
    refine nm_r e2 (And.intro (pk_in (6 * sf_ix σ x + sf_ix σ y) 36 (by omega)) ?_)
    refine sf_findVal (S := S) (p := p) (F := F) (W := W) hP h6 ht hpt hin hw hp hd (fun va => And.intro (pk_in (6 * sf_ix σ x + sf_ix σ y) 36 (by omega)) (nm_r (e' := upd p (6 * sf_ix σ x + sf_ix σ y) (p (6 * sf_ix σ x + sf_ix σ y) + sf_ev F (sf_av F D σ) 20 top)) (by rw [nI_clamp (by omega)]) (H va)))
  have g17 : ∀ z0 : Int32, z0 = nI (sf_ix σ x) → wX_addValue_17 post (nI top) y z0 6 F.1 F.2.1 F.2.2.1 W.1 S.1 S.2.1 S.2.2.1 S.2.2.2.1 S.2.2.2.2.1 S.2.2.2.2.2.1 S.2.2.2.2.2.2.1 S.2.2.2.2.2.2.2.1 S.2.2.2.2.2.2.2.2 F.2.2.2.1 F.2.2.2.2.1 F.2.2.2.2.2.1 F.2.2.2.2.2.2.1 F.2.2.2.2.2.2.2.1 F.2.2.2.2.2.2.2.2.1 F.2.2.2.2.2.2.2.2.2 W.2.1 p W.2.2.1 W.2.2.2.1 W.2.2.2.2.1 W.2.2.2.2.2.1 W.2.2.2.2.2.2.1 W.2.2.2.2.2.2.2.1 W.2.2.2.2.2.2.2.2.1 W.2.2.2.2.2.2.2.2.2.1 W.2.2.2.2.2.2.2.2.2.2.1 W.2.2.2.2.2.2.2.2.2.2.2 := by
    intro z0 e0
    have e1 : (6 : Int32) * z0 = nI (6 * sf_ix σ x) := by rw [e0]; exact sf_i6' _
    rcases hy with hy | ⟨v, v1, v2, v3⟩
    · refine br_t hy (g33 _ _ ?_ e1)
      rw [sf_ix1 σ hy]; rfl
    · refine br_f (by rw [v3]; exact sf_neg1 (by omega)) (And.intro (pk_in v 3 v2 v3) (g33 _ _ ?_ e1))
      rw [sf_ixn σ v2 v3, v3, nI_clamp (by omega)]
      exact hnw v v1
  rcases hx with hx | ⟨v, v1, v2, v3⟩
  · refine br_t hx (g17 _ ?_)
    rw [sf_ix1 σ hx]; rfl
  · refine br_f (by rw [v3]; exact sf_neg1 (by omega)) (And.intro (pk_in v 3 v2 v3) (g17 _ ?_))
    rw [sf_ixn σ v2 v3, v3, nI_clamp (by omega)]
    exact hnw v v1
end
section
/-! sums over the numbers of some indices -/
def sf_ns (s : Nat → Nat) (g : (Nat → Nat) → Int32) : List Nat → (Nat → Nat) → Int32
  | [], σ => g σ
  | x :: l, σ => sf_Q (s x) (fun v => sf_ns s g l (sf_su σ x v))
theorem sf_ns0 {s : Nat → Nat} {g : (Nat → Nat) → Int32} {l : List Nat} : ∀ σ : Nat → Nat, (∀ σ' : Nat → Nat, (∀ y, ¬ y ∈ l → σ' y = σ y) → g σ' = 0) → sf_ns s g l σ = 0 := by
  induction l with
  | nil => exact fun σ h => h σ (fun _ _ => rfl)
  | cons x l ih =>
    intro σ h
    refine sf_Q0 (fun v _ => ih _ (fun σ' hσ' => h σ' (fun y hy => ?_)))
    rw [hσ' y (fun t => hy (List.mem_cons_of_mem _ t)), sf_su2]
    intro e
    exact hy (by rw [e]; exact List.mem_cons_self)
def sf_B (μ : Nat) (g : Nat → Int32) : Int32 := sf_Q 6 (fun v => if μ.testBit v then g v else 0)
theorem sf_B0 (g : Nat → Int32) : sf_B 0 g = 0 := sf_Q0 (fun i _ => by rw [Nat.zero_testBit]; rfl)
theorem sf_Qrm {n v : Nat} {f g : Nat → Int32} (hv : v < n) (h0 : g v = 0) (h : ∀ i, i < n → i ≠ v → g i = f i) : sf_Q n f = f v + sf_Q n g := by
  induction n with
  | zero => exact absurd hv (by omega)
  | succ n ih =>
    show sf_Q n f + f n = f v + (sf_Q n g + g n)
    by_cases e : v = n
    · subst e
      rw [h0, sf_Qc (f := g) (g := f) (fun i hi => h i (by omega) (by omega))]
      grind
    · rw [ih (by omega) (fun i hi => h i (by omega)), h n (by omega) (by omega)]
      grind
theorem sf_B1 {μ v : Nat} {g : Nat → Int32} (hμ : μ < 64) (hv : v < 6) (hb : μ.testBit v = true) : sf_B μ g = g v + sf_B (μ - 2 ^ v) g := by
  have q := sf_Qrm (n := 6) (v := v) (f := fun i => if μ.testBit i then g i else 0) (g := fun i => if (μ - 2 ^ v).testBit i then g i else 0) hv ?_ ?_
  · unfold sf_B
    rw [q, hb]
    rfl
  · rw [sf_clr2 μ hμ v hv hb v hv]
    simp
  · intro i hi hne
    rw [sf_clr2 μ hμ v hv hb i hi]
    simp [hne]
theorem sf_Qz {f : Nat → Int32} {m n : Nat} (h : m ≤ n) (hz : ∀ i, m ≤ i → i < n → f i = 0) : sf_Q n f = sf_Q m f := by
  induction n with
  | zero =>
    obtain rfl : m = 0 := by omega
    rfl
  | succ n ih =>
    by_cases e : m = n + 1
    · rw [e]
    · show sf_Q n f + f n = _
      rw [ih (by omega) (fun i a b => hz i a (by omega)), hz n (by omega) (by omega)]
      grind
theorem sf_Bs {μ sx : Nat} {g : Nat → Int32} (h1 : ∀ v, v < 6 → μ.testBit v = true → v < sx) (h2 : ∀ v, v < sx → μ.testBit v = false → g v = 0) (h6 : sx ≤ 6) : sf_B μ g = sf_Q sx g := by
  unfold sf_B
  rw [sf_Qz h6]
  · refine sf_Qc (fun v hv => ?_)
    by_cases e : μ.testBit v = true
    · rw [e]; rfl
    · have e' : μ.testBit v = false := by simpa using e
      rw [e', h2 v hv e']; rfl
  · intro i a b
    by_cases e : μ.testBit i = true
    · exact absurd (h1 i b e) (by omega)
    · have e' : μ.testBit i = false := by simpa using e
      rw [e']; rfl
def sf_C : List Nat → Nat
  | [] => 0
  | _ :: l => 6 * (1 + sf_C l) + 1
def sf_G (F : sf_Fm) (D : sf_Da) (top : Nat) (X Y : Int32) (t : Nat) (σ : Nat → Nat) : Int32 := if 6 * sf_ix σ X + sf_ix σ Y = t then sf_ev F (sf_av F D σ) 20 top else 0
/-- all that is fixed while a formula is worked out -/
def sf_cx (S : sf_Sl) (F : sf_Fm) (W : sf_Wk) (P A top : Nat) (f : Nat → Nat) (D : sf_Da) (s : Nat → Nat) (ol : List Nat) (ps : Nat → Nat) (X Y : Int32) : Prop :=
  P ≤ 20 ∧ A ≤ 6 ∧ F.2.1 = nI A ∧ top < P ∧ (∀ k, k < P → sf_part F A k) ∧ sf_ins F W.2.1 top ∧ (∀ a, a < A → sf_wa S F W.2.2.2.2.1 W.2.2.2.2.2.1 a (D a).1 (f a) (D a).2.2.2) ∧
  W.1 = nI ol.length ∧ ol.length ≤ 3 ∧ (∀ d, d < ol.length → W.2.2.1 d = nI (ol.getD d 0)) ∧ (∀ v, v ∈ ol → v < 3) ∧ ol.Pairwise (fun a b => ps a < ps b) ∧ (∀ x, x < 3 → s x ≤ 6 ∧ W.2.2.2.1 x = nI (s x)) ∧
  (∀ a, a < A → ∀ x y, x < 3 → y < 3 → W.2.2.2.2.1 a = nI x → W.2.2.2.2.2.1 a = nI y → ps x < ps y) ∧ (∀ a, sf_inA F W.2.1 top A a → sf_LD ol (W.2.2.2.2.1 a) ∧ sf_LD ol (W.2.2.2.2.2.1 a)) ∧ sf_LD ol X ∧ sf_LD ol Y
theorem sf_gdm (l r : List Nat) (d : Nat) (h : d < l.length) : (l ++ r).getD d 0 ∈ l := by
  induction l generalizing d with
  | nil => exact absurd h (by simp)
  | cons a l ih =>
    cases d with
    | zero => exact List.mem_cons_self
    | succ d => exact List.mem_cons_of_mem _ (ih d (by simpa using h))
theorem sf_pw {ps : Nat → Nat} {dn rest : List Nat} {x : Nat} (h : (dn ++ x :: rest).Pairwise (fun a b => ps a < ps b)) : (∀ v, v ∈ dn → ps v < ps x) ∧ (∀ v, v ∈ rest → ps x < ps v) ∧ (∀ v w, v ∈ dn → w ∈ rest → ps v < ps w) := by
  rw [List.pairwise_append] at h
  obtain ⟨_, h2, h3⟩ := h
  rw [List.pairwise_cons] at h2
  exact ⟨fun v hv => h3 v hv x List.mem_cons_self, h2.1, fun v w hv hw => h3 v hv w (List.mem_cons_of_mem _ hw)⟩
theorem sf_lisI {S : sf_Sl} {F : sf_Fm} {W : sf_Wk} {P A top x : Nat} {f : Nat → Nat} {D : sf_Da} {s : Nat → Nat} {ol dn rest : List Nat} {ps : Nat → Nat} {X Y : Int32} (h : sf_cx S F W P A top f D s ol ps X Y) (ho : ol = dn ++ x :: rest) : sf_lis W.2.2.1 dn x := by
  obtain ⟨_, _, _, _, _, _, _, _, c9, c10, c11, c12, _⟩ := h
  rw [ho] at c9 c10 c11 c12
  have hlen : (dn ++ x :: rest).length = dn.length + (rest.length + 1) := by rw [List.length_append]; rfl
  obtain ⟨w1, w2, w3⟩ := sf_pw c12
  refine ⟨by omega, c11 x (by simp), ?_, ?_⟩
  · rw [c10 dn.length (by omega), sf_gd]
  · intro d hd
    have hm := sf_gdm dn (x :: rest) d hd
    refine ⟨(dn ++ x :: rest).getD d 0, hm, c11 _ (List.mem_append_left _ hm), ?_, c10 d (by omega)⟩
    intro e
    have := w1 _ hm
    rw [e] at this
    omega
/-- the order of an array's indices, loop by loop -/
theorem sf_ordI {S : sf_Sl} {F : sf_Fm} {W : sf_Wk} {P A top x : Nat} {f : Nat → Nat} {D : sf_Da} {s : Nat → Nat} {ol dn rest : List Nat} {ps : Nat → Nat} {X Y : Int32} (h : sf_cx S F W P A top f D s ol ps X Y) (ho : ol = dn ++ x :: rest) :
    (∀ a, a < A → W.2.2.2.2.1 a = nI x → ¬ sf_LD dn (W.2.2.2.2.2.1 a)) ∧
    (∀ a, sf_inA F W.2.1 top A a → (∀ y, W.2.2.2.2.1 a = nI y → y < 3 → W.2.2.2.2.2.1 a = nI x → sf_LD dn (W.2.2.2.2.1 a)) ∧ (sf_LD dn (W.2.2.2.2.2.1 a) → sf_LD dn (W.2.2.2.2.1 a))) := by
  obtain ⟨_, c2, _, _, _, _, c7, _, c9, c10, c11, c12, _, c14, c15, _, _⟩ := h
  rw [ho] at c11 c12 c15
  have hx3 : x < 3 := c11 x (by simp)
  obtain ⟨w1, w2, w3⟩ := sf_pw c12
  have low : ∀ v, v ∈ dn ++ x :: rest → ps v < ps x → v ∈ dn := by
    intro v hv hlt
    rcases List.mem_append.mp hv with a | a
    · exact a
    · rcases List.mem_cons.mp a with a | a
      · rw [a] at hlt; omega
      · have := w2 v a; omega
  refine ⟨fun a ha hl hp => ?_, fun a hia => ⟨fun y hy hy3 hp => ?_, fun hp => ?_⟩⟩
  · rcases (c7 a ha).2.1 with ⟨_, q2, _⟩ | ⟨_, x', y', x3, y3, xy, q2, q3⟩
    · exact sf_neg1 (by omega) (hl.symm.trans q2)
    · rcases hp with hp | ⟨v, v1, v2, v3⟩
      · exact sf_neg1 (by omega) (q3.symm.trans hp)
      · have h1 := c14 a ha x v hx3 v2 hl v3
        have h2 := w1 v v1
        omega
  · rcases (c15 a hia).1 with q | ⟨v, v1, v2, v3⟩
    · exact Or.inl q
    · exact Or.inr ⟨v, low v v1 (c14 a hia.1 v x v2 hx3 v3 hp), v2, v3⟩
  · rcases (c7 a hia.1).2.1 with ⟨_, q2, _⟩ | ⟨_, x', y', x3, y3, xy, q2, q3⟩
    · exact Or.inl q2
    · rcases hp with hp | ⟨v, v1, v2, v3⟩
      · exact absurd (q3.symm.trans hp) (sf_neg1 (by omega))
      · rcases (c15 a hia).1 with q | ⟨u, u1, u2, u3⟩
        · exact Or.inl q
        · have h1 := c14 a hia.1 u v u2 v2 u3 v3
          have h2 := w1 v v1
          exact Or.inr ⟨u, low u u1 (by omega), u2, u3⟩
theorem sf_suB {σ : Nat → Nat} {x v : Nat} (hσ : ∀ y, σ y < 6) (hv : v < 6) : ∀ y, sf_su σ x v y < 6 := by
  intro y
  unfold sf_su
  split
  · exact hv
  · exact hσ y
/-- one loop, from what is left to be tried -/
theorem sf_loop {post : St1 → Prop} {S : sf_Sl} {F : sf_Fm} {W : sf_Wk} {P A top : Nat} {f : Nat → Nat} {D : sf_Da} {s : Nat → Nat} {ol : List Nat} {ps : Nat → Nat} {X Y : Int32} (cx : sf_cx S F W P A top f D s ol ps X Y) (rest : List Nat) :
    ∀ (dn : List Nat) (x : Nat) (σ : Nat → Nat), ol = dn ++ x :: rest → (∀ y, σ y < 6) →
    ∀ (b μ n r : Nat) (q al ap su va nw lf : sf_A), μ < 64 → sf_pc μ ≤ b → n + r = 1001 → r + (b * (1 + sf_C rest) + 1) ≤ 999 →
      (∀ a, a < A → sf_pt S W.2.2.2.2.1 W.2.2.2.2.2.1 al ap a (D a).1 (f a) (D a).2.2.2 σ dn) → (∀ v, v ∈ dn → nw v = nI (σ v)) → lf dn.length = nI μ →
      (∀ (n' r' : Nat) (q' al' ap' su' va' nw' lf' : sf_A), n' + r' = 1001 → r' ≤ r + (b * (1 + sf_C rest) + 1) →
        (∀ a, a < A → sf_pt S W.2.2.2.2.1 W.2.2.2.2.2.1 al' ap' a (D a).1 (f a) (D a).2.2.2 σ dn) → (∀ v, v ∈ dn → nw' v = nI (σ v)) → (∀ d, d < dn.length → lf' d = lf d) →
        (∀ t, t < 36 → q' t = q t + sf_B μ (fun v => sf_ns s (sf_G F D top X Y t) rest (sf_su σ x v))) →
        wX_workOut_35 post (nI top) X Y n' (nI dn.length + (-1)) (nI r') F.1 F.2.1 F.2.2.1 W.1 S.1 S.2.1 S.2.2.1 S.2.2.2.1 S.2.2.2.2.1 S.2.2.2.2.2.1 S.2.2.2.2.2.2.1 S.2.2.2.2.2.2.2.1 S.2.2.2.2.2.2.2.2 F.2.2.2.1 F.2.2.2.2.1 F.2.2.2.2.2.1 F.2.2.2.2.2.2.1 F.2.2.2.2.2.2.2.1 F.2.2.2.2.2.2.2.2.1 F.2.2.2.2.2.2.2.2.2 W.2.1 q' W.2.2.1 W.2.2.2.1 W.2.2.2.2.1 W.2.2.2.2.2.1 (al') (ap') (su') (va') (nw') (lf')) →
      wX_workOut_35 post (nI top) X Y n (nI dn.length) (nI r) F.1 F.2.1 F.2.2.1 W.1 S.1 S.2.1 S.2.2.1 S.2.2.2.1 S.2.2.2.2.1 S.2.2.2.2.2.1 S.2.2.2.2.2.2.1 S.2.2.2.2.2.2.2.1 S.2.2.2.2.2.2.2.2 F.2.2.2.1 F.2.2.2.2.1 F.2.2.2.2.2.1 F.2.2.2.2.2.2.1 F.2.2.2.2.2.2.2.1 F.2.2.2.2.2.2.2.2.1 F.2.2.2.2.2.2.2.2.2 W.2.1 q W.2.2.1 W.2.2.2.1 W.2.2.2.2.1 W.2.2.2.2.2.1 (al) (ap) (su) (va) (nw) (lf) := by
  induction rest with
  | nil =>
    intro dn x σ ho hσ b
    have lis := sf_lisI cx ho
    have ord := sf_ordI cx ho
    obtain ⟨c1, c2, c3, c4, c5, c6, c7, c8, c9, c10, c11, c12, c13, c14, c15, c16, c17⟩ := id cx
    obtain ⟨l1, l2, l3, l4⟩ := id lis
    rw [ho] at c12
    obtain ⟨w1, w2, w3⟩ := sf_pw c12
    have ed : (nI dn.length).toNatClampNeg = dn.length := nI_clamp (by omega)
    have i3 := pk_in (x := nI dn.length) dn.length 3 l1
    have hol : ol.length = dn.length + 1 := by rw [ho, List.length_append]; rfl
    have xdn : ¬ x ∈ dn := fun t => absurd (w1 x t) (by omega)
    have hol2 : ol = dn ++ [x] := ho
    induction b with
    | zero =>
      intro μ n r q al ap su va nw lf hμ hpc hn hr hp hnw hlf K
      have h0 : μ = 0 := sf_pc0 μ hμ (by omega)
      subst h0
      obtain ⟨n1, rfl⟩ : ∃ n1, n = n1 + 1 := ⟨n - 1, by omega⟩
      refine pk_le 1000 r (fun z => absurd z (by omega)) (fun _ => br_f (nI_pos (by omega)) (And.intro i3 (br_t (by rw [ed]; exact hlf) (nm_e (nm_r (nI_1 r) (K n1 (r + 1) q al ap su va nw lf (by omega) (by omega) hp hnw (fun _ _ => rfl) (fun t _ => ?_)))))))
      rw [sf_B0]; grind
    | succ b ihb =>
      intro μ n r q al ap su va nw lf hμ hpc hn hr hp hnw hlf K
      obtain ⟨n1, rfl⟩ : ∃ n1, n = n1 + 1 := ⟨n - 1, by omega⟩
      refine pk_le 1000 r (fun z => absurd z (by omega)) (fun _ => br_f (nI_pos (by omega)) (And.intro i3 (br_c (fun z => nm_e (nm_r (nI_1 r) (K n1 (r + 1) q al ap su va nw lf (by omega) (by omega) hp hnw (fun _ _ => rfl) (fun t _ => ?_)))) (fun z => And.intro i3 ?_))))
      · rw [ed, hlf] at z
        have h0 : μ = 0 := sf_inj (by omega) (by omega) z
        rw [h0, sf_B0]; grind
      · rw [ed, hlf] at z ⊢
        have h0 : μ ≠ 0 := fun t => z (by rw [t]; rfl)
        refine sf_lowest (S := S) (p := q) (F := F) (W := (W.1, W.2.1, W.2.2.1, W.2.2.2.1, W.2.2.2.2.1, W.2.2.2.2.2.1, (al), (ap), (su), (va), (nw), (lf))) hμ h0 (fun v hv hb => And.intro i3 (And.intro i3 (nm_r (e' := upd lf dn.length (nI (μ - 2 ^ v))) (by rw [sf_clr1 μ hμ v hv hb]) (And.intro i3 ?_))))
        dsimp only
        rw [l3]
        refine sf_move (S := S) (p := q) (F := F) (W := (W.1, W.2.1, W.2.2.1, W.2.2.2.1, W.2.2.2.2.1, W.2.2.2.2.2.1, (al), (ap), (su), (va), (nw), (upd lf dn.length (nI (μ - 2 ^ v))))) (σ := σ) (dn := dn) (f := f) (D := D) c3 c2 l2 hv hσ c7 hp ord.1 (fun al1 ap1 hp1 => ?_)
        have hnw1 : ∀ w, w ∈ dn ++ [x] → upd nw x (nI v) w = nI (sf_su σ x v w) := by
          intro w hw
          by_cases e : w = x
          · rw [e, pk_us, sf_su1]
          · rw [pk_un e, sf_su2 _ e]
            rcases List.mem_append.mp hw with a | a
            · exact hnw w a
            · exact absurd (List.mem_singleton.mp a) e
        refine br_t (by rw [nI_1]; dsimp only; rw [c8, hol]) ?_
        rw [hol2] at c15 c16 c17
        refine sf_addVal (S := S) (p := q) (F := F) (W := (W.1, W.2.1, W.2.2.1, W.2.2.2.1, W.2.2.2.2.1, W.2.2.2.2.2.1, (al1), (ap1), (su), (va), (upd nw x (nI v)), (upd lf dn.length (nI (μ - 2 ^ v))))) (σ := sf_su σ x v) (dn := dn ++ [x]) (f := f) (D := D) c1 c2 c4 c5 c6 c7 hp1 c15 (sf_suB hσ hv) hnw1 c16 c17 (fun va1 => nm_r (nI_1 r) ?_)
        dsimp only
        have hpc1 := sf_pc1 μ hμ v hv hb
        have hC : sf_C [] = 0 := rfl
        rw [hC] at hr K ihb
        refine ihb (μ - 2 ^ v) n1 (r + 1) _ al1 ap1 su va1 (upd nw x (nI v)) (upd lf dn.length (nI (μ - 2 ^ v))) (Nat.lt_of_le_of_lt (Nat.sub_le _ _) hμ) (by omega) (by omega) (by rw [Nat.succ_mul] at hr; omega) (fun a ha => sf_ptW (hp1 a ha) (fun v hv => List.mem_append_left _ hv) (fun v hv => sf_su2 _ (fun e => xdn (by rw [← e]; exact hv)))) (fun w hw => ?_) pk_us (fun n' r' q' al' ap' su' va' nw' lf' k1 k2 k3 k4 k5 k6 => K n' r' q' al' ap' su' va' nw' lf' k1 (by rw [Nat.succ_mul]; omega) k3 k4 (fun d hd => ?_) (fun t ht => ?_))
        · rw [hnw1 w (List.mem_append_left _ hw), sf_su2 _ (fun e => xdn (by rw [← e]; exact hw))]
        · rw [k5 d hd, pk_un (by omega)]
        · rw [k6 t ht, sf_B1 hμ hv hb]
          show _ = q t + (sf_G F D top X Y t (sf_su σ x v) + _)
          unfold sf_G
          by_cases e : 6 * sf_ix (sf_su σ x v) X + sf_ix (sf_su σ x v) Y = t
          · rw [if_pos e, e, pk_us]; grind
          · rw [if_neg e, pk_un (fun z => e z.symm)]; grind
  | cons y rest ih =>
    intro dn x σ ho hσ b
    have lis := sf_lisI cx ho
    have ord := sf_ordI cx ho
    have ho2 : ol = (dn ++ [x]) ++ y :: rest := by rw [ho, List.append_assoc]; rfl
    have lis2 := sf_lisI cx ho2
    have ord2 := sf_ordI cx ho2
    obtain ⟨c1, c2, c3, c4, c5, c6, c7, c8, c9, c10, c11, c12, c13, c14, c15, c16, c17⟩ := id cx
    obtain ⟨l1, l2, l3, l4⟩ := id lis
    have c12' := c12
    rw [ho] at c12
    rw [ho2] at c12'
    obtain ⟨w1, w2, w3⟩ := sf_pw c12
    obtain ⟨w1', w2', w3'⟩ := sf_pw c12'
    have ed : (nI dn.length).toNatClampNeg = dn.length := nI_clamp (by omega)
    have i3 := pk_in (x := nI dn.length) dn.length 3 l1
    have hol : ol.length = dn.length + (rest.length + 2) := by rw [ho, List.length_append]; rfl
    have xdn : ¬ x ∈ dn := fun t => absurd (w1 x t) (by omega)
    have hlen : (dn ++ [x]).length = dn.length + 1 := by rw [List.length_append]; rfl
    induction b with
    | zero =>
      intro μ n r q al ap su va nw lf hμ hpc hn hr hp hnw hlf K
      have h0 : μ = 0 := sf_pc0 μ hμ (by omega)
      subst h0
      obtain ⟨n1, rfl⟩ : ∃ n1, n = n1 + 1 := ⟨n - 1, by omega⟩
      refine pk_le 1000 r (fun z => absurd z (by omega)) (fun _ => br_f (nI_pos (by omega)) (And.intro i3 (br_t (by rw [ed]; exact hlf) (nm_e (nm_r (nI_1 r) (K n1 (r + 1) q al ap su va nw lf (by omega) (by omega) hp hnw (fun _ _ => rfl) (fun t _ => ?_)))))))
      rw [sf_B0]; grind
    | succ b ihb =>
      intro μ n r q al ap su va nw lf hμ hpc hn hr hp hnw hlf K
      obtain ⟨n1, rfl⟩ : ∃ n1, n = n1 + 1 := ⟨n - 1, by omega⟩
      refine pk_le 1000 r (fun z => absurd z (by omega)) (fun _ => br_f (nI_pos (by omega)) (And.intro i3 (br_c (fun z => nm_e (nm_r (nI_1 r) (K n1 (r + 1) q al ap su va nw lf (by omega) (by omega) hp hnw (fun _ _ => rfl) (fun t _ => ?_)))) (fun z => And.intro i3 ?_))))
      · rw [ed, hlf] at z
        have h0 : μ = 0 := sf_inj (by omega) (by omega) z
        rw [h0, sf_B0]; grind
      · rw [ed, hlf] at z ⊢
        have h0 : μ ≠ 0 := fun t => z (by rw [t]; rfl)
        refine sf_lowest (S := S) (p := q) (F := F) (W := (W.1, W.2.1, W.2.2.1, W.2.2.2.1, W.2.2.2.2.1, W.2.2.2.2.2.1, (al), (ap), (su), (va), (nw), (lf))) hμ h0 (fun v hv hb => And.intro i3 (And.intro i3 (nm_r (e' := upd lf dn.length (nI (μ - 2 ^ v))) (by rw [sf_clr1 μ hμ v hv hb]) (And.intro i3 ?_))))
        dsimp only
        rw [l3]
        refine sf_move (S := S) (p := q) (F := F) (W := (W.1, W.2.1, W.2.2.1, W.2.2.2.1, W.2.2.2.2.1, W.2.2.2.2.2.1, (al), (ap), (su), (va), (nw), (upd lf dn.length (nI (μ - 2 ^ v))))) (σ := σ) (dn := dn) (f := f) (D := D) c3 c2 l2 hv hσ c7 hp ord.1 (fun al1 ap1 hp1 => ?_)
        have hnw1 : ∀ w, w ∈ dn ++ [x] → upd nw x (nI v) w = nI (sf_su σ x v w) := by
          intro w hw
          by_cases e : w = x
          · rw [e, pk_us, sf_su1]
          · rw [pk_un e, sf_su2 _ e]
            rcases List.mem_append.mp hw with a | a
            · exact hnw w a
            · exact absurd (List.mem_singleton.mp a) e
        have hne : ¬ nI dn.length + 1 = W.1 := by
          rw [nI_1, c8, hol]
          intro t
          have := sf_inj (by omega) (by omega) t
          omega
        refine br_f hne (nm_r (e' := nI (dn ++ [x]).length) (by rw [nI_1, hlen]) ?_)
        have hpc1 := sf_pc1 μ hμ v hv hb
        have hC : sf_C (y :: rest) = 6 * (1 + sf_C rest) + 1 := rfl
        rw [Nat.succ_mul] at hr
        refine sf_enter (S := S) (p := q) (F := F) (W := (W.1, W.2.1, W.2.2.1, W.2.2.2.1, W.2.2.2.2.1, W.2.2.2.2.2.1, (al1), (ap1), (su), (va), (upd nw x (nI v)), (upd lf dn.length (nI (μ - 2 ^ v))))) (σ := sf_su σ x v) (dn := dn ++ [x]) (f := f) (D := D) (s := s) c1 c2 c4 c5 c6 lis2 (sf_suB hσ hv) (c13 y lis2.2.1) c7 hp1 ord2.2 (fun μ2 su1 m1 m2 m3 => nm_r (nI_1 r) ?_)
        dsimp only
        refine ih (dn ++ [x]) y (sf_su σ x v) ho2 (sf_suB hσ hv) 6 μ2 n1 (r + 1) q al1 ap1 su1 va (upd nw x (nI v)) _ m1 (sf_pc6 μ2) (by omega) (by omega) hp1 hnw1 pk_us (fun n' r' q' al' ap' su' va' nw' lf' k1 k2 k3 k4 k5 k6 => ?_)
        rw [hlen, pk_m1]
        refine ihb (μ - 2 ^ v) n' r' q' al' ap' su' va' nw' lf' (Nat.lt_of_le_of_lt (Nat.sub_le _ _) hμ) (by omega) k1 (by omega) (fun a ha => sf_ptW (k3 a ha) (fun v hv => List.mem_append_left _ hv) (fun v hv => sf_su2 _ (fun e => xdn (by rw [← e]; exact hv)))) (fun w hw => ?_) ?_ (fun n2 r2 q2 al2 ap2 su2 va2 nw2 lf2 j1 j2 j3 j4 j5 j6 => K n2 r2 q2 al2 ap2 su2 va2 nw2 lf2 j1 (by rw [Nat.succ_mul]; omega) j3 j4 (fun d hd => ?_) (fun t ht => ?_))
        · rw [k4 w (List.mem_append_left _ hw), sf_su2 _ (fun e => xdn (by rw [← e]; exact hw))]
        · rw [k5 dn.length (by omega), pk_un (by omega), pk_us]
        · rw [j5 d hd, k5 d (by omega), pk_un (by omega), pk_un (by omega)]
        · rw [j6 t ht, k6 t ht, sf_B1 hμ hv hb, sf_Bs m2 ?_ (c13 y lis2.2.1).1]
          · show q t + sf_ns s (sf_G F D top X Y t) (y :: rest) (sf_su σ x v) + _ = q t + (sf_ns s (sf_G F D top X Y t) (y :: rest) (sf_su σ x v) + _)
            grind
          · intro w hw hbw
            refine sf_ns0 _ (fun σ' hσ' => ?_)
            unfold sf_G
            have yr : ¬ y ∈ rest := fun t => absurd (w2' y t) (by omega)
            have ev0 := m3 w hw hbw σ' (fun u hu => ?_) (by rw [hσ' y yr, sf_su1])
            · rw [ev0]
              split <;> rfl
            · have h1 := w1' u hu
              rw [hσ' u (fun t => absurd (w3' u u hu t) (by omega)), sf_su2 _ (fun e => by rw [e] at h1; omega)]
end
section
theorem sf_C49 {l : List Nat} (h : l.length ≤ 2) : sf_C l ≤ 49 := by
  rcases l with _ | ⟨a, _ | ⟨b, _ | ⟨c, l⟩⟩⟩
  · exact Nat.zero_le _
  · show 6 * (1 + 0) + 1 ≤ 49
    omega
  · show 6 * (1 + (6 * (1 + 0) + 1)) + 1 ≤ 49
    omega
  · exact absurd h (by simp)
/-- a formula is worked out -/
theorem sf_work {post : St1 → Prop} {S : sf_Sl} {p : sf_A} {F : sf_Fm} {W : sf_Wk} {P A top : Nat} {f : Nat → Nat} {D : sf_Da} {s : Nat → Nat} {ol : List Nat} {ps : Nat → Nat} {X Y : Int32} (cx : sf_cx S F W P A top f D s ol ps X Y)
    (H : ∀ q al ap su va nw lf : sf_A, (∀ t, t < 36 → q t = sf_ns s (sf_G F D top X Y t) ol (fun _ => 0)) → post (sf_mk S q F (W.1, W.2.1, W.2.2.1, W.2.2.2.1, W.2.2.2.2.1, W.2.2.2.2.2.1, (al), (ap), (su), (va), (nw), (lf)))) :
    wpX_workOut post (sf_mk S p F W) (nI top) X Y := by
  obtain ⟨c1, c2, c3, c4, c5, c6, c7, c8, c9, c10, c11, c12, c13, c14, c15, c16, c17⟩ := id cx
  unfold wpX_workOut
  refine sf_clear (S := S) (p := p) (F := F) (W := W) (fun p' hp' => ?_)
  refine sf_start (S := S) (p := p') (F := F) (W := W) (f := f) (D := D) (σ := fun _ => 0) c3 c2 c7 (fun al ap hp => ?_)
  have hσ : ∀ y : Nat, (fun _ : Nat => (0 : Nat)) y < 6 := fun _ => by show 0 < 6; omega
  rcases ol with _ | ⟨x, rest⟩
  · refine br_t c8 ?_
    refine sf_addVal (S := S) (p := p') (F := F) (W := (W.1, W.2.1, W.2.2.1, W.2.2.2.1, W.2.2.2.2.1, W.2.2.2.2.2.1, (al), (ap), W.2.2.2.2.2.2.2.2.1, W.2.2.2.2.2.2.2.2.2.1, W.2.2.2.2.2.2.2.2.2.2.1, W.2.2.2.2.2.2.2.2.2.2.2)) (σ := fun _ => 0) (dn := []) (f := f) (D := D) c1 c2 c4 c5 c6 c7 hp c15 hσ (fun v hv => absurd hv (by simp)) c16 c17 (fun va => H _ al ap W.2.2.2.2.2.2.2.2.1 va W.2.2.2.2.2.2.2.2.2.2.1 W.2.2.2.2.2.2.2.2.2.2.2 (fun t ht => ?_))
    show _ = sf_G F D top X Y t (fun _ => 0)
    unfold sf_G
    by_cases e : 6 * sf_ix (fun _ => 0) X + sf_ix (fun _ => 0) Y = t
    · rw [if_pos e, e, pk_us, hp' t ht]; grind
    · rw [if_neg e, pk_un (fun z => e z.symm), hp' t ht]
  · have lis := sf_lisI (dn := []) cx rfl
    have ord := sf_ordI (dn := []) cx rfl
    have hlen : (x :: rest).length = rest.length + 1 := rfl
    have hC := sf_C49 (l := rest) (by omega)
    refine br_f (by dsimp only; rw [c8]; exact nI_ne0 (by omega) (by omega)) ?_
    refine sf_enter (S := S) (p := p') (F := F) (W := (W.1, W.2.1, W.2.2.1, W.2.2.2.1, W.2.2.2.2.1, W.2.2.2.2.2.1, (al), (ap), W.2.2.2.2.2.2.2.2.1, W.2.2.2.2.2.2.2.2.2.1, W.2.2.2.2.2.2.2.2.2.2.1, W.2.2.2.2.2.2.2.2.2.2.2)) (σ := fun _ => 0) (dn := []) (f := f) (D := D) (s := s) c1 c2 c4 c5 c6 lis hσ (c13 x lis.2.1) c7 hp ord.2 (fun μ su m1 m2 m3 => ⟨1001, ?_⟩)
    refine sf_loop cx rest [] x (fun _ => 0) rfl hσ 6 μ 1001 0 p' al ap su W.2.2.2.2.2.2.2.2.2.1 W.2.2.2.2.2.2.2.2.2.2.1 (upd W.2.2.2.2.2.2.2.2.2.2.2 0 (nI μ)) m1 (sf_pc6 μ) (by omega) (by omega) hp (fun v hv => absurd hv (by simp)) pk_us (fun n' r' q' al' ap' su' va' nw' lf' k1 k2 k3 k4 k5 k6 => ?_)
    obtain ⟨n2, rfl⟩ : ∃ n2, n' = n2 + 1 := ⟨n' - 1, by omega⟩
    refine pk_le 1000 r' (fun z => absurd z (by omega)) (fun _ => br_t (by decide) (H q' al' ap' su' va' nw' lf' (fun t ht => ?_)))
    rw [k6 t ht, hp' t ht, sf_Bs m2 ?_ (c13 x lis.2.1).1]
    · show 0 + sf_ns s (sf_G F D top X Y t) (x :: rest) (fun _ => 0) = _
      grind
    · intro w hw hbw
      have hp2 := List.pairwise_cons.mp c12
      refine sf_ns0 _ (fun σ' hσ' => ?_)
      unfold sf_G
      have yr : ¬ x ∈ rest := fun t => absurd (hp2.1 x t) (by omega)
      have ev0 := m3 w hw hbw σ' (fun u hu => absurd hu (by simp)) (by rw [hσ' x yr, sf_su1])
      rw [ev0]
      split <;> rfl
theorem sf_suC {σ : Nat → Nat} {x y v w : Nat} (h : x ≠ y) : sf_su (sf_su σ y v) x w = sf_su (sf_su σ x w) y v := by
  funext z
  unfold sf_su
  by_cases a : z = x
  · rw [if_pos a, if_neg (by omega), if_pos a]
  · rw [if_neg a]
    by_cases b : z = y
    · rw [if_pos b, if_pos b]
    · rw [if_neg b, if_neg b, if_neg a]
theorem sf_nsP {s : Nat → Nat} {g : (Nat → Nat) → Int32} {l l' : List Nat} (h : l.Perm l') : ∀ σ, sf_ns s g l σ = sf_ns s g l' σ := by
  induction h with
  | nil => exact fun σ => rfl
  | cons x _ ih => exact fun σ => sf_Qc (fun v _ => ih _)
  | swap x y l =>
    intro σ
    by_cases e : x = y
    · rw [e]
    · show sf_Q (s y) (fun v => sf_Q (s x) (fun w => sf_ns s g l (sf_su (sf_su σ y v) x w))) = sf_Q (s x) (fun v => sf_Q (s y) (fun w => sf_ns s g l (sf_su (sf_su σ x v) y w)))
      rw [sf_Qsw]
      exact sf_Qc (fun v _ => sf_Qc (fun w _ => by rw [sf_suC e]))
  | trans _ _ ih1 ih2 => exact fun σ => (ih1 σ).trans (ih2 σ)
theorem sf_pmP {u v w : Nat} (h : sf_pm u v w) : [u, v, w].Perm [0, 1, 2] := by
  obtain ⟨h1, h2, h3, h4, h5, h6⟩ := h
  have hu : u = 0 ∨ u = 1 ∨ u = 2 := by omega
  have hv : v = 0 ∨ v = 1 ∨ v = 2 := by omega
  have hw : w = 0 ∨ w = 1 ∨ w = 2 := by omega
  rcases hu with rfl | rfl | rfl <;> rcases hv with rfl | rfl | rfl <;> rcases hw with rfl | rfl | rfl <;> first | (exfalso; omega) | decide
theorem sf_olP {o s : Nat → Nat} (h : sf_pm (o 0) (o 1) (o 2)) : (sf_ol o s 3).Perm ([0, 1, 2].filter (fun x => decide (0 < s x))) := by
  unfold sf_ol
  exact (sf_pmP h).filter _
def sf_f3 (s : Nat → Nat) : List Nat := [0, 1, 2].filter (fun x => decide (0 < s x))
/-- a formula's numbers, place by place -/
def sf_res (F : sf_Fm) (D : sf_Da) (top : Nat) (s : Nat → Nat) (X Y : Int32) (t : Nat) : Int32 := sf_ns s (sf_G F D top X Y t) (sf_f3 s) (fun _ => 0)
def sf_dim (s : Nat → Nat) (X : Int32) : Nat := if X = -1 then 1 else s X.toNatClampNeg
def sf_rkXY (X Y : Int32) : Nat := if X = -1 then 0 else if Y = -1 then 1 else 2
theorem sf_assign {post : Int32 → St1 → Prop} {S : sf_Sl} {p : sf_A} {F : sf_Fm} {W : sf_Wk} {P A H to fm : Nat} {D : sf_Da} {X Y : Int32} (hf : sf_fo S F P A H D) (hto : to < 6) (hfm : fm < 2 ^ 31)
    (hX : X = -1 ∨ ∃ i, i < 3 ∧ X = nI i) (hY : Y = -1 ∨ ∃ i, i < 3 ∧ Y = nI i)
    (HE : ∀ e W', e < 0 → ((X = -1 ∧ ¬ Y = -1) ∨ (X = Y ∧ ¬ X = -1) ∨ ¬ fm ≤ sf_mx (sf_rkXY X Y) ∨ H ≠ 1 ∨
        (∃ top ins sp, top < P ∧ F.2.2.2.2.2.2.2.2.2 0 = nI top ∧ sf_ins F ins top ∧ sf_spn S F ins sp A (top + 1) ∧ ((∃ x, x < 3 ∧ (X = nI x ∨ Y = nI x) ∧ sp x = 0) ∨ ∃ x, x < 3 ∧ sp x = -1000000005))) → post e (sf_mk S p F W'))
    (HS : ∀ S' p' W' (ins sp : sf_A) (s : Nat → Nat) (top e : Nat) (q : sf_A), H = 1 → top < P → F.2.2.2.2.2.2.2.2.2 0 = nI top → sf_ins F ins top → sf_spn S F ins sp A (top + 1) → (∀ x, x < 3 → s x ≤ 6 ∧ sp x = nI (s x)) →
        (∀ t, t < 36 → q t = sf_res F D top s X Y t) → (∀ r, r < 6 → r ≠ to → ∀ rk n m f M, sf_slot S r rk n m f M → sf_slot S' r rk n m f M) →
        sf_slot S' to (sf_rkXY X Y) (sf_dim s X) (sf_dim s Y) fm (sf_mat q (sf_dim s X) (sf_dim s Y)) → e ≤ 36 → (sf_rkXY X Y = 0 → e = 1) →
        post (nI e) (sf_mk S' p' ((0), (0), (0), F.2.2.2.1, F.2.2.2.2.1, F.2.2.2.2.2.1, F.2.2.2.2.2.2.1, F.2.2.2.2.2.2.2.1, F.2.2.2.2.2.2.2.2.1, F.2.2.2.2.2.2.2.2.2) W')) :
    wpX_assign post (sf_mk S p F W) (nI to) X Y (nI fm) := by
  have hf0 := hf
  obtain ⟨f1, f2, f3, f4, f5, f6, f7, f8, f9⟩ := hf
  have bad : ∀ x5 z0 : Int32, ¬ x5 = 0 → ((X = -1 ∧ ¬ Y = -1) ∨ (X = Y ∧ ¬ X = -1)) → wX_assign_70 post (nI to) X Y (nI fm) x5 z0 F.1 F.2.1 F.2.2.1 W.1 S.1 S.2.1 S.2.2.1 S.2.2.2.1 S.2.2.2.2.1 S.2.2.2.2.2.1 S.2.2.2.2.2.2.1 S.2.2.2.2.2.2.2.1 S.2.2.2.2.2.2.2.2 F.2.2.2.1 F.2.2.2.2.1 F.2.2.2.2.2.1 F.2.2.2.2.2.2.1 F.2.2.2.2.2.2.2.1 F.2.2.2.2.2.2.2.2.1 F.2.2.2.2.2.2.2.2.2 W.2.1 p W.2.2.1 W.2.2.2.1 W.2.2.2.2.1 W.2.2.2.2.2.1 W.2.2.2.2.2.2.1 W.2.2.2.2.2.2.2.1 W.2.2.2.2.2.2.2.2.1 W.2.2.2.2.2.2.2.2.2.1 W.2.2.2.2.2.2.2.2.2.2.1 W.2.2.2.2.2.2.2.2.2.2.2 :=
    fun x5 z0 hx hb => br_f hx (HE _ W (by decide) (hb.elim Or.inl (fun t => Or.inr (Or.inl t))))
  have g44 : ((X = -1 ∧ ¬ Y = -1) ∨ (X = Y ∧ ¬ X = -1)) → wX_assign_44 post (nI to) X Y (nI fm) F.1 F.2.1 F.2.2.1 W.1 S.1 S.2.1 S.2.2.1 S.2.2.2.1 S.2.2.2.2.1 S.2.2.2.2.2.1 S.2.2.2.2.2.2.1 S.2.2.2.2.2.2.2.1 S.2.2.2.2.2.2.2.2 F.2.2.2.1 F.2.2.2.2.1 F.2.2.2.2.2.1 F.2.2.2.2.2.2.1 F.2.2.2.2.2.2.2.1 F.2.2.2.2.2.2.2.2.1 F.2.2.2.2.2.2.2.2.2 W.2.1 p W.2.2.1 W.2.2.2.1 W.2.2.2.2.1 W.2.2.2.2.2.1 W.2.2.2.2.2.2.1 W.2.2.2.2.2.2.2.1 W.2.2.2.2.2.2.2.2.1 W.2.2.2.2.2.2.2.2.2.1 W.2.2.2.2.2.2.2.2.2.2.1 W.2.2.2.2.2.2.2.2.2.2.2 :=
    fun hb => br_c (fun _ => bad _ _ sf_ne0 hb) (fun _ => br_c (fun _ => bad _ _ sf_ne0 hb) (fun _ => bad _ _ sf_ne0 hb))
  have good : ¬ (X = -1 ∧ ¬ Y = -1) → ¬ (X = Y ∧ ¬ X = -1) → wX_assign_70 post (nI to) X Y (nI fm) 0 (nI (sf_rkXY X Y)) F.1 F.2.1 F.2.2.1 W.1 S.1 S.2.1 S.2.2.1 S.2.2.2.1 S.2.2.2.2.1 S.2.2.2.2.2.1 S.2.2.2.2.2.2.1 S.2.2.2.2.2.2.2.1 S.2.2.2.2.2.2.2.2 F.2.2.2.1 F.2.2.2.2.1 F.2.2.2.2.2.1 F.2.2.2.2.2.2.1 F.2.2.2.2.2.2.2.1 F.2.2.2.2.2.2.2.2.1 F.2.2.2.2.2.2.2.2.2 W.2.1 p W.2.2.1 W.2.2.2.1 W.2.2.2.2.1 W.2.2.2.2.2.1 W.2.2.2.2.2.2.1 W.2.2.2.2.2.2.2.1 W.2.2.2.2.2.2.2.2.1 W.2.2.2.2.2.2.2.2.2.1 W.2.2.2.2.2.2.2.2.2.2.1 W.2.2.2.2.2.2.2.2.2.2.2 := by
    intro nb1 nb2
    have hrk : sf_rkXY X Y ≤ 2 := by
      unfold sf_rkXY
      split
      · omega
      · split <;> omega
    refine br_t rfl (sf_badF (S := S) (p := p) (F := F) (W := W) hrk hfm (fun hfl => br_t rfl ?_) (fun hfl => br_f sf_ne0 (HE _ W (by decide) (Or.inr (Or.inr (Or.inl hfl))))))
    refine pk_eq H 1 (fun h1 => ?_) (fun h1 => HE _ W (by decide) (Or.inr (Or.inr (Or.inr (Or.inl h1))))) f5
    obtain ⟨top, ht, est⟩ := f7 0 (by omega)
    refine nm_r est (sf_findSpans (S := S) (p := p) (F := F) (W := W) hf0 ht (fun ins sp hins hspn => ?_))
    have err : ∀ e : Int32, e < 0 → ((∃ x, x < 3 ∧ (X = nI x ∨ Y = nI x) ∧ sp x = 0) ∨ ∃ x, x < 3 ∧ sp x = -1000000005) → post e (sf_mk S p F (W.1, (ins), W.2.2.1, (sp), W.2.2.2.2.1, W.2.2.2.2.2.1, W.2.2.2.2.2.2.1, W.2.2.2.2.2.2.2.1, W.2.2.2.2.2.2.2.2.1, W.2.2.2.2.2.2.2.2.2.1, W.2.2.2.2.2.2.2.2.2.2.1, W.2.2.2.2.2.2.2.2.2.2.2)) :=
      fun e he hr => HE e _ he (Or.inr (Or.inr (Or.inr (Or.inr ⟨top, ins, sp, ht, est, hins, hspn, hr⟩))))
    have core : (∀ x, x < 3 → X = nI x → ¬ sp x = 0) → (∀ x, x < 3 → Y = nI x → ¬ sp x = 0) → wX_assign_147 post (nI to) X Y (nI fm) (nI (sf_rkXY X Y)) (nI top) F.1 F.2.1 F.2.2.1 W.1 S.1 S.2.1 S.2.2.1 S.2.2.2.1 S.2.2.2.2.1 S.2.2.2.2.2.1 S.2.2.2.2.2.2.1 S.2.2.2.2.2.2.2.1 S.2.2.2.2.2.2.2.2 F.2.2.2.1 F.2.2.2.2.1 F.2.2.2.2.2.1 F.2.2.2.2.2.2.1 F.2.2.2.2.2.2.2.1 F.2.2.2.2.2.2.2.2.1 F.2.2.2.2.2.2.2.2.2 (ins) p W.2.2.1 (sp) W.2.2.2.2.1 W.2.2.2.2.2.1 W.2.2.2.2.2.2.1 W.2.2.2.2.2.2.2.1 W.2.2.2.2.2.2.2.2.1 W.2.2.2.2.2.2.2.2.2.1 W.2.2.2.2.2.2.2.2.2.2.1 W.2.2.2.2.2.2.2.2.2.2.2 := by
      intro sx sy
      refine br_c (fun z => err _ (by decide) (Or.inr ⟨0, by omega, z⟩)) (fun z0 => br_c (fun z => err _ (by decide) (Or.inr ⟨1, by omega, z⟩)) (fun z1 => br_c (fun z => err _ (by decide) (Or.inr ⟨2, by omega, z⟩)) (fun z2 => ?_)))
      have nmm : ∀ x, x < 3 → ¬ sp x = -1000000005 := by
        intro x hx
        rcases x with _ | _ | _ | x
        · exact z0
        · exact z1
        · exact z2
        · omega
      have hs0 : ∀ x, ∃ v : Nat, x < 3 → v ≤ 6 ∧ sp x = nI v := by
        intro x
        by_cases hx : x < 3
        · rcases hspn.2.1 x hx with a | a | ⟨l, l1, l2, l3⟩
          · exact ⟨0, fun _ => ⟨by omega, a⟩⟩
          · exact absurd a (nmm x hx)
          · exact ⟨l, fun _ => ⟨l2, l3⟩⟩
        · exact ⟨0, fun t => absurd t hx⟩
      obtain ⟨s, hs⟩ : ∃ s : Nat → Nat, ∀ x, x < 3 → s x ≤ 6 ∧ sp x = nI (s x) := ⟨fun x => Classical.choose (hs0 x), fun x => Classical.choose_spec (hs0 x)⟩
      have spos : ∀ x, x < 3 → ¬ sp x = 0 → 0 < s x := by
        intro x hx h0
        rcases Nat.lt_or_ge 0 (s x) with a | a
        · exact a
        · have h2 := (hs x hx).2
          rw [show s x = 0 by omega] at h2
          exact absurd h2 h0
      refine sf_choose (S := S) (p := p) (F := F) (W := (W.1, (ins), W.2.2.1, (sp), W.2.2.2.2.1, W.2.2.2.2.2.1, W.2.2.2.2.2.2.1, W.2.2.2.2.2.2.2.1, W.2.2.2.2.2.2.2.2.1, W.2.2.2.2.2.2.2.2.2.1, W.2.2.2.2.2.2.2.2.2.2.1, W.2.2.2.2.2.2.2.2.2.2.2)) hf0 hs (fun S1 p1 li lx px o hpm hli hkp har hord => ?_)
      have hfor : ∃ f : Nat → Nat, ∀ a, a < A → sf_wa S1 F lx px a (D a).1 (f a) (D a).2.2.2 := by
        have hex : ∀ a, ∃ f : Nat, a < A → sf_wa S1 F lx px a (D a).1 f (D a).2.2.2 := by
          intro a
          by_cases ha : a < A
          · obtain ⟨g, hg⟩ := sf_waI (har a ha) ⟨⟨_, (Classical.choose_spec (har a ha)).1⟩, (f9 a ha).2⟩
            exact ⟨g, fun _ => hg⟩
          · exact ⟨0, fun t => absurd t ha⟩
        exact ⟨fun a => Classical.choose (hex a), fun a => Classical.choose_spec (hex a)⟩
      obtain ⟨f, hwa⟩ := hfor
      have olm : ∀ v, v ∈ sf_ol o s 3 → v < 3 ∧ 0 < s v := by
        intro v hv
        have := (sf_olP hpm).mem_iff.mp hv
        rw [List.mem_filter] at this
        refine ⟨?_, of_decide_eq_true this.2⟩
        have h2 := this.1
        simp at h2
        omega
      have olm2 : ∀ v, v < 3 → 0 < s v → v ∈ sf_ol o s 3 := by
        intro v hv h0
        refine (sf_olP hpm).mem_iff.mpr (List.mem_filter.mpr ⟨?_, decide_eq_true h0⟩)
        rcases v with _ | _ | _ | v
        · simp
        · simp
        · simp
        · omega
      have hpw : (sf_ol o s 3).Pairwise (fun a b => sf_ps (o 0) (o 1) a < sf_ps (o 0) (o 1) b) := by
        unfold sf_ol
        refine List.Pairwise.filter _ ?_
        obtain ⟨m1, m2, m3, m4, m5, m6⟩ := hpm
        have q0 : sf_ps (o 0) (o 1) (o 0) = 0 := by unfold sf_ps; rw [if_pos rfl]
        have q1 : sf_ps (o 0) (o 1) (o 1) = 1 := by unfold sf_ps; rw [if_neg (fun t => m4 t.symm), if_pos rfl]
        have q2 : sf_ps (o 0) (o 1) (o 2) = 2 := by unfold sf_ps; rw [if_neg (fun t => m5 t.symm), if_neg (fun t => m6 t.symm)]
        show [o 0, o 1, o 2].Pairwise _
        simp [q0, q1, q2]
      have LDs : ∀ y : Int32, (y = -1 ∨ ∃ i, i < 3 ∧ y = nI i) → (∀ x, x < 3 → y = nI x → ¬ sp x = 0) → sf_LD (sf_ol o s 3) y := by
        intro y hy hh
        rcases hy with hy | ⟨i, i1, i2⟩
        · exact Or.inl hy
        · exact Or.inr ⟨i, olm2 i i1 (spos i i1 (hh i i1 i2)), i1, i2⟩
      have cx : sf_cx S1 F ((nI (sf_ol o s 3).length), (ins), (li), (sp), (lx), (px), W.2.2.2.2.2.2.1, W.2.2.2.2.2.2.2.1, W.2.2.2.2.2.2.2.2.1, W.2.2.2.2.2.2.2.2.2.1, W.2.2.2.2.2.2.2.2.2.2.1, W.2.2.2.2.2.2.2.2.2.2.2) P A top f D s (sf_ol o s 3) (sf_ps (o 0) (o 1)) X Y := by
        refine ⟨f2, f4, f3, ht, f8, hins, hwa, rfl, sf_olL o s 3, hli, fun v hv => (olm v hv).1, hpw, hs, hord, ?_, LDs X hX sx, LDs Y hY sy⟩
        intro a hia
        obtain ⟨ha, k, k1, k2, k3, k4⟩ := hia
        obtain ⟨⟨g, ⟨⟨_, b2, b3, b4, b5, bd⟩, _⟩⟩, qq⟩ := f9 a ha
        have n1 : ¬ S.2.1 (6 + a) = 0 := by rw [b3]; exact nI_ne0 bd.2.1 (by have := bd.2.2.1; omega)
        have n2 : ¬ S.2.2.1 (6 + a) = 0 := by rw [b4]; exact nI_ne0 bd.2.2.2.1 (by have := bd.2.2.2.2.1; omega)
        have hA1 : ∀ x, x < 3 → F.2.2.2.2.2.2.2.1 a = nI x → ¬ sp x = 0 := by
          intro x hx e
          rcases (hspn.1 k (by omega) k2 k3 a ha k4 x hx).1 e with t | t
          · rw [t]; exact n1
          · rw [t]; exact sf_mm
        have hB1 : ∀ x, x < 3 → F.2.2.2.2.2.2.2.2.1 a = nI x → ¬ sp x = 0 := by
          intro x hx e
          rcases (hspn.1 k (by omega) k2 k3 a ha k4 x hx).2 e with t | t
          · rw [t]; exact n2
          · rw [t]; exact sf_mm
        have hxA : F.2.2.2.2.2.2.2.1 a = -1 ∨ ∃ i, i < 3 ∧ F.2.2.2.2.2.2.2.1 a = nI i := by
          rcases qq with ⟨_, q, _⟩ | ⟨_, q, _⟩ | ⟨_, x, y, x1, _, _, x2, _⟩
          · exact Or.inl q
          · exact Or.inr q
          · exact Or.inr ⟨x, x1, x2⟩
        have hxB : F.2.2.2.2.2.2.2.2.1 a = -1 ∨ ∃ i, i < 3 ∧ F.2.2.2.2.2.2.2.2.1 a = nI i := by
          rcases qq with ⟨_, _, q⟩ | ⟨_, _, q⟩ | ⟨_, x, y, _, x1, _, _, x2⟩
          · exact Or.inl q
          · exact Or.inl q
          · exact Or.inr ⟨y, x1, x2⟩
        exact (hwa a ha).2.2.2 _ (LDs _ hxA hA1) (LDs _ hxB hB1)
      refine sf_work (S := S1) (p := p1) (F := F) cx (fun q al ap su va nw lf hq => ?_)
      have hq' : ∀ t, t < 36 → q t = sf_res F D top s X Y t := fun t ht => (hq t ht).trans (sf_nsP (sf_olP hpm) _)
      have dimX : 1 ≤ sf_dim s X ∧ sf_dim s X ≤ 6 := by
        unfold sf_dim
        rcases hX with hX | ⟨i, i1, i2⟩
        · rw [if_pos hX]; omega
        · rw [if_neg (by rw [i2]; exact sf_neg1 (by omega)), i2, nI_clamp (by omega)]
          exact ⟨spos i i1 (sx i i1 i2), (hs i i1).1⟩
      have dimY : 1 ≤ sf_dim s Y ∧ sf_dim s Y ≤ 6 := by
        unfold sf_dim
        rcases hY with hY | ⟨i, i1, i2⟩
        · rw [if_pos hY]; omega
        · rw [if_neg (by rw [i2]; exact sf_neg1 (by omega)), i2, nI_clamp (by omega)]
          exact ⟨spos i i1 (sy i i1 i2), (hs i i1).1⟩
      have hdm : sf_dm (sf_rkXY X Y) (sf_dim s X) (sf_dim s Y) fm := by
        refine ⟨hrk, dimX.1, dimX.2, dimY.1, dimY.2, hfl, ?_, ?_⟩
        · intro z
          unfold sf_rkXY at z
          unfold sf_dim
          by_cases a : Y = -1
          · rw [if_pos a]
          · rw [if_neg a] at z
            by_cases b : X = -1
            · exact absurd ⟨b, a⟩ nb1
            · rw [if_neg b] at z; omega
        · intro z
          unfold sf_rkXY at z
          unfold sf_dim
          by_cases b : X = -1
          · rw [if_pos b]
          · rw [if_neg b] at z
            split at z <;> omega
      have eX : ∀ z1 : Int32, ((X = -1 ∧ z1 = 1) ∨ ((¬ X = -1) ∧ z1 = sp X.toNatClampNeg)) → z1 = nI (sf_dim s X) := by
        intro z1 h
        unfold sf_dim
        rcases h with ⟨a, b⟩ | ⟨a, b⟩
        · rw [if_pos a, b]; rfl
        · obtain ⟨i, i1, i2⟩ := hX.resolve_left a
          rw [if_neg a, b, i2, nI_clamp (by omega)]
          exact (hs i i1).2
      have eY : ∀ z1 : Int32, ((Y = -1 ∧ z1 = 1) ∨ ((¬ Y = -1) ∧ z1 = sp Y.toNatClampNeg)) → z1 = nI (sf_dim s Y) := by
        intro z1 h
        unfold sf_dim
        rcases h with ⟨a, b⟩ | ⟨a, b⟩
        · rw [if_pos a, b]; rfl
        · obtain ⟨i, i1, i2⟩ := hY.resolve_left a
          rw [if_neg a, b, i2, nI_clamp (by omega)]
          exact (hs i i1).2
      have g229 : wX_assign_229 post (nI to) (nI fm) (nI (sf_dim s Y)) (nI (sf_dim s X)) (nI (sf_rkXY X Y)) (nI to) F.1 F.2.1 F.2.2.1 (nI (sf_ol o s 3).length) S1.1 S1.2.1 S1.2.2.1 S1.2.2.2.1 S1.2.2.2.2.1 S1.2.2.2.2.2.1 S1.2.2.2.2.2.2.1 S1.2.2.2.2.2.2.2.1 S1.2.2.2.2.2.2.2.2 F.2.2.2.1 F.2.2.2.2.1 F.2.2.2.2.2.1 F.2.2.2.2.2.2.1 F.2.2.2.2.2.2.2.1 F.2.2.2.2.2.2.2.2.1 F.2.2.2.2.2.2.2.2.2 (ins) q (li) (sp) (lx) (px) (al) (ap) (su) (va) (nw) (lf) := by
        unfold wX_assign_229
        refine sf_pack (S := S1) (p := q) (F := F) (W := ((nI (sf_ol o s 3).length), (ins), (li), (sp), (lx), (px), (al), (ap), (su), (va), (nw), (lf))) (by omega) hdm (fun S2 h2 n2 => ?_)
        refine sf_scrap (S := S2) (p := q) (F := F) (W := ((nI (sf_ol o s 3).length), (ins), (li), (sp), (lx), (px), (al), (ap), (su), (va), (nw), (lf))) ?_
        refine sf_roomOf (S := S2) (p := q) (F := ((0), (0), (0), F.2.2.2.1, F.2.2.2.2.1, F.2.2.2.2.2.1, F.2.2.2.2.2.2.1, F.2.2.2.2.2.2.2.1, F.2.2.2.2.2.2.2.2.1, F.2.2.2.2.2.2.2.2.2)) (W := ((nI (sf_ol o s 3).length), (ins), (li), (sp), (lx), (px), (al), (ap), (su), (va), (nw), (lf))) h2 (fun e e1 e2 e3 e4 e5 e6 => ?_)
        refine HS S2 q _ ins sp s top e q h1 ht est hins hspn hs hq' (fun r hr hne rk n m f M hM => sf_slotN (hkp r hr rk n m f M hM) n2 hne) h2 e1 (fun r0 => ?_)
        rw [r0] at e6
        rw [e6 rfl rfl]
        have d1 := hdm.2.2.2.2.2.2.1 (by omega)
        have d2 := hdm.2.2.2.2.2.2.2 r0
        rw [d1, d2]
      have g214 : ∀ z0 : Int32, z0 = nI (sf_dim s X) → wX_assign_214 post (nI to) Y (nI fm) z0 (nI (sf_rkXY X Y)) (nI to) F.1 F.2.1 F.2.2.1 (nI (sf_ol o s 3).length) S1.1 S1.2.1 S1.2.2.1 S1.2.2.2.1 S1.2.2.2.2.1 S1.2.2.2.2.2.1 S1.2.2.2.2.2.2.1 S1.2.2.2.2.2.2.2.1 S1.2.2.2.2.2.2.2.2 F.2.2.2.1 F.2.2.2.2.1 F.2.2.2.2.2.1 F.2.2.2.2.2.2.1 F.2.2.2.2.2.2.2.1 F.2.2.2.2.2.2.2.2.1 F.2.2.2.2.2.2.2.2.2 (ins) q (li) (sp) (lx) (px) (al) (ap) (su) (va) (nw) (lf) := by
        intro z0 hz0
        subst hz0
        refine br_c (fun z => ?_) (fun z => And.intro ?_ ?_)
        · have := eY 1 (Or.inl ⟨z, rfl⟩)
          rw [this]; exact g229
        · obtain ⟨i, i1, i2⟩ := hY.resolve_left z
          exact pk_in i 3 i1 i2
        · have := eY _ (Or.inr ⟨z, rfl⟩)
          rw [this]; exact g229
      refine br_c (fun z => g214 1 (eX 1 (Or.inl ⟨z, rfl⟩))) (fun z => And.intro ?_ (g214 _ (eX _ (Or.inr ⟨z, rfl⟩))))
      obtain ⟨i, i1, i2⟩ := hX.resolve_left z
      exact pk_in i 3 i1 i2
    have g130 : (∀ x, x < 3 → X = nI x → ¬ sp x = 0) → wX_assign_130 post (nI to) X Y (nI fm) (nI (sf_rkXY X Y)) (nI top) F.1 F.2.1 F.2.2.1 W.1 S.1 S.2.1 S.2.2.1 S.2.2.2.1 S.2.2.2.2.1 S.2.2.2.2.2.1 S.2.2.2.2.2.2.1 S.2.2.2.2.2.2.2.1 S.2.2.2.2.2.2.2.2 F.2.2.2.1 F.2.2.2.2.1 F.2.2.2.2.2.1 F.2.2.2.2.2.2.1 F.2.2.2.2.2.2.2.1 F.2.2.2.2.2.2.2.2.1 F.2.2.2.2.2.2.2.2.2 (ins) p W.2.2.1 (sp) W.2.2.2.2.1 W.2.2.2.2.2.1 W.2.2.2.2.2.2.1 W.2.2.2.2.2.2.2.1 W.2.2.2.2.2.2.2.2.1 W.2.2.2.2.2.2.2.2.2.1 W.2.2.2.2.2.2.2.2.2.2.1 W.2.2.2.2.2.2.2.2.2.2.2 := by
      intro sx
      refine br_c (fun z => core sx (fun x hx e => absurd (z.symm.trans e) (fun t => sf_neg1 (by omega) t.symm))) (fun z => ?_)
      obtain ⟨i, i1, i2⟩ := hY.resolve_left z
      have ei : Y.toNatClampNeg = i := by rw [i2]; exact nI_clamp (by omega)
      refine And.intro (pk_in i 3 i1 i2) (br_c (fun y => err _ (by decide) (Or.inl ⟨i, i1, Or.inr i2, ?_⟩)) (fun y => core sx (fun x hx e => ?_)))
      · rw [ei] at y; exact y
      · obtain rfl : i = x := sf_inj (by omega) (by omega) (i2.symm.trans e)
        rw [ei] at y; exact y
    refine br_c (fun z => g130 (fun x hx e => absurd (z.symm.trans e) (fun t => sf_neg1 (by omega) t.symm))) (fun z => ?_)
    obtain ⟨i, i1, i2⟩ := hX.resolve_left z
    have ei : X.toNatClampNeg = i := by rw [i2]; exact nI_clamp (by omega)
    refine And.intro (pk_in i 3 i1 i2) (br_c (fun y => err _ (by decide) (Or.inl ⟨i, i1, Or.inl i2, ?_⟩)) (fun y => g130 (fun x hx e => ?_)))
    · rw [ei] at y; exact y
    · obtain rfl : i = x := sf_inj (by omega) (by omega) (i2.symm.trans e)
      rw [ei] at y; exact y
  have g48 : ¬ (X = -1 ∧ ¬ Y = -1) → ¬ (X = Y ∧ ¬ X = -1) → wX_assign_48 post (nI to) X Y (nI fm) F.1 F.2.1 F.2.2.1 W.1 S.1 S.2.1 S.2.2.1 S.2.2.2.1 S.2.2.2.2.1 S.2.2.2.2.2.1 S.2.2.2.2.2.2.1 S.2.2.2.2.2.2.2.1 S.2.2.2.2.2.2.2.2 F.2.2.2.1 F.2.2.2.2.1 F.2.2.2.2.2.1 F.2.2.2.2.2.2.1 F.2.2.2.2.2.2.2.1 F.2.2.2.2.2.2.2.2.1 F.2.2.2.2.2.2.2.2.2 W.2.1 p W.2.2.1 W.2.2.2.1 W.2.2.2.2.1 W.2.2.2.2.2.1 W.2.2.2.2.2.2.1 W.2.2.2.2.2.2.2.1 W.2.2.2.2.2.2.2.2.1 W.2.2.2.2.2.2.2.2.2.1 W.2.2.2.2.2.2.2.2.2.2.1 W.2.2.2.2.2.2.2.2.2.2.2 := by
    intro nb1 nb2
    have g := good nb1 nb2
    unfold sf_rkXY at g
    refine br_c (fun z => ?_) (fun z => br_c (fun y => ?_) (fun y => ?_))
    · rw [if_pos z] at g; exact g
    · rw [if_neg z, if_pos y] at g; exact g
    · rw [if_neg z, if_neg y] at g; exact g
  have g34 : ¬ (X = -1 ∧ ¬ Y = -1) → wX_assign_34 post (nI to) X Y (nI fm) F.1 F.2.1 F.2.2.1 W.1 S.1 S.2.1 S.2.2.1 S.2.2.2.1 S.2.2.2.2.1 S.2.2.2.2.2.1 S.2.2.2.2.2.2.1 S.2.2.2.2.2.2.2.1 S.2.2.2.2.2.2.2.2 F.2.2.2.1 F.2.2.2.2.1 F.2.2.2.2.2.1 F.2.2.2.2.2.2.1 F.2.2.2.2.2.2.2.1 F.2.2.2.2.2.2.2.2.1 F.2.2.2.2.2.2.2.2.2 W.2.1 p W.2.2.1 W.2.2.2.1 W.2.2.2.2.1 W.2.2.2.2.2.1 W.2.2.2.2.2.2.1 W.2.2.2.2.2.2.2.1 W.2.2.2.2.2.2.2.2.1 W.2.2.2.2.2.2.2.2.2.1 W.2.2.2.2.2.2.2.2.2.2.1 W.2.2.2.2.2.2.2.2.2.2.2 := by
    intro nb1
    exact br_c (fun z => br_c (fun y => g48 nb1 (fun t => t.2 y)) (fun y => g44 (Or.inr ⟨z, y⟩))) (fun z => g48 nb1 (fun t => z t.1))
  unfold wpX_assign
  exact sf_badR (S := S) (p := p) (F := F) (W := W) hto (br_t rfl (sf_badI (S := S) (p := p) (F := F) (W := W) hX (br_t rfl (sf_badI (S := S) (p := p) (F := F) (W := W) hY (br_t rfl (br_c (fun z => br_c (fun y => g34 (fun t => t.2 y)) (fun y => g44 (Or.inl ⟨z, y⟩))) (fun z => g34 (fun t => z t.1))))))))
end
section
theorem sf_arrayG {post : Int32 → St1 → Prop} {S : sf_Sl} {p : sf_A} {F : sf_Fm} {W : sf_Wk} {r P A H : Nat} {D : sf_Da} {x y : Int32} (h : sf_all S) (hr : r < 6) (hf : sf_fo S F P A H D)
    (hx : x = -1 ∨ ∃ i, i < 3 ∧ x = nI i) (hy : y = -1 ∨ ∃ i, i < 3 ∧ y = nI i)
    (HS : ∀ e S' p' F' P' A' H' D', sf_all S' → sf_fo S' F' P' A' H' D' → post e (sf_mk S' p' F' W)) : wpX_array post (sf_mk S p F W) (nI r) x y := by
  obtain ⟨rk, n, m, f, M, hM⟩ := h r hr
  exact sf_array (S := S) (p := p) (F := F) (W := W) hM hr hf hx hy (fun _ => HS _ S p F P A H D h hf) (fun _ _ => HS _ S p F P A H D h hf)
    (fun acc a1 a2 a3 S' p' b1 b2 => HS _ S' p' _ _ _ _ _ (sf_allO h (by omega) b2) (sf_foA hf a1 a2 a3 b1 b2 hx hy acc))
theorem sf_joinG {post : Int32 → St1 → Prop} {S : sf_Sl} {p : sf_A} {F : sf_Fm} {W : sf_Wk} {P A H o : Nat} {D : sf_Da} (hf : sf_fo S F P A H D) (ho : o ≤ 2)
    (HS : ∀ e F' P' H', sf_fo S F' P' A H' D → post e (sf_mk S p F' W)) : wpX_join post (sf_mk S p F W) (nI o) :=
  sf_joinL hf ho (fun _ e => HS e F P H hf) (fun a1 a2 => HS _ _ _ _ (sf_foJ hf ho a1 a2))
theorem sf_assignG {post : Int32 → St1 → Prop} {S : sf_Sl} {p : sf_A} {F : sf_Fm} {W : sf_Wk} {P A H to fm : Nat} {D : sf_Da} {X Y : Int32} (h : sf_all S) (hf : sf_fo S F P A H D) (hto : to < 6) (hfm : fm < 2 ^ 31)
    (hX : X = -1 ∨ ∃ i, i < 3 ∧ X = nI i) (hY : Y = -1 ∨ ∃ i, i < 3 ∧ Y = nI i)
    (HS : ∀ e S' p' F' W', sf_all S' → post e (sf_mk S' p' F' W')) : wpX_assign post (sf_mk S p F W) (nI to) X Y (nI fm) := by
  refine sf_assign hf hto hfm hX hY (fun e W' _ _ => HS e S p F W' h) (fun S' p' W' ins sp s top e q a1 a2 a3 a4 a5 a6 a7 a8 a9 a10 a11 => HS _ S' p' _ W' ?_)
  intro r hr
  by_cases a : r = to
  · rw [a]
    exact ⟨_, _, _, _, _, a9⟩
  · obtain ⟨rk, n, m, f, M, hM⟩ := h r hr
    exact ⟨rk, n, m, f, M, a8 r hr a rk n m f M hM⟩
theorem sf_m3 {j : Nat} (h : j < 4) : nI j - 1 = (-1 : Int32) ∨ ∃ i, i < 3 ∧ nI j - 1 = nI i := by
  rcases j with _ | j
  · exact Or.inl (by decide)
  · exact Or.inr ⟨j, by omega, nI_pred j⟩
/-- one turn of the script -/
theorem sf_lturn {post : Int32 → St1 → Prop} {S : sf_Sl} {p : sf_A} {F : sf_Fm} {W : sf_Wk} {p1 p2 : Int32} (h : sf_all S)
    (H : ∀ e S' p' F' W', sf_all S' → post e (sf_mk S' p' F' W')) : wpL_turn post (sf_mk S p F W) p1 p2 := by
  obtain ⟨o, ho, eo⟩ := pk_andE p1 (m := 15) 4 (by decide)
  obtain ⟨r0, hr0, er0⟩ := pk_andE p2 (m := 7) 3 (by decide)
  obtain ⟨a, ha, ea⟩ := pk_andE (p2 >>> ((3 : Int32) &&& 31)) (m := 3) 2 (by decide)
  obtain ⟨b, hb, eb⟩ := pk_andE (p2 >>> ((5 : Int32) &&& 31)) (m := 3) 2 (by decide)
  obtain ⟨f, hf, ef⟩ := pk_andE (p2 >>> ((7 : Int32) &&& 31)) (m := 7) 3 (by decide)
  obtain ⟨c13, h13, e13⟩ := pk_andE (p2 >>> ((13 : Int32) &&& 31)) (m := 1) 1 (by decide)
  obtain ⟨c14, h14, e14⟩ := pk_andE (p2 >>> ((14 : Int32) &&& 31)) (m := 1) 1 (by decide)
  obtain ⟨c15, h15, e15⟩ := pk_andE (p2 >>> ((15 : Int32) &&& 31)) (m := 7) 3 (by decide)
  obtain ⟨c18, h18, e18⟩ := pk_andE (p2 >>> ((18 : Int32) &&& 31)) (m := 3) 2 (by decide)
  obtain ⟨c20, h20, e20⟩ := pk_andE (p2 >>> ((20 : Int32) &&& 31)) (m := 3) 2 (by decide)
  have rem3 : ∀ t, t < 100 → nI t - nI t / 3 * 3 = nI (t % 3) := fun t ht => pk_rem (d := 3) (by omega) (by omega) (by omega)
  have rem6 : ∀ t, t < 100 → nI t - nI t / 6 * 6 = nI (t % 6) := fun t ht => pk_rem (d := 6) (by omega) (by omega) (by omega)
  refine nm_r eo (And.intro (by decide) (nm_r (e' := nI (r0 % 6)) (by rw [er0]; exact rem6 r0 (by omega)) (nm_r ea (nm_r eb (nm_r ef ?_)))))
  have hr : r0 % 6 < 6 := by omega
  generalize r0 % 6 = r at hr
  refine pk_le 2 o (fun z1 => pk_le 11 o (fun z2 => pk_eq o 11 (fun z3 => ?_) (fun z3 => pk_eq o 12 (fun z4 => ?_) (fun z4 => ?_))) (fun z2 => ?_)) (fun z1 => ?_)
  · obtain ⟨rk, n, m, g, M, hM⟩ := h r hr
    exact sf_format (S := S) (p := p) (F := F) (W := W) hM hr (by omega) (fun _ S' p' e b1 b2 _ _ _ _ => H _ S' p' F W (sf_allN h ⟨rk, n, m, f, M, b1⟩ b2)) (fun _ => H _ S p F W h)
  · obtain ⟨rk, n, m, g, M, hM⟩ := h r hr
    exact sf_turn (S := S) (p := p) (F := F) (W := W) hM hr (fun _ S' b1 b2 => H _ S' p F W (sf_allN h ⟨_, _, _, _, _, b1⟩ b2)) (fun _ => H _ S p F W h)
  · refine sf_scrap (S := S) (p := p) (F := F) (W := W) ?_
    have d3 : ¬ (3 : Int32) = 0 := by decide
    have d6 : ¬ (6 : Int32) = 0 := by decide
    refine And.intro d3 (And.intro d3 ?_)
    rw [rem3 a (by omega), nI_1 a, rem3 (a + 1) (by omega)]
    refine sf_arrayG (S := S) (p := p) (F := ((0), (0), (0), F.2.2.2.1, F.2.2.2.2.1, F.2.2.2.2.2.1, F.2.2.2.2.2.2.1, F.2.2.2.2.2.2.2.1, F.2.2.2.2.2.2.2.2.1, F.2.2.2.2.2.2.2.2.2)) (W := W) h hr (sf_fo0 S F (fun _ => (0, 0, 0, fun _ _ => 0))) (Or.inr ⟨a % 3, by omega, rfl⟩) (Or.inr ⟨(a + 1) % 3, by omega, rfl⟩) (fun e S1 p1 F1 P1 A1 H1 D1 h1 hf1 => And.intro d3 ?_)
    refine sf_arrayG (S := S1) (p := p1) (F := F1) (W := W) h1 hr hf1 (Or.inr ⟨a % 3, by omega, rfl⟩) (Or.inl rfl) (fun e S2 p2' F2 P2 A2 H2 D2 h2 hf2 => And.intro d6 (And.intro d3 (And.intro d3 ?_)))
    rw [nI_1 r, rem6 (r + 1) (by omega), rem3 b (by omega), show nI b + 2 = nI (b + 2) from nI_add b 2, rem3 (b + 2) (by omega)]
    refine sf_arrayG (S := S2) (p := p2') (F := F2) (W := W) h2 (by omega) hf2 (Or.inr ⟨b % 3, by omega, rfl⟩) (Or.inr ⟨(b + 2) % 3, by omega, rfl⟩) (fun e S3 p3 F3 P3 A3 H3 D3 h3 hf3 => And.intro d6 (And.intro d3 ?_))
    refine sf_arrayG (S := S3) (p := p3) (F := F3) (W := W) h3 (by omega) hf3 (Or.inr ⟨b % 3, by omega, rfl⟩) (Or.inl rfl) (fun e S4 p4 F4 P4 A4 H4 D4 h4 hf4 => ?_)
    refine sf_const (S := S4) (p := p4) (F := F4) (W := W) hf4 (fun e F5 P5 H5 hf5 => ?_)
    rw [e13]
    refine sf_joinG (S := S4) (p := p4) (F := F5) (W := W) hf5 (by omega) (fun e F6 P6 H6 hf6 => ?_)
    rw [e14, show (2 : Int32) - nI c14 = nI (2 - c14) from pk_sub (a := 2) (by omega)]
    refine sf_joinG (S := S4) (p := p4) (F := F6) (W := W) hf6 (by omega) (fun e F7 P7 H7 hf7 => And.intro d6 ?_)
    rw [e15, rem6 c15 (by omega), e18, e20]
    exact sf_assignG (S := S4) (p := p4) (F := F7) (W := W) (fm := 0) h4 hf7 (by omega) (by omega) (sf_m3 (by omega)) (sf_m3 (by omega)) (fun e S' p' F' W' hh => H e S' p' F' W' hh)
  · exact sf_put (S := S) (p := p) (F := F) (W := W) h hr (by omega) (by omega) (fun y S' p' hh => H y S' p' F W hh)
  · have e1 : (1 : Int32) + nI a = nI (1 + a) := nI_add 1 a
    rw [e1]
    refine pk_eq b 0 (fun z => ?_) (fun z => ?_)
    · obtain ⟨g, hg, eg⟩ := pk_andE (nI f) (m := 1) 1 (by decide)
      rw [eg]
      unfold wL_turn_65
      exact sf_make (S := S) (p := p) (F := F) (W := W) h hr (by omega) (by omega) (by omega) (by omega) (fun y S' p' hh => H y S' p' F W hh)
    · unfold wL_turn_65
      exact sf_make (S := S) (p := p) (F := F) (W := W) h hr (by omega) (by omega) (by omega) (by omega) (fun y S' p' hh => H y S' p' F W hh)
theorem sf_init {post : St1 → Prop} {mc ms : Nat} (h1 : 28 ≤ mc) (h2 : 1400 ≤ ms) (H : ∀ S p F W, sf_all S → post (sf_mk S p F W)) : wpX_init post mc ms (0, 0, 0, 0) := by
  refine ⟨by omega, by omega, by omega, by omega, by omega, by omega, by omega, by omega, by omega, by omega, by omega, by omega, by omega, by omega, by omega, by omega, by omega, by omega, by omega, by omega, by omega, by omega, by omega, by omega, by omega, by omega, by omega, by omega, by omega, by omega, by omega, by omega, by omega, by omega, by omega, by omega, by omega, by omega, by omega, by omega, by omega, by omega, by omega, by omega, by omega, by omega, by omega, by omega, by omega, by omega, by omega, by omega, by omega, by omega, by omega, by omega, ?_⟩
  let F : sf_Fm := (0, 0, 0, (fun _ => 0), (fun _ => 0), (fun _ => 0), (fun _ => 0), (fun _ => 0), (fun _ => 0), (fun _ => 0))
  let W : sf_Wk := (0, (fun _ => 0), (fun _ => 0), (fun _ => 0), (fun _ => 0), (fun _ => 0), (fun _ => 0), (fun _ => 0), (fun _ => 0), (fun _ => 0), (fun _ => 0), (fun _ => 0))
  let S0 : sf_Sl := ((fun _ => 0), (fun _ => 0), (fun _ => 0), (fun _ => 0), (fun _ => 0), (fun _ => 0), (fun _ => 0), (fun _ => 0), (fun _ => 0))
  refine pk_loop (σ := sf_Sl × sf_A) (fun n i t => match t with | (S, p) => wX_init_228 post mc ms 28 1400 n (nI i) F.1 F.2.1 F.2.2.1 W.1 S.1 S.2.1 S.2.2.1 S.2.2.2.1 S.2.2.2.2.1 S.2.2.2.2.2.1 S.2.2.2.2.2.2.1 S.2.2.2.2.2.2.2.1 S.2.2.2.2.2.2.2.2 F.2.2.2.1 F.2.2.2.2.1 F.2.2.2.2.2.1 F.2.2.2.2.2.2.1 F.2.2.2.2.2.2.2.1 F.2.2.2.2.2.2.2.2.1 F.2.2.2.2.2.2.2.2.2 W.2.1 p W.2.2.1 W.2.2.2.1 W.2.2.2.2.1 W.2.2.2.2.2.1 W.2.2.2.2.2.2.1 W.2.2.2.2.2.2.2.1 W.2.2.2.2.2.2.2.2.1 W.2.2.2.2.2.2.2.2.2.1 W.2.2.2.2.2.2.2.2.2.2.1 W.2.2.2.2.2.2.2.2.2.2.2) (fun i t => ∀ r, r < i → sf_reg t.1 r) 6 0 (S0, fun _ => 0) (by omega) (fun r hr => absurd hr (by omega)) ?_ ?_
  · intro n t ht
    obtain ⟨S, p⟩ := t
    exact pk_le 6 6 (fun _ => H S p F W ht) (fun z => absurd z (by omega))
  · intro n i t hi ht hw
    obtain ⟨S, p⟩ := t
    refine pk_le 6 i (fun z => absurd z (by omega)) (fun _ => sf_clear (S := S) (p := p) (F := F) (W := W) (fun p' hp' => ?_))
    refine sf_pack (S := S) (p := p') (F := F) (W := W) (rk := 0) (n := 1) (m := 1) (f := 0) (by omega) ⟨by omega, by omega, by omega, by omega, by omega, Nat.le_refl _, fun _ => rfl, fun _ => rfl⟩ (fun S' a b => nm_r (nI_1 i) (hw (S', p') (fun r hr => ?_)))
    by_cases e : r = i
    · rw [e]
      exact ⟨_, _, _, _, _, a⟩
    · obtain ⟨rk, n, m, f, M, hM⟩ := ht r (by omega)
      exact ⟨rk, n, m, f, M, sf_slotN hM b e⟩
end
section
theorem sf_mx2 {rk i : Nat} (hr : rk ≤ 2) (h : i ≤ sf_mx rk) : (i = 1 → 1 ≤ rk) ∧ (2 ≤ i → rk = 2) := by
  unfold sf_mx at h
  by_cases a : rk = 0
  · rw [if_pos a] at h
    exact ⟨fun t => by omega, fun t => by omega⟩
  · rw [if_neg a] at h
    by_cases b : rk = 1
    · rw [if_pos b] at h
      exact ⟨fun t => by omega, fun t => by omega⟩
    · exact ⟨fun t => by omega, fun t => by omega⟩
theorem sf_spT {rk f : Nat} (h : 0 < rk) (h1 : f % 2 = 1) : sf_sp rk f = true := by
  unfold sf_sp
  exact decide_eq_true ⟨h, h1⟩
/-- all formats of a register, then two turns -/
theorem sf_l94 {post : Int32 → Prop} {L : Nat} {xs : Nat → Int32} {J56 : Int32 → Int32 → Int32 → Int32 → Int32 → sf_A → sf_A → sf_A → sf_A → sf_A → sf_A → sf_A → sf_A → sf_A → sf_A → sf_A → sf_A → sf_A → sf_A → sf_A → sf_A → sf_A → sf_A → sf_A → sf_A → sf_A → sf_A → sf_A → sf_A → sf_A → sf_A → sf_A → sf_A → Prop} {x2 : Int32} {kc ks : Nat}
    {S : sf_Sl} {p : sf_A} {F : sf_Fm} {W : sf_Wk} {r rk n m f : Nat} {M : Nat → sf_A} (h : sf_all S) (hM : sf_slot S r rk n m f M) (hr : r < 6)
    (HJ : ∀ S' p', sf_all S' → J56 (nI (r + 1)) F.1 F.2.1 F.2.2.1 W.1 S'.1 S'.2.1 S'.2.2.1 S'.2.2.2.1 S'.2.2.2.2.1 S'.2.2.2.2.2.1 S'.2.2.2.2.2.2.1 S'.2.2.2.2.2.2.2.1 S'.2.2.2.2.2.2.2.2 F.2.2.2.1 F.2.2.2.2.1 F.2.2.2.2.2.1 F.2.2.2.2.2.2.1 F.2.2.2.2.2.2.2.1 F.2.2.2.2.2.2.2.2.1 F.2.2.2.2.2.2.2.2.2 W.2.1 p' W.2.2.1 W.2.2.2.1 W.2.2.2.2.1 W.2.2.2.2.2.1 W.2.2.2.2.2.2.1 W.2.2.2.2.2.2.2.1 W.2.2.2.2.2.2.2.2.1 W.2.2.2.2.2.2.2.2.2.1 W.2.2.2.2.2.2.2.2.2.2.1 W.2.2.2.2.2.2.2.2.2.2.2) :
    ∃ fu, wL_law_94 post L xs J56 x2 (nI r) (sf_dg M) (nI (sf_cn n m M)) (nI (n * m)) kc ks fu 0 F.1 F.2.1 F.2.2.1 W.1 S.1 S.2.1 S.2.2.1 S.2.2.2.1 S.2.2.2.2.1 S.2.2.2.2.2.1 S.2.2.2.2.2.2.1 S.2.2.2.2.2.2.2.1 S.2.2.2.2.2.2.2.2 F.2.2.2.1 F.2.2.2.2.1 F.2.2.2.2.2.1 F.2.2.2.2.2.2.1 F.2.2.2.2.2.2.2.1 F.2.2.2.2.2.2.2.2.1 F.2.2.2.2.2.2.2.2.2 W.2.1 p W.2.2.1 W.2.2.2.1 W.2.2.2.2.1 W.2.2.2.2.2.1 W.2.2.2.2.2.2.1 W.2.2.2.2.2.2.2.1 W.2.2.2.2.2.2.2.2.1 W.2.2.2.2.2.2.2.2.2.1 W.2.2.2.2.2.2.2.2.2.2.1 W.2.2.2.2.2.2.2.2.2.2.2 := by
  have hd := hM.1.2.2.2.2.2
  have hrk := hd.1
  have hn := hd.2.2.1
  have hm := hd.2.2.2.2.1
  have hnm : n * m ≤ 36 := Nat.mul_le_mul hn hm
  refine pk_loop (σ := sf_Sl × sf_A) (fun k i t => match t with | (S, p) => wL_law_94 post L xs J56 x2 (nI r) (sf_dg M) (nI (sf_cn n m M)) (nI (n * m)) kc ks k (nI i) F.1 F.2.1 F.2.2.1 W.1 S.1 S.2.1 S.2.2.1 S.2.2.2.1 S.2.2.2.2.1 S.2.2.2.2.2.1 S.2.2.2.2.2.2.1 S.2.2.2.2.2.2.2.1 S.2.2.2.2.2.2.2.2 F.2.2.2.1 F.2.2.2.2.1 F.2.2.2.2.2.1 F.2.2.2.2.2.2.1 F.2.2.2.2.2.2.2.1 F.2.2.2.2.2.2.2.2.1 F.2.2.2.2.2.2.2.2.2 W.2.1 p W.2.2.1 W.2.2.2.1 W.2.2.2.2.1 W.2.2.2.2.2.1 W.2.2.2.2.2.2.1 W.2.2.2.2.2.2.2.1 W.2.2.2.2.2.2.2.2.1 W.2.2.2.2.2.2.2.2.2.1 W.2.2.2.2.2.2.2.2.2.2.1 W.2.2.2.2.2.2.2.2.2.2.2) (fun i t => sf_all t.1 ∧ ∃ f, sf_slot t.1 r rk n m f M) 8 0 (S, p) (by omega) ⟨h, f, hM⟩ ?_ ?_
  · intro k t ht
    obtain ⟨S1, p1⟩ := t
    obtain ⟨h1, f1, hM1⟩ := ht
    dsimp only at h1 hM1
    refine pk_le 8 8 (fun _ => ?_) (fun z => absurd z (by omega))
    refine sf_turn (S := S1) (p := p1) (F := F) (W := W) hM1 hr (fun z S2 a2 n2 => ?_) (fun z => ?_)
    · refine sf_turn (S := S2) (p := p1) (F := F) (W := W) a2 hr (fun _ S3 a3 n3 => ?_) (fun z => absurd rfl z)
      have h3 : sf_all S3 := sf_allN (sf_allN h1 ⟨_, _, _, _, _, a2⟩ n2) ⟨_, _, _, _, _, a3⟩ n3
      refine br_f (nI_pos (by omega)) (br_f (nI_pos (by omega)) (br_t rfl ?_))
      refine sf_digest (S := S3) (p := p1) (F := F) (W := W) a3 hr (fun p3 => br_t rfl (br_f (nI_pos (by omega)) ?_))
      exact sf_len0 (S := S3) (p := p3) (F := F) (W := W) a3 hr (br_t rfl (nm_r (nI_1 r) (HJ S3 p3 h3)))
    · refine sf_turn (S := S1) (p := p1) (F := F) (W := W) hM1 hr (fun y => absurd y z) (fun _ => ?_)
      refine br_t (by decide) (br_t (by decide) (br_t rfl ?_))
      exact sf_digest (S := S1) (p := p1) (F := F) (W := W) hM1 hr (fun p3 => br_t rfl (br_t (by decide) (nm_r (nI_1 r) (HJ S1 p3 h1))))
  · intro k i t hi ht hw
    obtain ⟨S1, p1⟩ := t
    obtain ⟨h1, f1, hM1⟩ := ht
    dsimp only at h1 hM1
    have g182 : ∀ S2 p2 f2, sf_all S2 → sf_slot S2 r rk n m f2 M → wL_law_182 post L xs J56 (wL_law_94 post L xs J56 x2 (nI r) (sf_dg M) (nI (sf_cn n m M)) (nI (n * m)) kc ks k) x2 (nI r) (sf_dg M) (nI (sf_cn n m M)) (nI (n * m)) (nI i) kc ks F.1 F.2.1 F.2.2.1 W.1 S2.1 S2.2.1 S2.2.2.1 S2.2.2.2.1 S2.2.2.2.2.1 S2.2.2.2.2.2.1 S2.2.2.2.2.2.2.1 S2.2.2.2.2.2.2.2.1 S2.2.2.2.2.2.2.2.2 F.2.2.2.1 F.2.2.2.2.1 F.2.2.2.2.2.1 F.2.2.2.2.2.2.1 F.2.2.2.2.2.2.2.1 F.2.2.2.2.2.2.2.2.1 F.2.2.2.2.2.2.2.2.2 W.2.1 p2 W.2.2.1 W.2.2.2.1 W.2.2.2.2.1 W.2.2.2.2.2.1 W.2.2.2.2.2.2.1 W.2.2.2.2.2.2.2.1 W.2.2.2.2.2.2.2.2.1 W.2.2.2.2.2.2.2.2.2.1 W.2.2.2.2.2.2.2.2.2.2.1 W.2.2.2.2.2.2.2.2.2.2.2 := by
      intro S2 p2 f2 h2 hM2
      unfold wL_law_182
      refine sf_digest (S := S2) (p := p2) (F := F) (W := W) hM2 hr (fun p3 => br_t rfl ?_)
      exact sf_filled (S := S2) (p := p3) (F := F) (W := W) hM2 hr (br_t rfl (nm_r (nI_1 i) (hw (S2, p3) ⟨h2, f2, hM2⟩)))
    have g149 : ∀ S2 p2 f2 e (z0 : Int32), sf_all S2 → sf_slot S2 r rk n m f2 M → sf_cn n m M ≤ e → e ≤ n * m → (¬ z0 = 0 → e = sf_cn n m M) → wL_law_149 post L xs J56 (wL_law_94 post L xs J56 x2 (nI r) (sf_dg M) (nI (sf_cn n m M)) (nI (n * m)) kc ks k) x2 (nI r) (sf_dg M) (nI (sf_cn n m M)) (nI (n * m)) (nI i) (nI e) z0 kc ks F.1 F.2.1 F.2.2.1 W.1 S2.1 S2.2.1 S2.2.2.1 S2.2.2.2.1 S2.2.2.2.2.1 S2.2.2.2.2.2.1 S2.2.2.2.2.2.2.1 S2.2.2.2.2.2.2.2.1 S2.2.2.2.2.2.2.2.2 F.2.2.2.1 F.2.2.2.2.1 F.2.2.2.2.2.1 F.2.2.2.2.2.2.1 F.2.2.2.2.2.2.2.1 F.2.2.2.2.2.2.2.2.1 F.2.2.2.2.2.2.2.2.2 W.2.1 p2 W.2.2.1 W.2.2.2.1 W.2.2.2.2.1 W.2.2.2.2.2.1 W.2.2.2.2.2.2.1 W.2.2.2.2.2.2.2.1 W.2.2.2.2.2.2.2.2.1 W.2.2.2.2.2.2.2.2.2.1 W.2.2.2.2.2.2.2.2.2.2.1 W.2.2.2.2.2.2.2.2.2.2.2 := by
      intro S2 p2 f2 e z0 h2 hM2 e1 e2 e3
      exact br_f (nI_pos (by omega)) (pk_lt e (sf_cn n m M) (fun z => absurd z (by omega)) (fun _ => pk_lt (n * m) e (fun z => absurd z (by omega)) (fun _ => br_c (fun _ => g182 S2 p2 f2 h2 hM2) (fun z => pk_eq e (sf_cn n m M) (fun _ => g182 S2 p2 f2 h2 hM2) (fun y => absurd (e3 z) y)))))
    refine pk_le 8 i (fun z => absurd z (by omega)) (fun _ => ?_)
    refine sf_format (S := S1) (p := p1) (F := F) (W := W) (f' := i) hM1 hr (by omega) (fun hf S2 p2 e a2 n2 e0 e1 e2 e3 => ?_) (fun hf => br_t (by decide) (br_t (by decide) (nm_r (nI_1 i) (hw (S1, p1) ⟨h1, f1, hM1⟩))))
    have h2 : sf_all S2 := sf_allN h1 ⟨_, _, _, _, _, a2⟩ n2
    obtain ⟨x1, x2'⟩ := sf_mx2 hrk hf
    refine br_f (nI_pos (by omega)) (pk_eq i 3 (fun z => ?_) (fun z => pk_eq i 7 (fun y => ?_) (fun y => pk_eq i 1 (fun w => ?_) (fun w => ?_))))
    · exact g149 S2 p2 i e 1 h2 a2 e1 e2 (fun _ => e3 (sf_spT (by have := x2' (by omega); omega) (by omega)))
    · exact g149 S2 p2 i e 1 h2 a2 e1 e2 (fun _ => e3 (sf_spT (by have := x2' (by omega); omega) (by omega)))
    · refine sf_format (S := S2) (p := p2) (F := F) (W := W) (f' := 7) a2 hr (by omega) (fun hf3 S3 p3 e' a3 n3 c0 c1 c2 c3 => ?_) (fun hf3 => ?_)
      · have h3 : sf_all S3 := sf_allN h2 ⟨_, _, _, _, _, a3⟩ n3
        exact br_t (nI_pos' (by omega)) (g149 S3 p3 7 e 0 h3 a3 e1 e2 (fun t => absurd rfl t))
      · exact br_f (by decide) (g149 S2 p2 i e 1 h2 a2 e1 e2 (fun _ => e3 (sf_spT (x1 w) (by omega))))
    · exact g149 S2 p2 i e 0 h2 a2 e1 e2 (fun t => absurd rfl t)
theorem sf_l56 {post : Int32 → Prop} {L : Nat} {xs : Nat → Int32} {x2 : Int32} {kc ks : Nat} {S : sf_Sl} {p : sf_A} {F : sf_Fm} {W : sf_Wk} (h : sf_all S)
    (HK : ∀ (S' : sf_Sl) (p' : sf_A) (a b c : Nat), sf_all S' → a < 4 → b = (a + 1) % 4 → c = (a + 2) % 4 → ∃ fu, wL_law_311 post L xs x2 (nI a) (nI b) (nI c) kc ks fu 0 1 0 F.1 F.2.1 F.2.2.1 W.1 S'.1 S'.2.1 S'.2.2.1 S'.2.2.2.1 S'.2.2.2.2.1 S'.2.2.2.2.2.1 S'.2.2.2.2.2.2.1 S'.2.2.2.2.2.2.2.1 S'.2.2.2.2.2.2.2.2 F.2.2.2.1 F.2.2.2.2.1 F.2.2.2.2.2.1 F.2.2.2.2.2.2.1 F.2.2.2.2.2.2.2.1 F.2.2.2.2.2.2.2.2.1 F.2.2.2.2.2.2.2.2.2 W.2.1 p' W.2.2.1 W.2.2.2.1 W.2.2.2.2.1 W.2.2.2.2.2.1 W.2.2.2.2.2.2.1 W.2.2.2.2.2.2.2.1 W.2.2.2.2.2.2.2.2.1 W.2.2.2.2.2.2.2.2.2.1 W.2.2.2.2.2.2.2.2.2.2.1 W.2.2.2.2.2.2.2.2.2.2.2) :
    ∃ fu, wL_law_56 post L xs x2 kc ks fu 0 F.1 F.2.1 F.2.2.1 W.1 S.1 S.2.1 S.2.2.1 S.2.2.2.1 S.2.2.2.2.1 S.2.2.2.2.2.1 S.2.2.2.2.2.2.1 S.2.2.2.2.2.2.2.1 S.2.2.2.2.2.2.2.2 F.2.2.2.1 F.2.2.2.2.1 F.2.2.2.2.2.1 F.2.2.2.2.2.2.1 F.2.2.2.2.2.2.2.1 F.2.2.2.2.2.2.2.2.1 F.2.2.2.2.2.2.2.2.2 W.2.1 p W.2.2.1 W.2.2.2.1 W.2.2.2.2.1 W.2.2.2.2.2.1 W.2.2.2.2.2.2.1 W.2.2.2.2.2.2.2.1 W.2.2.2.2.2.2.2.2.1 W.2.2.2.2.2.2.2.2.2.1 W.2.2.2.2.2.2.2.2.2.2.1 W.2.2.2.2.2.2.2.2.2.2.2 := by
  refine pk_loop (σ := sf_Sl × sf_A) (fun k i t => match t with | (S, p) => wL_law_56 post L xs x2 kc ks k (nI i) F.1 F.2.1 F.2.2.1 W.1 S.1 S.2.1 S.2.2.1 S.2.2.2.1 S.2.2.2.2.1 S.2.2.2.2.2.1 S.2.2.2.2.2.2.1 S.2.2.2.2.2.2.2.1 S.2.2.2.2.2.2.2.2 F.2.2.2.1 F.2.2.2.2.1 F.2.2.2.2.2.1 F.2.2.2.2.2.2.1 F.2.2.2.2.2.2.2.1 F.2.2.2.2.2.2.2.2.1 F.2.2.2.2.2.2.2.2.2 W.2.1 p W.2.2.1 W.2.2.2.1 W.2.2.2.2.1 W.2.2.2.2.2.1 W.2.2.2.2.2.2.1 W.2.2.2.2.2.2.2.1 W.2.2.2.2.2.2.2.2.1 W.2.2.2.2.2.2.2.2.2.1 W.2.2.2.2.2.2.2.2.2.2.1 W.2.2.2.2.2.2.2.2.2.2.2) (fun i t => sf_all t.1) 6 0 (S, p) (by omega) h ?_ ?_
  · intro k t ht
    obtain ⟨S1, p1⟩ := t
    obtain ⟨j, hj, ej⟩ := pk_andE x2 (m := 7) 3 (by decide)
    have rem4 : ∀ t, t < 100 → nI t - nI t / 4 * 4 = nI (t % 4) := fun t ht => pk_rem (d := 4) (by omega) (by omega) (by omega)
    refine pk_le 6 6 (fun _ => And.intro (by decide) (nm_r (e' := nI (j % 4)) (by rw [ej]; exact rem4 j (by omega)) (And.intro (by decide) (nm_r (e' := nI ((j % 4 + 1) % 4)) (by rw [nI_1]; exact rem4 _ (by omega)) (And.intro (by decide) (nm_r (e' := nI ((j % 4 + 2) % 4)) (by rw [show nI (j % 4) + 2 = nI (j % 4 + 2) from nI_add _ 2]; exact rem4 _ (by omega)) (HK S1 p1 _ _ _ ht (by omega) rfl rfl))))))) (fun z => absurd z (by omega))
  · intro k i t hi ht hw
    obtain ⟨S1, p1⟩ := t
    dsimp only at ht
    obtain ⟨rk, n, m, f, M, hM⟩ := ht i hi
    refine pk_le 6 i (fun z => absurd z (by omega)) (fun _ => ?_)
    refine sf_digest (S := S1) (p := p1) (F := F) (W := W) hM hi (fun p2 => ?_)
    refine sf_filled (S := S1) (p := p2) (F := F) (W := W) hM hi ?_
    refine sf_len0 (S := S1) (p := p2) (F := F) (W := W) hM hi ?_
    refine sf_len1 (S := S1) (p := p2) (F := F) (W := W) hM hi (nm_r (pk_mul n m) ?_)
    exact sf_l94 (S := S1) (p := p2) (F := F) (W := W) ht hM hi (fun S' p' h' => hw (S', p') h')
theorem sf_l23 {post : Int32 → Prop} {L : Nat} {xs : Nat → Int32} {x2 : Int32} {kc ks : Nat} {S : sf_Sl} {p : sf_A} {F : sf_Fm} {W : sf_Wk} (hL : L ≤ 260) (h : sf_all S)
    (HK : ∀ (S' : sf_Sl) (p' : sf_A) (F' : sf_Fm) (W' : sf_Wk), sf_all S' → ∃ fu, wL_law_56 post L xs x2 kc ks fu 0 (0) (0) (0) W'.1 S'.1 S'.2.1 S'.2.2.1 S'.2.2.2.1 S'.2.2.2.2.1 S'.2.2.2.2.2.1 S'.2.2.2.2.2.2.1 S'.2.2.2.2.2.2.2.1 S'.2.2.2.2.2.2.2.2 F'.2.2.2.1 F'.2.2.2.2.1 F'.2.2.2.2.2.1 F'.2.2.2.2.2.2.1 F'.2.2.2.2.2.2.2.1 F'.2.2.2.2.2.2.2.2.1 F'.2.2.2.2.2.2.2.2.2 W'.2.1 p' W'.2.2.1 W'.2.2.2.1 W'.2.2.2.2.1 W'.2.2.2.2.2.1 W'.2.2.2.2.2.2.1 W'.2.2.2.2.2.2.2.1 W'.2.2.2.2.2.2.2.2.1 W'.2.2.2.2.2.2.2.2.2.1 W'.2.2.2.2.2.2.2.2.2.2.1 W'.2.2.2.2.2.2.2.2.2.2.2) :
    ∃ fu, wL_law_23 post L xs x2 kc ks fu 1 F.1 F.2.1 F.2.2.1 W.1 S.1 S.2.1 S.2.2.1 S.2.2.2.1 S.2.2.2.2.1 S.2.2.2.2.2.1 S.2.2.2.2.2.2.1 S.2.2.2.2.2.2.2.1 S.2.2.2.2.2.2.2.2 F.2.2.2.1 F.2.2.2.2.1 F.2.2.2.2.2.1 F.2.2.2.2.2.2.1 F.2.2.2.2.2.2.2.1 F.2.2.2.2.2.2.2.2.1 F.2.2.2.2.2.2.2.2.2 W.2.1 p W.2.2.1 W.2.2.2.1 W.2.2.2.2.1 W.2.2.2.2.2.1 W.2.2.2.2.2.2.1 W.2.2.2.2.2.2.2.1 W.2.2.2.2.2.2.2.2.1 W.2.2.2.2.2.2.2.2.2.1 W.2.2.2.2.2.2.2.2.2.2.1 W.2.2.2.2.2.2.2.2.2.2.2 := by
  refine loop_m (σ := Nat × sf_Sl × sf_A × sf_Fm × sf_Wk) (fun n t => match t with | (k, S, p, F, W) => wL_law_23 post L xs x2 kc ks n (nI k) F.1 F.2.1 F.2.2.1 W.1 S.1 S.2.1 S.2.2.1 S.2.2.2.1 S.2.2.2.2.1 S.2.2.2.2.2.1 S.2.2.2.2.2.2.1 S.2.2.2.2.2.2.2.1 S.2.2.2.2.2.2.2.2 F.2.2.2.1 F.2.2.2.2.1 F.2.2.2.2.2.1 F.2.2.2.2.2.2.1 F.2.2.2.2.2.2.2.1 F.2.2.2.2.2.2.2.2.1 F.2.2.2.2.2.2.2.2.2 W.2.1 p W.2.2.1 W.2.2.2.1 W.2.2.2.2.1 W.2.2.2.2.2.1 W.2.2.2.2.2.2.1 W.2.2.2.2.2.2.2.1 W.2.2.2.2.2.2.2.2.1 W.2.2.2.2.2.2.2.2.2.1 W.2.2.2.2.2.2.2.2.2.2.1 W.2.2.2.2.2.2.2.2.2.2.2) (fun t => t.1 ≤ 300 ∧ sf_all t.2.1) (fun t => 300 - t.1) ?_ (1, S, p, F, W) ⟨by show 1 ≤ 300; omega, h⟩
  intro n t ht hw
  obtain ⟨k, S1, p1, F1, W1⟩ := t
  obtain ⟨h1, h2⟩ := ht
  dsimp only at h1 h2
  refine pk_le L (k + 1) (fun z => ?_) (fun z => ?_) rfl (nI_1 k)
  · exact sf_scrap (S := S1) (p := p1) (F := F1) (W := W1) (HK S1 p1 F1 W1 h2)
  · refine And.intro (pk_in k L (by omega)) (And.intro (pk_in (k + 1) L z (nI_1 k)) ?_)
    exact sf_lturn (S := S1) (p := p1) (F := F1) (W := W1) h2 (fun e S' p' F' W' h' => nm_r (e' := nI (k + 2)) (nI_add k 2) (hw (k + 2, S', p', F', W') ⟨by dsimp only; omega, h'⟩ (by dsimp only; omega)))
end
section
def sf_V (Ma N : Nat → sf_A) : Int32 := sf_Q 6 (fun x => sf_Q 6 (fun y => sf_Q 6 (fun z => Ma x y * N y z)))
theorem sf_Vadd (Ma Mb Mc : Nat → sf_A) : sf_V Ma (fun y z => Mb y z + Mc y z) = sf_V Ma Mb + sf_V Ma Mc := by
  unfold sf_V
  rw [← sf_Qadd]
  refine sf_Qc (fun x _ => ?_)
  rw [← sf_Qadd]
  refine sf_Qc (fun y _ => ?_)
  rw [← sf_Qadd]
  refine sf_Qc (fun z _ => ?_)
  grind
theorem sf_f3a {s : Nat → Nat} (h0 : 0 < s 0) (h1 : 0 < s 1) (h2 : 0 < s 2) : sf_f3 s = [0, 1, 2] := by
  unfold sf_f3
  simp [h0, h1, h2]
theorem sf_f3b {s : Nat → Nat} (h0 : 0 < s 0) (h1 : 0 < s 1) (h2 : s 2 = 0) : sf_f3 s = [0, 1] := by
  unfold sf_f3
  simp [h0, h1, h2]
theorem sf_resV {F : sf_Fm} {D : sf_Da} {top : Nat} {s : Nat → Nat} {Ma N : Nat → sf_A} (h0 : 0 < s 0 ∧ s 0 ≤ 6) (h1 : 0 < s 1 ∧ s 1 ≤ 6) (h2 : 0 < s 2 ∧ s 2 ≤ 6)
    (hev : ∀ σ : Nat → Nat, sf_ev F (sf_av F D σ) 20 top = Ma (σ 0) (σ 1) * N (σ 1) (σ 2))
    (z0 : ∀ x y, s 0 ≤ x → Ma x y = 0) (z1 : ∀ x y, s 1 ≤ y → Ma x y = 0) (z2 : ∀ y z, s 2 ≤ z → N y z = 0) : sf_res F D top s (-1) (-1) 0 = sf_V Ma N := by
  unfold sf_res sf_V
  rw [sf_f3a h0.1 h1.1 h2.1]
  show sf_Q (s 0) (fun x => sf_Q (s 1) (fun y => sf_Q (s 2) (fun z => sf_G F D top (-1) (-1) 0 (sf_su (sf_su (sf_su (fun _ => 0) 0 x) 1 y) 2 z)))) = _
  rw [sf_Qz (f := fun x => sf_Q 6 (fun y => sf_Q 6 (fun z => Ma x y * N y z))) h0.2 (fun x hx _ => sf_Q0 (fun y _ => sf_Q0 (fun z _ => by rw [z0 x y hx, Int32.zero_mul])))]
  refine sf_Qc (fun x _ => ?_)
  rw [sf_Qz (f := fun y => sf_Q 6 (fun z => Ma x y * N y z)) h1.2 (fun y hy _ => sf_Q0 (fun z _ => by rw [z1 x y hy, Int32.zero_mul]))]
  refine sf_Qc (fun y _ => ?_)
  rw [sf_Qz (f := fun z => Ma x y * N y z) h2.2 (fun z hz _ => by rw [z2 y z hz, Int32.mul_zero])]
  refine sf_Qc (fun z _ => ?_)
  unfold sf_G
  rw [if_pos (by rw [sf_ix1 _ rfl]), hev]
  rfl
theorem sf_res2 {F : sf_Fm} {D : sf_Da} {top i j : Nat} {s : Nat → Nat} {f : Nat → Nat → Int32} (h0 : s 0 ≤ 6) (h1 : s 1 ≤ 6) (h2 : s 2 = 0)
    (hev : ∀ σ : Nat → Nat, sf_ev F (sf_av F D σ) 20 top = f (σ 0) (σ 1)) (hi : i < s 0) (hj : j < s 1) : sf_res F D top s (nI 0) (nI 1) (6 * i + j) = f i j := by
  unfold sf_res
  rw [sf_f3b (by omega) (by omega) h2]
  show sf_Q (s 0) (fun x => sf_Q (s 1) (fun y => sf_G F D top (nI 0) (nI 1) (6 * i + j) (sf_su (sf_su (fun _ => 0) 0 x) 1 y))) = _
  have g : ∀ x y, sf_G F D top (nI 0) (nI 1) (6 * i + j) (sf_su (sf_su (fun _ => 0) 0 x) 1 y) = if 6 * x + y = 6 * i + j then f x y else 0 := by
    intro x y
    unfold sf_G
    rw [sf_ixn _ (v := 0) (by omega) rfl, sf_ixn _ (v := 1) (by omega) rfl, hev]
    rfl
  rw [sf_Q1 hi (fun x hx hne => sf_Q0 (fun y hy => by rw [g, if_neg (by omega)])), sf_Q1 hj (fun y hy hne => by rw [g, if_neg (by omega)]), g, if_pos rfl]
theorem sf_sp1 {x y : Int32} {s n : Nat} (h : x = nI s) (hs : s ≤ 6) (h1 : x = y ∨ x = -1000000005) (hy : y = nI n) (hn : n ≤ 6) : s = n := by
  rcases h1 with h1 | h1
  · exact sf_inj (by omega) (by omega) (h.symm.trans (h1.trans hy))
  · exact absurd (h.symm.trans h1) (sf_nmm (by omega))
def sf_wf5 (F : sf_Fm) : Prop := (F.2.2.2.1 0 = 1 ∧ F.2.2.2.2.1 0 = nI 0) ∧ (F.2.2.2.1 1 = 1 ∧ F.2.2.2.2.1 1 = nI 1) ∧ (F.2.2.2.1 2 = 1 ∧ F.2.2.2.2.1 2 = nI 2) ∧ (F.2.2.2.1 3 = 3 ∧ F.2.2.2.2.2.1 3 = nI 1 ∧ F.2.2.2.2.2.2.1 3 = nI 2) ∧ (F.2.2.2.1 4 = 5 ∧ F.2.2.2.2.2.1 4 = nI 0 ∧ F.2.2.2.2.2.2.1 4 = nI 3) ∧
  (F.2.2.2.2.2.2.2.1 0 = nI 0 ∧ F.2.2.2.2.2.2.2.2.1 0 = nI 1) ∧ (F.2.2.2.2.2.2.2.1 1 = nI 1 ∧ F.2.2.2.2.2.2.2.2.1 1 = nI 2) ∧ (F.2.2.2.2.2.2.2.1 2 = nI 1 ∧ F.2.2.2.2.2.2.2.2.1 2 = nI 2) ∧ F.2.2.2.2.2.2.2.2.2 0 = nI 4
def sf_wf3 (F : sf_Fm) : Prop := (F.2.2.2.1 0 = 1 ∧ F.2.2.2.2.1 0 = nI 0) ∧ (F.2.2.2.1 1 = 1 ∧ F.2.2.2.2.1 1 = nI 1) ∧ (F.2.2.2.1 2 = 5 ∧ F.2.2.2.2.2.1 2 = nI 0 ∧ F.2.2.2.2.2.2.1 2 = nI 1) ∧
  (F.2.2.2.2.2.2.2.1 0 = nI 0 ∧ F.2.2.2.2.2.2.2.2.1 0 = nI 1) ∧ (F.2.2.2.2.2.2.2.1 1 = nI 1 ∧ F.2.2.2.2.2.2.2.2.1 1 = nI 2) ∧ F.2.2.2.2.2.2.2.2.2 0 = nI 2
theorem sf_arrI {S : sf_Sl} {F : sf_Fm} {P A H a n m : Nat} {D : sf_Da} {M : Nat → sf_A} (hf : sf_fo S F P A H D) (ha : a < A) (d : D a = (2, n, m, M)) :
    S.2.1 (6 + a) = nI n ∧ S.2.2.1 (6 + a) = nI m ∧ 1 ≤ n ∧ n ≤ 6 ∧ 1 ≤ m ∧ m ≤ 6 ∧ ∀ i j, ¬ (i < n ∧ j < m) → M i j = 0 := by
  have h := hf.2.2.2.2.2.2.2.2 a ha
  rw [d] at h
  obtain ⟨⟨g, ⟨⟨h1, h2, h3, h4, h5, hd⟩, hz, _⟩⟩, _⟩ := h
  exact ⟨h3, h4, hd.2.1, hd.2.2.1, hd.2.2.2.1, hd.2.2.2.2.1, hz⟩
theorem sf_val5 {S : sf_Sl} {F : sf_Fm} {D : sf_Da} {ins sp : sf_A} {s : Nat → Nat} {na ma nb mb nc mc : Nat} {Ma Mb Mc : Nat → sf_A} (hf : sf_fo S F 5 3 1 D) (w : sf_wf5 F) (hins : sf_ins F ins 4) (hspn : sf_spn S F ins sp 3 5) (hs : ∀ x, x < 3 → s x ≤ 6 ∧ sp x = nI (s x))
    (d0 : D 0 = (2, na, ma, Ma)) (d1 : D 1 = (2, nb, mb, Mb)) (d2 : D 2 = (2, nc, mc, Mc)) : sf_res F D 4 s (-1) (-1) 0 = sf_V Ma (fun y z => Mb y z + Mc y z) := by
  obtain ⟨⟨k0, n0⟩, ⟨k1, n1⟩, ⟨k2, n2⟩, ⟨k3, a3, b3⟩, ⟨k4, a4, b4⟩, ⟨iA0, iB0⟩, ⟨iA1, iB1⟩, ⟨iA2, iB2⟩, st⟩ := w
  obtain ⟨ra, ca, ra1, ra6, ca1, ca6, za⟩ := sf_arrI hf (a := 0) (by omega) d0
  obtain ⟨rb, cb, rb1, rb6, cb1, cb6, zb⟩ := sf_arrI hf (a := 1) (by omega) d1
  obtain ⟨rc, cc, rc1, rc6, cc1, cc6, zc⟩ := sf_arrI hf (a := 2) (by omega) d2
  obtain ⟨i4, cl⟩ := hins
  have c4 := cl 4 (by omega) i4
  have i0 := c4.1 0 (by omega) a4
  have i3 := c4.2 3 (by omega) b4
  have c3 := cl 3 (by omega) i3
  have i1 := c3.1 1 (by omega) a3
  have i2 := c3.2 2 (by omega) b3
  have q0 := sf_sp1 (hs 0 (by omega)).2 (hs 0 (by omega)).1 ((hspn.1 0 (by omega) i0 k0 0 (by omega) n0 0 (by omega)).1 iA0) ra ra6
  have q1 := sf_sp1 (hs 1 (by omega)).2 (hs 1 (by omega)).1 ((hspn.1 0 (by omega) i0 k0 0 (by omega) n0 1 (by omega)).2 iB0) ca ca6
  have q2 := sf_sp1 (hs 2 (by omega)).2 (hs 2 (by omega)).1 ((hspn.1 1 (by omega) i1 k1 1 (by omega) n1 2 (by omega)).2 iB1) cb cb6
  have q3 := sf_sp1 (hs 2 (by omega)).2 (hs 2 (by omega)).1 ((hspn.1 2 (by omega) i2 k2 2 (by omega) n2 2 (by omega)).2 iB2) cc cc6
  have hpt := hf.2.2.2.2.2.2.2.1
  refine sf_resV ⟨by omega, by omega⟩ ⟨by omega, by omega⟩ ⟨by omega, by omega⟩ (fun σ => ?_) (fun x y h => za x y (by omega)) (fun x y h => za x y (by omega)) (fun y z h => ?_)
  · rw [(sf_ev3 (av := sf_av F D σ) hpt (by omega) (by omega) (show 0 < 4 by omega) (show 3 < 4 by omega) a4 b4).2.2 k4,
      (sf_ev3 (av := sf_av F D σ) hpt (by omega) (by omega) (show 1 < 3 by omega) (show 2 < 3 by omega) a3 b3).1 k3,
      sf_ev1 k0 n0 (by omega), sf_ev1 k1 n1 (by omega), sf_ev1 k2 n2 (by omega)]
    unfold sf_av
    rw [d0, d1, d2, sf_ixn σ (by omega) iA0, sf_ixn σ (by omega) iB0, sf_ixn σ (by omega) iA1, sf_ixn σ (by omega) iB1, sf_ixn σ (by omega) iA2, sf_ixn σ (by omega) iB2]
  · rw [zb y z (by omega), zc y z (by omega)]
    rfl
theorem sf_val3 {S : sf_Sl} {F : sf_Fm} {D : sf_Da} {ins sp : sf_A} {s : Nat → Nat} {na ma nb mb : Nat} {Ma Mb : Nat → sf_A} (hf : sf_fo S F 3 2 1 D) (w : sf_wf3 F) (hins : sf_ins F ins 2) (hspn : sf_spn S F ins sp 2 3) (hs : ∀ x, x < 3 → s x ≤ 6 ∧ sp x = nI (s x))
    (d0 : D 0 = (2, na, ma, Ma)) (d1 : D 1 = (2, nb, mb, Mb)) : sf_res F D 2 s (-1) (-1) 0 = sf_V Ma Mb := by
  obtain ⟨⟨k0, n0⟩, ⟨k1, n1⟩, ⟨k2, a2, b2⟩, ⟨iA0, iB0⟩, ⟨iA1, iB1⟩, st⟩ := w
  obtain ⟨ra, ca, ra1, ra6, ca1, ca6, za⟩ := sf_arrI hf (a := 0) (by omega) d0
  obtain ⟨rb, cb, rb1, rb6, cb1, cb6, zb⟩ := sf_arrI hf (a := 1) (by omega) d1
  obtain ⟨i2, cl⟩ := hins
  have c2 := cl 2 (by omega) i2
  have i0 := c2.1 0 (by omega) a2
  have i1 := c2.2 1 (by omega) b2
  have q0 := sf_sp1 (hs 0 (by omega)).2 (hs 0 (by omega)).1 ((hspn.1 0 (by omega) i0 k0 0 (by omega) n0 0 (by omega)).1 iA0) ra ra6
  have q1 := sf_sp1 (hs 1 (by omega)).2 (hs 1 (by omega)).1 ((hspn.1 0 (by omega) i0 k0 0 (by omega) n0 1 (by omega)).2 iB0) ca ca6
  have q2 := sf_sp1 (hs 2 (by omega)).2 (hs 2 (by omega)).1 ((hspn.1 1 (by omega) i1 k1 1 (by omega) n1 2 (by omega)).2 iB1) cb cb6
  have hpt := hf.2.2.2.2.2.2.2.1
  refine sf_resV ⟨by omega, by omega⟩ ⟨by omega, by omega⟩ ⟨by omega, by omega⟩ (fun σ => ?_) (fun x y h => za x y (by omega)) (fun x y h => za x y (by omega)) (fun y z h => zb y z (by omega))
  rw [(sf_ev3 (av := sf_av F D σ) hpt (by omega) (by omega) (show 0 < 2 by omega) (show 1 < 2 by omega) a2 b2).2.2 k2, sf_ev1 k0 n0 (by omega), sf_ev1 k1 n1 (by omega)]
  unfold sf_av
  rw [d0, d1, sf_ixn σ (by omega) iA0, sf_ixn σ (by omega) iB0, sf_ixn σ (by omega) iA1, sf_ixn σ (by omega) iB1]
/-- an array alone, written over: as it is, or its lines and places changed for each other -/
theorem sf_asg {post : Int32 → St1 → Prop} {S : sf_Sl} {p : sf_A} {F : sf_Fm} {W : sf_Wk} {D : sf_Da} {n m to fm u v : Nat} {M M' : Nat → sf_A} (hf : sf_fo S F 1 1 1 D) (d0 : D 0 = (2, n, m, M)) (k0 : F.2.2.2.1 0 = 1) (n0 : F.2.2.2.2.1 0 = nI 0) (st : F.2.2.2.2.2.2.2.2.2 0 = nI 0)
    (hu : u = 0 ∧ v = 1 ∧ M' = M ∨ u = 1 ∧ v = 0 ∧ M' = fun i j => M j i) (iA0 : F.2.2.2.2.2.2.2.1 0 = nI u) (iB0 : F.2.2.2.2.2.2.2.2.1 0 = nI v) (hto : to < 6) (hfm : fm ≤ 7)
    (H : ∀ S' p' F' W' e, (∀ r, r < 6 → r ≠ to → ∀ rk n m f M, sf_slot S r rk n m f M → sf_slot S' r rk n m f M) → sf_slot S' to 2 (if u = 0 then n else m) (if u = 0 then m else n) fm M' → F'.1 = 0 → F'.2.1 = 0 → F'.2.2.1 = 0 → e ≤ 36 → post (nI e) (sf_mk S' p' F' W')) :
    wpX_assign post (sf_mk S p F W) (nI to) (nI 0) (nI 1) (nI fm) := by
  obtain ⟨ra, ca, ra1, ra6, ca1, ca6, za⟩ := sf_arrI hf (a := 0) (by omega) d0
  have x0 : ¬ nI 0 = (-1 : Int32) := sf_neg1 (by omega)
  have x1 : ¬ nI 1 = (-1 : Int32) := sf_neg1 (by omega)
  have rk2 : sf_rkXY (nI 0) (nI 1) = 2 := by unfold sf_rkXY; rw [if_neg x0, if_neg x1]
  have hcov : ∀ x, x < 2 → x = u ∨ x = v := by
    intro x hx
    rcases hu with ⟨a, b, _⟩ | ⟨a, b, _⟩ <;> omega
  have uniq : ∀ k a, k < 0 + 1 → a < 1 → k = 0 ∧ a = 0 := fun k a h1 h2 => ⟨by omega, by omega⟩
  have spans : ∀ ins sp, sf_ins F ins 0 → sf_spn S F ins sp 1 (0 + 1) → sp u = nI n ∧ sp v = nI m ∧ sp 2 = 0 := by
    intro ins sp hins hspn
    have u3 : u < 3 := by omega
    have v3 : v < 3 := by omega
    have uv : u ≠ v := by omega
    refine ⟨?_, ?_, ?_⟩
    · have e1 := (hspn.1 0 (by omega) hins.1 k0 0 (by omega) n0 u u3).1 iA0
      have e2 := hspn.2.2 u u3 (nI n) (fun k hk kd a ha hn => by
        obtain ⟨rfl, rfl⟩ := uniq k a hk ha
        exact ⟨fun _ => ra, fun t => absurd (sf_inj (by omega) (by omega) (iB0.symm.trans t)) (fun z => uv z.symm)⟩)
      rcases e2 with e2 | e2
      · rcases e1 with e1 | e1
        · exact e1.trans ra
        · exact absurd (e1.symm.trans e2) sf_mm
      · exact e2
    · have e1 := (hspn.1 0 (by omega) hins.1 k0 0 (by omega) n0 v v3).2 iB0
      have e2 := hspn.2.2 v v3 (nI m) (fun k hk kd a ha hn => by
        obtain ⟨rfl, rfl⟩ := uniq k a hk ha
        exact ⟨fun t => absurd (sf_inj (by omega) (by omega) (iA0.symm.trans t)) uv, fun _ => ca⟩)
      rcases e2 with e2 | e2
      · rcases e1 with e1 | e1
        · exact e1.trans ca
        · exact absurd (e1.symm.trans e2) sf_mm
      · exact e2
    · have e2 := hspn.2.2 2 (by omega) 0 (fun k hk kd a ha hn => by
        obtain ⟨rfl, rfl⟩ := uniq k a hk ha
        exact ⟨fun t => absurd (sf_inj (by omega) (by omega) (iA0.symm.trans t)) (by omega), fun t => absurd (sf_inj (by omega) (by omega) (iB0.symm.trans t)) (by omega)⟩)
      rcases e2 with e2 | e2 <;> exact e2
  refine sf_assign hf hto (by omega) (Or.inr ⟨0, by omega, rfl⟩) (Or.inr ⟨1, by omega, rfl⟩) (fun e W' _ hr => ?_) (fun S' p' W' ins sp s top e q a1 a2 a3 a4 a5 a6 a7 a8 a9 a10 a11 => ?_)
  · exfalso
    rcases hr with ⟨t, _⟩ | ⟨t, _⟩ | t | t | ⟨top, ins, sp, t1, t2, t3, t4, t5⟩
    · exact x0 t
    · exact absurd (sf_inj (by omega) (by omega) t) (by omega)
    · rw [rk2] at t
      exact t hfm
    · exact t rfl
    · obtain rfl : top = 0 := by omega
      obtain ⟨s1, s2, s3⟩ := spans ins sp t3 t4
      have nz : ∀ x, x < 3 → x < 2 → ¬ sp x = 0 := by
        intro x _ hx
        rcases hcov x hx with rfl | rfl
        · rw [s1]; exact nI_ne0 ra1 (by omega)
        · rw [s2]; exact nI_ne0 ca1 (by omega)
      rcases t5 with ⟨x, x3, xe, x0'⟩ | ⟨x, x3, xm⟩
      · refine nz x x3 ?_ x0'
        rcases xe with xe | xe
        · have := sf_inj (by omega) (by omega) xe; omega
        · have := sf_inj (by omega) (by omega) xe; omega
      · by_cases hx2 : x < 2
        · rcases hcov x hx2 with rfl | rfl
          · exact sf_nmm (by omega) (s1.symm.trans xm)
          · exact sf_nmm (by omega) (s2.symm.trans xm)
        · obtain rfl : x = 2 := by omega
          exact sf_mm (xm.symm.trans s3)
  · obtain rfl : top = 0 := by omega
    obtain ⟨s1, s2, s3⟩ := spans ins sp a4 a5
    have q1 : s u = n := sf_inj (by have := (a6 u (by omega)).1; omega) (by omega) ((a6 u (by omega)).2.symm.trans s1)
    have q2 : s v = m := sf_inj (by have := (a6 v (by omega)).1; omega) (by omega) ((a6 v (by omega)).2.symm.trans s2)
    have q3 : s 2 = 0 := sf_inj (by have := (a6 2 (by omega)).1; omega) (by omega) ((a6 2 (by omega)).2.symm.trans s3)
    have dX : sf_dim s (nI 0) = s 0 := by unfold sf_dim; rw [if_neg x0, nI_clamp (by omega)]
    have dY : sf_dim s (nI 1) = s 1 := by unfold sf_dim; rw [if_neg x1, nI_clamp (by omega)]
    rw [rk2, dX, dY] at a9
    have s06 := (a6 0 (by omega)).1
    have s16 := (a6 1 (by omega)).1
    have hz : ∀ i j, ¬ (i < s 0 ∧ j < s 1) → M' i j = 0 := by
      intro i j hij
      rcases hu with ⟨rfl, rfl, rfl⟩ | ⟨rfl, rfl, rfl⟩
      · exact za i j (by rw [← q1, ← q2]; exact hij)
      · exact za j i (fun t => hij ⟨by omega, by omega⟩)
    have hev : ∀ σ : Nat → Nat, sf_ev F (sf_av F D σ) 20 0 = M' (σ 0) (σ 1) := by
      intro σ
      rw [sf_ev1 k0 n0 (by omega)]
      unfold sf_av
      rw [d0, sf_ixn σ (by omega) iA0, sf_ixn σ (by omega) iB0]
      rcases hu with ⟨rfl, rfl, rfl⟩ | ⟨rfl, rfl, rfl⟩ <;> rfl
    have hmat : sf_mat q (s 0) (s 1) = M' := by
      funext i j
      unfold sf_mat
      by_cases hij : i < s 0 ∧ j < s 1
      · rw [if_pos hij, a7 _ (by omega)]
        exact sf_res2 (f := M') s06 s16 q3 hev hij.1 hij.2
      · rw [if_neg hij, hz i j hij]
    rw [hmat] at a9
    refine H S' p' _ W' e a8 ?_ rfl rfl rfl a10
    rcases hu with ⟨rfl, rfl, rfl⟩ | ⟨rfl, rfl, rfl⟩
    · rw [if_pos rfl, if_pos rfl, ← q1, ← q2]; exact a9
    · rw [if_neg (by omega), if_neg (by omega), ← q1, ← q2]; exact a9
end
section
theorem sf_nbad {k : Nat} (h : k < 2 ^ 31) : ¬ nI k = (-1000000001 : Int32) := by
  intro e
  have h1 := congrArg Int32.toInt e
  rw [nI_toInt h] at h1
  have h2 : (-1000000001 : Int32).toInt = -1000000001 := by decide
  omega
theorem sf_keepR (S : sf_Sl) : sf_keep S S := fun _ _ _ _ _ _ _ h => h
theorem sf_push {post : St1 → Prop} {S : sf_Sl} {p : sf_A} {F : sf_Fm} {W : sf_Wk} {r rk n m f P A H i j : Nat} {M : Nat → sf_A} {D : sf_Da} (h : sf_slot S r rk n m f M) (hr : r < 6) (hf : sf_fo S F P A H D) (hi : i < 3) (hj : j < 3) (hij : i ≠ j)
    (HS : ∀ S' p' F' P' A' H' D', sf_keep S S' → sf_fo S' F' P' A' H' D' →
      (rk = 2 → P < 20 → A < 6 → H < 6 → F' = ((nI (P + 1)), (nI (A + 1)), (nI (H + 1)), (upd F.2.2.2.1 P 1), (upd F.2.2.2.2.1 P (nI A)), (upd F.2.2.2.2.2.1 P (-1)), (upd F.2.2.2.2.2.2.1 P (-1)), (upd F.2.2.2.2.2.2.2.1 A (nI i)), (upd F.2.2.2.2.2.2.2.2.1 A (nI j)), (upd F.2.2.2.2.2.2.2.2.2 H (nI P))) ∧
        P' = P + 1 ∧ A' = A + 1 ∧ H' = H + 1 ∧ D' = (fun a => if a = A then (rk, n, m, M) else D a)) → post (sf_mk S' p' F' W)) :
    wpL_push post (sf_mk S p F W) (nI r) (nI i) (nI j) := by
  have hrk := h.1.2.2.2.2.2.1
  have acc2 : rk = 2 → sf_acc rk (nI i) (nI j) := by
    intro e
    refine ⟨⟨fun _ => sf_neg1 (by omega), fun _ => by omega⟩, ⟨fun _ => sf_neg1 (by omega), fun _ => e⟩, fun _ t => hij (sf_inj (by omega) (by omega) t)⟩
  have hxi : nI i = (-1 : Int32) ∨ ∃ k, k < 3 ∧ nI i = nI k := Or.inr ⟨i, hi, rfl⟩
  have hxj : nI j = (-1 : Int32) ∨ ∃ k, k < 3 ∧ nI j = nI k := Or.inr ⟨j, hj, rfl⟩
  have hm1 : (-1 : Int32) = (-1 : Int32) ∨ ∃ k, k < 3 ∧ (-1 : Int32) = nI k := Or.inl rfl
  have H6 : H ≤ 6 := hf.2.2.2.2.2.1
  unfold wpL_push
  refine sf_array (S := S) (p := p) (F := F) (W := W) h hr hf hxi hxj (fun nacc => br_t rfl ?_) (fun acc full => br_f (by decide) ?_) (fun acc P1 A1 H1 S1 p1 s1 n1 => br_f (sf_nbad (by omega)) ?_)
  · have nrk : rk ≠ 2 := fun e => nacc (acc2 e)
    refine sf_array (S := S) (p := p) (F := F) (W := W) h hr hf hxi hm1 (fun nacc2 => br_t rfl ?_) (fun acc full => br_f (by decide) ?_) (fun acc P1 A1 H1 S1 p1 s1 n1 => br_f (sf_nbad (by omega)) ?_)
    · refine sf_array (S := S) (p := p) (F := F) (W := W) h hr hf hm1 hm1 (fun nacc3 => ?_) (fun acc full => ?_) (fun acc P1 A1 H1 S1 p1 s1 n1 => ?_)
      · exact HS S p F P A H D (sf_keepR S) hf (fun e => absurd e nrk)
      · exact HS S p F P A H D (sf_keepR S) hf (fun e => absurd e nrk)
      · exact HS S1 p1 _ _ _ _ _ (sf_keepN (sf_keepR S) n1) (sf_foA hf P1 A1 H1 s1 n1 hm1 hm1 acc) (fun e => absurd e nrk)
    · exact HS S p F P A H D (sf_keepR S) hf (fun e => absurd e nrk)
    · exact HS S1 p1 _ _ _ _ _ (sf_keepN (sf_keepR S) n1) (sf_foA hf P1 A1 H1 s1 n1 hxi hm1 acc) (fun e => absurd e nrk)
  · exact br_f (by decide) (HS S p F P A H D (sf_keepR S) hf (fun e P1 A1 H1 => absurd ⟨P1, A1, H1⟩ full))
  · exact br_f (sf_nbad (by omega)) (HS S1 p1 _ _ _ _ _ (sf_keepN (sf_keepR S) n1) (sf_foA hf P1 A1 H1 s1 n1 hxi hxj acc) (fun _ _ _ _ => ⟨rfl, rfl, rfl, rfl, rfl⟩))
/-- the end of a way: the product is made, assigned, read -/
theorem sf_tail {post : Int32 → Prop} {L : Nat} {xs : Nat → Int32} {J311 : Int32 → Int32 → Int32 → Int32 → Int32 → Int32 → Int32 → sf_A → sf_A → sf_A → sf_A → sf_A → sf_A → sf_A → sf_A → sf_A → sf_A → sf_A → sf_A → sf_A → sf_A → sf_A → sf_A → sf_A → sf_A → sf_A → sf_A → sf_A → sf_A → sf_A → sf_A → sf_A → sf_A → sf_A → sf_A → Prop}
    {x2 x3 x4 x5 x6 x7 x8 : Int32} {kc ks : Nat} {S : sf_Sl} {p : sf_A} {F : sf_Fm} {W : sf_Wk} {P A H : Nat} {D : sf_Da} {Q : Prop} {V : Int32} (hf : sf_fo S F P A H D) (hall : sf_all S)
    (hV : Q → P < 20 ∧ 2 ≤ H ∧ ∀ (ins sp : sf_A) (s : Nat → Nat) (top : Nat) (q : sf_A), H - 1 = 1 → upd F.2.2.2.2.2.2.2.2.2 (H - 2) (nI P) 0 = nI top → top < P + 1 →
      sf_ins ((nI (P + 1)), F.2.1, (nI (H - 1)), (upd F.2.2.2.1 P (nI (3 + 2))), (upd F.2.2.2.2.1 P 0), (upd F.2.2.2.2.2.1 P (F.2.2.2.2.2.2.2.2.2 (H - 2))), (upd F.2.2.2.2.2.2.1 P (F.2.2.2.2.2.2.2.2.2 (H - 1))), F.2.2.2.2.2.2.2.1, F.2.2.2.2.2.2.2.2.1, (upd F.2.2.2.2.2.2.2.2.2 (H - 2) (nI P))) ins top →
      sf_spn S ((nI (P + 1)), F.2.1, (nI (H - 1)), (upd F.2.2.2.1 P (nI (3 + 2))), (upd F.2.2.2.2.1 P 0), (upd F.2.2.2.2.2.1 P (F.2.2.2.2.2.2.2.2.2 (H - 2))), (upd F.2.2.2.2.2.2.1 P (F.2.2.2.2.2.2.2.2.2 (H - 1))), F.2.2.2.2.2.2.2.1, F.2.2.2.2.2.2.2.2.1, (upd F.2.2.2.2.2.2.2.2.2 (H - 2) (nI P))) ins sp A (top + 1) →
      (∀ x, x < 3 → s x ≤ 6 ∧ sp x = nI (s x)) →
      (∀ t, t < 36 → q t = sf_res ((nI (P + 1)), F.2.1, (nI (H - 1)), (upd F.2.2.2.1 P (nI (3 + 2))), (upd F.2.2.2.2.1 P 0), (upd F.2.2.2.2.2.1 P (F.2.2.2.2.2.2.2.2.2 (H - 2))), (upd F.2.2.2.2.2.2.1 P (F.2.2.2.2.2.2.2.2.2 (H - 1))), F.2.2.2.2.2.2.2.1, F.2.2.2.2.2.2.2.2.1, (upd F.2.2.2.2.2.2.2.2.2 (H - 2) (nI P))) D top s (-1) (-1) t) → q 0 = V)
    (K : ∀ (S' : sf_Sl) (p' : sf_A) (F' : sf_Fm) (W' : sf_Wk) (v z : Int32), (∀ r, r < 6 → r ≠ 4 → ∀ rk n m f M, sf_slot S r rk n m f M → sf_slot S' r rk n m f M) → sf_all S' → F'.1 = 0 → F'.2.1 = 0 → F'.2.2.1 = 0 →
      (z = 0 ∨ (z = 1 ∧ ¬ x7 = 0 ∧ (Q → v = V))) → wL_law_407 post L xs J311 x2 x3 x4 x5 x6 x8 v z kc ks F'.1 F'.2.1 F'.2.2.1 W'.1 S'.1 S'.2.1 S'.2.2.1 S'.2.2.2.1 S'.2.2.2.2.1 S'.2.2.2.2.2.1 S'.2.2.2.2.2.2.1 S'.2.2.2.2.2.2.2.1 S'.2.2.2.2.2.2.2.2 F'.2.2.2.1 F'.2.2.2.2.1 F'.2.2.2.2.2.1 F'.2.2.2.2.2.2.1 F'.2.2.2.2.2.2.2.1 F'.2.2.2.2.2.2.2.2.1 F'.2.2.2.2.2.2.2.2.2 W'.2.1 p' W'.2.2.1 W'.2.2.2.1 W'.2.2.2.2.1 W'.2.2.2.2.2.1 W'.2.2.2.2.2.2.1 W'.2.2.2.2.2.2.2.1 W'.2.2.2.2.2.2.2.2.1 W'.2.2.2.2.2.2.2.2.2.1 W'.2.2.2.2.2.2.2.2.2.2.1 W'.2.2.2.2.2.2.2.2.2.2.2) :
    wL_law_362 post L xs J311 x2 x3 x4 x5 x6 x7 x8 kc ks F.1 F.2.1 F.2.2.1 W.1 S.1 S.2.1 S.2.2.1 S.2.2.2.1 S.2.2.2.2.1 S.2.2.2.2.2.1 S.2.2.2.2.2.2.1 S.2.2.2.2.2.2.2.1 S.2.2.2.2.2.2.2.2 F.2.2.2.1 F.2.2.2.2.1 F.2.2.2.2.2.1 F.2.2.2.2.2.2.1 F.2.2.2.2.2.2.2.1 F.2.2.2.2.2.2.2.2.1 F.2.2.2.2.2.2.2.2.2 W.2.1 p W.2.2.1 W.2.2.2.1 W.2.2.2.2.1 W.2.2.2.2.2.1 W.2.2.2.2.2.2.1 W.2.2.2.2.2.2.2.1 W.2.2.2.2.2.2.2.2.1 W.2.2.2.2.2.2.2.2.2.1 W.2.2.2.2.2.2.2.2.2.2.1 W.2.2.2.2.2.2.2.2.2.2.2 := by
  have r4 : sf_rkXY (-1) (-1) = 0 := by unfold sf_rkXY; rw [if_pos rfl]
  have d4 : ∀ s, sf_dim s (-1) = 1 := by intro s; unfold sf_dim; rw [if_pos rfl]
  have m1 : (-1 : Int32) = (-1 : Int32) ∨ ∃ k, k < 3 ∧ (-1 : Int32) = nI k := Or.inl rfl
  have neg1 : ∀ e : Int32, e < 0 → ¬ e = 1 := by
    intro e he t
    rw [t] at he
    exact absurd he (by decide)
  have fin : ∀ (F1 : sf_Fm) (P1 H1 : Nat), sf_fo S F1 P1 A H1 D →
      (Q → ∀ (ins sp : sf_A) (s : Nat → Nat) (top : Nat) (q : sf_A), H1 = 1 → F1.2.2.2.2.2.2.2.2.2 0 = nI top → top < P1 → sf_ins F1 ins top → sf_spn S F1 ins sp A (top + 1) → (∀ x, x < 3 → s x ≤ 6 ∧ sp x = nI (s x)) → (∀ t, t < 36 → q t = sf_res F1 D top s (-1) (-1) t) → q 0 = V) →
      wpX_assign (fun r_1639 u => match u with | (g1, g2, g3, g4, b1, b2, b3, b4, b5, b6, b7, b8, b9, b10, b11, b12, b13, b14, b15, b16, b17, b18, b19, b20, b21, b22, b23, b24, b25, b26, b27, b28) => wpX_scrap (fun u => match u with | (g1, g2, g3, g4, b1, b2, b3, b4, b5, b6, b7, b8, b9, b10, b11, b12, b13, b14, b15, b16, b17, b18, b19, b20, b21, b22, b23, b24, b25, b26, b27, b28) => wpX_get (fun r_1817 => ((x7 = 0 → wL_law_406 post L xs J311 x2 x3 x4 x5 x6 x8 r_1817 kc ks g1 g2 g3 g4 b1 b2 b3 b4 b5 b6 b7 b8 b9 b10 b11 b12 b13 b14 b15 b16 b17 b18 b19 b20 b21 b22 b23 b24 b25 b26 b27 b28) ∧ (¬ x7 = 0 → ((r_1639 = 1 → wL_law_407 post L xs J311 x2 x3 x4 x5 x6 x8 r_1817 1 kc ks g1 g2 g3 g4 b1 b2 b3 b4 b5 b6 b7 b8 b9 b10 b11 b12 b13 b14 b15 b16 b17 b18 b19 b20 b21 b22 b23 b24 b25 b26 b27 b28) ∧ (¬ r_1639 = 1 → wL_law_406 post L xs J311 x2 x3 x4 x5 x6 x8 r_1817 kc ks g1 g2 g3 g4 b1 b2 b3 b4 b5 b6 b7 b8 b9 b10 b11 b12 b13 b14 b15 b16 b17 b18 b19 b20 b21 b22 b23 b24 b25 b26 b27 b28))))) (g1, g2, g3, g4, b1, b2, b3, b4, b5, b6, b7, b8, b9, b10, b11, b12, b13, b14, b15, b16, b17, b18, b19, b20, b21, b22, b23, b24, b25, b26, b27, b28) 4 0 0) (g1, g2, g3, g4, b1, b2, b3, b4, b5, b6, b7, b8, b9, b10, b11, b12, b13, b14, b15, b16, b17, b18, b19, b20, b21, b22, b23, b24, b25, b26, b27, b28)) (sf_mk S p F1 W) 4 (-1) (-1) 0 := by
    intro F1 P1 H1 hf1 hQ
    refine sf_assign (S := S) (p := p) (F := F1) (W := W) (to := 4) (fm := 0) hf1 (by omega) (by omega) m1 m1 (fun e W' he _ => ?_) (fun S' p' W' ins sp s top e q a1 a2 a3 a4 a5 a6 a7 a8 a9 a10 a11 => ?_)
    · refine sf_scrap (S := S) (p := p) (F := F1) (W := W') ?_
      obtain ⟨rk, n, m, f, M, hM⟩ := hall 4 (by omega)
      have hd := hM.1.2.2.2.2.2
      refine sf_get (S := S) (p := p) (F := ((0), (0), (0), F1.2.2.2.1, F1.2.2.2.2.1, F1.2.2.2.2.2.1, F1.2.2.2.2.2.2.1, F1.2.2.2.2.2.2.2.1, F1.2.2.2.2.2.2.2.2.1, F1.2.2.2.2.2.2.2.2.2)) (W := W') (s := 4) (i := 0) (j := 0) hM (by omega) (by have := hd.2.1; omega) (by have := hd.2.2.2.1; omega) ?_
      exact br_c (fun _ => K S p ((0), (0), (0), F1.2.2.2.1, F1.2.2.2.2.1, F1.2.2.2.2.2.1, F1.2.2.2.2.2.2.1, F1.2.2.2.2.2.2.2.1, F1.2.2.2.2.2.2.2.2.1, F1.2.2.2.2.2.2.2.2.2) W' _ 0 (fun _ _ _ _ _ _ _ _ h => h) hall rfl rfl rfl (Or.inl rfl)) (fun _ => br_f (neg1 e he) (K S p ((0), (0), (0), F1.2.2.2.1, F1.2.2.2.2.1, F1.2.2.2.2.2.1, F1.2.2.2.2.2.2.1, F1.2.2.2.2.2.2.2.1, F1.2.2.2.2.2.2.2.2.1, F1.2.2.2.2.2.2.2.2.2) W' _ 0 (fun _ _ _ _ _ _ _ _ h => h) hall rfl rfl rfl (Or.inl rfl)))
    · refine sf_scrap (S := S') (p := p') (F := ((0), (0), (0), F1.2.2.2.1, F1.2.2.2.2.1, F1.2.2.2.2.2.1, F1.2.2.2.2.2.2.1, F1.2.2.2.2.2.2.2.1, F1.2.2.2.2.2.2.2.2.1, F1.2.2.2.2.2.2.2.2.2)) (W := W') ?_
      have ha : sf_all S' := by
        intro r hr
        by_cases er : r = 4
        · rw [er]; exact ⟨_, _, _, _, _, a9⟩
        · obtain ⟨rk, n, m, f, M, hM⟩ := hall r hr
          exact ⟨rk, n, m, f, M, a8 r hr er rk n m f M hM⟩
      obtain rfl := a11 r4
      rw [r4, d4] at a9
      refine sf_get (S := S') (p := p') (F := ((0), (0), (0), F1.2.2.2.1, F1.2.2.2.2.1, F1.2.2.2.2.2.1, F1.2.2.2.2.2.2.1, F1.2.2.2.2.2.2.2.1, F1.2.2.2.2.2.2.2.2.1, F1.2.2.2.2.2.2.2.2.2)) (W := W') (s := 4) (i := 0) (j := 0) a9 (by omega) (by omega) (by omega) ?_
      refine br_c (fun _ => K S' p' ((0), (0), (0), F1.2.2.2.1, F1.2.2.2.2.1, F1.2.2.2.2.2.1, F1.2.2.2.2.2.2.1, F1.2.2.2.2.2.2.2.1, F1.2.2.2.2.2.2.2.2.1, F1.2.2.2.2.2.2.2.2.2) W' _ 0 a8 ha rfl rfl rfl (Or.inl rfl)) (fun hx => br_t rfl (K S' p' ((0), (0), (0), F1.2.2.2.1, F1.2.2.2.2.1, F1.2.2.2.2.2.1, F1.2.2.2.2.2.2.1, F1.2.2.2.2.2.2.2.1, F1.2.2.2.2.2.2.2.2.1, F1.2.2.2.2.2.2.2.2.2) W' _ 1 a8 ha rfl rfl rfl (Or.inr ⟨rfl, hx, fun hq => ?_⟩)))
      have := hQ hq ins sp s top q a1 a3 a2 a4 a5 a6 a7
      rw [← this]
      unfold sf_mat
      rw [if_pos ⟨by omega, by omega⟩]
  unfold wL_law_362
  refine sf_joinL (S := S) (p := p) (F := F) (W := W) (o := 2) hf (by omega) (fun nf e => ?_) (fun P1 H1 => ?_)
  · exact fin F P H hf (fun hq => absurd ⟨(hV hq).1, (hV hq).2.1⟩ nf)
  · exact fin ((nI (P + 1)), F.2.1, (nI (H - 1)), (upd F.2.2.2.1 P (nI (3 + 2))), (upd F.2.2.2.2.1 P 0), (upd F.2.2.2.2.2.1 P (F.2.2.2.2.2.2.2.2.2 (H - 2))), (upd F.2.2.2.2.2.2.1 P (F.2.2.2.2.2.2.2.2.2 (H - 1))), F.2.2.2.2.2.2.2.1, F.2.2.2.2.2.2.2.2.1, (upd F.2.2.2.2.2.2.2.2.2 (H - 2) (nI P))) (P + 1) (H - 1) (sf_foJ hf (by omega) P1 H1) (fun hq ins sp s top q b1 b2 b3 b4 b5 b6 b7 => (hV hq).2.2 ins sp s top q b1 b2 b3 b4 b5 b6 b7)
end
section
theorem sf_foZ {S : sf_Sl} {F : sf_Fm} (h1 : F.1 = 0) (h2 : F.2.1 = 0) (h3 : F.2.2.1 = 0) : sf_fo S F 0 0 0 (fun _ => (0, 0, 0, fun _ _ => 0)) :=
  ⟨h1, by omega, h2, by omega, h3, by omega, fun k h => absurd h (by omega), fun k h => absurd h (by omega), fun k h => absurd h (by omega)⟩
theorem sf_acc2 {x y : Nat} (hx : x < 3) (hy : y < 3) (h : x ≠ y) : sf_acc 2 (nI x) (nI y) :=
  ⟨⟨fun _ => sf_neg1 (by omega), fun _ => by omega⟩, ⟨fun _ => sf_neg1 (by omega), fun _ => rfl⟩, fun _ t => h (sf_inj (by omega) (by omega) t)⟩
theorem sf_accR {rk x y : Nat} (hy : y < 3) (h : sf_acc rk (nI x) (nI y)) : rk = 2 := h.2.1.mpr (sf_neg1 (by omega))
/-- the last checks -/
theorem sf_l522 {post : Int32 → Prop} {L : Nat} {xs : Nat → Int32} {x2 : Int32} {kc ks : Nat} {S : sf_Sl} {p : sf_A} {F : sf_Fm} {W : sf_Wk} {a ra na ma fa : Nat} {Ma : Nat → sf_A} {first : Int32} (Hp : post 1) (ha : a < 4) (hA : sf_slot S a ra na ma fa Ma)
    (z1 : F.1 = 0) (z2 : F.2.1 = 0) (z3 : F.2.2.1 = 0) (hfi : first = 0 ∨ (¬ first = 0 ∧ ra = 2)) : wL_law_522 post L xs x2 (nI a) first kc ks F.1 F.2.1 F.2.2.1 W.1 S.1 S.2.1 S.2.2.1 S.2.2.2.1 S.2.2.2.2.1 S.2.2.2.2.2.1 S.2.2.2.2.2.2.1 S.2.2.2.2.2.2.2.1 S.2.2.2.2.2.2.2.2 F.2.2.2.1 F.2.2.2.2.1 F.2.2.2.2.2.1 F.2.2.2.2.2.2.1 F.2.2.2.2.2.2.2.1 F.2.2.2.2.2.2.2.2.1 F.2.2.2.2.2.2.2.2.2 W.2.1 p W.2.2.1 W.2.2.2.1 W.2.2.2.2.1 W.2.2.2.2.2.1 W.2.2.2.2.2.2.1 W.2.2.2.2.2.2.2.1 W.2.2.2.2.2.2.2.2.1 W.2.2.2.2.2.2.2.2.2.1 W.2.2.2.2.2.2.2.2.2.2.1 W.2.2.2.2.2.2.2.2.2.2.2 := by
  obtain ⟨fm, hfm, efm⟩ := pk_andE (x2 >>> ((3 : Int32) &&& 31)) (m := 7) 3 (by decide)
  obtain ⟨fn, hfn, efn⟩ := pk_andE (x2 >>> ((6 : Int32) &&& 31)) (m := 7) 3 (by decide)
  refine br_c (fun _ => Hp) (fun hne => ?_)
  have r2 : ra = 2 := by
    rcases hfi with t | t
    · exact absurd t hne
    · exact t.2
  subst r2
  have hd := hA.1.2.2.2.2.2
  have hn6 := hd.2.2.1
  have hm6 := hd.2.2.2.2.1
  refine sf_array (S := S) (p := p) (F := F) (W := W) (x := nI 1) (y := nI 0) hA (by omega) (sf_foZ z1 z2 z3) (Or.inr ⟨1, by omega, rfl⟩) (Or.inr ⟨0, by omega, rfl⟩) (fun t => absurd (sf_acc2 (by omega) (by omega) (by omega)) t) (fun _ t => absurd ⟨by omega, by omega, by omega⟩ t) (fun acc P1 A1 H1 S1 p1 s1 n1 => ?_)
  have hf1 := sf_foA (sf_foZ (S := S) z1 z2 z3) P1 A1 H1 s1 n1 (Or.inr ⟨1, by omega, rfl⟩) (Or.inr ⟨0, by omega, rfl⟩) acc
  have hA1 := sf_slotN hA n1 (by omega)
  rw [efm]
  refine sf_asg (S := S1) (p := p1) (F := ((nI (0 + 1)), (nI (0 + 1)), (nI (0 + 1)), (upd F.2.2.2.1 0 1), (upd F.2.2.2.2.1 0 (nI 0)), (upd F.2.2.2.2.2.1 0 (-1)), (upd F.2.2.2.2.2.2.1 0 (-1)), (upd F.2.2.2.2.2.2.2.1 0 (nI 1)), (upd F.2.2.2.2.2.2.2.2.1 0 (nI 0)), (upd F.2.2.2.2.2.2.2.2.2 0 (nI 0)))) (W := W) (to := 4) (u := 1) (v := 0) hf1 rfl rfl rfl rfl (Or.inr ⟨rfl, rfl, rfl⟩) rfl rfl (by omega) (by omega) (fun S2 p2 F2 W2 e2 k2 h42 y1 y2 y3 e36 => ?_)
  rw [if_neg (by omega), if_neg (by omega)] at h42
  have hA2 := k2 a (by omega) (by omega) _ _ _ _ _ hA1
  refine sf_array (S := S2) (p := p2) (F := F2) (W := W2) (x := nI 0) (y := nI 1) hA2 (by omega) (sf_foZ y1 y2 y3) (Or.inr ⟨0, by omega, rfl⟩) (Or.inr ⟨1, by omega, rfl⟩) (fun t => absurd (sf_acc2 (by omega) (by omega) (by omega)) t) (fun _ t => absurd ⟨by omega, by omega, by omega⟩ t) (fun acc3 P3 A3 H3 S3 p3 s3 n3 => ?_)
  have hf3 := sf_foA (sf_foZ (S := S2) y1 y2 y3) P3 A3 H3 s3 n3 (Or.inr ⟨0, by omega, rfl⟩) (Or.inr ⟨1, by omega, rfl⟩) acc3
  have hA3 := sf_slotN hA2 n3 (by omega)
  have h43 := sf_slotN h42 n3 (by omega)
  rw [efn]
  refine sf_asg (S := S3) (p := p3) (F := ((nI (0 + 1)), (nI (0 + 1)), (nI (0 + 1)), (upd F2.2.2.2.1 0 1), (upd F2.2.2.2.2.1 0 (nI 0)), (upd F2.2.2.2.2.2.1 0 (-1)), (upd F2.2.2.2.2.2.2.1 0 (-1)), (upd F2.2.2.2.2.2.2.2.1 0 (nI 0)), (upd F2.2.2.2.2.2.2.2.2.1 0 (nI 1)), (upd F2.2.2.2.2.2.2.2.2.2 0 (nI 0)))) (W := W2) (to := 5) (u := 0) (v := 1) hf3 rfl rfl rfl rfl (Or.inl ⟨rfl, rfl, rfl⟩) rfl rfl (by omega) (by omega) (fun S4 p4 F4 W4 e4 k4 h54 y1 y2 y3 e364 => ?_)
  rw [if_pos rfl, if_pos rfl] at h54
  have hA4 := k4 a (by omega) (by omega) _ _ _ _ _ hA3
  have h44 := k4 4 (by omega) (by omega) _ _ _ _ _ h43
  refine sf_same (S := S4) (p := p4) (F := F4) (W := W4) (t := 5) hA4 h54 (by omega) (by omega) (br_f sf_ne0 ?_)
  unfold wL_law_590
  refine sf_turn (S := S4) (p := p4) (F := F4) (W := W4) hA4 (by omega) (fun _ S5 hA5 n5 => ?_) (fun t => absurd rfl t)
  have h45 := sf_slotN h44 n5 (by omega)
  refine br_f (nI_pos (by omega)) (br_f (nI_pos (by omega)) (br_t rfl ?_))
  refine sf_len0 (S := S5) (p := p4) (F := F4) (W := W4) (s := 4) h45 (by omega) (br_t rfl ?_)
  refine sf_same (S := S5) (p := p4) (F := F4) (W := W4) (s := 4) (t := a) h45 hA5 (by omega) (by omega) (br_f sf_ne0 ?_)
  refine sf_digest (S := S5) (p := p4) (F := F4) (W := W4) (s := 4) h45 (by omega) (fun p5 => ?_)
  exact sf_digest (S := S5) (p := p5) (F := F4) (W := W4) (s := a) hA5 (by omega) (fun p6 => br_t rfl Hp)
theorem sf_lend {post : Int32 → Prop} {L : Nat} {xs : Nat → Int32} {x2 sum kn : Int32} {kc ks k : Nat} {S : sf_Sl} {p : sf_A} {F : sf_Fm} {W : sf_Wk} {a b c ra na ma fa rb nb mb fb rc nc mc fc : Nat} {Ma Mb Mc : Nat → sf_A} (Hp : post 1) (ha : a < 4) (hb : b < 4) (hc : c < 4)
    (hA : sf_slot S a ra na ma fa Ma) (hB : sf_slot S b rb nb mb fb Mb) (hC : sf_slot S c rc nc mc fc Mc) (z1 : F.1 = 0) (z2 : F.2.1 = 0) (z3 : F.2.2.1 = 0)
    (hk : ¬ kn = 0 → ra = 2 ∧ rb = 2 ∧ rc = 2 → sum = 0) : wL_law_311 post L xs x2 (nI a) (nI b) (nI c) kc ks (k + 1) sum kn (nI 3) F.1 F.2.1 F.2.2.1 W.1 S.1 S.2.1 S.2.2.1 S.2.2.2.1 S.2.2.2.2.1 S.2.2.2.2.2.1 S.2.2.2.2.2.2.1 S.2.2.2.2.2.2.2.1 S.2.2.2.2.2.2.2.2 F.2.2.2.1 F.2.2.2.2.1 F.2.2.2.2.2.1 F.2.2.2.2.2.2.1 F.2.2.2.2.2.2.2.1 F.2.2.2.2.2.2.2.2.1 F.2.2.2.2.2.2.2.2.2 W.2.1 p W.2.2.1 W.2.2.2.1 W.2.2.2.2.1 W.2.2.2.2.2.1 W.2.2.2.2.2.2.1 W.2.2.2.2.2.2.2.1 W.2.2.2.2.2.2.2.2.1 W.2.2.2.2.2.2.2.2.2.1 W.2.2.2.2.2.2.2.2.2.2.1 W.2.2.2.2.2.2.2.2.2.2.2 := by
  have g494 : ∀ (S1 : sf_Sl) (p1 : sf_A) (F1 : sf_Fm) (pl first : Int32), sf_keep S S1 → (pl = 0 ∨ (ra = 2 ∧ rb = 2 ∧ rc = 2)) → (first = 0 ∨ (¬ first = 0 ∧ ra = 2)) → wL_law_494 post L xs x2 (nI a) sum kn pl first kc ks F1.1 F1.2.1 F1.2.2.1 W.1 S1.1 S1.2.1 S1.2.2.1 S1.2.2.2.1 S1.2.2.2.2.1 S1.2.2.2.2.2.1 S1.2.2.2.2.2.2.1 S1.2.2.2.2.2.2.2.1 S1.2.2.2.2.2.2.2.2 F1.2.2.2.1 F1.2.2.2.2.1 F1.2.2.2.2.2.1 F1.2.2.2.2.2.2.1 F1.2.2.2.2.2.2.2.1 F1.2.2.2.2.2.2.2.2.1 F1.2.2.2.2.2.2.2.2.2 W.2.1 p1 W.2.2.1 W.2.2.2.1 W.2.2.2.2.1 W.2.2.2.2.2.1 W.2.2.2.2.2.2.1 W.2.2.2.2.2.2.2.1 W.2.2.2.2.2.2.2.2.1 W.2.2.2.2.2.2.2.2.2.1 W.2.2.2.2.2.2.2.2.2.2.1 W.2.2.2.2.2.2.2.2.2.2.2 := by
    intro S1 p1 F1 pl first k1 hpl hfi
    have g := sf_l522 (post := post) (L := L) (xs := xs) (x2 := x2) (kc := kc) (ks := ks) (p := p1) (F := ((0), (0), (0), F1.2.2.2.1, F1.2.2.2.2.1, F1.2.2.2.2.2.1, F1.2.2.2.2.2.2.1, F1.2.2.2.2.2.2.2.1, F1.2.2.2.2.2.2.2.2.1, F1.2.2.2.2.2.2.2.2.2)) (W := W) (first := first) Hp ha (k1 a (by omega) _ _ _ _ _ hA) rfl rfl rfl hfi
    unfold wL_law_494
    refine sf_scrap (S := S1) (p := p1) (F := F1) (W := W) (br_c (fun _ => g) (fun h1 => br_c (fun _ => g) (fun h2 => br_c (fun _ => g) (fun h3 => br_t ?_ g))))
    rcases hpl with t | t
    · exact absurd t h3
    · exact hk h1 t
  have g472 : ∀ (S1 : sf_Sl) (p1 : sf_A) (F1 : sf_Fm) (pl : Int32), sf_keep S S1 → (pl = 0 ∨ (ra = 2 ∧ rb = 2 ∧ rc = 2)) → wL_law_472 post L xs x2 (nI a) sum kn pl kc ks F1.1 F1.2.1 F1.2.2.1 W.1 S1.1 S1.2.1 S1.2.2.1 S1.2.2.2.1 S1.2.2.2.2.1 S1.2.2.2.2.2.1 S1.2.2.2.2.2.2.1 S1.2.2.2.2.2.2.2.1 S1.2.2.2.2.2.2.2.2 F1.2.2.2.1 F1.2.2.2.2.1 F1.2.2.2.2.2.1 F1.2.2.2.2.2.2.1 F1.2.2.2.2.2.2.2.1 F1.2.2.2.2.2.2.2.2.1 F1.2.2.2.2.2.2.2.2.2 W.2.1 p1 W.2.2.1 W.2.2.2.1 W.2.2.2.2.1 W.2.2.2.2.2.1 W.2.2.2.2.2.2.1 W.2.2.2.2.2.2.2.1 W.2.2.2.2.2.2.2.2.1 W.2.2.2.2.2.2.2.2.2.1 W.2.2.2.2.2.2.2.2.2.2.1 W.2.2.2.2.2.2.2.2.2.2.2 := by
    intro S1 p1 F1 pl k1 hpl
    unfold wL_law_472
    refine sf_scrap (S := S1) (p := p1) (F := F1) (W := W) ?_
    refine sf_array (S := S1) (p := p1) (F := ((0), (0), (0), F1.2.2.2.1, F1.2.2.2.2.1, F1.2.2.2.2.2.1, F1.2.2.2.2.2.2.1, F1.2.2.2.2.2.2.2.1, F1.2.2.2.2.2.2.2.2.1, F1.2.2.2.2.2.2.2.2.2)) (W := W) (x := nI 0) (y := nI 1) (k1 a (by omega) _ _ _ _ _ hA) (by omega) (sf_foZ rfl rfl rfl) (Or.inr ⟨0, by omega, rfl⟩) (Or.inr ⟨1, by omega, rfl⟩)
      (fun t => br_f (by decide) (g494 S1 p1 ((0), (0), (0), F1.2.2.2.1, F1.2.2.2.2.1, F1.2.2.2.2.2.1, F1.2.2.2.2.2.2.1, F1.2.2.2.2.2.2.2.1, F1.2.2.2.2.2.2.2.2.1, F1.2.2.2.2.2.2.2.2.2) pl 0 k1 hpl (Or.inl rfl))) (fun _ t => absurd ⟨by omega, by omega, by omega⟩ t)
      (fun acc P1 A1 H1 S2 p2 s2 n2 => br_t rfl (g494 S2 p2 (nI (0 + 1), nI (0 + 1), nI (0 + 1), upd F1.2.2.2.1 0 1, upd F1.2.2.2.2.1 0 (nI 0), upd F1.2.2.2.2.2.1 0 (-1), upd F1.2.2.2.2.2.2.1 0 (-1), upd F1.2.2.2.2.2.2.2.1 0 (nI 0), upd F1.2.2.2.2.2.2.2.2.1 0 (nI 1), upd F1.2.2.2.2.2.2.2.2.2 0 (nI 0)) pl 1 (sf_keepN k1 n2) hpl (Or.inr ⟨sf_ne0, sf_accR (by omega) acc⟩)))
  refine pk_le 3 3 (fun _ => ?_) (fun z => absurd z (by omega))
  refine sf_array (S := S) (p := p) (F := F) (W := W) (x := nI 1) (y := nI 0) hA (by omega) (sf_foZ z1 z2 z3) (Or.inr ⟨1, by omega, rfl⟩) (Or.inr ⟨0, by omega, rfl⟩)
    (fun t => br_f (by decide) (g472 S p F 0 (sf_keepR S) (Or.inl rfl))) (fun _ t => absurd ⟨by omega, by omega, by omega⟩ t) (fun acc1 P1 A1 H1 S1 p1 s1 n1 => br_t rfl ?_)
  have k1 := sf_keepN (sf_keepR S) n1
  have hf1 := sf_foA (sf_foZ (S := S) z1 z2 z3) P1 A1 H1 s1 n1 (Or.inr ⟨1, by omega, rfl⟩) (Or.inr ⟨0, by omega, rfl⟩) acc1
  refine sf_array (S := S1) (p := p1) (F := ((nI (0 + 1)), (nI (0 + 1)), (nI (0 + 1)), (upd F.2.2.2.1 0 1), (upd F.2.2.2.2.1 0 (nI 0)), (upd F.2.2.2.2.2.1 0 (-1)), (upd F.2.2.2.2.2.2.1 0 (-1)), (upd F.2.2.2.2.2.2.2.1 0 (nI 1)), (upd F.2.2.2.2.2.2.2.2.1 0 (nI 0)), (upd F.2.2.2.2.2.2.2.2.2 0 (nI 0)))) (W := W) (x := nI 1) (y := nI 2) (k1 b (by omega) _ _ _ _ _ hB) (by omega) hf1 (Or.inr ⟨1, by omega, rfl⟩) (Or.inr ⟨2, by omega, rfl⟩)
    (fun t => br_f (by decide) (g472 S1 p1 ((nI (0 + 1)), (nI (0 + 1)), (nI (0 + 1)), (upd F.2.2.2.1 0 1), (upd F.2.2.2.2.1 0 (nI 0)), (upd F.2.2.2.2.2.1 0 (-1)), (upd F.2.2.2.2.2.2.1 0 (-1)), (upd F.2.2.2.2.2.2.2.1 0 (nI 1)), (upd F.2.2.2.2.2.2.2.2.1 0 (nI 0)), (upd F.2.2.2.2.2.2.2.2.2 0 (nI 0))) 0 k1 (Or.inl rfl))) (fun _ t => absurd ⟨by omega, by omega, by omega⟩ t) (fun acc2 P2 A2 H2 S2 p2 s2 n2 => br_t rfl ?_)
  have k2 := sf_keepN k1 n2
  have hf2 := sf_foA hf1 P2 A2 H2 s2 n2 (Or.inr ⟨1, by omega, rfl⟩) (Or.inr ⟨2, by omega, rfl⟩) acc2
  let F2 : sf_Fm := (nI (0 + 1 + 1), nI (0 + 1 + 1), nI (0 + 1 + 1), upd (upd F.2.2.2.1 0 1) (0 + 1) 1, upd (upd F.2.2.2.2.1 0 (nI 0)) (0 + 1) (nI (0 + 1)), upd (upd F.2.2.2.2.2.1 0 (-1)) (0 + 1) (-1), upd (upd F.2.2.2.2.2.2.1 0 (-1)) (0 + 1) (-1), upd (upd F.2.2.2.2.2.2.2.1 0 (nI 1)) (0 + 1) (nI 1), upd (upd F.2.2.2.2.2.2.2.2.1 0 (nI 0)) (0 + 1) (nI 2), upd (upd F.2.2.2.2.2.2.2.2.2 0 (nI 0)) (0 + 1) (nI (0 + 1)))
  refine sf_array (S := S2) (p := p2) (F := F2) (W := W) (x := nI 1) (y := nI 2) (k2 c (by omega) _ _ _ _ _ hC) (by omega) hf2 (Or.inr ⟨1, by omega, rfl⟩) (Or.inr ⟨2, by omega, rfl⟩)
    (fun t => br_f (by decide) (g472 S2 p2 F2 0 k2 (Or.inl rfl))) (fun _ t => absurd ⟨by omega, by omega, by omega⟩ t) (fun acc3 P3 A3 H3 S3 p3 s3 n3 => br_t rfl ?_)
  exact g472 S3 p3 (nI (0 + 1 + 1 + 1), nI (0 + 1 + 1 + 1), nI (0 + 1 + 1 + 1), upd F2.2.2.2.1 (0 + 1 + 1) 1, upd F2.2.2.2.2.1 (0 + 1 + 1) (nI (0 + 1 + 1)), upd F2.2.2.2.2.2.1 (0 + 1 + 1) (-1), upd F2.2.2.2.2.2.2.1 (0 + 1 + 1) (-1), upd F2.2.2.2.2.2.2.2.1 (0 + 1 + 1) (nI 1), upd F2.2.2.2.2.2.2.2.2.1 (0 + 1 + 1) (nI 2), upd F2.2.2.2.2.2.2.2.2.2 (0 + 1 + 1) (nI (0 + 1 + 1))) 1 (sf_keepN k2 n3) (Or.inr ⟨sf_accR (by omega) acc1, sf_accR (by omega) acc2, sf_accR (by omega) acc3⟩)
end
section
/-- the three ways -/
theorem sf_l311 {post : Int32 → Prop} {L : Nat} {xs : Nat → Int32} {x2 : Int32} {kc ks : Nat} {S : sf_Sl} {p : sf_A} {F : sf_Fm} {W : sf_Wk} {a b c : Nat} (Hp : post 1) (hall : sf_all S) (ha : a < 4) (hb : b < 4) (hc : c < 4)
    (z1 : F.1 = 0) (z2 : F.2.1 = 0) (z3 : F.2.2.1 = 0) : ∃ fu, wL_law_311 post L xs x2 (nI a) (nI b) (nI c) kc ks fu 0 1 0 F.1 F.2.1 F.2.2.1 W.1 S.1 S.2.1 S.2.2.1 S.2.2.2.1 S.2.2.2.2.1 S.2.2.2.2.2.1 S.2.2.2.2.2.2.1 S.2.2.2.2.2.2.2.1 S.2.2.2.2.2.2.2.2 F.2.2.2.1 F.2.2.2.2.1 F.2.2.2.2.2.1 F.2.2.2.2.2.2.1 F.2.2.2.2.2.2.2.1 F.2.2.2.2.2.2.2.2.1 F.2.2.2.2.2.2.2.2.2 W.2.1 p W.2.2.1 W.2.2.2.1 W.2.2.2.2.1 W.2.2.2.2.2.1 W.2.2.2.2.2.2.1 W.2.2.2.2.2.2.2.1 W.2.2.2.2.2.2.2.2.1 W.2.2.2.2.2.2.2.2.2.1 W.2.2.2.2.2.2.2.2.2.2.1 W.2.2.2.2.2.2.2.2.2.2.2 := by
  obtain ⟨ra, na, ma, fa, Ma, hA⟩ := hall a (by omega)
  obtain ⟨rb, nb, mb, fb, Mb, hB⟩ := hall b (by omega)
  obtain ⟨rc, nc, mc, fc, Mc, hC⟩ := hall c (by omega)
  refine pk_loop (σ := Int32 × Int32 × sf_Sl × sf_A × sf_Fm × sf_Wk) (fun k i t => match t with | (sum, kn, S, p, F, W) => wL_law_311 post L xs x2 (nI a) (nI b) (nI c) kc ks k sum kn (nI i) F.1 F.2.1 F.2.2.1 W.1 S.1 S.2.1 S.2.2.1 S.2.2.2.1 S.2.2.2.2.1 S.2.2.2.2.2.1 S.2.2.2.2.2.2.1 S.2.2.2.2.2.2.2.1 S.2.2.2.2.2.2.2.2 F.2.2.2.1 F.2.2.2.2.1 F.2.2.2.2.2.1 F.2.2.2.2.2.2.1 F.2.2.2.2.2.2.2.1 F.2.2.2.2.2.2.2.2.1 F.2.2.2.2.2.2.2.2.2 W.2.1 p W.2.2.1 W.2.2.2.1 W.2.2.2.2.1 W.2.2.2.2.2.1 W.2.2.2.2.2.2.1 W.2.2.2.2.2.2.2.1 W.2.2.2.2.2.2.2.2.1 W.2.2.2.2.2.2.2.2.2.1 W.2.2.2.2.2.2.2.2.2.2.1 W.2.2.2.2.2.2.2.2.2.2.2)
    (fun i t => match t with | (sum, kn, S, p, F, W) => sf_all S ∧ sf_slot S a ra na ma fa Ma ∧ sf_slot S b rb nb mb fb Mb ∧ sf_slot S c rc nc mc fc Mc ∧ F.1 = 0 ∧ F.2.1 = 0 ∧ F.2.2.1 = 0 ∧
      (¬ kn = 0 → ra = 2 ∧ rb = 2 ∧ rc = 2 → (i = 1 → sum = sf_V Ma (fun y z => Mb y z + Mc y z)) ∧ (i = 2 → sum = sf_V Ma (fun y z => Mb y z + Mc y z) - sf_V Ma Mb) ∧ (i = 3 → sum = sf_V Ma (fun y z => Mb y z + Mc y z) - sf_V Ma Mb - sf_V Ma Mc)))
    3 0 (0, 1, S, p, F, W) (by omega) ⟨hall, hA, hB, hC, z1, z2, z3, fun _ _ => ⟨fun t => absurd t (by omega), fun t => absurd t (by omega), fun t => absurd t (by omega)⟩⟩ ?_ ?_
  · intro k t ht
    obtain ⟨sum, kn, S1, p1, F1, W1⟩ := t
    obtain ⟨h1, hA1, hB1, hC1, y1, y2, y3, hk⟩ := ht
    refine sf_lend (S := S1) (p := p1) (F := F1) (W := W1) Hp ha hb hc hA1 hB1 hC1 y1 y2 y3 (fun h0 hq => ?_)
    rw [(hk h0 hq).2.2 rfl, sf_Vadd]
    grind
  · intro k i t hi ht hw
    obtain ⟨sum, kn, S1, p1, F1, W1⟩ := t
    obtain ⟨h1, hA1, hB1, hC1, y1, y2, y3, hk⟩ := ht
    have allK : ∀ S2, sf_keep S1 S2 → sf_all S2 := by
      intro S2 k2 r hr
      obtain ⟨rk, n, m, f, M, hM⟩ := h1 r hr
      exact ⟨rk, n, m, f, M, k2 r hr rk n m f M hM⟩
    have trK : ∀ S2 S3, sf_keep S1 S2 → sf_keep S2 S3 → sf_keep S1 S3 := fun S2 S3 a b r hr rk n m f M hM => b r hr rk n m f M (a r hr rk n m f M hM)
    have other : i ≠ 0 → ∀ (d rd nd md fd : Nat) (Md : Nat → sf_A), d < 4 → sf_slot S1 d rd nd md fd Md → (ra = 2 ∧ rb = 2 ∧ rc = 2 → rd = 2) →
        (∀ v : Int32, ra = 2 ∧ rb = 2 ∧ rc = 2 → ¬ kn = 0 → v = sf_V Ma Md → (i + 1 = 1 → sum - v = sf_V Ma (fun y z => Mb y z + Mc y z)) ∧ (i + 1 = 2 → sum - v = sf_V Ma (fun y z => Mb y z + Mc y z) - sf_V Ma Mb) ∧ (i + 1 = 3 → sum - v = sf_V Ma (fun y z => Mb y z + Mc y z) - sf_V Ma Mb - sf_V Ma Mc)) →
        ∀ (S2 : sf_Sl) (p2 : sf_A) (F2 : sf_Fm) (P2 A2 H2 : Nat) (D2 : sf_Da), sf_keep S1 S2 → sf_fo S2 F2 P2 A2 H2 D2 →
        (ra = 2 → 0 < 20 → 0 < 6 → 0 < 6 → F2 = ((nI (0 + 1)), (nI (0 + 1)), (nI (0 + 1)), (upd F1.2.2.2.1 0 1), (upd F1.2.2.2.2.1 0 (nI 0)), (upd F1.2.2.2.2.2.1 0 (-1)), (upd F1.2.2.2.2.2.2.1 0 (-1)), (upd F1.2.2.2.2.2.2.2.1 0 (nI 0)), (upd F1.2.2.2.2.2.2.2.2.1 0 (nI 1)), (upd F1.2.2.2.2.2.2.2.2.2 0 (nI 0))) ∧ P2 = 0 + 1 ∧ A2 = 0 + 1 ∧ H2 = 0 + 1 ∧ D2 = (fun a => if a = 0 then (ra, na, ma, Ma) else (fun _ => (0, 0, 0, fun _ _ => 0)) a)) →
        wL_law_338 post L xs (wL_law_311 post L xs x2 (nI a) (nI b) (nI c) kc ks k) x2 (nI a) (nI b) (nI c) sum kn (nI i) (nI d) kc ks F2.1 F2.2.1 F2.2.2.1 W1.1 S2.1 S2.2.1 S2.2.2.1 S2.2.2.2.1 S2.2.2.2.2.1 S2.2.2.2.2.2.1 S2.2.2.2.2.2.2.1 S2.2.2.2.2.2.2.2.1 S2.2.2.2.2.2.2.2.2 F2.2.2.2.1 F2.2.2.2.2.1 F2.2.2.2.2.2.1 F2.2.2.2.2.2.2.1 F2.2.2.2.2.2.2.2.1 F2.2.2.2.2.2.2.2.2.1 F2.2.2.2.2.2.2.2.2.2 W1.2.1 p2 W1.2.2.1 W1.2.2.2.1 W1.2.2.2.2.1 W1.2.2.2.2.2.1 W1.2.2.2.2.2.2.1 W1.2.2.2.2.2.2.2.1 W1.2.2.2.2.2.2.2.2.1 W1.2.2.2.2.2.2.2.2.2.1 W1.2.2.2.2.2.2.2.2.2.2.1 W1.2.2.2.2.2.2.2.2.2.2.2 := by
      intro i0 d rd nd md fd Md hd hD hrd hsum S2 p2 F2 P2 A2 H2 D2 k2 hf2 ex2
      unfold wL_law_338
      refine sf_push (S := S2) (p := p2) (F := F2) (W := W1) (i := 1) (j := 2) (k2 d (by omega) _ _ _ _ _ hD) (by omega) hf2 (by omega) (by omega) (by omega) (fun S3 p3 F3 P3 A3 H3 D3 k3 hf3 ex3 => ?_)
      have k13 := trK S2 S3 k2 k3
      refine pk_eq i 0 (fun z => absurd z i0) (fun _ => ?_)
      refine sf_tail (S := S3) (p := p3) (F := F3) (W := W1) (Q := ra = 2 ∧ rb = 2 ∧ rc = 2) (V := sf_V Ma Md) hf3 (allK S3 k13) (fun hq => ?_) (fun S4 p4 F4 W4 v z k4 h4 w1 w2 w3 hz => ?_)
      · obtain ⟨q1, q2, q3⟩ := hq
        have q4 := hrd ⟨q1, q2, q3⟩
        obtain ⟨e1, e2, e3, e4, e5⟩ := ex2 q1 (by omega) (by omega) (by omega)
        subst e1 e2 e3 e4 e5
        obtain ⟨e1, e2, e3, e4, e5⟩ := ex3 q4 (by omega) (by omega) (by omega)
        subst e1 e2 e3 e4 e5
        refine ⟨by omega, by omega, fun ins sp s top q b1 b2 b3 b4 b5 b6 b7 => ?_⟩
        obtain rfl : 2 = top := sf_inj (by omega) (by omega) b2
        refine (b7 0 (by omega)).trans (sf_val3 (sf_foJ hf3 (o := 2) (by omega) (by omega) (by omega)) ⟨⟨rfl, rfl⟩, ⟨rfl, rfl⟩, ⟨rfl, rfl, rfl⟩, ⟨rfl, rfl⟩, ⟨rfl, rfl⟩, rfl⟩ b4 b5 b6 (na := na) (ma := ma) (nb := nd) (mb := md) ?_ ?_)
        · subst q1; rfl
        · subst q4; rfl
      · refine pk_eq i 0 (fun z => absurd z i0) (fun _ => nm_e (nm_r (nI_1 i) (hw (sum - v, z, S4, p4, F4, W4) ⟨h4, k4 a (by omega) (by omega) _ _ _ _ _ (k13 a (by omega) _ _ _ _ _ hA1), k4 b (by omega) (by omega) _ _ _ _ _ (k13 b (by omega) _ _ _ _ _ hB1), k4 c (by omega) (by omega) _ _ _ _ _ (k13 c (by omega) _ _ _ _ _ hC1), w1, w2, w3, fun h0 hq => ?_⟩)))
        rcases hz with hz | ⟨_, hz2, hz3⟩
        · exact absurd hz h0
        · exact hsum v hq hz2 (hz3 hq)
    refine pk_le 3 i (fun z => absurd z (by omega)) (fun _ => ?_)
    refine sf_push (S := S1) (p := p1) (F := F1) (W := W1) (i := 0) (j := 1) hA1 (by omega) (sf_foZ y1 y2 y3) (by omega) (by omega) (by omega) (fun S2 p2 F2 P2 A2 H2 D2 k2 hf2 ex2 => ?_)
    refine pk_le 2 i (fun z => ?_) (fun z => ?_)
    · refine other (by omega) c rc nc mc fc Mc hc hC1 (fun hq => hq.2.2) (fun v hq h0 hv => ⟨fun t => absurd t (by omega), fun t => absurd t (by omega), fun t => ?_⟩) S2 p2 F2 P2 A2 H2 D2 k2 hf2 ex2
      rw [(hk h0 hq).2.1 (by omega), hv]
    · by_cases i0 : i = 0
      rotate_left
      · refine other i0 b rb nb mb fb Mb hb hB1 (fun hq => hq.2.1) (fun v hq h0 hv => ⟨fun t => absurd t (by omega), fun t => ?_, fun t => absurd t (by omega)⟩) S2 p2 F2 P2 A2 H2 D2 k2 hf2 ex2
        rw [(hk h0 hq).1 (by omega), hv]
      subst i0
      unfold wL_law_338
      refine sf_push (S := S2) (p := p2) (F := F2) (W := W1) (i := 1) (j := 2) (k2 b (by omega) _ _ _ _ _ hB1) (by omega) hf2 (by omega) (by omega) (by omega) (fun S3 p3 F3 P3 A3 H3 D3 k3 hf3 ex3 => br_t rfl ?_)
      have k13 := trK S2 S3 k2 k3
      refine sf_push (S := S3) (p := p3) (F := F3) (W := W1) (i := 1) (j := 2) (k13 c (by omega) _ _ _ _ _ hC1) (by omega) hf3 (by omega) (by omega) (by omega) (fun S4 p4 F4 P4 A4 H4 D4 k4 hf4 ex4 => ?_)
      have k14 := trK S3 S4 k13 k4
      have fin : ∀ (F5 : sf_Fm) (P5 H5 : Nat), sf_fo S4 F5 P5 A4 H5 D4 → (ra = 2 ∧ rb = 2 ∧ rc = 2 → F5 = ((nI (P4 + 1)), F4.2.1, (nI (H4 - 1)), (upd F4.2.2.2.1 P4 (nI (3 + 0))), (upd F4.2.2.2.2.1 P4 0), (upd F4.2.2.2.2.2.1 P4 (F4.2.2.2.2.2.2.2.2.2 (H4 - 2))), (upd F4.2.2.2.2.2.2.1 P4 (F4.2.2.2.2.2.2.2.2.2 (H4 - 1))), F4.2.2.2.2.2.2.2.1, F4.2.2.2.2.2.2.2.2.1, (upd F4.2.2.2.2.2.2.2.2.2 (H4 - 2) (nI P4))) ∧ P5 = P4 + 1 ∧ H5 = H4 - 1) →
          wL_law_362 post L xs (wL_law_311 post L xs x2 (nI a) (nI b) (nI c) kc ks k) x2 (nI a) (nI b) (nI c) sum kn (nI 0) kc ks F5.1 F5.2.1 F5.2.2.1 W1.1 S4.1 S4.2.1 S4.2.2.1 S4.2.2.2.1 S4.2.2.2.2.1 S4.2.2.2.2.2.1 S4.2.2.2.2.2.2.1 S4.2.2.2.2.2.2.2.1 S4.2.2.2.2.2.2.2.2 F5.2.2.2.1 F5.2.2.2.2.1 F5.2.2.2.2.2.1 F5.2.2.2.2.2.2.1 F5.2.2.2.2.2.2.2.1 F5.2.2.2.2.2.2.2.2.1 F5.2.2.2.2.2.2.2.2.2 W1.2.1 p4 W1.2.2.1 W1.2.2.2.1 W1.2.2.2.2.1 W1.2.2.2.2.2.1 W1.2.2.2.2.2.2.1 W1.2.2.2.2.2.2.2.1 W1.2.2.2.2.2.2.2.2.1 W1.2.2.2.2.2.2.2.2.2.1 W1.2.2.2.2.2.2.2.2.2.2.1 W1.2.2.2.2.2.2.2.2.2.2.2 := by
        intro F5 P5 H5 hf5 ex5
        refine sf_tail (S := S4) (p := p4) (F := F5) (W := W1) (Q := ra = 2 ∧ rb = 2 ∧ rc = 2) (V := sf_V Ma (fun y z => Mb y z + Mc y z)) hf5 (allK S4 k14) (fun hq => ?_) (fun S6 p6 F6 W6 v z k6 h6 w1 w2 w3 hz => ?_)
        · obtain ⟨q1, q2, q3⟩ := id hq
          obtain ⟨e1, e2, e3⟩ := ex5 hq
          subst e1 e2 e3
          obtain ⟨e1, e2, e3, e4, e5⟩ := ex2 q1 (by omega) (by omega) (by omega)
          subst e1 e2 e3 e4 e5
          obtain ⟨e1, e2, e3, e4, e5⟩ := ex3 q2 (by omega) (by omega) (by omega)
          subst e1 e2 e3 e4 e5
          obtain ⟨e1, e2, e3, e4, e5⟩ := ex4 q3 (by omega) (by omega) (by omega)
          subst e1 e2 e3 e4 e5
          refine ⟨by omega, by omega, fun ins sp s top q b1 b2 b3 b4 b5 b6 b7 => ?_⟩
          obtain rfl : 4 = top := sf_inj (by omega) (by omega) b2
          refine (b7 0 (by omega)).trans (sf_val5 (sf_foJ hf5 (o := 2) (by omega) (by omega) (by omega)) ⟨⟨rfl, rfl⟩, ⟨rfl, rfl⟩, ⟨rfl, rfl⟩, ⟨rfl, rfl, rfl⟩, ⟨rfl, rfl, rfl⟩, ⟨rfl, rfl⟩, ⟨rfl, rfl⟩, ⟨rfl, rfl⟩, rfl⟩ b4 b5 b6 (na := na) (ma := ma) (nb := nb) (mb := mb) (nc := nc) (mc := mc) ?_ ?_ ?_)
          · subst q1; rfl
          · subst q2; rfl
          · subst q3; rfl
        · refine br_t rfl (nm_r (nI_1 0) (hw (v, z, S6, p6, F6, W6) ⟨h6, k6 a (by omega) (by omega) _ _ _ _ _ (k14 a (by omega) _ _ _ _ _ hA1), k6 b (by omega) (by omega) _ _ _ _ _ (k14 b (by omega) _ _ _ _ _ hB1), k6 c (by omega) (by omega) _ _ _ _ _ (k14 c (by omega) _ _ _ _ _ hC1), w1, w2, w3, fun h0 hq => ⟨fun _ => ?_, fun t => absurd t (by omega), fun t => absurd t (by omega)⟩⟩))
          rcases hz with hz | ⟨_, hz2, hz3⟩
          · exact absurd hz h0
          · exact hz3 hq
      refine sf_joinL (S := S4) (p := p4) (F := F4) (W := W1) (o := 0) hf4 (by omega) (fun nf e => fin F4 P4 H4 hf4 (fun hq => ?_)) (fun P1 H1 => fin _ _ _ (sf_foJ hf4 (by omega) P1 H1) (fun _ => ⟨rfl, rfl, rfl⟩))
      obtain ⟨q1, q2, q3⟩ := hq
      obtain ⟨e1, e2, e3, e4, e5⟩ := ex2 q1 (by omega) (by omega) (by omega)
      subst e1 e2 e3 e4 e5
      obtain ⟨e1, e2, e3, e4, e5⟩ := ex3 q2 (by omega) (by omega) (by omega)
      subst e1 e2 e3 e4 e5
      obtain ⟨e1, e2, e3, e4, e5⟩ := ex4 q3 (by omega) (by omega) (by omega)
      subst e1 e2 e3 e4 e5
      exact absurd ⟨by omega, by omega⟩ nf
theorem i_vc (xs : Nat → Int32) (L : Nat) (hL : L ≤ 260) : wpL_law (fun r => r = 1) L xs := by
  refine ⟨28, 1400, by omega, by omega, sf_init (by omega) (by omega) (fun S p F W h => ?_)⟩
  have go : ∀ x2 : Int32, ∃ fu, wL_law_23 (fun r => r = 1) L xs x2 (1 + 28) (32 + 1400) fu 1 F.1 F.2.1 F.2.2.1 W.1 S.1 S.2.1 S.2.2.1 S.2.2.2.1 S.2.2.2.2.1 S.2.2.2.2.2.1 S.2.2.2.2.2.2.1 S.2.2.2.2.2.2.2.1 S.2.2.2.2.2.2.2.2 F.2.2.2.1 F.2.2.2.2.1 F.2.2.2.2.2.1 F.2.2.2.2.2.2.1 F.2.2.2.2.2.2.2.1 F.2.2.2.2.2.2.2.2.1 F.2.2.2.2.2.2.2.2.2 W.2.1 p W.2.2.1 W.2.2.2.1 W.2.2.2.2.1 W.2.2.2.2.2.1 W.2.2.2.2.2.2.1 W.2.2.2.2.2.2.2.1 W.2.2.2.2.2.2.2.2.1 W.2.2.2.2.2.2.2.2.2.1 W.2.2.2.2.2.2.2.2.2.2.1 W.2.2.2.2.2.2.2.2.2.2.2 := by
    intro x2
    refine sf_l23 (S := S) (p := p) (F := F) (W := W) hL h (fun S1 p1 F1 W1 h1 => ?_)
    exact sf_l56 (S := S1) (p := p1) (F := ((0), (0), (0), F1.2.2.2.1, F1.2.2.2.2.1, F1.2.2.2.2.2.1, F1.2.2.2.2.2.2.1, F1.2.2.2.2.2.2.2.1, F1.2.2.2.2.2.2.2.2.1, F1.2.2.2.2.2.2.2.2.2)) (W := W1) h1 (fun S2 p2 a b c h2 ha hb hc => sf_l311 (S := S2) (p := p2) (F := ((0), (0), (0), F1.2.2.2.1, F1.2.2.2.2.1, F1.2.2.2.2.2.1, F1.2.2.2.2.2.2.1, F1.2.2.2.2.2.2.2.1, F1.2.2.2.2.2.2.2.2.1, F1.2.2.2.2.2.2.2.2.2)) (W := W1) rfl h2 ha (by omega) (by omega) rfl rfl rfl)
  refine pk_le L 0 (fun _ => go 0) (fun z => And.intro (pk_in 0 L z) (nm_e (go _)))
end
