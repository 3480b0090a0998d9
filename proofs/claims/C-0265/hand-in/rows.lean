section
theorem pk_us {f : Nat → Int32} {k : Nat} {x : Int32} : upd f k x k = x := if_pos rfl
theorem pk_un {f : Nat → Int32} {k j : Nat} {x : Int32} (h : j ≠ k) : upd f k x j = f j := if_neg h
theorem pk_sub {a b : Nat} (h : b ≤ a) : nI a - nI b = nI (a - b) := by
  obtain ⟨c, rfl⟩ : ∃ c, a = c + b := ⟨a - b, by omega⟩
  rw [← nI_add, Int32.add_sub_cancel, Nat.add_sub_cancel]
theorem pk_m1 (n : Nat) : nI (n + 1) + (-1) = nI n := by
  rw [← nI_1, Int32.add_assoc, show (1 : Int32) + (-1) = 0 from rfl, Int32.add_zero]
theorem pk_mul (a b : Nat) : nI a * nI b = nI (a * b) := (Int32.ofNat_mul a b).symm
theorem pk_div {a d : Nat} (ha : a < 2 ^ 31) (h0 : 0 < d) (hd : d < 2 ^ 31) : nI a / nI d = nI (a / d) := by
  apply Int32.toInt_inj.mp
  rw [lg_idiv_nonneg (by rw [nI_toInt ha]; omega) (by rw [nI_toInt hd]; omega), nI_toInt ha, nI_toInt hd, nI_toInt (Nat.lt_of_le_of_lt (Nat.div_le_self a d) ha)]
  first | rfl | exact (Int.natCast_ediv _ _).symm
theorem pk_rem {a d : Nat} (ha : a < 2 ^ 31) (h0 : 0 < d) (hd : d < 2 ^ 31) : nI a - nI a / nI d * nI d = nI (a % d) := by
  rw [pk_div ha h0 hd, pk_mul, pk_sub (Nat.div_mul_le_self a d)]
  exact congrArg nI (by have := Nat.div_add_mod' a d; omega)
theorem pk_sub_toInt {a b : Nat} (ha : a < 2 ^ 30) (hb : b < 2 ^ 30) : (nI a - nI b).toInt = (a : Int) - b := by
  rw [Int32.toInt_sub, nI_toInt (by omega), nI_toInt (by omega)]
  exact Int.bmod_eq_of_le (by omega) (by omega)
theorem pk_sneg {a b : Nat} (hb : b < 2 ^ 30) (h : a < b) : nI a - nI b < 0 := by
  rw [Int32.lt_iff_toInt_lt, pk_sub_toInt (by omega) hb, show (0 : Int32).toInt = 0 from by decide]
  omega
theorem pk_ix (x : Int32) {n : Nat} (hn : n < 2 ^ 31) : x < 0 ∨ nI n ≤ x ∨ ∃ j : Nat, j < n ∧ x = nI j := by
  by_cases h : x < 0
  · exact Or.inl h
  · obtain ⟨j, hj, rfl⟩ := nI_of h
    by_cases h2 : j < n
    · exact Or.inr (Or.inr ⟨j, h2, rfl⟩)
    · exact Or.inr (Or.inl (nI_le (by omega) hj))
theorem pk_le {x y : Int32} {A B : Prop} (a b : Nat) (f : a ≤ b → A) (g : b < a → B) (hx : x = nI a := by rfl) (hy : y = nI b := by rfl) (ha : a < 2 ^ 31 := by omega) (hb : b < 2 ^ 31 := by omega) : (x ≤ y → A) ∧ (¬ x ≤ y → B) := by
  subst hx hy
  rw [nI_leI ha hb]
  exact ⟨f, fun z => g (by omega)⟩
theorem pk_lt {x y : Int32} {A B : Prop} (a b : Nat) (f : a < b → A) (g : b ≤ a → B) (hx : x = nI a := by rfl) (hy : y = nI b := by rfl) (ha : a < 2 ^ 31 := by omega) (hb : b < 2 ^ 31 := by omega) : (x < y → A) ∧ (¬ x < y → B) := by
  subst hx hy
  rw [nI_ltI ha hb]
  exact ⟨f, fun z => g (by omega)⟩
theorem pk_eq {x y : Int32} {A B : Prop} (a b : Nat) (f : a = b → A) (g : a ≠ b → B) (hx : x = nI a := by rfl) (hy : y = nI b := by rfl) (ha : a < 2 ^ 31 := by omega) (hb : b < 2 ^ 31 := by omega) : (x = y → A) ∧ (¬ x = y → B) := by
  subst hx hy
  rw [nI_eq ha hb]
  exact ⟨f, g⟩
theorem pk_in {x : Int32} (n N : Nat) (h : n < N) (hx : x = nI n := by rfl) (hN : N < 2 ^ 31 := by omega) : vp_in x N := by
  subst hx
  exact vp_in_nI h hN
theorem pk_cl {x : Int32} (n : Nat) (hx : x = nI n := by rfl) (h : n < 2 ^ 31 := by omega) : x.toNatClampNeg = n := by
  subst hx
  exact nI_clamp h
theorem pk_vb (z : Int32) : vp_nar .byte z.toInt8.toInt32 = z.toInt8.toInt32 := by rw [vp_nar_byte]; simp
theorem co_2 {P : Nat → Prop} (h0 : P 0) (h1 : P 1) {i : Nat} (hi : i < 2) : P i :=
  match i, hi with
  | 0, _ => h0
  | 1, _ => h1
theorem co_3 {P : Nat → Prop} (h0 : P 0) (h1 : P 1) (h2 : P 2) {i : Nat} (hi : i < 3) : P i :=
  match i, hi with
  | 0, _ => h0
  | 1, _ => h1
  | 2, _ => h2
theorem ek_if {c d A B : Prop} (e : c ↔ d) (f : d → A) (g : ¬ d → B) : (c → A) ∧ (¬ c → B) :=
  ⟨fun z => f (e.mp z), fun z => g (fun y => z (e.mpr y))⟩
theorem pk_loop {σ : Type} (W : Nat → Nat → σ → Prop) (I : Nat → σ → Prop) (e i0 : Nat) (s : σ) (hi : i0 ≤ e) (h0 : I i0 s) (hx : ∀ n s, I e s → W (n + 1) e s)
    (hs : ∀ n i s, i < e → I i s → (∀ s', I (i + 1) s' → W n (i + 1) s') → W (n + 1) i s) : ∃ n, W n i0 s :=
  ⟨e + 1, loop_i W I e hx hs (e + 1) i0 s hi (by omega) h0⟩
end
section
/-- finite sums of ints -/
def sr_sg : Nat → (Nat → Int32) → Int32
  | 0, _ => 0
  | n + 1, f => sr_sg n f + f n
/-- finite sums of naturals -/
def sr_ns : Nat → (Nat → Nat) → Nat
  | 0, _ => 0
  | n + 1, f => sr_ns n f + f n
theorem sr_sg_c {n : Nat} {f g : Nat → Int32} (h : ∀ i, i < n → f i = g i) : sr_sg n f = sr_sg n g := by
  induction n with
  | zero => rfl
  | succ n ih =>
    show sr_sg n f + f n = sr_sg n g + g n
    rw [ih (fun i hi => h i (by omega)), h n (by omega)]
theorem sr_sg_z {n : Nat} {f : Nat → Int32} (h : ∀ i, i < n → f i = 0) : sr_sg n f = 0 := by
  induction n with
  | zero => rfl
  | succ n ih =>
    show sr_sg n f + f n = 0
    rw [ih (fun i hi => h i (by omega)), h n (by omega)]
    rfl
theorem sr_sg_add (n : Nat) (f g : Nat → Int32) : sr_sg n (fun i => f i + g i) = sr_sg n f + sr_sg n g := by
  induction n with
  | zero => rfl
  | succ n ih =>
    show sr_sg n (fun i => f i + g i) + (f n + g n) = (sr_sg n f + f n) + (sr_sg n g + g n)
    rw [ih]; grind
theorem sr_sg_sub (n : Nat) (f g : Nat → Int32) : sr_sg n (fun i => f i - g i) = sr_sg n f - sr_sg n g := by
  induction n with
  | zero => show (0 : Int32) = 0 - 0; decide
  | succ n ih =>
    show sr_sg n (fun i => f i - g i) + (f n - g n) = (sr_sg n f + f n) - (sr_sg n g + g n)
    rw [ih]; grind
theorem sr_sg_ml (n : Nat) (c : Int32) (f : Nat → Int32) : sr_sg n (fun i => c * f i) = c * sr_sg n f := by
  induction n with
  | zero => show (0 : Int32) = c * 0; grind
  | succ n ih =>
    show sr_sg n (fun i => c * f i) + c * f n = c * (sr_sg n f + f n)
    rw [ih]; grind
theorem sr_sg_mr (n : Nat) (c : Int32) (f : Nat → Int32) : sr_sg n (fun i => f i * c) = sr_sg n f * c := by
  induction n with
  | zero => show (0 : Int32) = 0 * c; grind
  | succ n ih =>
    show sr_sg n (fun i => f i * c) + f n * c = (sr_sg n f + f n) * c
    rw [ih]; grind
theorem sr_sg_sw (n m : Nat) (f : Nat → Nat → Int32) : sr_sg n (fun i => sr_sg m (fun j => f i j)) = sr_sg m (fun j => sr_sg n (fun i => f i j)) := by
  induction n with
  | zero => exact (sr_sg_z (fun i _ => rfl)).symm
  | succ n ih =>
    show sr_sg n (fun i => sr_sg m (fun j => f i j)) + sr_sg m (fun j => f n j) = sr_sg m (fun j => sr_sg n (fun i => f i j) + f n j)
    rw [ih, sr_sg_add]
theorem sr_sg_1 {n : Nat} {f : Nat → Int32} (k : Nat) (hk : k < n) (h : ∀ i, i < n → i ≠ k → f i = 0) : sr_sg n f = f k := by
  induction n with
  | zero => omega
  | succ n ih =>
    show sr_sg n f + f n = f k
    by_cases e : k = n
    · subst e
      rw [sr_sg_z (fun i hi => h i (by omega) (by omega))]; grind
    · rw [ih (by omega) (fun i hi hn => h i (by omega) hn), h n (by omega) (by omega)]; grind
theorem sr_sg_app (a b : Nat) (f : Nat → Int32) : sr_sg (a + b) f = sr_sg a f + sr_sg b (fun k => f (a + k)) := by
  induction b with
  | zero => show sr_sg a f = sr_sg a f + 0; grind
  | succ b ih =>
    show sr_sg (a + b) f + f (a + b) = sr_sg a f + (sr_sg b (fun k => f (a + k)) + f (a + b))
    rw [ih]; grind
theorem sr_sg_mm (n m : Nat) (f : Nat → Int32) : sr_sg (n * m) f = sr_sg n (fun w => sr_sg m (fun k => f (m * w + k))) := by
  induction n with
  | zero => rw [Nat.zero_mul]; rfl
  | succ n ih =>
    rw [Nat.succ_mul, sr_sg_app, ih, Nat.mul_comm n m]
    rfl
theorem sr_sg_ns (n : Nat) (f : Nat → Nat) : nI (sr_ns n f) = sr_sg n (fun i => nI (f i)) := by
  induction n with
  | zero => rfl
  | succ n ih =>
    show nI (sr_ns n f + f n) = sr_sg n (fun i => nI (f i)) + nI (f n)
    rw [← nI_add, ih]
theorem sr_ns_c {n : Nat} {f g : Nat → Nat} (h : ∀ i, i < n → f i = g i) : sr_ns n f = sr_ns n g := by
  induction n with
  | zero => rfl
  | succ n ih =>
    show sr_ns n f + f n = sr_ns n g + g n
    rw [ih (fun i hi => h i (by omega)), h n (by omega)]
theorem sr_ns_tr {m n : Nat} {f : Nat → Nat} (hm : m ≤ n) (h : ∀ i, m ≤ i → f i = 0) : sr_ns n f = sr_ns m f := by
  induction n with
  | zero => have e : m = 0 := by omega
            subst e; rfl
  | succ n ih =>
    by_cases e : m = n + 1
    · subst e; rfl
    · show sr_ns n f + f n = _
      rw [ih (by omega), h n (by omega)]; rfl
theorem sr_sg_if (n : Nat) (p : Prop) [Decidable p] (f : Nat → Int32) : sr_sg n (fun i => if p then f i else 0) = if p then sr_sg n f else 0 := by
  by_cases h : p
  · simp only [if_pos h]
  · simp only [if_neg h]; exact sr_sg_z (fun _ _ => rfl)
end
section
/-- the codes of the 53 shapes -/
def sr_SL : List Nat := [0, 1, 2, 3, 4, 5, 6, 7, 8, 9, 11, 12, 13, 14, 15, 16, 17, 18, 22, 23, 24, 25, 26, 27, 33, 34, 35, 36, 44, 45, 111, 112, 113, 114, 115, 116, 117, 122, 123, 124, 125, 126, 133, 134, 135, 144, 222, 223, 224, 225, 233, 234, 333]
/-- the 220 places -/
def sr_PL : List Nat := [0, 1, 2, 3, 4, 5, 6, 7, 8, 9, 10, 11, 12, 13, 14, 15, 16, 17, 18, 20, 21, 22, 23, 24, 25, 26, 27, 30, 31, 32, 33, 34, 35, 36, 40, 41, 42, 43, 44, 45, 50, 51, 52, 53, 54, 60, 61, 62, 63, 70, 71, 72, 80, 81, 90, 100, 101, 102, 103, 104, 105, 106, 107, 108, 110, 111, 112, 113, 114, 115, 116, 117, 120, 121, 122, 123, 124, 125, 126, 130, 131, 132, 133, 134, 135, 140, 141, 142, 143, 144, 150, 151, 152, 153, 160, 161, 162, 170, 171, 180, 200, 201, 202, 203, 204, 205, 206, 207, 210, 211, 212, 213, 214, 215, 216, 220, 221, 222, 223, 224, 225, 230, 231, 232, 233, 234, 240, 241, 242, 243, 250, 251, 252, 260, 261, 270, 300, 301, 302, 303, 304, 305, 306, 310, 311, 312, 313, 314, 315, 320, 321, 322, 323, 324, 330, 331, 332, 333, 340, 341, 342, 350, 351, 360, 400, 401, 402, 403, 404, 405, 410, 411, 412, 413, 414, 420, 421, 422, 423, 430, 431, 432, 440, 441, 450, 500, 501, 502, 503, 504, 510, 511, 512, 513, 520, 521, 522, 530, 531, 540, 600, 601, 602, 603, 610, 611, 612, 620, 621, 630, 700, 701, 702, 710, 711, 720, 800, 801, 810, 900]
def sr_S (s : Nat) : Nat := sr_SL.getD s 0
def sr_P (t : Nat) : Nat := sr_PL.getD t 0
def sr_A (s : Nat) : Nat := sr_S s % 10
def sr_B (s : Nat) : Nat := sr_S s / 10 % 10
def sr_C (s : Nat) : Nat := sr_S s / 100
def sr_Z (s : Nat) : Nat := sr_A s + sr_B s + sr_C s
def sr_dg (m : Nat) : Nat := m / 100 + m / 10 % 10 + m % 10
def sr_zp (m : Nat) : Prop := m < 1000 ∧ sr_dg m ≤ 9
def sr_ix (m : Nat) : Nat := 220 - (12 - m / 100) * (11 - m / 100) * (10 - m / 100) / 6 + (m / 10 % 10) * (10 - m / 100) - (m / 10 % 10) * (m / 10 % 10 - 1) / 2 + m % 10
def sr_sh (c : Nat) : Prop := c < 1000 ∧ c / 10 % 10 ≤ c % 10 ∧ c / 100 ≤ c / 10 % 10 ∧ c % 10 + c / 10 % 10 + c / 100 ≤ 9
def sr_sx (c : Nat) : Nat := sr_SL.findIdx (fun x => Nat.beq x c)
theorem sr_P_ok : ∀ t, t < 220 → sr_P t < 1000 ∧ sr_dg (sr_P t) ≤ 9 ∧ sr_ix (sr_P t) = t := by decide +kernel
theorem sr_ix_ok : ∀ m, m < 1000 → sr_dg m ≤ 9 → sr_ix m < 220 ∧ sr_P (sr_ix m) = m := by decide +kernel
theorem sr_P_up : ∀ t, t < 219 → sr_P t < sr_P (t + 1) := by decide +kernel
theorem sr_S_ok : ∀ s, s < 53 → sr_S s < 1000 ∧ sr_B s ≤ sr_A s ∧ sr_C s ≤ sr_B s ∧ sr_Z s ≤ 9 ∧ sr_sx (sr_S s) = s := by decide +kernel
theorem sr_sx_ok : ∀ c, c < 1000 → (c / 10 % 10 ≤ c % 10 ∧ c / 100 ≤ c / 10 % 10 ∧ c % 10 + c / 10 % 10 + c / 100 ≤ 9) → sr_sx c < 53 ∧ sr_S (sr_sx c) = c := by decide +kernel
theorem sr_S_up : ∀ t, t < 52 → sr_S t < sr_S (t + 1) := by decide +kernel
theorem sr_S_out {s : Nat} (h : 53 ≤ s) : sr_S s = 0 := by
  unfold sr_S
  rw [List.getD_eq_getElem?_getD, List.getElem?_eq_none h]; rfl
theorem sr_P_out {s : Nat} (h : 220 ≤ s) : sr_P s = 0 := by
  unfold sr_P
  rw [List.getD_eq_getElem?_getD, List.getElem?_eq_none h]; rfl
theorem sr_S_le (s : Nat) : sr_S s < 1000 := by
  by_cases h : s < 53
  · exact (sr_S_ok s h).1
  · rw [sr_S_out (by omega)]; omega
theorem sr_P_le (s : Nat) : sr_P s < 1000 := by
  by_cases h : s < 220
  · exact (sr_P_ok s h).1
  · rw [sr_P_out (by omega)]; omega
theorem sr_A9 (s : Nat) : sr_A s ≤ 9 := by unfold sr_A; omega
theorem sr_B9 (s : Nat) : sr_B s ≤ 9 := by unfold sr_B; omega
theorem sr_C9 (s : Nat) : sr_C s ≤ 9 := by have h := sr_S_le s; unfold sr_C; omega
theorem sr_BA {s : Nat} (h : s < 53) : sr_B s ≤ sr_A s := (sr_S_ok s h).2.1
theorem sr_CB {s : Nat} (h : s < 53) : sr_C s ≤ sr_B s := (sr_S_ok s h).2.2.1
theorem sr_Z9 {s : Nat} (h : s < 53) : sr_Z s ≤ 9 := (sr_S_ok s h).2.2.2.1
theorem sr_Sinj {s t : Nat} (hs : s < 53) (ht : t < 53) (h : sr_S s = sr_S t) : s = t := by
  rw [← (sr_S_ok s hs).2.2.2.2, ← (sr_S_ok t ht).2.2.2.2, h]
theorem sr_S_sh {s : Nat} (h : s < 53) : sr_sh (sr_S s) := by
  obtain ⟨h1, h2, h3, h4, _⟩ := sr_S_ok s h
  exact ⟨h1, h2, h3, h4⟩
theorem sr_sh_S {c : Nat} (h : sr_sh c) : ∃ s, s < 53 ∧ sr_S s = c := ⟨_, sr_sx_ok c h.1 h.2⟩
theorem sr_S_abc (s : Nat) : sr_S s = 100 * sr_C s + 10 * sr_B s + sr_A s := by unfold sr_A sr_B sr_C; omega
theorem sr_P_zp {t : Nat} (h : t < 220) : sr_zp (sr_P t) := ⟨(sr_P_ok t h).1, (sr_P_ok t h).2.1⟩
theorem sr_zp_P {m : Nat} (h : sr_zp m) : sr_ix m < 220 ∧ sr_P (sr_ix m) = m := sr_ix_ok m h.1 h.2
theorem sr_Pinj {s t : Nat} (hs : s < 220) (ht : t < 220) (h : sr_P s = sr_P t) : s = t := by
  rw [← (sr_P_ok s hs).2.2, ← (sr_P_ok t ht).2.2, h]
/-- an index of a table that is filled in rising order: n of N are below k -/
def sr_iv (F : Nat → Nat) (N k n : Nat) : Prop := n ≤ N ∧ ∀ t, t < N → (t < n ↔ F t < k)
theorem sr_up {F : Nat → Nat} {N : Nat} (h : ∀ t, t + 1 < N → F t < F (t + 1)) : ∀ d s, s + d + 1 < N → F s < F (s + d + 1) := by
  intro d
  induction d with
  | zero => intro s hs; exact h s hs
  | succ d ih => intro s hs; exact Nat.lt_trans (ih s (by omega)) (h (s + d + 1) hs)
theorem sr_up2 {F : Nat → Nat} {N : Nat} (h : ∀ t, t + 1 < N → F t < F (t + 1)) {s t : Nat} (hst : s < t) (ht : t < N) : F s < F t := by
  have := sr_up h (t - s - 1) s (by omega)
  rwa [show s + (t - s - 1) + 1 = t by omega] at this
theorem sr_iv0 {F : Nat → Nat} {N : Nat} : sr_iv F N 0 0 := ⟨by omega, fun t _ => by omega⟩
theorem sr_iv_hit {F : Nat → Nat} {N k n t : Nat} (h : ∀ t, t + 1 < N → F t < F (t + 1)) (I : sr_iv F N k n) (ht : t < N) (e : F t = k) : n < N ∧ F n = k ∧ sr_iv F N (k + 1) (n + 1) := by
  have a : ¬ t < n := fun z => by have := (I.2 t ht).mp z; omega
  have b : ¬ n < t := fun z => by
    have := sr_up2 h z ht
    have := (I.2 n (by omega)).mpr (by omega)
    omega
  have c : t = n := by omega
  subst c
  refine ⟨ht, e, by omega, fun s hs => ?_⟩
  have i := I.2 s hs
  constructor
  · intro z
    by_cases q : s = t
    · subst q; omega
    · have := i.mp (by omega); omega
  · intro z
    by_cases q : t < s
    · have := sr_up2 h q hs; omega
    · omega
theorem sr_iv_miss {F : Nat → Nat} {N k n : Nat} (I : sr_iv F N k n) (e : ∀ t, t < N → F t ≠ k) : sr_iv F N (k + 1) n := by
  refine ⟨I.1, fun s hs => ?_⟩
  have i := I.2 s hs
  have j := e s hs
  constructor
  · intro z; have := i.mp z; omega
  · intro z; exact i.mpr (by omega)
theorem sr_iv_end {F : Nat → Nat} {N k n : Nat} (I : sr_iv F N k n) (e : ∀ t, t < N → F t < k) : n = N := by
  by_cases h : n < N
  · have := (I.2 n h).mpr (e n h); omega
  · have := I.1; omega
/-- the number of fillings of a shape with i ones and j twos -/
def sr_mx (x y : Nat) : Nat := x + (y - x)
def sr_mn (x y : Nat) : Nat := x - (x - y)
def sr_kk (a b c i j : Nat) : Nat := (sr_mn (a + c) (i + j) + 1) - (c + sr_mx (sr_mx b i) (sr_mx j (i + j - b)))
def sr_kS (s i j : Nat) : Nat := sr_kk (sr_A s) (sr_B s) (sr_C s) i j
def sr_kM (s m : Nat) : Nat := if sr_dg m = sr_Z s then sr_kS s (m / 100) (m / 10 % 10) else 0
theorem sr_kS0 {s i j : Nat} (h : sr_Z s < i + j) : sr_kS s i j = 0 := by
  unfold sr_kS sr_kk sr_mx sr_mn; unfold sr_Z at h; omega
theorem sr_kM1 {s m : Nat} (h : sr_dg m = sr_Z s) : sr_kM s m = sr_kS s (m / 100) (m / 10 % 10) := if_pos h
theorem sr_kM0 {s m : Nat} (h : ¬ sr_dg m = sr_Z s) : sr_kM s m = 0 := if_neg h
end
section
/-- the shapes of each size -/
def sr_RT : List (List Nat) := [[0], [1], [2, 10], [3, 11, 30], [4, 12, 18, 31], [5, 13, 19, 32, 37], [6, 14, 20, 24, 33, 38, 46], [7, 15, 21, 25, 34, 39, 42, 47], [8, 16, 22, 26, 28, 35, 40, 43, 48, 50], [9, 17, 23, 27, 29, 36, 41, 44, 45, 49, 51, 52]]
def sr_R (d : Nat) : List Nat := sr_RT.getD d []
def sr_ls : List Nat → (Nat → Nat) → Nat
  | [], _ => 0
  | x :: l, f => f x + sr_ls l f
theorem sr_R_ok : ∀ d, d < 10 → sr_R d = (List.range 53).filter (fun r => Nat.beq (sr_Z r) d) := by decide +kernel
/-- does a filling of what r has beyond p, with n ones in the second row, fit? -/
def sr_fB (p q r n : Nat) : Bool := decide (sr_A p ≤ sr_A r ∧ (sr_A r - sr_A p) + n ≤ sr_A q ∧ sr_B p + n ≤ sr_B r ∧ sr_B r - sr_B p - n ≤ sr_B q ∧
  sr_C p + (sr_A q - (sr_A r - sr_A p) - n) + (sr_B q - (sr_B r - sr_B p - n)) + sr_C q = sr_C r ∧
  sr_B p + n ≤ sr_A p ∧ sr_C p + (sr_A q - (sr_A r - sr_A p) - n) ≤ sr_B p ∧
  sr_C p + (sr_A q - (sr_A r - sr_A p) - n) + (sr_B q - (sr_B r - sr_B p - n)) ≤ sr_B p + n ∧
  sr_B r - sr_B p - n ≤ sr_A r - sr_A p ∧ sr_C q ≤ sr_B r - sr_B p - n ∧
  sr_B r - sr_B p - n + (sr_B q - (sr_B r - sr_B p - n)) ≤ (sr_A r - sr_A p) + n)
def sr_lr (p q r : Nat) : Nat := sr_ns (sr_B r + 1 - sr_B p) (fun n => (sr_fB p q r n).toNat)
def sr_lR (p q r : Nat) : Nat := if sr_Z r = sr_Z p + sr_Z q then sr_lr p q r else 0
theorem sr_ns0 {n : Nat} {f : Nat → Nat} (h : ∀ i, i < n → f i = 0) : sr_ns n f = 0 := by
  induction n with
  | zero => rfl
  | succ n ih =>
    show sr_ns n f + f n = 0
    rw [ih (fun i hi => h i (by omega)), h n (by omega)]
theorem sr_lr0 {p q r : Nat} (h : ¬ sr_Z r = sr_Z p + sr_Z q) : sr_lr p q r = 0 := by
  refine sr_ns0 (fun n _ => ?_)
  have : sr_fB p q r n = false := by
    unfold sr_fB
    rw [decide_eq_false_iff_not]
    intro ⟨h1, h2, h3, h4, h5, _⟩
    unfold sr_Z at h
    omega
  rw [this]; rfl
theorem sr_lR_lr (p q r : Nat) : sr_lR p q r = sr_lr p q r := by
  unfold sr_lR
  by_cases h : sr_Z r = sr_Z p + sr_Z q
  · rw [if_pos h]
  · rw [if_neg h, sr_lr0 h]
/-- the product of two shapes' polynomials at i, j -/
def sr_cN (p q i j : Nat) : Nat := sr_ns (i + 1) (fun i1 => sr_ns (j + 1) (fun j1 => sr_kS p i1 j1 * sr_kS q (i - i1) (j - j1)))
def sr_c3 (p q d : Nat) : Bool := (List.range 10).all (fun i => (List.range 10).all (fun j => Nat.blt d (i + j) || Nat.beq (sr_cN p q i j) (sr_ls (sr_R d) (fun r => sr_lr p q r * sr_kS r i j))))
def sr_c3p (p : Nat) : Bool := (List.range 53).all (fun q => Nat.blt 9 (sr_Z p + sr_Z q) || sr_c3 p q (sr_Z p + sr_Z q))
/-- the six terms of 'before' -/
def sr_bw (t : Nat) : Nat → Nat
  | 0 => 1
  | 1 => if 2 ≤ sr_C t then 1 else 0
  | 2 => if 1 ≤ sr_C t then 1 else 0
  | 3 => if 1 ≤ sr_C t then 1 else 0
  | 4 => if 1 ≤ sr_B t then 1 else 0
  | _ => if 2 ≤ sr_C t then 1 else 0
def sr_bq (t : Nat) : Nat → Nat
  | 0 => 100 * sr_A t + 10 * sr_B t + sr_C t
  | 1 => if 2 ≤ sr_C t then 100 * (sr_A t + 1) + 10 * (sr_B t + 1) + (sr_C t - 2) else 100 * sr_A t + 10 * sr_B t + sr_C t
  | 2 => if 1 ≤ sr_C t then 100 * (sr_A t + 2) + 10 * (sr_B t - 1) + (sr_C t - 1) else 100 * sr_A t + 10 * sr_B t + sr_C t
  | 3 => if 1 ≤ sr_C t then 100 * sr_A t + 10 * (sr_B t + 1) + (sr_C t - 1) else 100 * sr_A t + 10 * sr_B t + sr_C t
  | 4 => if 1 ≤ sr_B t then 100 * (sr_A t + 1) + 10 * (sr_B t - 1) + sr_C t else 100 * sr_A t + 10 * sr_B t + sr_C t
  | _ => if 2 ≤ sr_C t then 100 * (sr_A t + 2) + 10 * sr_B t + (sr_C t - 2) else 100 * sr_A t + 10 * sr_B t + sr_C t
theorem sr_bq_ok : ∀ t, t < 53 → ∀ i, i < 6 → sr_bq t i < 1000 ∧ sr_dg (sr_bq t i) = sr_Z t := by decide +kernel
theorem sr_m2 : ∀ s, s < 53 → ∀ t, t < 53 → sr_ns 3 (fun i => sr_bw t i * sr_kM s (sr_bq t i)) = sr_ns 3 (fun i => sr_bw t (3 + i) * sr_kM s (sr_bq t (3 + i))) + (if s = t then 1 else 0) := by decide +kernel
/-- one row becomes longer by r: sorted, with the sign -/
def sr_r1 (x : Nat × Nat × Nat × Bool) : Nat × Nat × Nat × Bool := if x.1 < x.2.1 then (x.2.1, x.1, x.2.2.1, !x.2.2.2) else x
def sr_r2 (x : Nat × Nat × Nat × Bool) : Nat × Nat × Nat × Bool := if x.2.1 < x.2.2.1 then (x.1, x.2.2.1, x.2.1, !x.2.2.2) else x
def sr_rr (x : Nat × Nat × Nat × Bool) : Nat × Nat × Nat × Bool := sr_r2 (sr_r1 x)
def sr_st (p row r : Nat) : Nat × Nat × Nat × Bool := (sr_A p + 2 + (if row = 0 then r else 0), sr_B p + 1 + (if row = 1 then r else 0), sr_C p + (if row = 2 then r else 0), false)
def sr_s3 (p row r : Nat) : Nat × Nat × Nat × Bool := sr_rr (sr_rr (sr_rr (sr_st p row r)))
/-- the number of a shape by its rows; 53 or more if it is none -/
def sr_fd (a b c : Nat) : Nat := if a < 10 ∧ b < 10 ∧ c < 10 then sr_sx (100 * c + 10 * b + a) else 53
def sr_fx (x : Nat × Nat × Nat × Bool) : Nat := if x.1 = x.2.1 ∨ x.2.1 = x.2.2.1 then 53 else sr_fd (x.1 - 2) (x.2.1 - 1) x.2.2.1
def sr_sI (p row r : Nat) : Nat := sr_fx (sr_s3 p row r)
def sr_sG (p row r : Nat) : Bool := (sr_s3 p row r).2.2.2
def sr_wp (p row r : Nat) : Nat := if sr_sI p row r < 53 then (if sr_sG p row r = true then 0 else 1) else 0
def sr_wn (p row r : Nat) : Nat := if sr_sI p row r < 53 then (if sr_sG p row r = true then 1 else 0) else 0
/-- what the power's term at y gives to m -/
def sr_py (p y m : Nat) : Nat := if y ≤ m ∧ sr_dg (m - y) ≤ 9 ∧ sr_dg y ≤ 9 - sr_dg (m - y) then sr_kM p (m - y) else 0
def sr_c4 (p r : Nat) : Bool := sr_PL.all (fun m => Nat.beq (sr_py p (100 * r) m + sr_py p (10 * r) m + sr_py p r m + sr_ns 3 (fun row => sr_wn p row r * sr_kM (sr_sI p row r) m)) (sr_ns 3 (fun row => sr_wp p row r * sr_kM (sr_sI p row r) m)))
theorem sr_m4 : ∀ p, p < 53 → ∀ r, r < 10 → 1 ≤ r → sr_Z p + r ≤ 9 → sr_c4 p r = true := by decide +kernel
theorem sr_m3_0 : (List.range' 0 4).all sr_c3p = true := by decide +kernel
theorem sr_m3_4 : (List.range' 4 4).all sr_c3p = true := by decide +kernel
theorem sr_m3_8 : (List.range' 8 4).all sr_c3p = true := by decide +kernel
theorem sr_m3_12 : (List.range' 12 4).all sr_c3p = true := by decide +kernel
theorem sr_m3_16 : (List.range' 16 4).all sr_c3p = true := by decide +kernel
theorem sr_m3_20 : (List.range' 20 4).all sr_c3p = true := by decide +kernel
theorem sr_m3_24 : (List.range' 24 4).all sr_c3p = true := by decide +kernel
theorem sr_m3_28 : (List.range' 28 4).all sr_c3p = true := by decide +kernel
theorem sr_m3_32 : (List.range' 32 4).all sr_c3p = true := by decide +kernel
theorem sr_m3_36 : (List.range' 36 4).all sr_c3p = true := by decide +kernel
theorem sr_m3_40 : (List.range' 40 4).all sr_c3p = true := by decide +kernel
theorem sr_m3_44 : (List.range' 44 4).all sr_c3p = true := by decide +kernel
theorem sr_m3_48 : (List.range' 48 4).all sr_c3p = true := by decide +kernel
theorem sr_m3_52 : (List.range' 52 1).all sr_c3p = true := by decide +kernel
theorem sr_m3_all {p : Nat} (h : p < 53) : sr_c3p p = true := by
  by_cases h0 : p < 4
  · exact List.all_eq_true.mp sr_m3_0 p (List.mem_range'_1.mpr ⟨by omega, by omega⟩)
  by_cases h4 : p < 8
  · exact List.all_eq_true.mp sr_m3_4 p (List.mem_range'_1.mpr ⟨by omega, by omega⟩)
  by_cases h8 : p < 12
  · exact List.all_eq_true.mp sr_m3_8 p (List.mem_range'_1.mpr ⟨by omega, by omega⟩)
  by_cases h12 : p < 16
  · exact List.all_eq_true.mp sr_m3_12 p (List.mem_range'_1.mpr ⟨by omega, by omega⟩)
  by_cases h16 : p < 20
  · exact List.all_eq_true.mp sr_m3_16 p (List.mem_range'_1.mpr ⟨by omega, by omega⟩)
  by_cases h20 : p < 24
  · exact List.all_eq_true.mp sr_m3_20 p (List.mem_range'_1.mpr ⟨by omega, by omega⟩)
  by_cases h24 : p < 28
  · exact List.all_eq_true.mp sr_m3_24 p (List.mem_range'_1.mpr ⟨by omega, by omega⟩)
  by_cases h28 : p < 32
  · exact List.all_eq_true.mp sr_m3_28 p (List.mem_range'_1.mpr ⟨by omega, by omega⟩)
  by_cases h32 : p < 36
  · exact List.all_eq_true.mp sr_m3_32 p (List.mem_range'_1.mpr ⟨by omega, by omega⟩)
  by_cases h36 : p < 40
  · exact List.all_eq_true.mp sr_m3_36 p (List.mem_range'_1.mpr ⟨by omega, by omega⟩)
  by_cases h40 : p < 44
  · exact List.all_eq_true.mp sr_m3_40 p (List.mem_range'_1.mpr ⟨by omega, by omega⟩)
  by_cases h44 : p < 48
  · exact List.all_eq_true.mp sr_m3_44 p (List.mem_range'_1.mpr ⟨by omega, by omega⟩)
  by_cases h48 : p < 52
  · exact List.all_eq_true.mp sr_m3_48 p (List.mem_range'_1.mpr ⟨by omega, by omega⟩)
  by_cases h52 : p < 53
  · exact List.all_eq_true.mp sr_m3_52 p (List.mem_range'_1.mpr ⟨by omega, by omega⟩)
  omega
end
section
def sr_kI (s : Nat) : Nat → Int32 := fun m => nI (sr_kM s m)
/-- the polynomial with coefficients c at a place -/
def sr_vl (c : Nat → Int32) (m : Nat) : Int32 := sr_sg 53 (fun s => c s * sr_kI s m)
theorem sr_lin (n m : Nat) (w c : Nat → Int32) (k : Nat → Nat → Int32) : sr_sg n (fun i => w i * sr_sg m (fun s => c s * k s i)) = sr_sg m (fun s => c s * sr_sg n (fun i => w i * k s i)) := by
  have a : sr_sg n (fun i => w i * sr_sg m (fun s => c s * k s i)) = sr_sg n (fun i => sr_sg m (fun s => w i * (c s * k s i))) :=
    sr_sg_c (fun i _ => (sr_sg_ml m (w i) _).symm)
  have b : sr_sg m (fun s => c s * sr_sg n (fun i => w i * k s i)) = sr_sg m (fun s => sr_sg n (fun i => w i * (c s * k s i))) :=
    sr_sg_c (fun s _ => by
      rw [← sr_sg_ml n (c s)]
      exact sr_sg_c (fun i _ => by grind))
  rw [a, b, sr_sg_sw]
/-- what stands before a shape's leading term -/
def sr_bf (f : Nat → Int32) (t : Nat) : Int32 := sr_sg 3 (fun i => nI (sr_bw t i) * f (sr_bq t i)) - sr_sg 3 (fun i => nI (sr_bw t (3 + i)) * f (sr_bq t (3 + i)))
theorem sr_bq_zp {t i : Nat} (ht : t < 53) (hi : i < 6) : sr_zp (sr_bq t i) := by
  have h := sr_bq_ok t ht i hi
  exact ⟨h.1, by rw [h.2]; exact sr_Z9 ht⟩
theorem sr_bf_c {f g : Nat → Int32} {t : Nat} (ht : t < 53) (h : ∀ m, sr_zp m → sr_dg m = sr_Z t → f m = g m) : sr_bf f t = sr_bf g t := by
  unfold sr_bf
  have a : sr_sg 3 (fun i => nI (sr_bw t i) * f (sr_bq t i)) = sr_sg 3 (fun i => nI (sr_bw t i) * g (sr_bq t i)) :=
    sr_sg_c (fun i hi => by rw [h _ (sr_bq_zp ht (by omega)) (sr_bq_ok t ht i (by omega)).2])
  have b : sr_sg 3 (fun i => nI (sr_bw t (3 + i)) * f (sr_bq t (3 + i))) = sr_sg 3 (fun i => nI (sr_bw t (3 + i)) * g (sr_bq t (3 + i))) :=
    sr_sg_c (fun i hi => by rw [h _ (sr_bq_zp ht (by omega)) (sr_bq_ok t ht (3 + i) (by omega)).2])
  rw [a, b]
theorem sr_bf_k {s t : Nat} (hs : s < 53) (ht : t < 53) : sr_bf (sr_kI s) t = if s = t then 1 else 0 := by
  unfold sr_bf sr_kI
  have a := congrArg nI (sr_m2 s hs t ht)
  rw [← nI_add, sr_sg_ns, sr_sg_ns] at a
  rw [sr_sg_c (n := 3) (fun i _ => pk_mul (sr_bw t i) (sr_kM s (sr_bq t i))), sr_sg_c (n := 3) (fun i _ => pk_mul (sr_bw t (3 + i)) (sr_kM s (sr_bq t (3 + i)))), a]
  by_cases e : s = t
  · rw [if_pos e, if_pos e]; show _ + (1 : Int32) - _ = 1; grind
  · rw [if_neg e, if_neg e]; show _ + (0 : Int32) - _ = 0; grind
theorem sr_bf_vl (c : Nat → Int32) {t : Nat} (ht : t < 53) : sr_bf (sr_vl c) t = c t := by
  have a : sr_bf (sr_vl c) t = sr_sg 53 (fun s => c s * sr_bf (sr_kI s) t) := by
    unfold sr_bf
    show sr_sg 3 (fun i => nI (sr_bw t i) * sr_sg 53 (fun s => c s * sr_kI s (sr_bq t i))) - sr_sg 3 (fun i => nI (sr_bw t (3 + i)) * sr_sg 53 (fun s => c s * sr_kI s (sr_bq t (3 + i)))) = _
    rw [sr_lin 3 53 (fun i => nI (sr_bw t i)) c (fun s i => sr_kI s (sr_bq t i)), sr_lin 3 53 (fun i => nI (sr_bw t (3 + i))) c (fun s i => sr_kI s (sr_bq t (3 + i))), ← sr_sg_sub]
    exact sr_sg_c (fun s _ => by grind)
  rw [a, sr_sg_1 t ht (fun s hs n => by rw [sr_bf_k hs ht, if_neg n]; grind), sr_bf_k ht ht, if_pos rfl]
  grind
/-- sums over places -/
theorem sr_sgP (F : Nat → Int32) : sr_sg 220 (fun t => F (sr_P t)) = sr_sg 1000 (fun x => if sr_dg x ≤ 9 then F x else 0) := by
  have a : sr_sg 1000 (fun x => if sr_dg x ≤ 9 then F x else 0) = sr_sg 1000 (fun x => sr_sg 220 (fun t => if sr_P t = x then F (sr_P t) else 0)) := by
    refine sr_sg_c (fun x hx => ?_)
    by_cases h : sr_dg x ≤ 9
    · obtain ⟨h1, h2⟩ := sr_ix_ok x hx h
      rw [if_pos h, sr_sg_1 (sr_ix x) h1 (fun t ht n => if_neg (fun e => n (by rw [← e, (sr_P_ok t ht).2.2]))), h2, if_pos rfl]
    · rw [if_neg h, sr_sg_z (fun t ht => if_neg (fun e => h (by rw [← e]; exact (sr_P_ok t ht).2.1)))]
  rw [a, sr_sg_sw]
  refine sr_sg_c (fun t ht => ?_)
  rw [sr_sg_1 (sr_P t) (sr_P_ok t ht).1 (fun x _ n => if_neg (fun e => n e.symm)), if_pos rfl]
theorem sr_sg3 (G : Nat → Int32) : sr_sg 1000 G = sr_sg 10 (fun i => sr_sg 10 (fun j => sr_sg 10 (fun k => G (100 * i + (10 * j + k))))) := by
  rw [show 1000 = 10 * 100 from rfl, sr_sg_mm]
  refine sr_sg_c (fun i _ => ?_)
  rw [show 100 = 10 * 10 from rfl, sr_sg_mm]
/-- the product of two polynomials at a place, as it is made -/
def sr_cv (f g : Nat → Int32) (m : Nat) : Int32 := sr_sg 220 (fun s => sr_sg 220 (fun t => if sr_P s + sr_P t = m ∧ sr_dg (sr_P t) ≤ 9 - sr_dg (sr_P s) then f (sr_P s) * g (sr_P t) else 0))
theorem sr_cv_c {f f' g g' : Nat → Int32} {m : Nat} (hf : ∀ x, sr_zp x → f x = f' x) (hg : ∀ x, sr_zp x → g x = g' x) : sr_cv f g m = sr_cv f' g' m :=
  sr_sg_c (fun s hs => sr_sg_c (fun t ht => by rw [hf _ (sr_P_zp hs), hg _ (sr_P_zp ht)]))
def sr_E (f g : Nat → Int32) (m x : Nat) : Int32 := if x ≤ m ∧ sr_dg (m - x) ≤ 9 - sr_dg x then f x * g (m - x) else 0
theorem sr_cv_E (f g : Nat → Int32) {m : Nat} (hm : m < 1000) : sr_cv f g m = sr_sg 220 (fun s => sr_E f g m (sr_P s)) := by
  refine sr_sg_c (fun s hs => ?_)
  unfold sr_E
  by_cases h : sr_P s ≤ m ∧ sr_dg (m - sr_P s) ≤ 9 - sr_dg (sr_P s)
  · obtain ⟨h1, h2⟩ := sr_ix_ok (m - sr_P s) (by omega) (by omega)
    rw [if_pos h, sr_sg_1 (sr_ix (m - sr_P s)) h1 (fun t ht n => if_neg (fun e => n (by
      rw [show m - sr_P s = sr_P t by omega, (sr_P_ok t ht).2.2]))), h2, if_pos ⟨by omega, h.2⟩]
  · rw [if_neg h]
    refine sr_sg_z (fun t ht => if_neg (fun e => h ⟨by omega, ?_⟩))
    rw [show m - sr_P s = sr_P t by omega]; exact e.2
theorem sr_dg3 {i j k : Nat} (hj : j < 10) (hk : k < 10) : (100 * i + (10 * j + k)) / 100 = i ∧ (100 * i + (10 * j + k)) / 10 % 10 = j ∧ (100 * i + (10 * j + k)) % 10 = k := by omega
theorem sr_dgm {i j k : Nat} (hj : j < 10) (hk : k < 10) : sr_dg (100 * i + (10 * j + k)) = i + j + k := by
  obtain ⟨a, b, c⟩ := sr_dg3 (i := i) hj hk
  unfold sr_dg; rw [a, b, c]
theorem sr_dec (x : Nat) : ∃ i j k, j < 10 ∧ k < 10 ∧ x = 100 * i + (10 * j + k) := ⟨x / 100, x / 10 % 10, x % 10, by omega, by omega, by omega⟩
/-- places add without a carry -/
theorem sr_nc {x y : Nat} (h : sr_dg x + sr_dg y ≤ 9) : (x + y) / 100 = x / 100 + y / 100 ∧ (x + y) / 10 % 10 = x / 10 % 10 + y / 10 % 10 ∧ (x + y) % 10 = x % 10 + y % 10 := by
  obtain ⟨i, j, k, hj, hk, rfl⟩ := sr_dec x
  obtain ⟨i', j', k', hj', hk', rfl⟩ := sr_dec y
  rw [sr_dgm hj hk, sr_dgm hj' hk'] at h
  obtain ⟨a, b, c⟩ := sr_dg3 (i := i) hj hk
  obtain ⟨a', b', c'⟩ := sr_dg3 (i := i') hj' hk'
  obtain ⟨a2, b2, c2⟩ := sr_dg3 (i := i + i') (j := j + j') (k := k + k') (by omega) (by omega)
  rw [a, b, c, a', b', c', show 100 * i + (10 * j + k) + (100 * i' + (10 * j' + k')) = 100 * (i + i') + (10 * (j + j') + (k + k')) by omega, a2, b2, c2]
  exact ⟨rfl, rfl, rfl⟩
theorem sr_nc' {x y : Nat} (h : sr_dg x + sr_dg y ≤ 9) : sr_dg (x + y) = sr_dg x + sr_dg y := by
  obtain ⟨a, b, c⟩ := sr_nc h
  unfold sr_dg; rw [a, b, c]; omega
theorem sr_m0 (x : Int32) : 0 * x = 0 := by grind
theorem sr_m0r (x : Int32) : x * 0 = 0 := by grind
theorem sr_kI0 {s m : Nat} (h : ¬ sr_dg m = sr_Z s) : sr_kI s m = 0 := by unfold sr_kI; rw [sr_kM0 h]; rfl
theorem sr_kI1 {s m : Nat} (h : sr_dg m = sr_Z s) : sr_kI s m = nI (sr_kS s (m / 100) (m / 10 % 10)) := by unfold sr_kI; rw [sr_kM1 h]
/-- one term of the product of two shapes -/
theorem sr_E1 {p q i j k i1 j1 k1 : Nat} (hd : sr_Z p + sr_Z q ≤ 9) (hj : j < 10) (hk : k < 10) (hm : i + j + k = sr_Z p + sr_Z q) (hj1 : j1 < 10) (hk1 : k1 < 10) (hx : i1 + j1 + k1 = sr_Z p) :
    sr_E (sr_kI p) (sr_kI q) (100 * i + (10 * j + k)) (100 * i1 + (10 * j1 + k1)) = nI (if i1 ≤ i ∧ j1 ≤ j then sr_kS p i1 j1 * sr_kS q (i - i1) (j - j1) else 0) := by
  have ex : sr_dg (100 * i1 + (10 * j1 + k1)) = sr_Z p := by rw [sr_dgm hj1 hk1, hx]
  have zk : i1 ≤ i → j1 ≤ j → ¬ k1 ≤ k → sr_Z q < i - i1 + (j - j1) := by omega
  by_cases c : i1 ≤ i ∧ j1 ≤ j ∧ k1 ≤ k
  · have ey : 100 * i + (10 * j + k) - (100 * i1 + (10 * j1 + k1)) = 100 * (i - i1) + (10 * (j - j1) + (k - k1)) := by omega
    have le : 100 * i1 + (10 * j1 + k1) ≤ 100 * i + (10 * j + k) := by omega
    have bj : j - j1 < 10 := by omega
    have bk : k - k1 < 10 := by omega
    have es : i - i1 + (j - j1) + (k - k1) = sr_Z q := by omega
    have z9 : sr_Z q ≤ 9 - sr_Z p := by omega
    have eq : sr_dg (100 * (i - i1) + (10 * (j - j1) + (k - k1))) = sr_Z q := by rw [sr_dgm bj bk, es]
    obtain ⟨d1, d2, d3⟩ := sr_dg3 (i := i1) hj1 hk1
    obtain ⟨g1, g2, g3⟩ := sr_dg3 (i := i - i1) bj bk
    unfold sr_E
    rw [ey, if_pos ⟨le, by rw [eq, ex]; exact z9⟩, sr_kI1 ex, sr_kI1 eq, d1, d2, g1, g2, pk_mul, if_pos ⟨c.1, c.2.1⟩]
  · have l : sr_E (sr_kI p) (sr_kI q) (100 * i + (10 * j + k)) (100 * i1 + (10 * j1 + k1)) = 0 := by
      unfold sr_E
      by_cases le : 100 * i1 + (10 * j1 + k1) ≤ 100 * i + (10 * j + k)
      · by_cases zq : sr_dg (100 * i + (10 * j + k) - (100 * i1 + (10 * j1 + k1))) = sr_Z q
        · obtain ⟨y, hy⟩ : ∃ y, 100 * i + (10 * j + k) = 100 * i1 + (10 * j1 + k1) + y := ⟨_, (Nat.add_sub_cancel' le).symm⟩
          rw [hy, Nat.add_sub_cancel_left] at zq
          obtain ⟨n1, n2, n3⟩ := sr_nc (x := 100 * i1 + (10 * j1 + k1)) (y := y) (by rw [ex, zq]; exact hd)
          obtain ⟨d1, d2, d3⟩ := sr_dg3 (i := i1) hj1 hk1
          obtain ⟨f1, f2, f3⟩ := sr_dg3 (i := i) hj hk
          rw [← hy, f1, d1] at n1
          rw [← hy, f2, d2] at n2
          rw [← hy, f3, d3] at n3
          exact absurd ⟨by rw [n1]; exact Nat.le_add_right _ _, by rw [n2]; exact Nat.le_add_right _ _, by rw [n3]; exact Nat.le_add_right _ _⟩ c
        · rw [sr_kI0 zq, sr_m0r]; exact ite_self _
      · rw [if_neg (fun z => le z.1)]
    rw [l]
    by_cases g : i1 ≤ i ∧ j1 ≤ j
    · rw [if_pos g, sr_kS0 (s := q) (zk g.1 g.2 (fun z => c ⟨g.1, g.2, z⟩)), Nat.mul_zero]; rfl
    · rw [if_neg g]; rfl
/-- the inner sum of a product of two shapes -/
theorem sr_cvk {p q i j k i1 j1 : Nat} (hd : sr_Z p + sr_Z q ≤ 9) (hj : j < 10) (hk : k < 10) (hm : i + j + k = sr_Z p + sr_Z q) (hj1 : j1 < 10) :
    sr_sg 10 (fun k1 => if sr_dg (100 * i1 + (10 * j1 + k1)) ≤ 9 then sr_E (sr_kI p) (sr_kI q) (100 * i + (10 * j + k)) (100 * i1 + (10 * j1 + k1)) else 0) =
    nI (if i1 ≤ i ∧ j1 ≤ j then sr_kS p i1 j1 * sr_kS q (i - i1) (j - j1) else 0) := by
  have z : ∀ k1, k1 < 10 → ¬ i1 + j1 + k1 = sr_Z p → (if sr_dg (100 * i1 + (10 * j1 + k1)) ≤ 9 then sr_E (sr_kI p) (sr_kI q) (100 * i + (10 * j + k)) (100 * i1 + (10 * j1 + k1)) else 0) = 0 := by
    intro k1 hk1 n
    have : sr_kI p (100 * i1 + (10 * j1 + k1)) = 0 := sr_kI0 (by rw [sr_dgm hj1 hk1]; exact n)
    unfold sr_E; rw [this, sr_m0, ite_self, ite_self]
  by_cases hz : i1 + j1 ≤ sr_Z p
  · have hk1 : sr_Z p - i1 - j1 < 10 := by omega
    rw [sr_sg_1 (sr_Z p - i1 - j1) hk1 (fun k1 h1 n => z k1 h1 (by omega)), if_pos (by rw [sr_dgm hj1 hk1]; omega)]
    exact sr_E1 hd hj hk hm hj1 hk1 (by omega)
  · rw [sr_kS0 (s := p) (by omega), Nat.zero_mul, ite_self]
    exact sr_sg_z (fun k1 h1 => z k1 h1 (by omega))
theorem sr_ls_app (l l' : List Nat) (f : Nat → Nat) : sr_ls (l ++ l') f = sr_ls l f + sr_ls l' f := by
  induction l with
  | nil => show _ = 0 + _; rw [Nat.zero_add]; rfl
  | cons x l ih => show f x + sr_ls (l ++ l') f = f x + sr_ls l f + sr_ls l' f; rw [ih]; omega
theorem sr_ls_fl (n : Nat) (P : Nat → Bool) (g : Nat → Nat) : sr_ns n (fun r => if P r = true then g r else 0) = sr_ls ((List.range n).filter P) g := by
  induction n with
  | zero => rfl
  | succ n ih =>
    show sr_ns n (fun r => if P r = true then g r else 0) + (if P n = true then g n else 0) = _
    rw [List.range_succ, List.filter_append, sr_ls_app, ih]
    by_cases h : P n = true
    · rw [if_pos h, List.filter_cons_of_pos h]; rfl
    · rw [if_neg h, List.filter_cons_of_neg h]; rfl
theorem sr_cNv {p q i j : Nat} (hp : p < 53) (hq : q < 53) (hd : sr_Z p + sr_Z q ≤ 9) (hi : i < 10) (hj : j < 10) (hij : i + j ≤ sr_Z p + sr_Z q) :
    sr_cN p q i j = sr_ns 53 (fun r => if sr_Z r = sr_Z p + sr_Z q then sr_lr p q r * sr_kS r i j else 0) := by
  have a := List.all_eq_true.mp (sr_m3_all hp) q (List.mem_range.mpr hq)
  rw [Bool.or_eq_true] at a
  rcases a with a | a
  · have := Nat.blt_eq.mp a; omega
  · have b := List.all_eq_true.mp (List.all_eq_true.mp a i (List.mem_range.mpr hi)) j (List.mem_range.mpr hj)
    rw [Bool.or_eq_true] at b
    rcases b with b | b
    · have := Nat.blt_eq.mp b; omega
    · rw [Nat.eq_of_beq_eq_true b, sr_R_ok _ (by omega), ← sr_ls_fl]
      refine sr_ns_c (fun r _ => ?_)
      by_cases e : sr_Z r = sr_Z p + sr_Z q
      · rw [if_pos e, if_pos (by rw [e]; exact Nat.beq_refl _)]
      · rw [if_neg e, if_neg (fun z => e (Nat.eq_of_beq_eq_true z))]
/-- the product of two shapes -/
theorem sr_cvK {p q m : Nat} (hp : p < 53) (hq : q < 53) (hd : sr_Z p + sr_Z q ≤ 9) (hm : sr_zp m) : sr_cv (sr_kI p) (sr_kI q) m = sr_vl (fun r => nI (sr_lR p q r)) m := by
  by_cases e : sr_dg m = sr_Z p + sr_Z q
  · obtain ⟨i, j, k, hj, hk, rfl⟩ := sr_dec m
    obtain ⟨d1, d2, d3⟩ := sr_dg3 (i := i) hj hk
    have hi : i < 10 := by have := hm.1; omega
    have e' := e
    rw [sr_dgm hj hk] at e'
    have L : sr_cv (sr_kI p) (sr_kI q) (100 * i + (10 * j + k)) = nI (sr_cN p q i j) := by
      rw [sr_cv_E _ _ hm.1, sr_sgP, sr_sg3, sr_sg_c (fun i1 _ => sr_sg_c (fun j1 h1 => sr_cvk hd hj hk e' h1)), sr_sg_c (fun i1 _ => (sr_sg_ns 10 _).symm), ← sr_sg_ns]
      refine congrArg nI ?_
      rw [sr_ns_tr (m := i + 1) (by omega) (fun i1 h => sr_ns0 (fun j1 _ => if_neg (by omega)))]
      unfold sr_cN
      refine sr_ns_c (fun i1 h1 => ?_)
      rw [sr_ns_tr (m := j + 1) (by omega) (fun j1 h => if_neg (by omega))]
      exact sr_ns_c (fun j1 h2 => if_pos ⟨by omega, by omega⟩)
    rw [L, sr_cNv hp hq hd (by omega) (by omega) (by omega), sr_sg_ns]
    refine sr_sg_c (fun r _ => ?_)
    dsimp only
    unfold sr_lR
    by_cases z : sr_Z r = sr_Z p + sr_Z q
    · rw [if_pos z, if_pos z, sr_kI1 (by rw [e, z]), pk_mul, d1, d2]
    · rw [if_neg z, if_neg z]; exact (sr_m0 _).symm
  · have L : sr_cv (sr_kI p) (sr_kI q) m = 0 := by
      refine sr_sg_z (fun s hs => sr_sg_z (fun t ht => ?_))
      by_cases c : sr_P s + sr_P t = m ∧ sr_dg (sr_P t) ≤ 9 - sr_dg (sr_P s)
      · rw [if_pos c]
        by_cases c1 : sr_dg (sr_P s) = sr_Z p
        · by_cases c2 : sr_dg (sr_P t) = sr_Z q
          · exact absurd (by rw [← c.1, sr_nc' (by omega), c1, c2]) e
          · rw [sr_kI0 c2, sr_m0r]
        · rw [sr_kI0 c1, sr_m0]
      · rw [if_neg c]
    rw [L]
    refine (sr_sg_z (fun r _ => ?_)).symm
    dsimp only
    unfold sr_lR
    by_cases z : sr_Z r = sr_Z p + sr_Z q
    · rw [sr_kI0 (by omega), sr_m0r]
    · rw [if_neg z]; exact sr_m0 _
end
section
theorem sr_ifm {p : Prop} [Decidable p] (c x : Int32) : (if p then c * x else 0) = c * (if p then x else 0) := by
  by_cases h : p
  · rw [if_pos h, if_pos h]
  · rw [if_neg h, if_neg h, sr_m0r]
/-- a product is linear in its first factor -/
theorem sr_cvl (n : Nat) (c : Nat → Int32) (h : Nat → Nat → Int32) (g : Nat → Int32) (m : Nat) :
    sr_cv (fun x => sr_sg n (fun p => c p * h p x)) g m = sr_sg n (fun p => c p * sr_cv (h p) g m) := by
  unfold sr_cv
  have a : ∀ s t : Nat, (if sr_P s + sr_P t = m ∧ sr_dg (sr_P t) ≤ 9 - sr_dg (sr_P s) then sr_sg n (fun p => c p * h p (sr_P s)) * g (sr_P t) else 0) =
      sr_sg n (fun p => c p * (if sr_P s + sr_P t = m ∧ sr_dg (sr_P t) ≤ 9 - sr_dg (sr_P s) then h p (sr_P s) * g (sr_P t) else 0)) := by
    intro s t
    by_cases e : sr_P s + sr_P t = m ∧ sr_dg (sr_P t) ≤ 9 - sr_dg (sr_P s)
    · simp only [if_pos e]
      rw [← sr_sg_mr]
      exact sr_sg_c (fun p _ => by grind)
    · simp only [if_neg e]
      exact (sr_sg_z (fun p _ => sr_m0r _)).symm
  rw [sr_sg_c (fun s _ => sr_sg_c (fun t _ => a s t)), sr_sg_c (fun s _ => sr_sg_sw 220 n _), sr_sg_sw]
  refine sr_sg_c (fun p _ => ?_)
  rw [← sr_sg_ml]
  exact sr_sg_c (fun s _ => sr_sg_ml 220 (c p) _)
theorem sr_cvr (n : Nat) (c : Nat → Int32) (h : Nat → Nat → Int32) (f : Nat → Int32) (m : Nat) :
    sr_cv f (fun x => sr_sg n (fun p => c p * h p x)) m = sr_sg n (fun p => c p * sr_cv f (h p) m) := by
  unfold sr_cv
  have a : ∀ s t : Nat, (if sr_P s + sr_P t = m ∧ sr_dg (sr_P t) ≤ 9 - sr_dg (sr_P s) then f (sr_P s) * sr_sg n (fun p => c p * h p (sr_P t)) else 0) =
      sr_sg n (fun p => c p * (if sr_P s + sr_P t = m ∧ sr_dg (sr_P t) ≤ 9 - sr_dg (sr_P s) then f (sr_P s) * h p (sr_P t) else 0)) := by
    intro s t
    by_cases e : sr_P s + sr_P t = m ∧ sr_dg (sr_P t) ≤ 9 - sr_dg (sr_P s)
    · simp only [if_pos e]
      rw [← sr_sg_ml]
      exact sr_sg_c (fun p _ => by grind)
    · simp only [if_neg e]
      exact (sr_sg_z (fun p _ => sr_m0r _)).symm
  rw [sr_sg_c (fun s _ => sr_sg_c (fun t _ => a s t)), sr_sg_c (fun s _ => sr_sg_sw 220 n _), sr_sg_sw]
  refine sr_sg_c (fun p _ => ?_)
  rw [← sr_sg_ml]
  exact sr_sg_c (fun s _ => sr_sg_ml 220 (c p) _)
/-- an element times a shape -/
theorem sr_tS {c : Nat → Int32} {q m : Nat} (hq : q < 53) (hm : sr_zp m) (H : ∀ p, p < 53 → c p ≠ 0 → sr_Z p + sr_Z q ≤ 9) :
    sr_cv (sr_vl c) (sr_kI q) m = sr_vl (fun r => sr_sg 53 (fun p => c p * nI (sr_lR p q r))) m := by
  have a : sr_cv (sr_vl c) (sr_kI q) m = sr_sg 53 (fun p => c p * sr_cv (sr_kI p) (sr_kI q) m) := sr_cvl 53 c sr_kI (sr_kI q) m
  have b : sr_sg 53 (fun p => c p * sr_cv (sr_kI p) (sr_kI q) m) = sr_sg 53 (fun p => c p * sr_sg 53 (fun r => sr_kI r m * nI (sr_lR p q r))) := by
    refine sr_sg_c (fun p hp => ?_)
    by_cases e : c p = 0
    · rw [e, sr_m0, sr_m0]
    · rw [sr_cvK hp hq (H p hp e) hm]
      exact congrArg (c p * ·) (sr_sg_c (fun r _ => by grind))
  rw [a, b, sr_lin 53 53 c (fun r => sr_kI r m) (fun r p => nI (sr_lR p q r))]
  exact sr_sg_c (fun r _ => by grind)
/-- the product of two elements -/
theorem sr_pr {c e : Nat → Int32} {m : Nat} (hm : sr_zp m) (H : ∀ p q, p < 53 → q < 53 → c p ≠ 0 → e q ≠ 0 → sr_Z p + sr_Z q ≤ 9) :
    sr_cv (sr_vl c) (sr_vl e) m = sr_vl (fun r => sr_sg 53 (fun p => sr_sg 53 (fun q => c p * e q * nI (sr_lR p q r)))) m := by
  have a : sr_cv (sr_vl c) (sr_vl e) m = sr_sg 53 (fun q => e q * sr_cv (sr_vl c) (sr_kI q) m) := sr_cvr 53 e sr_kI (sr_vl c) m
  have b : sr_sg 53 (fun q => e q * sr_cv (sr_vl c) (sr_kI q) m) = sr_sg 53 (fun q => e q * sr_sg 53 (fun r => sr_kI r m * sr_sg 53 (fun p => c p * nI (sr_lR p q r)))) := by
    refine sr_sg_c (fun q hq => ?_)
    by_cases z : e q = 0
    · rw [z, sr_m0, sr_m0]
    · rw [sr_tS hq hm (fun p hp hc => H p q hp hq hc z)]
      exact congrArg (e q * ·) (sr_sg_c (fun r _ => by grind))
  rw [a, b, sr_lin 53 53 e (fun r => sr_kI r m) (fun r q => sr_sg 53 (fun p => c p * nI (sr_lR p q r)))]
  refine sr_sg_c (fun r _ => ?_)
  have d : sr_sg 53 (fun i => e i * sr_sg 53 (fun p => c p * nI (sr_lR p i r))) = sr_sg 53 (fun p => sr_sg 53 (fun q => c p * e q * nI (sr_lR p q r))) := by
    rw [sr_sg_sw]
    refine sr_sg_c (fun q _ => ?_)
    rw [← sr_sg_ml]
    exact sr_sg_c (fun p _ => by grind)
  rw [d]; grind
/-- x^r + y^r + z^r -/
def sr_d1 (y m : Nat) : Int32 := if m = y then 1 else 0
def sr_pw (r m : Nat) : Int32 := sr_d1 (100 * r) m + sr_d1 (10 * r) m + sr_d1 r m
theorem sr_cv_d (f : Nat → Int32) {y m : Nat} (hm : m < 1000) : sr_cv f (sr_d1 y) m = if y ≤ m ∧ sr_dg (m - y) ≤ 9 ∧ sr_dg y ≤ 9 - sr_dg (m - y) then f (m - y) else 0 := by
  rw [sr_cv_E _ _ hm]
  by_cases h : y ≤ m ∧ sr_dg (m - y) ≤ 9 ∧ sr_dg y ≤ 9 - sr_dg (m - y)
  · obtain ⟨h1, h2⟩ := sr_ix_ok (m - y) (by omega) h.2.1
    have u : ∀ t, t < 220 → t ≠ sr_ix (m - y) → sr_E f (sr_d1 y) m (sr_P t) = 0 := by
      intro t ht n
      unfold sr_E
      by_cases c : sr_P t ≤ m ∧ sr_dg (m - sr_P t) ≤ 9 - sr_dg (sr_P t)
      · rw [if_pos c]
        have : sr_d1 y (m - sr_P t) = 0 := if_neg (fun e => n (by rw [show m - y = sr_P t by omega, (sr_P_ok t ht).2.2]))
        rw [this, sr_m0r]
      · rw [if_neg c]
    rw [if_pos h, sr_sg_1 (sr_ix (m - y)) h1 u, h2]
    unfold sr_E sr_d1
    rw [if_pos ⟨by omega, by rw [show m - (m - y) = y by omega]; exact h.2.2⟩, if_pos (by omega)]
    grind
  · rw [if_neg h]
    refine sr_sg_z (fun t ht => ?_)
    unfold sr_E
    by_cases c : sr_P t ≤ m ∧ sr_dg (m - sr_P t) ≤ 9 - sr_dg (sr_P t)
    · rw [if_pos c]
      have : sr_d1 y (m - sr_P t) = 0 := if_neg (fun e => h ⟨by omega, by rw [show m - y = sr_P t by omega]; exact (sr_P_ok t ht).2.1, by
        rw [show m - y = sr_P t by omega, ← e]; exact c.2⟩)
      rw [this, sr_m0r]
    · rw [if_neg c]
theorem sr_cv_a (f g g' : Nat → Int32) (m : Nat) : sr_cv f (fun x => g x + g' x) m = sr_cv f g m + sr_cv f g' m := by
  unfold sr_cv
  rw [← sr_sg_add]
  refine sr_sg_c (fun s _ => ?_)
  rw [← sr_sg_add]
  refine sr_sg_c (fun t _ => ?_)
  by_cases e : sr_P s + sr_P t = m ∧ sr_dg (sr_P t) ≤ 9 - sr_dg (sr_P s)
  · rw [if_pos e, if_pos e, if_pos e]; grind
  · rw [if_neg e, if_neg e, if_neg e]; rfl
theorem sr_py_i (p y : Nat) {m : Nat} (hm : m < 1000) : sr_cv (sr_kI p) (sr_d1 y) m = nI (sr_py p y m) := by
  rw [sr_cv_d _ hm]
  unfold sr_py
  by_cases h : y ≤ m ∧ sr_dg (m - y) ≤ 9 ∧ sr_dg y ≤ 9 - sr_dg (m - y)
  · rw [if_pos h, if_pos h]; rfl
  · rw [if_neg h, if_neg h]; rfl
theorem sr_P_mem {m : Nat} (hm : sr_zp m) : m ∈ sr_PL := by
  obtain ⟨h1, h2⟩ := sr_zp_P hm
  rw [← h2]
  unfold sr_P
  have h1' : sr_ix m < sr_PL.length := h1
  rw [List.getD_eq_getElem?_getD, List.getElem?_eq_getElem h1']
  exact List.getElem_mem _
/-- the weight of row 'row' of shape p for shape s -/
def sr_ww (p row r s : Nat) : Int32 := if s = sr_sI p row r then nI (sr_wp p row r) - nI (sr_wn p row r) else 0
theorem sr_sI_w {p row r : Nat} (h : ¬ sr_sI p row r < 53) : sr_wp p row r = 0 ∧ sr_wn p row r = 0 := ⟨if_neg h, if_neg h⟩
theorem sr_ww_s (p row r m : Nat) : sr_sg 53 (fun s => sr_kI s m * sr_ww p row r s) = (nI (sr_wp p row r) - nI (sr_wn p row r)) * sr_kI (sr_sI p row r) m := by
  by_cases h : sr_sI p row r < 53
  · rw [sr_sg_1 (sr_sI p row r) h (fun s _ n => by unfold sr_ww; rw [if_neg n, sr_m0r])]
    unfold sr_ww; rw [if_pos rfl]; grind
  · rw [(sr_sI_w h).1, (sr_sI_w h).2, sr_sg_z (fun s hs => by unfold sr_ww; rw [if_neg (by omega), sr_m0r])]
    show (0 : Int32) = (0 - 0) * _
    grind
theorem sr_pwk {p r m : Nat} (hp : p < 53) (h1 : 1 ≤ r) (hd : sr_Z p + r ≤ 9) (hm : sr_zp m) : sr_cv (sr_kI p) (sr_pw r) m = sr_sg 53 (fun s => sr_kI s m * sr_sg 3 (fun row => sr_ww p row r s)) := by
  have a : sr_cv (sr_kI p) (sr_pw r) m = nI (sr_py p (100 * r) m + sr_py p (10 * r) m + sr_py p r m) := by
    have : sr_pw r = fun x => (fun x => sr_d1 (100 * r) x + sr_d1 (10 * r) x) x + sr_d1 r x := rfl
    rw [this, sr_cv_a, sr_cv_a, sr_py_i _ _ hm.1, sr_py_i _ _ hm.1, sr_py_i _ _ hm.1, nI_add, nI_add]
  have b := Nat.eq_of_beq_eq_true (List.all_eq_true.mp (sr_m4 p hp r (by omega) h1 hd) m (sr_P_mem hm))
  have b' := congrArg nI b
  rw [← nI_add, ← a, sr_sg_ns, sr_sg_ns] at b'
  have c : sr_sg 53 (fun s => sr_kI s m * sr_sg 3 (fun row => sr_ww p row r s)) = sr_sg 3 (fun row => (nI (sr_wp p row r) - nI (sr_wn p row r)) * sr_kI (sr_sI p row r) m) := by
    rw [sr_sg_c (n := 53) (fun s _ => (sr_sg_ml 3 (sr_kI s m) (fun row => sr_ww p row r s)).symm), sr_sg_sw]
    exact sr_sg_c (fun row _ => sr_ww_s p row r m)
  have d : sr_sg 3 (fun row => (nI (sr_wp p row r) - nI (sr_wn p row r)) * sr_kI (sr_sI p row r) m) = sr_sg 3 (fun row => nI (sr_wp p row r * sr_kM (sr_sI p row r) m)) - sr_sg 3 (fun row => nI (sr_wn p row r * sr_kM (sr_sI p row r) m)) := by
    rw [← sr_sg_sub]
    refine sr_sg_c (fun row _ => ?_)
    rw [← pk_mul, ← pk_mul]
    unfold sr_kI
    grind
  rw [c, d, ← b']
  grind
/-- an element times a sum of powers -/
theorem sr_tP {c : Nat → Int32} {r m : Nat} (h1 : 1 ≤ r) (hm : sr_zp m) (H : ∀ p, p < 53 → c p ≠ 0 → sr_Z p + r ≤ 9) :
    sr_cv (sr_vl c) (sr_pw r) m = sr_vl (fun s => sr_sg 53 (fun p => c p * sr_sg 3 (fun row => sr_ww p row r s))) m := by
  have a : sr_cv (sr_vl c) (sr_pw r) m = sr_sg 53 (fun p => c p * sr_cv (sr_kI p) (sr_pw r) m) := sr_cvl 53 c sr_kI (sr_pw r) m
  have b : sr_sg 53 (fun p => c p * sr_cv (sr_kI p) (sr_pw r) m) = sr_sg 53 (fun p => c p * sr_sg 53 (fun s => sr_kI s m * sr_sg 3 (fun row => sr_ww p row r s))) := by
    refine sr_sg_c (fun p hp => ?_)
    by_cases e : c p = 0
    · rw [e, sr_m0, sr_m0]
    · rw [sr_pwk hp h1 (H p hp e) hm]
  rw [a, b, sr_lin 53 53 c (fun s => sr_kI s m) (fun s p => sr_sg 3 (fun row => sr_ww p row r s))]
  exact sr_sg_c (fun s _ => by grind)
/-- the greatest degree -/
def sr_top (N : Nat) (nz : Nat → Prop) (g : Nat → Nat) (r : Int32) : Prop := (r = -4 ∧ ∀ i, i < N → ¬ nz i) ∨ ∃ d, d ≤ 9 ∧ r = nI d ∧ (∃ i, i < N ∧ nz i ∧ g i = d) ∧ ∀ i, i < N → nz i → g i ≤ d
theorem sr_top0 (nz : Nat → Prop) (g : Nat → Nat) : sr_top 0 nz g (-4) := Or.inl ⟨rfl, fun i h => by omega⟩
theorem sr_top_n {N : Nat} {nz : Nat → Prop} {g : Nat → Nat} {r : Int32} (I : sr_top N nz g r) (h : ¬ nz N) : sr_top (N + 1) nz g r := by
  have k : ∀ i, i < N + 1 → nz i → i < N := fun i hi hz => by
    by_cases e : i = N
    · subst e; exact absurd hz h
    · omega
  rcases I with ⟨e, a⟩ | ⟨d, d9, e, ⟨i, hi, z, gi⟩, a⟩
  · exact Or.inl ⟨e, fun i hi hz => a i (k i hi hz) hz⟩
  · exact Or.inr ⟨d, d9, e, ⟨i, by omega, z, gi⟩, fun i hi hz => a i (k i hi hz) hz⟩
theorem sr_m4lt {d : Nat} (h : d ≤ 9) : ¬ nI d ≤ (-4 : Int32) := by
  rw [Int32.le_iff_toInt_le, nI_toInt (by omega), show (-4 : Int32).toInt = -4 by decide]; omega
theorem sr_top_le {N : Nat} {nz : Nat → Prop} {g : Nat → Nat} {r : Int32} (I : sr_top N nz g r) (g9 : g N ≤ 9) (h : nI (g N) ≤ r) : sr_top (N + 1) nz g r := by
  rcases I with ⟨e, a⟩ | ⟨d, d9, e, ⟨i, hi, z, gi⟩, a⟩
  · subst e; exact absurd h (sr_m4lt g9)
  · subst e
    rw [nI_leI (by omega) (by omega)] at h
    refine Or.inr ⟨d, d9, rfl, ⟨i, by omega, z, gi⟩, fun j hj hz => ?_⟩
    by_cases q : j = N
    · subst q; exact h
    · exact a j (by omega) hz
theorem sr_top_gt {N : Nat} {nz : Nat → Prop} {g : Nat → Nat} {r : Int32} (I : sr_top N nz g r) (g9 : g N ≤ 9) (hz : nz N) (h : ¬ nI (g N) ≤ r) : sr_top (N + 1) nz g (nI (g N)) := by
  refine Or.inr ⟨g N, g9, rfl, ⟨N, by omega, hz, rfl⟩, fun j hj hzj => ?_⟩
  by_cases q : j = N
  · subst q; exact Nat.le_refl _
  · rcases I with ⟨e, a⟩ | ⟨d, d9, e, ⟨i, hi, z, gi⟩, a⟩
    · exact absurd hzj (a j (by omega))
    · subst e
      rw [nI_leI (by omega) (by omega)] at h
      have := a j (by omega) hzj
      omega
theorem sr_top_u {N N' : Nat} {nz nz' : Nat → Prop} {g g' : Nat → Nat} {r r' : Int32} (I : sr_top N nz g r) (I' : sr_top N' nz' g' r')
    (h1 : ∀ i, i < N → nz i → ∃ j, j < N' ∧ nz' j ∧ g' j = g i) (h2 : ∀ j, j < N' → nz' j → ∃ i, i < N ∧ nz i ∧ g i = g' j) : r' = r := by
  rcases I with ⟨e, a⟩ | ⟨d, d9, e, ⟨i, hi, z, gi⟩, a⟩
  · rcases I' with ⟨e', a'⟩ | ⟨d', d9', e', ⟨i', hi', z', gi'⟩, a'⟩
    · rw [e, e']
    · obtain ⟨i, hi, z, _⟩ := h2 i' hi' z'
      exact absurd z (a i hi)
  · rcases I' with ⟨e', a'⟩ | ⟨d', d9', e', ⟨i', hi', z', gi'⟩, a'⟩
    · obtain ⟨j, hj, zj, _⟩ := h1 i hi z
      exact absurd zj (a' j hj)
    · obtain ⟨j, hj, zj, gj⟩ := h1 i hi z
      obtain ⟨k, hk, zk, gk⟩ := h2 i' hi' z'
      have := a' j hj zj
      have := a k hk zk
      rw [e, e', show d' = d by omega]
/-- an element has a term of some degree if and only if it has a shape of that size -/
theorem sr_hi1 {c : Nat → Int32} {s : Nat} (hs : s < 53) (h : c s ≠ 0) : ∃ t, t < 220 ∧ sr_vl c (sr_P t) ≠ 0 ∧ sr_dg (sr_P t) = sr_Z s := by
  by_cases e : ∃ t, t < 220 ∧ sr_vl c (sr_P t) ≠ 0 ∧ sr_dg (sr_P t) = sr_Z s
  · exact e
  · refine absurd ?_ h
    rw [← sr_bf_vl c hs]
    have : sr_bf (sr_vl c) s = sr_bf (fun _ => 0) s := sr_bf_c hs (fun m hm hd => by
      by_cases z : sr_vl c m = 0
      · exact z
      · obtain ⟨a, b⟩ := sr_zp_P hm
        exact absurd ⟨sr_ix m, a, by rw [b]; exact z, by rw [b]; exact hd⟩ e)
    rw [this]
    unfold sr_bf
    rw [sr_sg_z (fun i _ => sr_m0r _), sr_sg_z (fun i _ => sr_m0r _)]
    rfl
theorem sr_hi2 {c : Nat → Int32} {m : Nat} (h : sr_vl c m ≠ 0) : ∃ s, s < 53 ∧ c s ≠ 0 ∧ sr_Z s = sr_dg m := by
  by_cases e : ∃ s, s < 53 ∧ c s ≠ 0 ∧ sr_Z s = sr_dg m
  · exact e
  · refine absurd (sr_sg_z (fun s hs => ?_)) h
    by_cases z : c s = 0
    · rw [z, sr_m0]
    · rw [sr_kI0 (fun d => e ⟨s, hs, z, d.symm⟩), sr_m0r]
end
section
def sr_h1 (x : Int32) : Nat → Int32
  | 0 => 1
  | n + 1 => sr_h1 x n * x
def sr_h2 (x y : Int32) : Nat → Int32
  | 0 => 1
  | n + 1 => sr_h1 x (n + 1) + y * sr_h2 x y n
def sr_h3 (x y z : Int32) : Nat → Int32
  | 0 => 1
  | n + 1 => sr_h2 x y (n + 1) + z * sr_h3 x y z n
def sr_g2 (x y : Int32) : Nat → Int32
  | 0 => 0
  | n + 1 => sr_h2 x y n
def sr_g3 (x y z : Int32) : Nat → Int32
  | 0 => 0
  | 1 => 0
  | n + 2 => sr_h3 x y z n
theorem sr_v0 (x y : Int32) (q : Nat) : sr_h2 x y q = sr_h1 x q + y * sr_g2 x y q := by
  cases q with
  | zero => show (1 : Int32) = 1 + y * 0; grind
  | succ q => rfl
theorem sr_v1 (x y : Int32) (q : Nat) : sr_h2 x y q = x * sr_g2 x y q + sr_h1 y q := by
  induction q with
  | zero => show (1 : Int32) = x * 0 + 1; grind
  | succ q ih =>
    have a := sr_v0 x y q
    show sr_h1 x q * x + y * sr_h2 x y q = x * sr_h2 x y q + sr_h1 y q * y
    grind
theorem sr_a2 (x y G g X Y : Int32) : y * (G * (x * g + Y) - (X + y * G) * g) + X * Y = (X + y * G) * (x * g + Y) - (X * x + y * (X + y * G)) * g := by grind
theorem sr_a4 (x y z g t Y : Int32) : ((x * g + Y) + z * (g + z * t) - (x + y) * (g + z * t) + x * y * t) * z = ((x * (x * g + Y) + Y * y) + z * ((x * g + Y) + z * (g + z * t))) - (x + y) * ((x * g + Y) + z * (g + z * t)) + x * y * (g + z * t) := by grind
theorem sr_v2 (x y : Int32) (q n : Nat) : sr_sg n (fun r => sr_h1 x (q + r) * sr_h1 y (q + n - 1 - r)) = sr_g2 x y (q + n) * sr_h2 x y q - sr_h2 x y (q + n) * sr_g2 x y q := by
  induction n with
  | zero => show (0 : Int32) = _; rw [Nat.add_zero]; grind
  | succ n ih =>
    have a : sr_sg n (fun r => sr_h1 x (q + r) * sr_h1 y (q + (n + 1) - 1 - r)) = y * sr_sg n (fun r => sr_h1 x (q + r) * sr_h1 y (q + n - 1 - r)) := by
      rw [← sr_sg_ml]
      refine sr_sg_c (fun r hr => ?_)
      rw [show q + (n + 1) - 1 - r = (q + n - 1 - r) + 1 by omega]
      show sr_h1 x (q + r) * (sr_h1 y (q + n - 1 - r) * y) = _
      grind
    show sr_sg n (fun r => sr_h1 x (q + r) * sr_h1 y (q + (n + 1) - 1 - r)) + sr_h1 x (q + n) * sr_h1 y (q + (n + 1) - 1 - n) = sr_h2 x y (q + n) * sr_h2 x y q - (sr_h1 x (q + n) * x + y * sr_h2 x y (q + n)) * sr_g2 x y q
    rw [a, ih, show q + (n + 1) - 1 - n = q by omega]
    rw [sr_v0 x y (q + n), sr_v1 x y q]
    exact sr_a2 _ _ _ _ _ _
theorem sr_v3 (z : Int32) (F G : Nat → Int32) (h : ∀ m, G (m + 1) = F m + z * G m) (b n : Nat) : sr_sg n (fun i => sr_h1 z (n - 1 - i) * F (b + i)) = G (b + n) - sr_h1 z n * G b := by
  induction n with
  | zero => show (0 : Int32) = G b - 1 * G b; grind
  | succ n ih =>
    have a : sr_sg n (fun i => sr_h1 z (n + 1 - 1 - i) * F (b + i)) = z * sr_sg n (fun i => sr_h1 z (n - 1 - i) * F (b + i)) := by
      rw [← sr_sg_ml]
      refine sr_sg_c (fun r hr => ?_)
      rw [show n + 1 - 1 - r = (n - 1 - r) + 1 by omega]
      show sr_h1 z (n - 1 - r) * z * _ = _
      grind
    show sr_sg n (fun i => sr_h1 z (n + 1 - 1 - i) * F (b + i)) + sr_h1 z (n + 1 - 1 - n) * F (b + n) = G (b + n + 1) - (sr_h1 z n * z) * G b
    rw [a, ih, show n + 1 - 1 - n = 0 by omega, h (b + n)]
    show _ + (1 : Int32) * _ = _
    grind
theorem sr_g3b (x y z : Int32) (m : Nat) : sr_g3 x y z (m + 1) = sr_g2 x y m + z * sr_g3 x y z m := by
  cases m with
  | zero => show (0 : Int32) = 0 + z * 0; grind
  | succ m =>
    cases m with
    | zero => show (1 : Int32) = 1 + z * 0; grind
    | succ m => rfl
theorem sr_g3a (x y z : Int32) (m : Nat) : sr_g3 x y z (m + 2) = sr_h2 x y m + z * sr_g3 x y z (m + 1) := sr_g3b x y z (m + 1)
theorem sr_v4 (x y z : Int32) (m : Nat) : sr_h1 z m = sr_g3 x y z (m + 2) - (x + y) * sr_g3 x y z (m + 1) + x * y * sr_g3 x y z m := by
  induction m with
  | zero => show (1 : Int32) = 1 - (x + y) * 0 + x * y * 0; grind
  | succ m ih =>
    have a := sr_g3a x y z (m + 1)
    have b := sr_g3a x y z m
    have c := sr_g3b x y z m
    have d := sr_v1 x y (m + 1)
    have e := sr_v1 x y m
    have d' : sr_h2 x y (m + 1) = x * sr_h2 x y m + sr_h1 y m * y := d
    show sr_h1 z m * z = sr_g3 x y z (m + 3) - (x + y) * sr_g3 x y z (m + 2) + x * y * sr_g3 x y z (m + 1)
    rw [ih, show m + 3 = m + 1 + 2 from rfl, a, d', show m + 1 + 1 = m + 2 from rfl, b, c, e]
    exact sr_a4 _ _ _ _ _ _
theorem sr_h1a (z : Int32) (m n : Nat) : sr_h1 z (m + n) = sr_h1 z m * sr_h1 z n := by
  induction n with
  | zero => show sr_h1 z m = sr_h1 z m * 1; grind
  | succ n ih => show sr_h1 z (m + n) * z = sr_h1 z m * (sr_h1 z n * z); rw [ih]; grind
/-- the ring identity behind the determinant -/
theorem sr_v5 (x y a0 a1 a2 b0 b1 b2 c0 c1 c2 zc zb za u w : Int32) (hc : zc = c2 - (x + y) * c1 + x * y * c0) (hb : zb = b2 - (x + y) * b1 + x * y * b0) (ha : za = a2 - (x + y) * a1 + x * y * a0)
    (e1 : zc * u = zb) (e2 : zb * w = za) :
    zc * ((a0 - w * b0) * (b1 - u * c1) - (a1 - w * b1) * (b0 - u * c0)) = a0 * (b1 * c2 - b2 * c1) - a1 * (b0 * c2 - b2 * c0) + a2 * (b0 * c1 - b1 * c0) := by
  have k : zc * ((a0 - w * b0) * (b1 - u * c1) - (a1 - w * b1) * (b0 - u * c0)) = zc * (a0 * b1 - a1 * b0) - (zc * u) * (a0 * c1 - a1 * c0) + ((zc * u) * w) * (b0 * c1 - b1 * c0) := by grind
  rw [k, e1, e2, hc, hb, ha]
  grind
def sr_dt (x y z : Int32) (a b c : Nat) : Int32 :=
  sr_g3 x y z (a + 2) * (sr_g3 x y z (b + 2) * sr_g3 x y z (c + 2) - sr_g3 x y z (b + 3) * sr_g3 x y z (c + 1)) -
  sr_g3 x y z (a + 3) * (sr_g3 x y z (b + 1) * sr_g3 x y z (c + 2) - sr_g3 x y z (b + 3) * sr_g3 x y z c) +
  sr_g3 x y z (a + 4) * (sr_g3 x y z (b + 1) * sr_g3 x y z (c + 1) - sr_g3 x y z (b + 2) * sr_g3 x y z c)
/-- the sum over all fillings: p from b to a, q from c to b, r from q to p -/
def sr_ts (a b c : Nat) (H : Nat → Nat → Nat → Int32) : Int32 := sr_sg (a + 1 - b) (fun p => sr_sg (b + 1 - c) (fun q => sr_sg (b + p + 1 - (c + q)) (fun r => H (b + p) (c + q) (c + q + r))))
theorem sr_ts_c {a b c : Nat} {H H' : Nat → Nat → Nat → Int32} (hb : b ≤ a) (hc : c ≤ b) (h : ∀ p q r, b ≤ p → p ≤ a → c ≤ q → q ≤ b → q ≤ r → r ≤ p → H p q r = H' p q r) : sr_ts a b c H = sr_ts a b c H' :=
  sr_sg_c (fun p hp => sr_sg_c (fun q hq => sr_sg_c (fun r hr => h _ _ _ (by omega) (by omega) (by omega) (by omega) (by omega) (by omega))))
theorem sr_tsv (x y z : Int32) {a b c : Nat} (hb : b ≤ a) (hc : c ≤ b) : sr_ts a b c (fun p q r => sr_h1 x r * sr_h1 y (p + q - r) * sr_h1 z (a + b + c - p - q)) = sr_dt x y z a b c := by
  have s1 : sr_ts a b c (fun p q r => sr_h1 x r * sr_h1 y (p + q - r) * sr_h1 z (a + b + c - p - q)) =
      sr_sg (a + 1 - b) (fun p => sr_sg (b + 1 - c) (fun q => sr_h1 z c * ((sr_h1 z (a + 1 - b - 1 - p) * sr_h2 x y (b + p)) * (sr_h1 z (b + 1 - c - 1 - q) * sr_h2 x y (c + q)) - (sr_h1 z (a + 1 - b - 1 - p) * sr_h2 x y (b + p + 1)) * (sr_h1 z (b + 1 - c - 1 - q) * sr_g2 x y (c + q))))) := by
    refine sr_sg_c (fun p hp => sr_sg_c (fun q hq => ?_))
    have e := sr_v2 x y (c + q) (b + p + 1 - (c + q))
    rw [show c + q + (b + p + 1 - (c + q)) = b + p + 1 by omega] at e
    rw [sr_sg_mr, sr_sg_c (g := fun r => sr_h1 x (c + q + r) * sr_h1 y (b + p + 1 - 1 - r)) (fun r hr => by
      show sr_h1 x (c + q + r) * sr_h1 y (b + p + (c + q) - (c + q + r)) = _
      rw [show b + p + (c + q) - (c + q + r) = b + p + 1 - 1 - r by omega]), e,
      show a + b + c - (b + p) - (c + q) = c + ((a + 1 - b - 1 - p) + (b + 1 - c - 1 - q)) by omega, sr_h1a, sr_h1a]
    show (sr_h2 x y (b + p) * _ - _) * _ = _
    grind
  have s2 : ∀ (n m : Nat) (k : Int32) (f1 f2 g1 g2 : Nat → Int32), sr_sg n (fun p => sr_sg m (fun q => k * (f1 p * g1 q - f2 p * g2 q))) = k * (sr_sg n f1 * sr_sg m g1 - sr_sg n f2 * sr_sg m g2) := by
    intro n m k f1 f2 g1 g2
    have t1 : sr_sg n (fun p => sr_sg m (fun q => k * (f1 p * g1 q - f2 p * g2 q))) = sr_sg n (fun p => k * (f1 p * sr_sg m g1 - f2 p * sr_sg m g2)) := by
      refine sr_sg_c (fun p _ => ?_)
      rw [sr_sg_ml, sr_sg_sub, sr_sg_ml, sr_sg_ml]
    rw [t1, sr_sg_ml, sr_sg_sub, sr_sg_mr, sr_sg_mr]
  rw [s1, s2 (a + 1 - b) (b + 1 - c) (sr_h1 z c) (fun p => sr_h1 z (a + 1 - b - 1 - p) * sr_h2 x y (b + p)) (fun p => sr_h1 z (a + 1 - b - 1 - p) * sr_h2 x y (b + p + 1)) (fun q => sr_h1 z (b + 1 - c - 1 - q) * sr_h2 x y (c + q)) (fun q => sr_h1 z (b + 1 - c - 1 - q) * sr_g2 x y (c + q))]
  have p1 := sr_v3 z (fun m => sr_h2 x y m) (fun m => sr_g3 x y z (m + 1)) (fun m => sr_g3a x y z m) b (a + 1 - b)
  have p2 := sr_v3 z (fun m => sr_h2 x y (m + 1)) (fun m => sr_g3 x y z (m + 2)) (fun m => sr_g3a x y z (m + 1)) b (a + 1 - b)
  have p3 := sr_v3 z (fun m => sr_h2 x y m) (fun m => sr_g3 x y z (m + 1)) (fun m => sr_g3a x y z m) c (b + 1 - c)
  have p4 := sr_v3 z (fun m => sr_g2 x y m) (fun m => sr_g3 x y z m) (fun m => sr_g3b x y z m) c (b + 1 - c)
  rw [show b + (a + 1 - b) = a + 1 by omega] at p1 p2
  rw [show c + (b + 1 - c) = b + 1 by omega] at p3 p4
  rw [p1, p2, p3, p4]
  exact sr_v5 x y _ _ _ _ _ _ _ _ _ _ (sr_h1 z (b + 1)) (sr_h1 z (a + 2)) _ _ (sr_v4 x y z c) (sr_v4 x y z (b + 1)) (sr_v4 x y z (a + 2))
    (by rw [← sr_h1a, show c + (b + 1 - c) = b + 1 by omega]) (by rw [← sr_h1a, show b + 1 + (a + 1 - b) = a + 2 by omega])
/-- counting -/
theorem sr_cnt (n lo hi : Nat) : sr_sg n (fun k => if lo ≤ k ∧ k < hi then 1 else 0) = nI (sr_mn n hi - lo) := by
  induction n with
  | zero => show (0 : Int32) = _; rw [show sr_mn 0 hi - lo = 0 by unfold sr_mn; omega]; rfl
  | succ n ih =>
    show sr_sg n (fun k => if lo ≤ k ∧ k < hi then 1 else 0) + (if lo ≤ n ∧ n < hi then 1 else 0) = _
    rw [ih]
    by_cases h : lo ≤ n ∧ n < hi
    · rw [if_pos h, nI_1, show sr_mn n hi - lo + 1 = sr_mn (n + 1) hi - lo by unfold sr_mn; omega]
    · rw [if_neg h, show sr_mn (n + 1) hi - lo = sr_mn n hi - lo by unfold sr_mn; omega]; grind
theorem sr_tsk {a b c i j : Nat} (hb : b ≤ a) (hc : c ≤ b) : sr_ts a b c (fun p q r => if r = i ∧ p + q = i + j then 1 else 0) = nI (sr_kk a b c i j) := by
  have s1 : ∀ p q, sr_sg (p + 1 - q) (fun r => if q + r = i ∧ p + q = i + j then (1 : Int32) else 0) = if q ≤ i ∧ i ≤ p ∧ p + q = i + j then 1 else 0 := by
    intro p q
    by_cases h : q ≤ i ∧ i ≤ p ∧ p + q = i + j
    · rw [if_pos h, sr_sg_1 (i - q) (by omega) (fun r _ n => if_neg (by omega)), if_pos (by omega)]
    · rw [if_neg h]
      exact sr_sg_z (fun r hr => if_neg (by omega))
  have s2 : ∀ p, sr_sg (b + 1 - c) (fun q => if c + q ≤ i ∧ i ≤ p ∧ p + (c + q) = i + j then (1 : Int32) else 0) = if p ≤ i + j ∧ c ≤ i + j - p ∧ i + j - p ≤ b ∧ i + j - p ≤ i ∧ i ≤ p then 1 else 0 := by
    intro p
    by_cases h : p ≤ i + j ∧ c ≤ i + j - p ∧ i + j - p ≤ b ∧ i + j - p ≤ i ∧ i ≤ p
    · rw [if_pos h, sr_sg_1 (i + j - p - c) (by omega) (fun r _ n => if_neg (by omega)), if_pos (by omega)]
    · rw [if_neg h]
      exact sr_sg_z (fun r hr => if_neg (by omega))
  have s3 : sr_ts a b c (fun p q r => if r = i ∧ p + q = i + j then 1 else 0) = sr_sg (a + 1 - b) (fun p => if (sr_mx (sr_mx b i) (sr_mx j (i + j - b))) - b ≤ p ∧ p < i + j + 1 - c - b then (1 : Int32) else 0) := by
    refine sr_sg_c (fun p hp => ?_)
    rw [sr_sg_c (fun q hq => s1 (b + p) (c + q)), s2 (b + p)]
    by_cases h : b + p ≤ i + j ∧ c ≤ i + j - (b + p) ∧ i + j - (b + p) ≤ b ∧ i + j - (b + p) ≤ i ∧ i ≤ b + p
    · rw [if_pos h, if_pos (by unfold sr_mx; omega)]
    · rw [if_neg h, if_neg (by unfold sr_mx; omega)]
  rw [s3, sr_cnt]
  refine congrArg nI ?_
  unfold sr_kk sr_mx sr_mn
  omega
theorem sr_sw2 (n : Nat) (f : Nat → Nat → Nat → Int32) : sr_sg 10 (fun i => sr_sg 10 (fun j => sr_sg n (fun p => f i j p))) = sr_sg n (fun p => sr_sg 10 (fun i => sr_sg 10 (fun j => f i j p))) := by
  rw [sr_sg_c (fun i _ => sr_sg_sw 10 n (f i)), sr_sg_sw]
/-- a term's value -/
def sr_mo (x y z : Int32) (m : Nat) : Int32 := sr_h1 x (m / 100) * sr_h1 y (m / 10 % 10) * sr_h1 z (m % 10)
theorem sr_valk (x y z : Int32) {s : Nat} (hs : s < 53) : sr_sg 220 (fun t => sr_kI s (sr_P t) * sr_mo x y z (sr_P t)) = sr_dt x y z (sr_A s) (sr_B s) (sr_C s) := by
  have hb := sr_BA hs
  have hc := sr_CB hs
  have hz := sr_Z9 hs
  have s1 : sr_sg 220 (fun t => sr_kI s (sr_P t) * sr_mo x y z (sr_P t)) = sr_sg 10 (fun i => sr_sg 10 (fun j => nI (sr_kS s i j) * (sr_h1 x i * sr_h1 y j * sr_h1 z (sr_Z s - i - j)))) := by
    rw [sr_sgP (fun m => sr_kI s m * sr_mo x y z m), sr_sg3]
    refine sr_sg_c (fun i hi => sr_sg_c (fun j hj => ?_))
    by_cases h : i + j ≤ sr_Z s
    · rw [sr_sg_1 (sr_Z s - i - j) (by omega) (fun k hk n => by
        have e := sr_dgm (i := i) hj hk
        rw [sr_kI0 (by omega), sr_m0]; exact ite_self _)]
      have hk : sr_Z s - i - j < 10 := by omega
      have e := sr_dgm (i := i) hj hk
      obtain ⟨d1, d2, d3⟩ := sr_dg3 (i := i) hj hk
      rw [if_pos (by omega), sr_kI1 (by omega)]
      unfold sr_mo
      rw [d1, d2, d3]
    · rw [sr_kS0 (by omega)]
      refine (sr_sg_z (fun k hk => ?_)).trans (sr_m0 _).symm
      have e := sr_dgm (i := i) hj hk
      rw [sr_kI0 (by omega), sr_m0]; exact ite_self _
  have s2 : sr_sg 10 (fun i => sr_sg 10 (fun j => nI (sr_kS s i j) * (sr_h1 x i * sr_h1 y j * sr_h1 z (sr_Z s - i - j)))) =
      sr_ts (sr_A s) (sr_B s) (sr_C s) (fun p q r => sr_sg 10 (fun i => sr_sg 10 (fun j => (if r = i ∧ p + q = i + j then 1 else 0) * (sr_h1 x i * sr_h1 y j * sr_h1 z (sr_Z s - i - j))))) := by
    have k : ∀ i j, nI (sr_kS s i j) * (sr_h1 x i * sr_h1 y j * sr_h1 z (sr_Z s - i - j)) = sr_ts (sr_A s) (sr_B s) (sr_C s) (fun p q r => (if r = i ∧ p + q = i + j then 1 else 0) * (sr_h1 x i * sr_h1 y j * sr_h1 z (sr_Z s - i - j))) := by
      intro i j
      unfold sr_kS
      rw [← sr_tsk hb hc]
      unfold sr_ts
      rw [← sr_sg_mr]
      refine sr_sg_c (fun p _ => ?_)
      rw [← sr_sg_mr]
      refine sr_sg_c (fun q _ => ?_)
      rw [← sr_sg_mr]
    rw [sr_sg_c (fun i _ => sr_sg_c (fun j _ => k i j))]
    unfold sr_ts
    rw [sr_sw2]
    refine sr_sg_c (fun p _ => ?_)
    rw [sr_sw2]
    refine sr_sg_c (fun q _ => ?_)
    rw [sr_sw2]
  rw [s1, s2, ← sr_tsv x y z hb hc]
  refine sr_ts_c hb hc (fun p q r h1 h2 h3 h4 h5 h6 => ?_)
  unfold sr_Z at hz ⊢
  rw [sr_sg_1 r (by omega) (fun i _ n => sr_sg_z (fun j _ => by rw [if_neg (fun e => n e.1.symm), sr_m0])), sr_sg_1 (p + q - r) (by omega) (fun j _ n => by rw [if_neg (by omega), sr_m0]), if_pos (by omega),
    show sr_A s + sr_B s + sr_C s - r - (p + q - r) = sr_A s + sr_B s + sr_C s - p - q by omega]
  grind
theorem sr_val (c : Nat → Int32) (x y z : Int32) : sr_sg 220 (fun t => sr_vl c (sr_P t) * sr_mo x y z (sr_P t)) = sr_sg 53 (fun s => c s * sr_dt x y z (sr_A s) (sr_B s) (sr_C s)) := by
  have a : sr_sg 220 (fun t => sr_vl c (sr_P t) * sr_mo x y z (sr_P t)) = sr_sg 220 (fun t => sr_mo x y z (sr_P t) * sr_sg 53 (fun s => c s * sr_kI s (sr_P t))) := sr_sg_c (fun t _ => by unfold sr_vl; grind)
  rw [a, sr_lin 220 53 (fun t => sr_mo x y z (sr_P t)) c (fun s t => sr_kI s (sr_P t))]
  refine sr_sg_c (fun s hs => ?_)
  rw [← sr_valk x y z hs]
  exact congrArg (c s * ·) (sr_sg_c (fun t _ => by grind))
end
section
def sr_rA : Nat → Int32 := fun s => nI (sr_A s)
def sr_rB : Nat → Int32 := fun s => nI (sr_B s)
def sr_rC : Nat → Int32 := fun s => nI (sr_C s)
theorem sr_r10 {j : Nat} (h : j < 2 ^ 31) : nI j - nI j / 10 * 10 = nI (j % 10) := pk_rem (d := 10) h (by decide) (by decide)
theorem sr_d10 {j : Nat} (h : j < 2 ^ 31) : nI j / 10 = nI (j / 10) := pk_div (d := 10) h (by decide) (by decide)
theorem sr_d100 {j : Nat} (h : j < 2 ^ 31) : nI j / 100 = nI (j / 100) := pk_div (d := 100) h (by decide) (by decide)
theorem sr_ad60 (e s : Nat) : (60 : Int32) * nI e + nI s = nI (60 * e + s) := by
  rw [show (60 : Int32) = nI 60 from rfl, pk_mul, nI_add]
theorem sr_n10 : ¬ (10 : Int32) = 0 := by decide
theorem sr_n100 : ¬ (100 : Int32) = 0 := by decide
/-- an element's number, or none -/
theorem sr_e (v : Int32) : (∃ e : Nat, e < 2 ∧ v = nI e) ∨ (v < 0 ∨ ¬ v ≤ 1) := by
  by_cases h : v < 0
  · exact Or.inr (Or.inl h)
  · by_cases h1 : v ≤ 1
    · obtain ⟨j, hj, e⟩ := nI_of2 (M := 1) (n := 1) (by decide) h h1
      exact Or.inl ⟨j, by omega, e⟩
    · exact Or.inr (Or.inr h1)
theorem sr_code (v : Int32) : (∃ s : Nat, s < 53 ∧ v = nI (sr_S s)) ∨ ∀ s : Nat, s < 53 → v ≠ nI (sr_S s) := by
  by_cases h : ∃ s : Nat, s < 53 ∧ v = nI (sr_S s)
  · exact Or.inl h
  · exact Or.inr (fun s hs e => h ⟨s, hs, e⟩)
section
variable {co ma cm : Nat → Int32}
theorem sr_x_bad0 {post : Int32 → Prop} {e : Nat} (he : e < 2) (h : post 0) : wpX_badElement post (53, sr_rA, sr_rB, sr_rC, co, ma, cm) (nI e) :=
  br_f (nI_pos (by omega)) (br_t (nI_le (b := 1) (by omega) (by decide)) h)
theorem sr_x_bad1 {post : Int32 → Prop} {v : Int32} (hv : v < 0 ∨ ¬ v ≤ 1) (h : post 1) : wpX_badElement post (53, sr_rA, sr_rB, sr_rC, co, ma, cm) v :=
  br_c (fun _ => h) (fun n => br_f (hv.resolve_left n) h)
theorem sr_x_find {post : Int32 → Prop} {a b c : Nat} (ha : a < 2 ^ 31) (hb : b < 2 ^ 31) (hc : c < 2 ^ 31) (h : ∀ s, s < 53 → sr_A s = a → sr_B s = b → sr_C s = c → post (nI s))
    (hn : (∀ s, s < 53 → ¬ (sr_A s = a ∧ sr_B s = b ∧ sr_C s = c)) → post (-1)) : wpX_find post (53, sr_rA, sr_rB, sr_rC, co, ma, cm) (nI a) (nI b) (nI c) := by
  refine loop_0 (σ := Unit) (fun n s _ => wX_find_3 post (nI a) (nI b) (nI c) 53 sr_rA sr_rB sr_rC co ma cm n (nI s)) (fun s _ => ∀ j, j < s → ¬ (sr_A j = a ∧ sr_B j = b ∧ sr_C j = c)) 53 () (fun j hj => by omega) ?_ ?_
  · intro n _ I
    exact br_t (nI_le (a := 53) (by omega) (by decide)) (hn I)
  · intro n s _ hs I ih
    have hA := sr_A9 s
    have hB := sr_B9 s
    have hC := sr_C9 s
    have e : (nI s).toNatClampNeg = s := nI_clamp (by omega)
    have i : vp_in (nI s) 60 := vp_in_nI (by omega) (by decide)
    have k : ¬ (sr_A s = a ∧ sr_B s = b ∧ sr_C s = c) → wX_find_3 post (nI a) (nI b) (nI c) 53 sr_rA sr_rB sr_rC co ma cm n (nI (s + 1)) := fun q => ih () (fun j hj => by
      by_cases z : j = s
      · subst z; exact q
      · exact I j (by omega))
    show wX_find_3 post (nI a) (nI b) (nI c) 53 sr_rA sr_rB sr_rC co ma cm (n + 1) (nI s)
    rw [wX_find_3]
    dsimp only
    rw [e]
    exact br_f (nI_ge (b := 53) hs (by decide)) ⟨i, pk_eq (sr_A s) a (fun e1 => ⟨i, pk_eq (sr_B s) b (fun e2 => ⟨i, pk_eq (sr_C s) c (fun e3 => h s hs e1 e2 e3) (fun e3 => nm_r (nI_1 s) (k (fun q => e3 q.2.2)))⟩) (fun e2 => nm_r (nI_1 s) (k (fun q => e2 q.2.1)))⟩) (fun e1 => nm_r (nI_1 s) (k (fun q => e1 q.1)))⟩
theorem sr_x_sh1 {post : Int32 → Prop} {s : Nat} (hs : s < 53) (h : post (nI s)) : wpX_shapeOf post (53, sr_rA, sr_rB, sr_rC, co, ma, cm) (nI (sr_S s)) := by
  have hS := sr_S_le s
  refine br_f (nI_pos (by omega)) (br_t (nI_le (b := 999) (by omega) (by decide)) ⟨sr_n10, sr_n10, sr_n10, sr_n100, ?_⟩)
  rw [sr_r10 (by omega), sr_d10 (by omega), sr_r10 (by omega), sr_d100 (by omega)]
  refine sr_x_find (by omega) (by omega) (by omega) (fun t ht e1 e2 e3 => ?_) (fun q => absurd ⟨rfl, rfl, rfl⟩ (q s hs))
  have : t = s := sr_Sinj ht hs (by rw [sr_S_abc t, sr_S_abc s, e1, e2, e3]; rfl)
  subst this; exact h
theorem sr_x_sh0 {post : Int32 → Prop} {v : Int32} (hv : ∀ s : Nat, s < 53 → v ≠ nI (sr_S s)) (h : post (-1)) : wpX_shapeOf post (53, sr_rA, sr_rB, sr_rC, co, ma, cm) v := by
  refine br_c (fun _ => h) (fun n => ?_)
  obtain ⟨j, hj, rfl⟩ := nI_of n
  refine pk_le j 999 (fun h9 => ⟨sr_n10, sr_n10, sr_n10, sr_n100, ?_⟩) (fun _ => h)
  rw [sr_r10 (by omega), sr_d10 (by omega), sr_r10 (by omega), sr_d100 (by omega)]
  refine sr_x_find (by omega) (by omega) (by omega) (fun t ht e1 e2 e3 => ?_) (fun _ => h)
  exact absurd (by rw [sr_S_abc t, e1, e2, e3]; exact congrArg nI (by omega)) (hv t ht)
theorem sr_x_get {post : Int32 → Prop} {e s : Nat} (he : e < 2) (hs : s < 60) (h : post (co (60 * e + s))) : wpX_get post (53, sr_rA, sr_rB, sr_rC, co, ma, cm) (nI e) (nI s) := by
  unfold wpX_get
  dsimp only
  rw [sr_ad60, nI_clamp (by omega)]
  exact ⟨vp_in_nI (by omega) (by decide), h⟩
theorem sr_x_size {post : Int32 → Prop} {s : Nat} (hs : s < 60) (h : post (nI (sr_Z s))) : wpX_sizeOf post (53, sr_rA, sr_rB, sr_rC, co, ma, cm) (nI s) := by
  unfold wpX_sizeOf
  dsimp only
  have i : vp_in (nI s) 60 := vp_in_nI (by omega) (by decide)
  rw [nI_clamp (by omega), show sr_rA s + sr_rB s + sr_rC s = nI (sr_Z s) by unfold sr_rA sr_rB sr_rC sr_Z; rw [nI_add, nI_add]]
  exact ⟨i, i, i, h⟩
/-- is it a filling? -/
theorem sr_x_fits {post : Int32 → Prop} {p q r n : Nat} (hp : p < 53) (hq : q < 53) (hr : r < 53) (hn : n < 60) (h : post (if sr_fB p q r n = true then 1 else 0)) :
    wpX_fits post (53, sr_rA, sr_rB, sr_rC, co, ma, cm) (nI p) (nI q) (nI r) (nI n) := by
  have ip : vp_in (nI p) 60 := vp_in_nI (by omega) (by decide)
  have iq : vp_in (nI q) 60 := vp_in_nI (by omega) (by decide)
  have ir : vp_in (nI r) 60 := vp_in_nI (by omega) (by decide)
  have T : ∀ {x : Nat}, x ≤ 100 → (nI x).toInt = (x : Int) := fun hx => nI_toInt (by omega)
  have S : ∀ {x y : Int32} {a b : Int}, x.toInt = a → y.toInt = b → -1000 ≤ a → a ≤ 1000 → -1000 ≤ b → b ≤ 1000 → (x - y).toInt = a - b := by
    intro x y a b hx hy _ _ _ _
    rw [Int32.toInt_sub, hx, hy]
    exact Int.bmod_eq_of_le (by omega) (by omega)
  have D : ∀ {x y : Int32} {a b : Int}, x.toInt = a → y.toInt = b → -1000 ≤ a → a ≤ 1000 → -1000 ≤ b → b ≤ 1000 → (x + y).toInt = a + b := by
    intro x y a b hx hy _ _ _ _
    rw [Int32.toInt_add, hx, hy]
    exact Int.bmod_eq_of_le (by omega) (by omega)
  have L : ∀ {x y : Int32} {a b : Int}, x.toInt = a → y.toInt = b → (x < y ↔ a < b) := by
    intro x y a b hx hy
    rw [Int32.lt_iff_toInt_lt, hx, hy]
  have Q : ∀ {x y : Int32} {a b : Int}, x.toInt = a → y.toInt = b → (x = y ↔ a = b) := by
    intro x y a b hx hy
    rw [← Int32.toInt_inj, hx, hy]
  have h0 : (0 : Int32).toInt = 0 := by decide
  have bAp := sr_A9 p
  have bBp := sr_B9 p
  have bCp := sr_C9 p
  have bAq := sr_A9 q
  have bBq := sr_B9 q
  have bCq := sr_C9 q
  have bAr := sr_A9 r
  have bBr := sr_B9 r
  have bCr := sr_C9 r
  have tAp : (sr_rA p).toInt = (sr_A p : Int) := T (by omega)
  have tBp : (sr_rB p).toInt = (sr_B p : Int) := T (by omega)
  have tCp : (sr_rC p).toInt = (sr_C p : Int) := T (by omega)
  have tAq : (sr_rA q).toInt = (sr_A q : Int) := T (by omega)
  have tBq : (sr_rB q).toInt = (sr_B q : Int) := T (by omega)
  have tCq : (sr_rC q).toInt = (sr_C q : Int) := T (by omega)
  have tAr : (sr_rA r).toInt = (sr_A r : Int) := T (by omega)
  have tBr : (sr_rB r).toInt = (sr_B r : Int) := T (by omega)
  have tCr : (sr_rC r).toInt = (sr_C r : Int) := T (by omega)
  have tn : (nI n).toInt = (n : Int) := T (by omega)
  have F0 : ¬ (sr_A p ≤ sr_A r ∧ (sr_A r - sr_A p) + n ≤ sr_A q ∧ sr_B p + n ≤ sr_B r ∧ sr_B r - sr_B p - n ≤ sr_B q ∧
      sr_C p + (sr_A q - (sr_A r - sr_A p) - n) + (sr_B q - (sr_B r - sr_B p - n)) + sr_C q = sr_C r ∧
      sr_B p + n ≤ sr_A p ∧ sr_C p + (sr_A q - (sr_A r - sr_A p) - n) ≤ sr_B p ∧
      sr_C p + (sr_A q - (sr_A r - sr_A p) - n) + (sr_B q - (sr_B r - sr_B p - n)) ≤ sr_B p + n ∧
      sr_B r - sr_B p - n ≤ sr_A r - sr_A p ∧ sr_C q ≤ sr_B r - sr_B p - n ∧
      sr_B r - sr_B p - n + (sr_B q - (sr_B r - sr_B p - n)) ≤ (sr_A r - sr_A p) + n) → post 0 := by
    intro z
    have : sr_fB p q r n = false := by unfold sr_fB; exact decide_eq_false z
    rw [this] at h; exact h
  have F1 : (sr_A p ≤ sr_A r ∧ (sr_A r - sr_A p) + n ≤ sr_A q ∧ sr_B p + n ≤ sr_B r ∧ sr_B r - sr_B p - n ≤ sr_B q ∧
      sr_C p + (sr_A q - (sr_A r - sr_A p) - n) + (sr_B q - (sr_B r - sr_B p - n)) + sr_C q = sr_C r ∧
      sr_B p + n ≤ sr_A p ∧ sr_C p + (sr_A q - (sr_A r - sr_A p) - n) ≤ sr_B p ∧
      sr_C p + (sr_A q - (sr_A r - sr_A p) - n) + (sr_B q - (sr_B r - sr_B p - n)) ≤ sr_B p + n ∧
      sr_B r - sr_B p - n ≤ sr_A r - sr_A p ∧ sr_C q ≤ sr_B r - sr_B p - n ∧
      sr_B r - sr_B p - n + (sr_B q - (sr_B r - sr_B p - n)) ≤ (sr_A r - sr_A p) + n) → post 1 := by
    intro z
    have : sr_fB p q r n = true := by unfold sr_fB; exact decide_eq_true z
    rw [this] at h; exact h
  clear h
  unfold wpX_fits
  dsimp only
  rw [nI_clamp (n := p) (by omega), nI_clamp (n := q) (by omega), nI_clamp (n := r) (by omega)]
  refine ⟨ir, ip, fun x5 e5 => ⟨iq, fun x6 e6 => ⟨ir, ip, fun x7 e7 => ⟨iq, fun x8 e8 => ⟨iq, fun x9 e9 => ?_⟩⟩⟩⟩⟩
  have t5 := S tAr tAp (by omega) (by omega) (by omega) (by omega)
  rw [← e5] at t5
  have t6 := S (S tAq t5 (by omega) (by omega) (by omega) (by omega)) tn (by omega) (by omega) (by omega) (by omega)
  rw [← e6] at t6
  have t7 := S (S tBr tBp (by omega) (by omega) (by omega) (by omega)) tn (by omega) (by omega) (by omega) (by omega)
  rw [← e7] at t7
  have t8 := S tBq t7 (by omega) (by omega) (by omega) (by omega)
  rw [← e8] at t8
  have t9 := tCq
  rw [← e9] at t9
  refine ek_if (L t5 h0) (fun c => F0 (by omega)) (fun c5 => ek_if (L t6 h0) (fun c => F0 (by omega)) (fun c6 => ek_if (L t7 h0) (fun c => F0 (by omega)) (fun c7 => ek_if (L t8 h0) (fun c => F0 (by omega)) (fun c8 => ⟨ir, ip, ?_⟩))))
  have u1 := D (D t6 t8 (by omega) (by omega) (by omega) (by omega)) t9 (by omega) (by omega) (by omega) (by omega)
  have u2 := S tCr tCp (by omega) (by omega) (by omega) (by omega)
  refine ek_if (Q u1 u2) (fun cE => ⟨ip, ip, ?_⟩) (fun c => F0 (by omega))
  clear u1 u2
  have u3 := D tBp tn (by omega) (by omega) (by omega) (by omega)
  have u4 := D tCp t6 (by omega) (by omega) (by omega) (by omega)
  have u5 := D u4 t8 (by omega) (by omega) (by omega) (by omega)
  have u6 := D t5 tn (by omega) (by omega) (by omega) (by omega)
  have u7 := D t7 t8 (by omega) (by omega) (by omega) (by omega)
  have w218 : ∀ a b c : Int32, (a = 0 ∨ b = 0 ∨ c = 0 → post 0) → (¬ a = 0 → ¬ b = 0 → ¬ c = 0 → post 1) → wX_fits_218 post a b c 53 sr_rA sr_rB sr_rC co ma cm := by
    intro a b c g0 g1
    exact br_c (fun z => g0 (Or.inl z)) (fun za => br_c (fun z => g0 (Or.inr (Or.inl z))) (fun zb => br_c (fun z => g0 (Or.inr (Or.inr z))) (fun zc => g1 za zb zc)))
  have w184 : ∀ a b : Int32, (a = 0 ∨ b = 0 → post 0) → ((¬ a = 0 → ¬ b = 0 → sr_B r - sr_B p - n ≤ sr_A r - sr_A p → sr_C q ≤ sr_B r - sr_B p - n → sr_B r - sr_B p - n + (sr_B q - (sr_B r - sr_B p - n)) ≤ (sr_A r - sr_A p) + n → post 1)) →
      wX_fits_184 post (nI n) x5 x7 x8 x9 a b 53 sr_rA sr_rB sr_rC co ma cm := by
    intro a b g0 g1
    have k0 : (¬ (sr_B r - sr_B p - n ≤ sr_A r - sr_A p ∧ sr_C q ≤ sr_B r - sr_B p - n ∧ sr_B r - sr_B p - n + (sr_B q - (sr_B r - sr_B p - n)) ≤ (sr_A r - sr_A p) + n)) → wX_fits_217 post a b 53 sr_rA sr_rB sr_rC co ma cm := by
      intro z
      exact w218 a b 0 (fun _ => F0 (fun y => z y.2.2.2.2.2.2.2.2)) (fun _ _ c => absurd rfl c)
    refine ek_if (L t5 t7) (fun c => k0 (by omega)) (fun c1 => ek_if (L t7 t9) (fun c => k0 (by omega)) (fun c2 => ek_if (L u6 u7) (fun c => k0 (by omega)) (fun c3 => ?_)))
    exact w218 a b 1 (fun z => g0 (by rcases z with z | z | z; exact Or.inl z; exact Or.inr z; exact absurd z (by decide))) (fun za zb _ => g1 za zb (by omega) (by omega) (by omega))
  have w153 : ∀ a : Int32, (a = 0 → post 0) → (¬ a = 0 → sr_B p + n ≤ sr_A p ∧ sr_C p + (sr_A q - (sr_A r - sr_A p) - n) ≤ sr_B p) → wX_fits_153 post (nI p) (nI n) x5 x6 x7 x8 x9 a 53 sr_rA sr_rB sr_rC co ma cm := by
    intro a g0 g1
    unfold wX_fits_153
    rw [nI_clamp (n := p) (by omega)]
    refine ⟨ip, ip, ek_if (L u3 u5) (fun c => ?_) (fun c => ?_)⟩
    · exact w184 a 0 (fun _ => F0 (by omega)) (fun _ z => absurd rfl z)
    · exact w184 a 1 (fun z => by rcases z with z | z; exact g0 z; exact absurd z (by decide)) (fun za _ y1 y2 y3 => F1 (by have := g1 za; omega))
  refine ek_if (L tAp u3) (fun c => w153 0 (fun _ => F0 (by omega)) (fun z => absurd rfl z)) (fun c1 => ⟨ip, ip, ek_if (L tBp u4) (fun c => w153 0 (fun _ => F0 (by omega)) (fun z => absurd rfl z)) (fun c2 => ?_)⟩)
  exact w153 1 (fun z => absurd z (by decide)) (fun _ => by omega)
theorem sr_x_cf {post : Int32 → Prop} {p q r : Nat} (hp : p < 53) (hq : q < 53) (hr : r < 53) (h : post (nI (sr_lr p q r))) :
    wpX_countFillings post (53, sr_rA, sr_rB, sr_rC, co, ma, cm) (nI p) (nI q) (nI r) := by
  have bBr := sr_B9 r
  have bBp := sr_B9 p
  have ip : vp_in (nI p) 60 := vp_in_nI (by omega) (by decide)
  have ir : vp_in (nI r) 60 := vp_in_nI (by omega) (by decide)
  have C : ∀ k : Nat, k < 60 → (sr_rB r - sr_rB p < nI k ↔ sr_B r < sr_B p + k) := by
    intro k hk
    rw [Int32.lt_iff_toInt_lt, nI_toInt (by omega), show (sr_rB r - sr_rB p).toInt = (sr_B r : Int) - sr_B p from pk_sub_toInt (by omega) (by omega)]
    omega
  refine loop_0 (σ := Unit) (fun n k _ => wX_countFillings_6 post (nI p) (nI q) (nI r) 53 sr_rA sr_rB sr_rC co ma cm n (nI (sr_ns k (fun n => (sr_fB p q r n).toNat))) (nI k)) (fun _ _ => True) (sr_B r + 1 - sr_B p) () trivial ?_ ?_
  · intro n _ _
    show wX_countFillings_6 post _ _ _ 53 sr_rA sr_rB sr_rC co ma cm (n + 1) _ _
    rw [wX_countFillings_6]
    dsimp only
    rw [nI_clamp (n := p) (by omega), nI_clamp (n := r) (by omega)]
    exact ⟨ir, ip, br_t ((C _ (by omega)).mpr (by omega)) h⟩
  · intro n k _ hk _ ih
    have ih' := ih () trivial
    show wX_countFillings_6 post _ _ _ 53 sr_rA sr_rB sr_rC co ma cm (n + 1) _ _
    rw [wX_countFillings_6]
    dsimp only
    rw [nI_clamp (n := p) (by omega), nI_clamp (n := r) (by omega)]
    refine ⟨ir, ip, br_f (fun z => by have := (C k (by omega)).mp z; omega) (sr_x_fits hp hq hr (by omega) ?_)⟩
    have s : sr_ns (k + 1) (fun n => (sr_fB p q r n).toNat) = sr_ns k (fun n => (sr_fB p q r n).toNat) + (sr_fB p q r k).toNat := rfl
    rw [s] at ih'
    by_cases f : sr_fB p q r k = true
    · rw [if_pos f]
      rw [f] at ih'
      exact br_f (by decide) (nm_r (nI_1 _) (nm_r (nI_1 k) ih'))
    · rw [if_neg f]
      rw [Bool.not_eq_true] at f
      rw [f] at ih'
      exact br_t rfl (nm_r (nI_1 k) ih')
end
end
section
theorem sr_sgS (k : Nat) (f : Nat → Int32) : sr_sg (k + 1) f = sr_sg k f + f k := rfl
theorem sr_upd {f : Nat → Int32} {k j : Nat} {x : Int32} : upd f k x j = if j = k then x else f j := rfl
section
variable {co ma cm : Nat → Int32}
theorem sr_x_clear {post : SX → Prop} (h : ∀ ma' : Nat → Int32, (∀ s, s < 53 → ma' s = 0) → post (53, sr_rA, sr_rB, sr_rC, co, ma', cm)) : wpX_clearMade post (53, sr_rA, sr_rB, sr_rC, co, ma, cm) := by
  refine loop_0 (fun n k ma' => wX_clearMade_2 post 53 n (nI k) sr_rA sr_rB sr_rC co ma' cm) (fun k ma' => ∀ s, s < k → ma' s = 0) 60 ma (fun s hs => by omega) ?_ ?_
  · intro n ma' I
    exact br_t (nI_le (a := 60) (by omega) (by decide)) (h ma' (fun s hs => I s (by omega)))
  · intro n k ma' hk I ih
    refine br_f (nI_ge (b := 60) hk (by decide)) ⟨vp_in_nI (by omega) (by decide), nm_r (e' := upd ma' k 0) (by rw [nI_clamp (by omega)]) (nm_r (nI_1 k) (ih _ (fun s hs => ?_)))⟩
    rw [sr_upd]
    by_cases e : s = k
    · rw [if_pos e]
    · rw [if_neg e]; exact I s (by omega)
theorem sr_x_keep {post : SX → Prop} {e : Nat} (he : e < 2) (h : ∀ co' : Nat → Int32, (∀ s, s < 53 → co' (60 * e + s) = ma s) → (∀ e' s, e' < 2 → e' ≠ e → s < 53 → co' (60 * e' + s) = co (60 * e' + s)) → post (53, sr_rA, sr_rB, sr_rC, co', ma, cm)) :
    wpX_keepMade post (53, sr_rA, sr_rB, sr_rC, co, ma, cm) (nI e) := by
  refine loop_0 (fun n k co' => wX_keepMade_2 post (nI e) 53 n (nI k) sr_rA sr_rB sr_rC co' ma cm) (fun k co' => (∀ s, s < k → co' (60 * e + s) = ma s) ∧ (∀ e' s, e' < 2 → e' ≠ e → s < 53 → co' (60 * e' + s) = co (60 * e' + s))) 60 co ⟨fun s hs => by omega, fun _ _ _ _ _ => rfl⟩ ?_ ?_
  · intro n co' I
    exact br_t (nI_le (a := 60) (by omega) (by decide)) (h co' (fun s hs => I.1 s (by omega)) I.2)
  · intro n k co' hk I ih
    refine br_f (nI_ge (b := 60) hk (by decide)) ⟨vp_in_nI (by omega) (by decide), by rw [sr_ad60]; exact vp_in_nI (by omega) (by decide), nm_r (e' := upd co' (60 * e + k) (ma k)) (by rw [sr_ad60, nI_clamp (by omega), nI_clamp (by omega)]) (nm_r (nI_1 k) (ih _ ⟨fun s hs => ?_, fun e' s h1 h2 h3 => ?_⟩))⟩
    · rw [sr_upd]
      by_cases z : s = k
      · rw [if_pos (by omega), z]
      · rw [if_neg (by omega)]; exact I.1 s (by omega)
    · rw [sr_upd, if_neg (by omega)]; exact I.2 e' s h1 h2 h3
theorem sr_x_mul {post : SX → Prop} {p q : Nat} (hp : p < 53) (hq : q < 53) (n : Int32) (h : ∀ ma' : Nat → Int32, (∀ r, r < 53 → ma' r = ma r + n * nI (sr_lR p q r)) → post (53, sr_rA, sr_rB, sr_rC, co, ma', cm)) :
    wpX_multiply post (53, sr_rA, sr_rB, sr_rC, co, ma, cm) (nI p) (nI q) n := by
  have zp := sr_Z9 hp
  have zq := sr_Z9 hq
  unfold wpX_multiply
  dsimp only
  refine sr_x_size (by omega) (sr_x_size (by omega) (nm_r (nI_add _ _) ?_))
  refine loop_0 (fun m k ma' => wX_multiply_16 post (nI p) (nI q) n (nI (sr_Z p + sr_Z q)) 53 m (nI k) sr_rA sr_rB sr_rC co ma' cm) (fun k ma' => (∀ r, r < k → ma' r = ma r + n * nI (sr_lR p q r)) ∧ (∀ r, k ≤ r → ma' r = ma r)) 53 ma ⟨fun s hs => by omega, fun _ _ => rfl⟩ ?_ ?_
  · intro m ma' I
    exact br_t (nI_le (a := 53) (by omega) (by decide)) (h ma' I.1)
  · intro m k ma' hk I ih
    have zk := sr_Z9 hk
    have i : vp_in (nI k) 60 := vp_in_nI (by omega) (by decide)
    refine br_f (nI_ge (b := 53) hk (by decide)) (sr_x_size (by omega) (pk_eq (sr_Z k) (sr_Z p + sr_Z q) (fun e => sr_x_cf hp hq hk ⟨i, i, nm_r (e' := upd ma' k (ma' k + n * nI (sr_lr p q k))) (by rw [nI_clamp (by omega)]) (nm_r (nI_1 k) (ih _ ⟨fun s hs => ?_, fun s hs => ?_⟩))⟩) (fun e => nm_r (nI_1 k) (ih _ ⟨fun s hs => ?_, fun s hs => I.2 s (by omega)⟩))))
    · rw [sr_upd]
      by_cases z : s = k
      · rw [if_pos z, z, I.2 k (by omega), sr_lR_lr]
      · rw [if_neg z]; exact I.1 s (by omega)
    · rw [sr_upd, if_neg (by omega)]; exact I.2 s (by omega)
    · by_cases z : s = k
      · subst z
        rw [I.2 s (by omega), sr_lR_lr, sr_lr0 e, show nI 0 = 0 from rfl, sr_m0r]; grind
      · exact I.1 s (by omega)
theorem sr_x_deg {post : Int32 → Prop} {e : Nat} (he : e < 2) (h : ∀ r, sr_top 53 (fun s => co (60 * e + s) ≠ 0) sr_Z r → post r) : wpX_degreeOf post (53, sr_rA, sr_rB, sr_rC, co, ma, cm) (nI e) := by
  refine loop_0 (fun n k r => wX_degreeOf_5 post (nI e) 53 sr_rA sr_rB sr_rC co ma cm n r (nI k)) (fun k r => sr_top k (fun s => co (60 * e + s) ≠ 0) sr_Z r) 53 (-4) (sr_top0 _ _) ?_ ?_
  · intro n r I
    exact br_t (nI_le (a := 53) (by omega) (by decide)) (h r I)
  · intro n k r hk I ih
    have zk := sr_Z9 hk
    refine br_f (nI_ge (b := 53) hk (by decide)) (sr_x_size (by omega) (sr_x_get he (by omega) (br_c (fun z => nm_r (nI_1 k) (ih _ (sr_top_n I (fun y => y z)))) (fun z => br_c (fun y => nm_r (nI_1 k) (ih _ (sr_top_le I zk y))) (fun y => nm_r (nI_1 k) (ih _ (sr_top_gt I zk z y)))))))
/-- times a shape -/
theorem sr_x_ts {post : Int32 → SX → Prop} {e q : Nat} (he : e < 2) (hq : q < 53) (h : ∀ co' ma' : Nat → Int32, (∀ s, s < 53 → co' (60 * e + s) = sr_sg 53 (fun p => co (60 * e + p) * nI (sr_lR p q s))) → (∀ e' s, e' < 2 → e' ≠ e → s < 53 → co' (60 * e' + s) = co (60 * e' + s)) → post 0 (53, sr_rA, sr_rB, sr_rC, co', ma', cm)) :
    wX_timesShape_48 post (nI e) (nI q) 53 sr_rA sr_rB sr_rC co ma cm := by
  unfold wX_timesShape_48
  refine sr_x_clear (fun ma0 h0 => ?_)
  dsimp only
  refine loop_0 (fun n k ma' => wX_timesShape_55 post (nI e) (nI q) n (nI k) 53 sr_rA sr_rB sr_rC co ma' cm) (fun k ma' => ∀ r, r < 53 → ma' r = sr_sg k (fun p => co (60 * e + p) * nI (sr_lR p q r))) 53 ma0 h0 ?_ ?_
  · intro n ma' I
    refine br_t (nI_le (a := 53) (by omega) (by decide)) (sr_x_keep he (fun co' h1 h2 => ?_))
    exact h co' ma' (fun s hs => by rw [h1 s hs, I s hs]) h2
  · intro n k ma' hk I ih
    refine br_f (nI_ge (b := 53) hk (by decide)) (sr_x_get he (by omega) (br_c (fun z => nm_r (nI_1 k) (ih _ (fun r hr => ?_))) (fun z => sr_x_mul hk hq _ (fun ma1 h1 => nm_r (nI_1 k) (ih _ (fun r hr => ?_))))))
    · rw [sr_sgS]
      rw [I r hr, z, sr_m0]; grind
    · rw [h1 r hr, I r hr]; rfl
theorem sr_x_pr {post : Int32 → SX → Prop} (h : ∀ co' ma' : Nat → Int32, (∀ s, s < 53 → co' s = sr_sg (53 * 53) (fun k => co (k / 53) * co (60 + k % 53) * nI (sr_lR (k / 53) (k % 53) s))) → (∀ s, s < 53 → co' (60 + s) = co (60 + s)) → post 0 (53, sr_rA, sr_rB, sr_rC, co', ma', cm)) :
    wX_product_31 post 53 sr_rA sr_rB sr_rC co ma cm := by
  unfold wX_product_31
  refine sr_x_clear (fun ma0 h0 => ?_)
  dsimp only
  refine loop_0 (fun n k ma' => wX_product_37 post n (nI k) 53 sr_rA sr_rB sr_rC co ma' cm) (fun k ma' => ∀ r, r < 53 → ma' r = sr_sg k (fun k => co (k / 53) * co (60 + k % 53) * nI (sr_lR (k / 53) (k % 53) r))) (53 * 53) ma0 h0 ?_ ?_
  · intro n ma' I
    refine br_t (show (53 : Int32) * 53 ≤ nI (53 * 53) by decide) (sr_x_keep (e := 0) (by decide) (fun co' h1 h2 => ?_))
    exact h co' ma' (fun s hs => by have := h1 s hs; rw [Nat.mul_zero, Nat.zero_add] at this; rw [this, I s hs]) (fun s hs => h2 1 s (by decide) (by decide) hs)
  · intro n k ma' hk I ih
    have n53 : ¬ (53 : Int32) = 0 := by decide
    have kd : nI k / 53 = nI (k / 53) := pk_div (d := 53) (by omega) (by decide) (by decide)
    have kr : nI k - nI k / 53 * 53 = nI (k % 53) := pk_rem (d := 53) (by omega) (by decide) (by decide)
    have hb : ¬ (53 : Int32) * 53 ≤ nI k := nI_ge (b := 53 * 53) hk (by decide)
    show wX_product_37 post (n + 1) (nI k) 53 sr_rA sr_rB sr_rC co ma' cm
    rw [wX_product_37]
    dsimp only
    rw [kr, kd]
    refine br_f hb ⟨n53, sr_x_get (e := 0) (by decide) (by omega) ⟨n53, sr_x_get (e := 1) (by decide) (by omega) ?_⟩⟩
    rw [Nat.mul_zero, Nat.zero_add]
    refine nm_e (br_c (fun z => nm_r (nI_1 k) (ih _ (fun r hr => ?_))) (fun z => ⟨n53, n53, sr_x_mul (by omega) (by omega) _ (fun ma1 h1 => nm_r (nI_1 k) (ih _ (fun r hr => ?_)))⟩))
    · rw [sr_sgS]
      rw [I r hr]
      have z' : co (k / 53) * co (60 + k % 53) = 0 := z
      rw [z', sr_m0]; grind
    · show ma1 r = _
      rw [h1 r hr, I r hr]; rfl
theorem sr_x_sk {post : Int32 → SX → Prop} {e p : Nat} (he : e < 2) (hp : p < 53) (h : ∀ co' ma' : Nat → Int32, (∀ s, s < 53 → co' (60 * e + s) = sr_sg 53 (fun r => co (60 * e + r) * nI (sr_lR p s r))) → (∀ e' s, e' < 2 → e' ≠ e → s < 53 → co' (60 * e' + s) = co (60 * e' + s)) → post 0 (53, sr_rA, sr_rB, sr_rC, co', ma', cm)) :
    wpX_clearMade (fun u => match u with | (f_count, a_rowA, a_rowB, a_rowC, a_coefficients, a_made, a_complete) => (∃ n27 : Nat, wX_skew_27 post (nI e) (nI p) f_count n27 0 a_rowA a_rowB a_rowC a_coefficients a_made a_complete)) (53, sr_rA, sr_rB, sr_rC, co, ma, cm) := by
  refine sr_x_clear (fun ma0 h0 => ?_)
  dsimp only
  refine loop_0 (fun n k ma' => wX_skew_27 post (nI e) (nI p) 53 n (nI k) sr_rA sr_rB sr_rC co ma' cm) (fun k ma' => ∀ s, s < 53 → ma' s = sr_sg k (fun k => if k / 53 = s then co (60 * e + k % 53) * nI (sr_lR p s (k % 53)) else 0)) (53 * 53) ma0 h0 ?_ ?_
  · intro n ma' I
    refine br_t (show (53 : Int32) * 53 ≤ nI (53 * 53) by decide) (sr_x_keep he (fun co' h1 h2 => ?_))
    refine h co' ma' (fun s hs => ?_) h2
    rw [h1 s hs, I s hs, sr_sg_mm, sr_sg_1 s hs (fun w _ n => sr_sg_z (fun k hk => if_neg (by omega)))]
    exact sr_sg_c (fun k hk => by rw [if_pos (by omega), show (53 * s + k) % 53 = k by omega])
  · intro n k ma' hk I ih
    have n53 : ¬ (53 : Int32) = 0 := by decide
    have kd : nI k / 53 = nI (k / 53) := pk_div (d := 53) (by omega) (by decide) (by decide)
    have kr : nI k - nI k / 53 * 53 = nI (k % 53) := pk_rem (d := 53) (by omega) (by decide) (by decide)
    have hb : ¬ (53 : Int32) * 53 ≤ nI k := nI_ge (b := 53 * 53) hk (by decide)
    have i : vp_in (nI (k / 53)) 60 := vp_in_nI (by omega) (by decide)
    refine br_f hb ⟨n53, nm_r kd ⟨n53, nm_r kr (sr_x_get he (by omega) (br_c (fun z => nm_r (nI_1 k) (ih _ (fun s hs => ?_))) (fun z => ⟨i, sr_x_cf hp (by omega) (by omega) ⟨i, nm_r (e' := upd ma' (k / 53) (ma' (k / 53) + co (60 * e + k % 53) * nI (sr_lr p (k / 53) (k % 53)))) (by rw [nI_clamp (by omega)]) (nm_r (nI_1 k) (ih _ (fun s hs => ?_)))⟩⟩)))⟩⟩
    · rw [sr_sgS]
      rw [I s hs, z]
      simp only [sr_m0, ite_self]
      grind
    · rw [sr_sgS]
      rw [sr_upd]
      by_cases z1 : s = k / 53
      · rw [if_pos z1, if_pos z1.symm, I _ (by omega), sr_lR_lr, ← z1]
      · rw [if_neg z1, if_neg (fun y => z1 y.symm), I s hs]; grind
end
end
section
def sr_sn (g : Bool) : Int32 := if g = true then -1 else 1
theorem sr_sn_n (g : Bool) : - sr_sn g = sr_sn (!g) := by cases g <;> decide
theorem sr_fd_s {s a b c : Nat} (hs : s < 53) (e1 : sr_A s = a) (e2 : sr_B s = b) (e3 : sr_C s = c) : sr_fd a b c = s := by
  have h1 := sr_A9 s
  have h2 := sr_B9 s
  have h3 := sr_C9 s
  unfold sr_fd
  rw [if_pos ⟨by omega, by omega, by omega⟩, ← e1, ← e2, ← e3, show 100 * sr_C s + 10 * sr_B s + sr_A s = sr_S s from (sr_S_abc s).symm]
  exact (sr_S_ok s hs).2.2.2.2
theorem sr_sx_lt : ∀ c, c < 1000 → sr_sx c < 53 → sr_S (sr_sx c) = c := by decide +kernel
theorem sr_fd_n {a b c : Nat} (h : ∀ s, s < 53 → ¬ (sr_A s = a ∧ sr_B s = b ∧ sr_C s = c)) : ¬ sr_fd a b c < 53 := by
  unfold sr_fd
  by_cases z : a < 10 ∧ b < 10 ∧ c < 10
  · rw [if_pos z]
    intro y
    have e := sr_sx_lt (100 * c + 10 * b + a) (by omega) y
    refine h _ y ⟨?_, ?_, ?_⟩
    · unfold sr_A; rw [e]; omega
    · unfold sr_B; rw [e]; omega
    · unfold sr_C; rw [e]; omega
  · rw [if_neg z]; omega
def sr_b3 (x : Nat × Nat × Nat × Bool) : Prop := x.1 ≤ 30 ∧ x.2.1 ≤ 30 ∧ x.2.2.1 ≤ 30
theorem sr_r1_b {x : Nat × Nat × Nat × Bool} (h : sr_b3 x) : sr_b3 (sr_r1 x) := by
  unfold sr_r1
  by_cases c : x.1 < x.2.1
  · rw [if_pos c]; exact ⟨h.2.1, h.1, h.2.2⟩
  · rw [if_neg c]; exact h
theorem sr_r2_b {x : Nat × Nat × Nat × Bool} (h : sr_b3 x) : sr_b3 (sr_r2 x) := by
  unfold sr_r2
  by_cases c : x.2.1 < x.2.2.1
  · rw [if_pos c]; exact ⟨h.1, h.2.2, h.2.1⟩
  · rw [if_neg c]; exact h
theorem sr_rr_b {x : Nat × Nat × Nat × Bool} (h : sr_b3 x) : sr_b3 (sr_rr x) := sr_r2_b (sr_r1_b h)
theorem sr_rr_1 (x : Nat × Nat × Nat × Bool) : (sr_rr x).2.2.1 ≤ (sr_rr x).1 ∧ (sr_rr x).2.2.1 ≤ (sr_rr x).2.1 := by
  obtain ⟨a, b, c, g⟩ := x
  unfold sr_rr sr_r1 sr_r2
  by_cases h : a < b
  · rw [if_pos h]
    dsimp only
    by_cases h2 : a < c
    · rw [if_pos h2]; dsimp only; omega
    · rw [if_neg h2]; dsimp only; omega
  · rw [if_neg h]
    dsimp only
    by_cases h2 : b < c
    · rw [if_pos h2]; dsimp only; omega
    · rw [if_neg h2]; dsimp only; omega
theorem sr_rr_2 {x : Nat × Nat × Nat × Bool} (h : x.2.2.1 ≤ x.1 ∧ x.2.2.1 ≤ x.2.1) : (sr_rr x).2.1 ≤ (sr_rr x).1 ∧ (sr_rr x).2.2.1 ≤ (sr_rr x).2.1 := by
  obtain ⟨a, b, c, g⟩ := x
  dsimp only at h
  unfold sr_rr sr_r1 sr_r2
  by_cases h1 : a < b
  · rw [if_pos h1]
    dsimp only
    rw [if_neg (by omega)]; dsimp only; omega
  · rw [if_neg h1]
    dsimp only
    rw [if_neg (by omega)]; dsimp only; omega
theorem sr_s3_so (p row r : Nat) : (sr_s3 p row r).2.1 ≤ (sr_s3 p row r).1 ∧ (sr_s3 p row r).2.2.1 ≤ (sr_s3 p row r).2.1 := by
  unfold sr_s3
  generalize sr_st p row r = x
  exact sr_rr_2 (x := sr_rr (sr_rr x)) (sr_rr_1 (sr_rr x))
theorem sr_s3_b {p row r : Nat} (b0 : sr_b3 (sr_st p row r)) : sr_b3 (sr_s3 p row r) := by
  unfold sr_s3
  generalize sr_st p row r = x at b0 ⊢
  exact sr_rr_b (sr_rr_b (sr_rr_b b0))
section
variable {co ma cm : Nat → Int32}
theorem sr_x_96 {post : SX → Prop} {J : Int32 → Int32 → Int32 → Int32 → Int32 → Prop} {n : Int32} {t : Nat} {x : Nat × Nat × Nat × Bool} (b : sr_b3 x)
    (h : J (nI (sr_r2 x).1) (nI (sr_r2 x).2.1) (nI (sr_r2 x).2.2.1) (sr_sn (sr_r2 x).2.2.2) (nI (t + 1))) :
    wX_shift_96 post J n (nI x.1) (nI x.2.1) (nI x.2.2.1) (sr_sn x.2.2.2) (nI t) 53 sr_rA sr_rB sr_rC co ma cm := by
  obtain ⟨b1, b2, b3⟩ := b
  unfold sr_r2 at h
  refine pk_le x.2.2.1 x.2.1 (fun c => nm_r (nI_1 t) ?_) (fun c => nm_r (sr_sn_n _) (nm_r (nI_1 t) ?_))
  · rw [if_neg (by omega)] at h; exact h
  · rw [if_pos c] at h; exact h
theorem sr_x_66 {post : SX → Prop} {n : Int32} {t m : Nat} {x : Nat × Nat × Nat × Bool} (ht : t < 3) (b : sr_b3 x)
    (h : wX_shift_66 post n 53 sr_rA sr_rB sr_rC co ma cm m (nI (sr_rr x).1) (nI (sr_rr x).2.1) (nI (sr_rr x).2.2.1) (sr_sn (sr_rr x).2.2.2) (nI (t + 1))) :
    wX_shift_66 post n 53 sr_rA sr_rB sr_rC co ma cm (m + 1) (nI x.1) (nI x.2.1) (nI x.2.2.1) (sr_sn x.2.2.2) (nI t) := by
  obtain ⟨b1, b2, b3⟩ := b
  refine br_f (nI_ge (b := 3) ht (by decide)) (pk_le x.2.1 x.1 (fun c => ?_) (fun c => nm_r (sr_sn_n _) ?_))
  · have e : sr_r1 x = x := if_neg (by omega)
    refine sr_x_96 ⟨b1, b2, b3⟩ ?_
    unfold sr_rr at h; rw [e] at h; exact h
  · have e : sr_r1 x = (x.2.1, x.1, x.2.2.1, !x.2.2.2) := if_pos c
    refine sr_x_96 (x := (x.2.1, x.1, x.2.2.1, !x.2.2.2)) ⟨b2, b1, b3⟩ ?_
    unfold sr_rr at h; rw [e] at h; exact h
theorem sr_x_shift {post : SX → Prop} {p row r : Nat} (hp : p < 53) (hr : r ≤ 9) (hrow : row < 3) (n : Int32) (h : ∀ ma' : Nat → Int32, (∀ s, s < 53 → ma' s = ma s + n * sr_ww p row r s) → post (53, sr_rA, sr_rB, sr_rC, co, ma', cm)) :
    wpX_shift post (53, sr_rA, sr_rB, sr_rC, co, ma, cm) (nI p) (nI row) (nI r) n := by
  have bA := sr_A9 p
  have bB := sr_B9 p
  have bC := sr_C9 p
  have ip : vp_in (nI p) 60 := vp_in_nI (by omega) (by decide)
  have ep : (nI p).toNatClampNeg = p := nI_clamp (by omega)
  have b0 : sr_b3 (sr_st p row r) := by
    unfold sr_st sr_b3
    dsimp only
    refine ⟨?_, ?_, ?_⟩
    · by_cases z : row = 0
      · rw [if_pos z]; omega
      · rw [if_neg z]; omega
    · by_cases z : row = 1
      · rw [if_pos z]; omega
      · rw [if_neg z]; omega
    · by_cases z : row = 2
      · rw [if_pos z]; omega
      · rw [if_neg z]; omega
  -- the end: sorted rows
  have fin : ∀ m, wX_shift_66 post n 53 sr_rA sr_rB sr_rC co ma cm (m + 1) (nI (sr_s3 p row r).1) (nI (sr_s3 p row r).2.1) (nI (sr_s3 p row r).2.2.1) (sr_sn (sr_s3 p row r).2.2.2) (nI 3) := by
    intro m
    have b3 : sr_b3 (sr_s3 p row r) := sr_s3_b b0
    have so : (sr_s3 p row r).2.1 ≤ (sr_s3 p row r).1 ∧ (sr_s3 p row r).2.2.1 ≤ (sr_s3 p row r).2.1 := sr_s3_so p row r
    have same : (¬ sr_sI p row r < 53) → post (53, sr_rA, sr_rB, sr_rC, co, ma, cm) := fun z => h ma (fun s hs => by
      unfold sr_ww
      rw [if_neg (by omega), sr_m0r]; grind)
    have si : sr_sI p row r = if (sr_s3 p row r).1 = (sr_s3 p row r).2.1 ∨ (sr_s3 p row r).2.1 = (sr_s3 p row r).2.2.1 then 53 else sr_fd ((sr_s3 p row r).1 - 2) ((sr_s3 p row r).2.1 - 1) (sr_s3 p row r).2.2.1 := rfl
    have sg : sr_sG p row r = (sr_s3 p row r).2.2.2 := rfl
    have wpe : sr_wp p row r = if sr_sI p row r < 53 then (if sr_sG p row r = true then 0 else 1) else 0 := rfl
    have wne : sr_wn p row r = if sr_sI p row r < 53 then (if sr_sG p row r = true then 1 else 0) else 0 := rfl
    rw [sg] at wpe wne
    generalize sr_s3 p row r = y at *
    obtain ⟨a, b, c, g⟩ := y
    obtain ⟨b1, b2, b3⟩ := b3
    dsimp only at *
    refine br_t (nI_le (a := 3) (by omega) (by decide)) (pk_eq a b (fun e => same (by rw [si, if_pos (Or.inl e)]; omega)) (fun e1 => pk_eq b c (fun e => same (by rw [si, if_pos (Or.inr e)]; omega)) (fun e2 => ?_)))
    rw [show nI a - 2 = nI (a - 2) from pk_sub (b := 2) (by omega), show nI b - 1 = nI (b - 1) from pk_sub (b := 1) (by omega)]
    rw [if_neg (by omega)] at si
    refine sr_x_find (by omega) (by omega) (by omega) (fun s hs f1 f2 f3 => ?_) (fun q => br_t (by decide) (same (by rw [si]; exact sr_fd_n q)))
    rw [sr_fd_s hs f1 f2 f3] at si
    have is : vp_in (nI s) 60 := vp_in_nI (by omega) (by decide)
    refine br_f (nI_pos (by omega)) ⟨is, is, nm_r (e' := upd ma s (ma s + sr_sn g * n)) (by rw [nI_clamp (by omega)]) (h _ (fun s' hs' => ?_))⟩
    rw [sr_upd]
    unfold sr_ww
    rw [si, if_pos hs] at wpe wne
    rw [si, wpe, wne]
    by_cases z : s' = s
    · rw [if_pos z, if_pos z, z]
      cases g
      · show ma s + 1 * n = ma s + n * (1 - 0); grind
      · show ma s + (-1) * n = ma s + n * (0 - 1); grind
    · rw [if_neg z, if_neg z, sr_m0r]; grind
  have all : wX_shift_66 post n 53 sr_rA sr_rB sr_rC co ma cm 4 (nI (sr_st p row r).1) (nI (sr_st p row r).2.1) (nI (sr_st p row r).2.2.1) (sr_sn (sr_st p row r).2.2.2) (nI 0) :=
    sr_x_66 (by decide) b0 (sr_x_66 (by decide) (sr_rr_b b0) (sr_x_66 (by decide) (sr_rr_b (sr_rr_b b0)) (fin 0)))
  have c38 : ∀ (u : Int32) (v w : Int32), u = nI (sr_st p row r).1 → v + w = nI (sr_st p row r).2.1 → wX_shift_38 post (nI p) (nI row) (nI r) n u w v 53 sr_rA sr_rB sr_rC co ma cm := by
    intro u v w hu hv
    unfold wX_shift_38
    rw [ep, hu]
    refine nm_r hv ⟨ip, pk_eq row 2 (fun z => nm_r (e' := nI (sr_st p row r).2.2.1) ?_ ⟨4, all⟩) (fun z => nm_r (e' := nI (sr_st p row r).2.2.1) ?_ ⟨4, all⟩)⟩
    · show nI (sr_C p) + nI r = nI (sr_C p + (if row = 2 then r else 0))
      rw [if_pos z, nI_add]
    · show nI (sr_C p) + nI 0 = nI (sr_C p + (if row = 2 then r else 0))
      rw [if_neg z, nI_add]
  have c17 : ∀ v w : Int32, v + w = nI (sr_st p row r).1 → wX_shift_17 post (nI p) (nI row) (nI r) n w v 53 sr_rA sr_rB sr_rC co ma cm := by
    intro v w hv
    unfold wX_shift_17
    rw [ep]
    refine nm_r hv ⟨ip, pk_eq row 1 (fun z => c38 _ _ _ rfl ?_) (fun z => c38 _ _ _ rfl ?_)⟩
    · show nI (sr_B p) + nI 1 + nI r = nI (sr_B p + 1 + (if row = 1 then r else 0))
      rw [if_pos z, nI_add, nI_add]
    · show nI (sr_B p) + nI 1 + nI 0 = nI (sr_B p + 1 + (if row = 1 then r else 0))
      rw [if_neg z, nI_add, nI_add]
  unfold wpX_shift
  dsimp only
  rw [ep]
  refine ⟨ip, pk_eq row 0 (fun z => c17 _ _ ?_) (fun z => c17 _ _ ?_)⟩
  · show nI (sr_A p) + nI 2 + nI r = nI (sr_A p + 2 + (if row = 0 then r else 0))
    rw [if_pos z, nI_add, nI_add]
  · show nI (sr_A p) + nI 2 + nI 0 = nI (sr_A p + 2 + (if row = 0 then r else 0))
    rw [if_neg z, nI_add, nI_add]
/-- times a sum of powers -/
theorem sr_x_tp {post : Int32 → SX → Prop} {e r : Nat} (he : e < 2) (hr : r ≤ 9) (h : ∀ co' ma' : Nat → Int32, (∀ s, s < 53 → co' (60 * e + s) = sr_sg 53 (fun p => co (60 * e + p) * sr_sg 3 (fun row => sr_ww p row r s))) → (∀ e' s, e' < 2 → e' ≠ e → s < 53 → co' (60 * e' + s) = co (60 * e' + s)) → post 0 (53, sr_rA, sr_rB, sr_rC, co', ma', cm)) :
    wX_timesPower_42 post (nI e) (nI r) 53 sr_rA sr_rB sr_rC co ma cm := by
  unfold wX_timesPower_42
  refine sr_x_clear (fun ma0 h0 => ?_)
  dsimp only
  refine loop_0 (fun n k ma' => wX_timesPower_49 post (nI e) (nI r) n (nI k) 53 sr_rA sr_rB sr_rC co ma' cm) (fun k ma' => ∀ s, s < 53 → ma' s = sr_sg k (fun p => co (60 * e + p) * sr_sg 3 (fun row => sr_ww p row r s))) 53 ma0 h0 ?_ ?_
  · intro n ma' I
    refine br_t (nI_le (a := 53) (by omega) (by decide)) (sr_x_keep he (fun co' h1 h2 => ?_))
    exact h co' ma' (fun s hs => by rw [h1 s hs, I s hs]) h2
  · intro n k ma' hk I ih
    refine br_f (nI_ge (b := 53) hk (by decide)) (sr_x_get he (by omega) ?_)
    refine loop_0 (fun m row ma1 => wX_timesPower_70 post (wX_timesPower_49 post (nI e) (nI r) n) (nI e) (nI r) (nI k) (co (60 * e + k)) m (nI row) 53 sr_rA sr_rB sr_rC co ma1 cm) (fun row ma1 => ∀ s, s < 53 → ma1 s = ma' s + co (60 * e + k) * sr_sg row (fun row => sr_ww k row r s)) 3 ma' (fun s hs => ?_) ?_ ?_
    · show _ = _ + _ * (0 : Int32)
      rw [sr_m0r]; grind
    · intro m ma1 I1
      refine br_t (nI_le (a := 3) (by omega) (by decide)) (nm_r (nI_1 k) (ih _ (fun s hs => ?_)))
      rw [sr_sgS, I1 s hs, I s hs]
    · intro m row ma1 hrow I1 ih1
      refine br_f (nI_ge (b := 3) hrow (by decide)) (br_c (fun z => nm_r (nI_1 k) (ih _ (fun s hs => ?_))) (fun z => sr_x_shift hk hr hrow _ (fun ma2 h2 => nm_r (nI_1 row) (ih1 _ (fun s hs => ?_)))))
      · rw [sr_sgS, I1 s hs, I s hs, z, sr_m0, sr_m0]
      · show ma2 s = _
        rw [sr_sgS, h2 s hs, I1 s hs]; grind
end
end
section
section
variable {co ma cm : Nat → Int32}
theorem sr_x_pat {post : Int32 → Prop} {s i j : Nat} (hs : s < 53) (hi : i ≤ 9) (hj : j ≤ 9) (h : post (nI (sr_kS s i j))) : wpX_patterns post (53, sr_rA, sr_rB, sr_rC, co, ma, cm) (nI s) (nI i) (nI j) := by
  have is : vp_in (nI s) 60 := vp_in_nI (by omega) (by decide)
  have es : (nI s).toNatClampNeg = s := nI_clamp (by omega)
  have bA := sr_A9 s
  have bB := sr_B9 s
  have bC := sr_C9 s
  have hb := sr_BA hs
  have hc := sr_CB hs
  unfold sr_kS at h
  unfold wpX_patterns
  dsimp only
  rw [es]
  have eB : sr_rB s = nI (sr_B s) := rfl
  have tA : (sr_rA s) = nI (sr_A s) := rfl
  have tC : (sr_rC s).toInt = (sr_C s : Int) := nI_toInt (by omega)
  have tB : (sr_rB s).toInt = (sr_B s : Int) := nI_toInt (by omega)
  refine ⟨is, nm_r eB ?_⟩
  generalize sr_A s = a at *
  generalize sr_B s = b at *
  generalize sr_C s = c at *
  refine (show ∃ n11, wX_patterns_11 post (nI s) (nI i) (nI j) 53 sr_rA sr_rB sr_rC co ma cm n11 (nI (sr_mn b (i + j + 1 - c) - sr_mx (sr_mx b i) (sr_mx j (i + j - b)))) (nI b) from ?_).imp (fun n w => ?_)
  · refine pk_loop (σ := Unit) (fun n k _ => wX_patterns_11 post (nI s) (nI i) (nI j) 53 sr_rA sr_rB sr_rC co ma cm n (nI (sr_mn k (i + j + 1 - c) - sr_mx (sr_mx b i) (sr_mx j (i + j - b)))) (nI k)) (fun k _ => b ≤ k) (a + 1) b () (by omega) (Nat.le_refl b) ?_ ?_
    · intro n _ _
      show wX_patterns_11 post _ _ _ 53 sr_rA sr_rB sr_rC co ma cm (n + 1) _ _
      rw [wX_patterns_11]
      dsimp only
      rw [es, tA]
      refine ⟨is, br_t (nI_lt (by omega) (by omega)) ?_⟩
      rw [show sr_mn (a + 1) (i + j + 1 - c) - sr_mx (sr_mx b i) (sr_mx j (i + j - b)) = sr_kk a b c i j by unfold sr_kk sr_mx sr_mn; omega]
      exact h
    · intro n k _ hk hbk ih
      have ih' := ih () (by omega)
      show wX_patterns_11 post _ _ _ 53 sr_rA sr_rB sr_rC co ma cm (n + 1) _ _
      rw [wX_patterns_11]
      dsimp only
      rw [es, tA, nI_add]
      have K0 : ¬ (k ≤ i + j ∧ c + k ≤ i + j ∧ i + j ≤ b + k ∧ i ≤ k ∧ j ≤ k) → wX_patterns_11 post (nI s) (nI i) (nI j) 53 sr_rA sr_rB sr_rC co ma cm n (nI (sr_mn k (i + j + 1 - c) - sr_mx (sr_mx b i) (sr_mx j (i + j - b)))) (nI (k + 1)) := by
        intro z
        rw [show sr_mn (k + 1) (i + j + 1 - c) - sr_mx (sr_mx b i) (sr_mx j (i + j - b)) = sr_mn k (i + j + 1 - c) - sr_mx (sr_mx b i) (sr_mx j (i + j - b)) by unfold sr_mx sr_mn; omega] at ih'
        exact ih'
      have K1 : (k ≤ i + j ∧ c + k ≤ i + j ∧ i + j ≤ b + k ∧ i ≤ k ∧ j ≤ k) → wX_patterns_11 post (nI s) (nI i) (nI j) 53 sr_rA sr_rB sr_rC co ma cm n (nI (sr_mn k (i + j + 1 - c) - sr_mx (sr_mx b i) (sr_mx j (i + j - b)) + 1)) (nI (k + 1)) := by
        intro z
        rw [show sr_mn (k + 1) (i + j + 1 - c) - sr_mx (sr_mx b i) (sr_mx j (i + j - b)) = sr_mn k (i + j + 1 - c) - sr_mx (sr_mx b i) (sr_mx j (i + j - b)) + 1 by unfold sr_mx sr_mn; omega] at ih'
        exact ih'
      clear ih ih'
      generalize sr_mn k (i + j + 1 - c) - sr_mx (sr_mx b i) (sr_mx j (i + j - b)) = cnt at *
      have ti : (nI i).toInt = (i : Int) := nI_toInt (by omega)
      have tk : (nI k).toInt = (k : Int) := nI_toInt (by omega)
      have t6 : (nI (i + j) - nI k).toInt = ((i + j : Nat) : Int) - k := pk_sub_toInt (by omega) (by omega)
      refine ⟨is, br_f (nI_nlt (by omega) (by omega)) (fun x6 e6 => ?_)⟩
      rw [← e6] at t6
      have L : ∀ {x y : Int32} {a b : Int}, x.toInt = a → y.toInt = b → (x < y ↔ a < b) := by
        intro x y a b hx hy
        rw [Int32.lt_iff_toInt_lt, hx, hy]
      have c57 : ∀ z0 : Int32, (z0 = 0 → ¬ (k ≤ i + j ∧ c + k ≤ i + j ∧ i + j ≤ b + k ∧ i ≤ k ∧ j ≤ k)) → (¬ z0 = 0 → k ≤ i + j ∧ c + k ≤ i + j ∧ i + j ≤ b + k) → wX_patterns_57 post (wX_patterns_11 post (nI s) (nI i) (nI j) 53 sr_rA sr_rB sr_rC co ma cm n) (nI s) (nI i) (nI j) (nI cnt) (nI k) x6 z0 53 sr_rA sr_rB sr_rC co ma cm := by
        intro z0 y0 y1
        refine br_c (fun z => nm_r (nI_1 k) (K0 (y0 z))) (fun z => ?_)
        have y2 := y1 z
        refine ek_if (L tk ti) (fun q => nm_r (nI_1 k) (K0 (by omega))) (fun q1 => ek_if (L ti t6) (fun q => nm_r (nI_1 k) (K0 (by omega))) (fun q2 => nm_r (nI_1 cnt) (nm_r (nI_1 k) (K1 (by omega)))))
      refine ⟨is, ek_if (L t6 tC) (fun q => c57 0 (fun _ => by omega) (fun z => absurd rfl z)) (fun q1 => ⟨is, ek_if (L tB t6) (fun q => c57 0 (fun _ => by omega) (fun z => absurd rfl z)) (fun q2 => c57 1 (fun z => absurd z (by decide)) (fun _ => by omega))⟩)⟩
  · rw [show sr_mn b (i + j + 1 - c) - sr_mx (sr_mx b i) (sr_mx j (i + j - b)) = 0 by unfold sr_mx sr_mn; omega] at w
    exact w
theorem sr_x_mon {post : Int32 → Prop} {e i j k : Nat} (he : e < 2) (hi : i ≤ 9) (hj : j ≤ 9) (hk : k ≤ 9) (h : post (sr_sg 53 (fun s => if sr_Z s = i + j + k then co (60 * e + s) * nI (sr_kS s i j) else 0))) :
    ∃ n50 : Nat, wX_monomial_50 post (nI e) (nI i) (nI j) (nI k) 53 sr_rA sr_rB sr_rC co ma cm n50 0 0 := by
  refine loop_0 (σ := Unit) (fun n s _ => wX_monomial_50 post (nI e) (nI i) (nI j) (nI k) 53 sr_rA sr_rB sr_rC co ma cm n (sr_sg s (fun s => if sr_Z s = i + j + k then co (60 * e + s) * nI (sr_kS s i j) else 0)) (nI s)) (fun _ _ => True) 53 () trivial ?_ ?_
  · intro n _ _
    exact br_t (nI_le (a := 53) (by omega) (by decide)) h
  · intro n s _ hs _ ih
    have ih' := ih () trivial
    have zs := sr_Z9 hs
    rw [sr_sgS] at ih'
    show wX_monomial_50 post _ _ _ _ 53 sr_rA sr_rB sr_rC co ma cm (n + 1) _ _
    rw [wX_monomial_50]
    dsimp only
    rw [nI_add, nI_add]
    refine br_f (nI_ge (b := 53) hs (by decide)) (sr_x_size (by omega) (pk_eq (sr_Z s) (i + j + k) (fun z => sr_x_pat hs hi hj (sr_x_get he (by omega) (nm_e (nm_r (nI_1 s) ?_)))) (fun z => nm_r (nI_1 s) ?_)))
    · rw [if_pos z] at ih'; exact ih'
    · rw [if_neg z, show ∀ x : Int32, x + 0 = x by intro x; grind] at ih'; exact ih'
theorem sr_x_fc {post : SX → Prop} (x y z : Int32) (h : ∀ cm' : Nat → Int32, (∀ d, d < 12 → cm' d = sr_h3 x y z d) → post (53, sr_rA, sr_rB, sr_rC, co, ma, cm')) : wpX_findComplete post (53, sr_rA, sr_rB, sr_rC, co, ma, cm) x y z := by
  refine loop_0 (fun n k cm' => wX_findComplete_3 post x y z 53 n (nI k) sr_rA sr_rB sr_rC co ma cm') (fun k cm' => ∀ d, d < k → cm' d = sr_h1 x d) 12 cm (fun d hd => by omega) ?_ ?_
  · intro n c1 I1
    refine br_t (nI_le (a := 12) (by omega) (by decide)) ?_
    refine pk_loop (fun n k cm' => wX_findComplete_46 post y z 53 n (nI k) sr_rA sr_rB sr_rC co ma cm') (fun k cm' => 1 ≤ k ∧ (∀ d, d < k → cm' d = sr_h2 x y d) ∧ (∀ d, k ≤ d → d < 12 → cm' d = sr_h1 x d)) 12 1 c1 (by decide) ⟨by decide, fun d hd => ?_, fun d _ hd => I1 d hd⟩ ?_ ?_
    · rw [show d = 0 by omega]; exact I1 0 (by decide)
    · intro n c2 I2
      refine br_t (nI_le (a := 12) (by omega) (by decide)) ?_
      refine pk_loop (fun n k cm' => wX_findComplete_88 post z 53 n (nI k) sr_rA sr_rB sr_rC co ma cm') (fun k cm' => 1 ≤ k ∧ (∀ d, d < k → cm' d = sr_h3 x y z d) ∧ (∀ d, k ≤ d → d < 12 → cm' d = sr_h2 x y d)) 12 1 c2 (by decide) ⟨by decide, fun d hd => ?_, fun d _ hd => I2.2.1 d hd⟩ ?_ ?_
      · rw [show d = 0 by omega]; exact I2.2.1 0 (by decide)
      · intro n c3 I3
        exact br_t (nI_le (a := 12) (by omega) (by decide)) (h c3 I3.2.1)
      · intro n k c3 hk I3 ih
        obtain ⟨k', rfl⟩ : ∃ k', k = k' + 1 := ⟨k - 1, by have := I3.1; omega⟩
        have i1 : vp_in (nI (k' + 1)) 12 := vp_in_nI (by omega) (by decide)
        refine br_f (nI_ge (b := 12) hk (by decide)) ⟨i1, by rw [nI_pred]; exact vp_in_nI (by omega) (by decide), i1, nm_r (e' := upd c3 (k' + 1) (c3 (k' + 1) + z * c3 k')) (by rw [nI_pred, nI_clamp (by omega), nI_clamp (by omega)]) (nm_r (nI_1 _) (ih _ ⟨by omega, fun d hd => ?_, fun d h1 h2 => ?_⟩))⟩
        · rw [sr_upd]
          by_cases q : d = k' + 1
          · rw [if_pos q, q, I3.2.2 _ (by omega) hk, I3.2.1 k' (by omega)]; rfl
          · rw [if_neg q]; exact I3.2.1 d (by omega)
        · rw [sr_upd, if_neg (by omega)]; exact I3.2.2 d (by omega) h2
    · intro n k c2 hk I2 ih
      obtain ⟨k', rfl⟩ : ∃ k', k = k' + 1 := ⟨k - 1, by have := I2.1; omega⟩
      have i1 : vp_in (nI (k' + 1)) 12 := vp_in_nI (by omega) (by decide)
      refine br_f (nI_ge (b := 12) hk (by decide)) ⟨i1, by rw [nI_pred]; exact vp_in_nI (by omega) (by decide), i1, nm_r (e' := upd c2 (k' + 1) (c2 (k' + 1) + y * c2 k')) (by rw [nI_pred, nI_clamp (by omega), nI_clamp (by omega)]) (nm_r (nI_1 _) (ih _ ⟨by omega, fun d hd => ?_, fun d h1 h2 => ?_⟩))⟩
      · rw [sr_upd]
        by_cases q : d = k' + 1
        · rw [if_pos q, q, I2.2.2 _ (by omega) hk, I2.2.1 k' (by omega)]; rfl
        · rw [if_neg q]; exact I2.2.1 d (by omega)
      · rw [sr_upd, if_neg (by omega)]; exact I2.2.2 d (by omega) h2
  · intro n k c1 hk I1 ih
    have i1 : vp_in (nI k) 12 := vp_in_nI (by omega) (by decide)
    refine br_f (nI_ge (b := 12) hk (by decide)) (pk_eq k 0 (fun q => ⟨i1, nm_r (e' := upd c1 k 1) (by rw [nI_clamp (by omega)]) (nm_r (nI_1 _) (ih _ (fun d hd => ?_)))⟩) (fun q => ?_))
    · rw [sr_upd, if_pos (by omega), show d = 0 by omega]; rfl
    · obtain ⟨k', rfl⟩ : ∃ k', k = k' + 1 := ⟨k - 1, by omega⟩
      refine ⟨by rw [nI_pred]; exact vp_in_nI (by omega) (by decide), i1, nm_r (e' := upd c1 (k' + 1) (c1 k' * x)) (by rw [nI_pred, nI_clamp (by omega), nI_clamp (by omega)]) (nm_r (nI_1 _) (ih _ (fun d hd => ?_)))⟩
      rw [sr_upd]
      by_cases q : d = k' + 1
      · rw [if_pos q, q, I1 k' (by omega)]; rfl
      · rw [if_neg q]; exact I1 d (by omega)
theorem sr_x_co {post : Int32 → Prop} {x y z : Int32} {v : Int32} (k : Nat) (hv : v.toInt = (k : Int) - 2) (hk : k ≤ 13) (hc : ∀ d, d < 12 → cm d = sr_h3 x y z d) (h : post (sr_g3 x y z k)) : wpX_completeOf post (53, sr_rA, sr_rB, sr_rC, co, ma, cm) v := by
  by_cases c : k < 2
  · refine br_f (fun q => ?_) ?_
    · rw [Int32.le_iff_toInt_le, hv, show (0 : Int32).toInt = 0 by decide] at q; omega
    · rcases (show k = 0 ∨ k = 1 by omega) with q | q
      · rw [q] at h; exact h
      · rw [q] at h; exact h
  · obtain ⟨d, rfl⟩ : ∃ d, k = d + 2 := ⟨k - 2, by omega⟩
    have e : v = nI d := by
      apply Int32.toInt_inj.mp
      rw [hv, nI_toInt (by omega)]; omega
    rw [e]
    refine br_t (nI_pos' (by omega)) ⟨vp_in_nI (by omega) (by decide), ?_⟩
    rw [nI_clamp (by omega), hc d (by omega)]
    exact h
theorem sr_x_val {post : Int32 → Prop} {x y z : Int32} {s : Nat} (hs : s < 53) (hc : ∀ d, d < 12 → cm d = sr_h3 x y z d) (h : post (sr_dt x y z (sr_A s) (sr_B s) (sr_C s))) : wpX_valueOf post (53, sr_rA, sr_rB, sr_rC, co, ma, cm) (nI s) := by
  have bA := sr_A9 s
  have bB := sr_B9 s
  have bC := sr_C9 s
  have is : vp_in (nI s) 60 := vp_in_nI (by omega) (by decide)
  have tA : (nI (sr_A s)).toInt = (sr_A s : Int) := nI_toInt (by omega)
  have tB : (nI (sr_B s)).toInt = (sr_B s : Int) := nI_toInt (by omega)
  have tC : (nI (sr_C s)).toInt = (sr_C s : Int) := nI_toInt (by omega)
  have pl : ∀ {v : Int32} {a : Int} (c : Int32) {b : Int}, v.toInt = a → c.toInt = b → -1000 ≤ a → a ≤ 1000 → -1000 ≤ b → b ≤ 1000 → (v + c).toInt = a + b := by
    intro v a c b hv hc _ _ _ _
    rw [Int32.toInt_add, hv, hc]
    exact Int.bmod_eq_of_le (by omega) (by omega)
  have mi : ∀ {v : Int32} {a : Int} (c : Int32) {b : Int}, v.toInt = a → c.toInt = b → -1000 ≤ a → a ≤ 1000 → -1000 ≤ b → b ≤ 1000 → (v - c).toInt = a - b := by
    intro v a c b hv hc _ _ _ _
    rw [Int32.toInt_sub, hv, hc]
    exact Int.bmod_eq_of_le (by omega) (by omega)
  have o1 : (1 : Int32).toInt = 1 := by decide
  have o2 : (2 : Int32).toInt = 2 := by decide
  unfold wpX_valueOf
  dsimp only
  rw [nI_clamp (n := s) (by omega)]
  refine ⟨is, nm_r (e' := nI (sr_A s)) rfl ⟨is, nm_r (e' := nI (sr_B s)) rfl ⟨is, nm_r (e' := nI (sr_C s)) rfl ?_⟩⟩⟩
  refine sr_x_co (sr_A s + 2) (by rw [tA]; omega) (by omega) hc ?_
  refine sr_x_co (sr_A s + 3) (by rw [pl 1 tA o1 (by omega) (by omega) (by omega) (by omega)]; omega) (by omega) hc ?_
  refine sr_x_co (sr_A s + 4) (by rw [pl 2 tA o2 (by omega) (by omega) (by omega) (by omega)]; omega) (by omega) hc ?_
  refine sr_x_co (sr_B s + 1) (by rw [mi 1 tB o1 (by omega) (by omega) (by omega) (by omega)]; omega) (by omega) hc ?_
  refine sr_x_co (sr_B s + 2) (by rw [tB]; omega) (by omega) hc ?_
  refine sr_x_co (sr_B s + 3) (by rw [pl 1 tB o1 (by omega) (by omega) (by omega) (by omega)]; omega) (by omega) hc ?_
  refine sr_x_co (sr_C s) (by rw [mi 2 tC o2 (by omega) (by omega) (by omega) (by omega)]) (by omega) hc ?_
  refine sr_x_co (sr_C s + 1) (by rw [mi 1 tC o1 (by omega) (by omega) (by omega) (by omega)]; omega) (by omega) hc ?_
  refine sr_x_co (sr_C s + 2) (by rw [tC]; omega) (by omega) hc ?_
  exact h
theorem sr_x_value {post : Int32 → SX → Prop} {e : Nat} (he : e < 2) (x y z : Int32) (h : ∀ cm' : Nat → Int32, post (sr_sg 53 (fun s => co (60 * e + s) * sr_dt x y z (sr_A s) (sr_B s) (sr_C s))) (53, sr_rA, sr_rB, sr_rC, co, ma, cm')) :
    wpX_value post (53, sr_rA, sr_rB, sr_rC, co, ma, cm) (nI e) x y z := by
  unfold wpX_value
  dsimp only
  refine sr_x_bad0 he (br_t rfl (sr_x_fc x y z (fun cm' hc => ?_)))
  dsimp only
  refine loop_0 (σ := Unit) (fun n s _ => wX_value_24 post (nI e) 53 sr_rA sr_rB sr_rC co ma cm' n (sr_sg s (fun s => co (60 * e + s) * sr_dt x y z (sr_A s) (sr_B s) (sr_C s))) (nI s)) (fun _ _ => True) 53 () trivial ?_ ?_
  · intro n _ _
    exact br_t (nI_le (a := 53) (by omega) (by decide)) (h cm')
  · intro n s _ hs _ ih
    exact br_f (nI_ge (b := 53) hs (by decide)) (sr_x_val hs hc (sr_x_get he (by omega) (nm_e (nm_r (nI_1 s) (ih () trivial)))))
end
end
section
/-- the coefficients of element e are being changed to g: k are done -/
def sr_cI (co : Nat → Int32) (e k : Nat) (g : Nat → Int32) (co' : Nat → Int32) : Prop :=
  (∀ s, s < k → co' (60 * e + s) = g s) ∧ (∀ s, k ≤ s → s < 60 → co' (60 * e + s) = co (60 * e + s)) ∧ (∀ e' s, e' < 2 → e' ≠ e → s < 60 → co' (60 * e' + s) = co (60 * e' + s))
theorem sr_cI0 (co : Nat → Int32) (e : Nat) (g : Nat → Int32) : sr_cI co e 0 g co := ⟨fun s h => by omega, fun _ _ _ => rfl, fun _ _ _ _ _ => rfl⟩
theorem sr_cIs {co : Nat → Int32} {e k : Nat} {g : Nat → Int32} {co' : Nat → Int32} (hk : k < 60) (I : sr_cI co e k g co') : sr_cI co e (k + 1) g (upd co' (60 * e + k) (g k)) := by
  refine ⟨fun s hs => ?_, fun s h1 h2 => ?_, fun e' s h1 h2 h3 => ?_⟩
  · rw [sr_upd]
    by_cases z : s = k
    · rw [if_pos (by omega), z]
    · rw [if_neg (by omega)]; exact I.1 s (by omega)
  · rw [sr_upd, if_neg (by omega)]; exact I.2.1 s (by omega) h2
  · rw [sr_upd, if_neg (by omega)]; exact I.2.2 e' s h1 h2 h3
section
variable {co ma cm : Nat → Int32}
theorem sr_x_scale {post : Int32 → SX → Prop} {e : Nat} (he : e < 2) (n : Int32) (h : ∀ co' : Nat → Int32, (∀ s, s < 53 → co' (60 * e + s) = co (60 * e + s) * n) → (∀ e' s, e' < 2 → e' ≠ e → s < 60 → co' (60 * e' + s) = co (60 * e' + s)) → post 0 (53, sr_rA, sr_rB, sr_rC, co', ma, cm)) :
    ∃ n12 : Nat, wX_scale_12 post (nI e) n 53 n12 0 sr_rA sr_rB sr_rC co ma cm := by
  refine loop_0 (fun m k co' => wX_scale_12 post (nI e) n 53 m (nI k) sr_rA sr_rB sr_rC co' ma cm) (fun k co' => sr_cI co e k (fun s => co (60 * e + s) * n) co') 53 co (sr_cI0 _ _ _) ?_ ?_
  · intro m co' I
    exact br_t (nI_le (a := 53) (by omega) (by decide)) (h co' I.1 I.2.2)
  · intro m k co' hk I ih
    have i1 : vp_in (60 * nI e + nI k) 120 := by rw [sr_ad60]; exact vp_in_nI (by omega) (by decide)
    exact br_f (nI_ge (b := 53) hk (by decide)) ⟨i1, i1, nm_r (e' := upd co' (60 * e + k) (co (60 * e + k) * n)) (by rw [sr_ad60, nI_clamp (by omega), I.2.1 k (by omega) (by omega)]) (nm_r (nI_1 k) (ih _ (sr_cIs (by omega) I)))⟩
theorem sr_x_part {post : Int32 → SX → Prop} {e d : Nat} (he : e < 2) (hd : d ≤ 9) (h : ∀ co' : Nat → Int32, (∀ s, s < 53 → co' (60 * e + s) = if sr_Z s = d then co (60 * e + s) else 0) → (∀ e' s, e' < 2 → e' ≠ e → s < 60 → co' (60 * e' + s) = co (60 * e' + s)) → post 0 (53, sr_rA, sr_rB, sr_rC, co', ma, cm)) :
    ∃ n22 : Nat, wX_part_22 post (nI e) (nI d) 53 n22 0 sr_rA sr_rB sr_rC co ma cm := by
  refine loop_0 (fun m k co' => wX_part_22 post (nI e) (nI d) 53 m (nI k) sr_rA sr_rB sr_rC co' ma cm) (fun k co' => sr_cI co e k (fun s => if sr_Z s = d then co (60 * e + s) else 0) co') 53 co (sr_cI0 _ _ _) ?_ ?_
  · intro m co' I
    exact br_t (nI_le (a := 53) (by omega) (by decide)) (h co' I.1 I.2.2)
  · intro m k co' hk I ih
    have zk := sr_Z9 hk
    have i1 : vp_in (60 * nI e + nI k) 120 := by rw [sr_ad60]; exact vp_in_nI (by omega) (by decide)
    refine br_f (nI_ge (b := 53) hk (by decide)) (sr_x_size (by omega) (pk_eq (sr_Z k) d (fun z => ⟨i1, i1, nm_r (e' := upd co' (60 * e + k) (if sr_Z k = d then co (60 * e + k) else 0)) ?_ (nm_r (nI_1 k) (ih _ (sr_cIs (by omega) I)))⟩) (fun z => ⟨i1, nm_r (e' := upd co' (60 * e + k) (if sr_Z k = d then co (60 * e + k) else 0)) ?_ (nm_r (nI_1 k) (ih _ (sr_cIs (by omega) I)))⟩)))
    · rw [sr_ad60, nI_clamp (by omega), I.2.1 k (by omega) (by omega), if_pos z]
    · rw [sr_ad60, nI_clamp (by omega), if_neg z]
theorem sr_ad6 (k : Nat) : (60 : Int32) + nI k = nI (60 + k) := nI_add 60 k
theorem sr_x_comb {post : Int32 → SX → Prop} (n : Int32) (h : ∀ co' : Nat → Int32, (∀ s, s < 53 → co' s = co s + n * co (60 + s)) → (∀ s, s < 53 → co' (60 + s) = co (60 + s)) → post 0 (53, sr_rA, sr_rB, sr_rC, co', ma, cm)) :
    wpX_combine post (53, sr_rA, sr_rB, sr_rC, co, ma, cm) n := by
  refine loop_0 (fun m k co' => wX_combine_2 post n 53 m (nI k) sr_rA sr_rB sr_rC co' ma cm) (fun k co' => (∀ s, s < k → co' s = co s + n * co (60 + s)) ∧ (∀ s, k ≤ s → co' s = co s)) 53 co ⟨fun s hs => by omega, fun _ _ => rfl⟩ ?_ ?_
  · intro m co' I
    exact br_t (nI_le (a := 53) (by omega) (by decide)) (h co' I.1 (fun s hs => I.2 _ (by omega)))
  · intro m k co' hk I ih
    have i1 : vp_in (nI k) 120 := vp_in_nI (by omega) (by decide)
    refine br_f (nI_ge (b := 53) hk (by decide)) ⟨i1, by rw [sr_ad6]; exact vp_in_nI (by omega) (by decide), i1, nm_r (e' := upd co' k (co k + n * co (60 + k))) ?_ (nm_r (nI_1 k) (ih _ ⟨fun s hs => ?_, fun s hs => ?_⟩))⟩
    · rw [sr_ad6, nI_clamp (by omega), nI_clamp (by omega), I.2 k (by omega), I.2 (60 + k) (by omega)]
    · rw [sr_upd]
      by_cases z : s = k
      · rw [if_pos z, z]
      · rw [if_neg z]; exact I.1 s (by omega)
    · rw [sr_upd, if_neg (by omega)]; exact I.2 s (by omega)
theorem sr_x_swap {post : Int32 → SX → Prop} (h : ∀ co' : Nat → Int32, (∀ s, s < 53 → co' s = co (60 + s)) → (∀ s, s < 53 → co' (60 + s) = co s) → post 0 (53, sr_rA, sr_rB, sr_rC, co', ma, cm)) :
    wpX_swap post (53, sr_rA, sr_rB, sr_rC, co, ma, cm) := by
  refine loop_0 (fun m k co' => wX_swap_2 post 53 m (nI k) sr_rA sr_rB sr_rC co' ma cm) (fun k co' => (∀ s, s < k → co' s = co (60 + s) ∧ co' (60 + s) = co s) ∧ (∀ s, k ≤ s → s < 60 → co' s = co s ∧ co' (60 + s) = co (60 + s))) 53 co ⟨fun s hs => by omega, fun _ _ _ => ⟨rfl, rfl⟩⟩ ?_ ?_
  · intro m co' I
    exact br_t (nI_le (a := 53) (by omega) (by decide)) (h co' (fun s hs => (I.1 s hs).1) (fun s hs => (I.1 s hs).2))
  · intro m k co' hk I ih
    have i1 : vp_in (nI k) 120 := vp_in_nI (by omega) (by decide)
    have i2 : vp_in (60 + nI k) 120 := by rw [sr_ad6]; exact vp_in_nI (by omega) (by decide)
    refine br_f (nI_ge (b := 53) hk (by decide)) ⟨i1, nm_r (e' := co k) ?_ ⟨i2, i1, nm_r (e' := upd co' k (co (60 + k))) ?_ ⟨i2, nm_r (e' := upd (upd co' k (co (60 + k))) (60 + k) (co k)) ?_ (nm_r (nI_1 k) (ih _ ⟨fun s hs => ?_, fun s h1 h2 => ?_⟩))⟩⟩⟩
    · rw [nI_clamp (by omega)]; exact (I.2 k (by omega) (by omega)).1
    · rw [sr_ad6, nI_clamp (by omega), nI_clamp (by omega), (I.2 k (by omega) (by omega)).2]
    · rw [sr_ad6, nI_clamp (by omega)]
    · rw [sr_upd, sr_upd, sr_upd, sr_upd, if_neg (show ¬ s = 60 + k by omega), if_neg (show ¬ 60 + s = k by omega)]
      by_cases z : s = k
      · rw [if_pos z, if_pos (by omega), z]; exact ⟨rfl, rfl⟩
      · rw [if_neg z, if_neg (by omega)]; exact I.1 s (by omega)
    · rw [sr_upd, sr_upd, sr_upd, sr_upd, if_neg (show ¬ s = 60 + k by omega), if_neg (show ¬ 60 + s = k by omega), if_neg (show ¬ s = k by omega), if_neg (show ¬ 60 + s = 60 + k by omega)]
      exact I.2 s (by omega) h2
theorem sr_x_shapes {post : Int32 → Prop} {e : Nat} (he : e < 2) (h : post (sr_sg 53 (fun s => if co (60 * e + s) = 0 then 0 else 1))) : ∃ n14 : Nat, wX_shapes_14 post (nI e) 53 sr_rA sr_rB sr_rC co ma cm n14 0 0 := by
  refine loop_0 (σ := Unit) (fun n s _ => wX_shapes_14 post (nI e) 53 sr_rA sr_rB sr_rC co ma cm n (sr_sg s (fun s => if co (60 * e + s) = 0 then 0 else 1)) (nI s)) (fun _ _ => True) 53 () trivial ?_ ?_
  · intro n _ _
    exact br_t (nI_le (a := 53) (by omega) (by decide)) h
  · intro n s _ hs _ ih
    have ih' := ih () trivial
    rw [sr_sgS] at ih'
    refine br_f (nI_ge (b := 53) hs (by decide)) (sr_x_get he (by omega) (br_c (fun z => nm_r (nI_1 s) ?_) (fun z => nm_e (nm_r (nI_1 s) ?_))))
    · rw [if_pos z, show ∀ x : Int32, x + 0 = x by intro x; grind] at ih'; exact ih'
    · rw [if_neg z] at ih'; exact ih'
theorem sr_x_inner {post : Int32 → Prop} (h : post (sr_sg 53 (fun s => co (60 * 0 + s) * co (60 * 1 + s)))) : wpX_inner post (53, sr_rA, sr_rB, sr_rC, co, ma, cm) := by
  refine loop_0 (σ := Unit) (fun n s _ => wX_inner_4 post 53 sr_rA sr_rB sr_rC co ma cm n (sr_sg s (fun s => co (60 * 0 + s) * co (60 * 1 + s))) (nI s)) (fun _ _ => True) 53 () trivial ?_ ?_
  · intro n _ _
    exact br_t (nI_le (a := 53) (by omega) (by decide)) h
  · intro n s _ hs _ ih
    exact br_f (nI_ge (b := 53) hs (by decide)) (sr_x_get (e := 0) (by decide) (by omega) (sr_x_get (e := 1) (by decide) (by omega) (nm_e (nm_r (nI_1 s) (ih () trivial)))))
end
def sr_tb (F : Nat → Nat) (n : Nat) : Nat → Int32 := fun j => if j < n then nI (F j) else 0
theorem sr_tbs (F : Nat → Nat) (n : Nat) : upd (sr_tb F n) n (nI (F n)) = sr_tb F (n + 1) := by
  funext j
  rw [sr_upd]
  unfold sr_tb
  by_cases h : j = n
  · rw [if_pos h, if_pos (by omega), h]
  · rw [if_neg h]
    by_cases h2 : j < n
    · rw [if_pos h2, if_pos (by omega)]
    · rw [if_neg h2, if_neg (by omega)]
theorem sr_tb0 (F : Nat → Nat) : sr_tb F 0 = fun _ => 0 := by
  funext j
  unfold sr_tb
  rw [if_neg (by omega)]
theorem sr_byte : ∀ a, a < 10 → (nI a).toInt8.toInt32 = nI a := by decide
theorem sr_S_up' : ∀ t, t + 1 < 53 → sr_S t < sr_S (t + 1) := fun t h => sr_S_up t (by omega)
theorem sr_P_up' : ∀ t, t + 1 < 220 → sr_P t < sr_P (t + 1) := fun t h => sr_P_up t (by omega)
theorem sr_x_init {post : SX → Prop} (h : post (53, sr_rA, sr_rB, sr_rC, fun _ => 0, fun _ => 0, fun _ => 0)) : wpX_init post := by
  have h' : ∃ n54 : Nat, wX_init_54 post n54 (nI 0) (nI 0) (sr_tb sr_A 0) (sr_tb sr_B 0) (sr_tb sr_C 0) (fun _ => 0) (fun _ => 0) (fun _ => 0) := by
    refine loop_0 (fun f k n => wX_init_54 post f (nI k) (nI n) (sr_tb sr_A n) (sr_tb sr_B n) (sr_tb sr_C n) (fun _ => 0) (fun _ => 0) (fun _ => 0)) (fun k n => sr_iv sr_S 53 k n) 1000 0 sr_iv0 ?_ ?_
    · intro f n I
      have e := sr_iv_end I (fun t _ => sr_S_le t)
      subst e
      refine br_t (nI_le (a := 1000) (by omega) (by decide)) ?_
      have fA : sr_tb sr_A 53 = sr_rA := by
        funext j; unfold sr_tb sr_rA
        by_cases z : j < 53
        · rw [if_pos z]
        · rw [if_neg z]; unfold sr_A; rw [sr_S_out (by omega)]; rfl
      have fB : sr_tb sr_B 53 = sr_rB := by
        funext j; unfold sr_tb sr_rB
        by_cases z : j < 53
        · rw [if_pos z]
        · rw [if_neg z]; unfold sr_B; rw [sr_S_out (by omega)]; rfl
      have fC : sr_tb sr_C 53 = sr_rC := by
        funext j; unfold sr_tb sr_rC
        by_cases z : j < 53
        · rw [if_pos z]
        · rw [if_neg z]; unfold sr_C; rw [sr_S_out (by omega)]; rfl
      rw [fA, fB, fC]
      exact h
    · intro f k n hk I ih
      have miss : ¬ sr_sh k → wX_init_54 post f (nI (k + 1)) (nI n) (sr_tb sr_A n) (sr_tb sr_B n) (sr_tb sr_C n) (fun _ => 0) (fun _ => 0) (fun _ => 0) := fun z =>
        ih n (sr_iv_miss I (fun t ht e => z (by rw [← e]; exact sr_S_sh ht)))
      refine br_f (nI_ge (b := 1000) hk (by decide)) ⟨sr_n10, nm_r (sr_r10 (by omega)) ⟨sr_n10, sr_n10, nm_r (e' := nI (k / 10 % 10)) (by rw [sr_d10 (by omega), sr_r10 (by omega)]) ⟨sr_n100, nm_r (sr_d100 (by omega)) ?_⟩⟩⟩
      refine pk_lt (k % 10) (k / 10 % 10) (fun c => nm_r (nI_1 k) (miss (fun z => by have := z.2.1; omega))) (fun c1 => pk_lt (k / 10 % 10) (k / 100) (fun c => nm_r (nI_1 k) (miss (fun z => by have := z.2.2.1; omega))) (fun c2 => ?_))
      rw [nI_add, nI_add]
      refine pk_lt 9 (k % 10 + k / 10 % 10 + k / 100) (fun c => nm_r (nI_1 k) (miss (fun z => by have := z.2.2.2; omega))) (fun c3 => ?_)
      obtain ⟨t, ht, et⟩ := sr_sh_S (c := k) ⟨hk, c1, c2, c3⟩
      obtain ⟨hn, en, I'⟩ := sr_iv_hit sr_S_up' I ht et
      have i1 : vp_in (nI n) 60 := vp_in_nI (by omega) (by decide)
      have eA : k % 10 = sr_A n := by unfold sr_A; rw [en]
      have eB : k / 10 % 10 = sr_B n := by unfold sr_B; rw [en]
      have eC : k / 100 = sr_C n := by unfold sr_C; rw [en]
      refine ⟨i1, nm_r (e' := sr_tb sr_A (n + 1)) ?_ ⟨i1, nm_r (e' := sr_tb sr_B (n + 1)) ?_ ⟨i1, nm_r (e' := sr_tb sr_C (n + 1)) ?_ (nm_r (nI_1 n) (nm_r (nI_1 k) (ih _ I')))⟩⟩⟩
      · rw [nI_clamp (by omega), pk_vb, sr_byte _ (by omega), eA, sr_tbs]
      · rw [nI_clamp (by omega), pk_vb, sr_byte _ (by omega), eB, sr_tbs]
      · rw [nI_clamp (by omega), pk_vb, sr_byte _ (by omega), eC, sr_tbs]
  rw [sr_tb0, sr_tb0, sr_tb0] at h'
  exact h'
end
section
def sr_rP : Nat → Int32 := fun t => nI (sr_P t)
def sr_rS : Nat → Int32 := fun s => nI (sr_S s)
/-- the terms are T on the places of the five blocks -/
def sr_YS (T : Nat → Nat → Int32) (te : Nat → Int32) : Prop := ∀ b m, b < 5 → sr_zp m → te (1000 * b + m) = T b m
def sr_sT (T : Nat → Nat → Int32) (b : Nat) (g : Nat → Int32) : Nat → Nat → Int32 := fun b' m => if b' = b then g m else T b' m
def sr_pT (T : Nat → Nat → Int32) (b : Nat) (g : Nat → Int32) (t : Nat) : Nat → Nat → Int32 := fun b' m => if b' = b ∧ sr_ix m < t then g m else T b' m
theorem sr_sTs (T : Nat → Nat → Int32) (b : Nat) (g : Nat → Int32) : sr_sT T b g b = g := by funext m; exact if_pos rfl
theorem sr_sTn (T : Nat → Nat → Int32) {b b' : Nat} (g : Nat → Int32) (h : b' ≠ b) : sr_sT T b g b' = T b' := by funext m; exact if_neg h
theorem sr_y0 {T : Nat → Nat → Int32} {te : Nat → Int32} (b : Nat) (g : Nat → Int32) (Y : sr_YS T te) : sr_YS (sr_pT T b g 0) te := by
  intro b' m hb hm
  unfold sr_pT
  rw [if_neg (by omega)]; exact Y b' m hb hm
theorem sr_yE {T : Nat → Nat → Int32} {te : Nat → Int32} {b : Nat} {g : Nat → Int32} (Y : sr_YS (sr_pT T b g 220) te) : sr_YS (sr_sT T b g) te := by
  intro b' m hb hm
  rw [Y b' m hb hm]
  unfold sr_pT sr_sT
  have := (sr_zp_P hm).1
  by_cases z : b' = b
  · rw [if_pos ⟨z, this⟩, if_pos z]
  · rw [if_neg (fun y => z y.1), if_neg z]
theorem sr_yS {T : Nat → Nat → Int32} {te : Nat → Int32} {b t : Nat} {g : Nat → Int32} (ht : t < 220) (Y : sr_YS (sr_pT T b g t) te) : sr_YS (sr_pT T b g (t + 1)) (upd te (1000 * b + sr_P t) (g (sr_P t))) := by
  intro b' m hb hm
  have hP := (sr_P_ok t ht)
  have hm1 := hm.1
  rw [sr_upd]
  by_cases z : b' = b ∧ m = sr_P t
  · rw [if_pos (by rw [z.1, z.2])]
    unfold sr_pT
    rw [if_pos ⟨z.1, by rw [z.2, hP.2.2]; omega⟩, z.2]
  · rw [if_neg (fun y => z (by have := hP.1; omega)), Y b' m hb hm]
    unfold sr_pT
    by_cases c : b' = b ∧ sr_ix m < t
    · rw [if_pos c, if_pos ⟨c.1, by omega⟩]
    · rw [if_neg c, if_neg (fun y => ?_)]
      have : sr_ix m = t := by
        have := y.2
        by_cases q : sr_ix m < t
        · exact absurd ⟨y.1, q⟩ c
        · omega
      exact z ⟨y.1, by rw [← (sr_zp_P hm).2, this]⟩
theorem sr_yR {T : Nat → Nat → Int32} {te : Nat → Int32} {b b1 t : Nat} {g : Nat → Int32} (hb : b1 < 5) (ht : t < 220) (Y : sr_YS (sr_pT T b g t) te) : te (1000 * b1 + sr_P t) = T b1 (sr_P t) := by
  rw [Y b1 _ hb (sr_P_zp ht)]
  unfold sr_pT
  rw [if_neg (fun y => by have := y.2; rw [(sr_P_ok t ht).2.2] at this; omega)]
/-- one place of block b is written -/
theorem sr_yW {T : Nat → Nat → Int32} {te : Nat → Int32} {b m0 : Nat} {F F' : Nat → Int32} {w : Int32} (Y : sr_YS (sr_sT T b F) te) (hm0 : sr_zp m0) (h1 : F' m0 = w) (h2 : ∀ m, sr_zp m → m ≠ m0 → F' m = F m) : sr_YS (sr_sT T b F') (upd te (1000 * b + m0) w) := by
  intro b' m hb hm
  have hm1 := hm.1
  have hm2 := hm0.1
  rw [sr_upd]
  by_cases z : b' = b ∧ m = m0
  · rw [if_pos (by rw [z.1, z.2]), z.1, sr_sTs, z.2, h1]
  · rw [if_neg (fun y => z (by omega)), Y b' m hb hm]
    by_cases c : b' = b
    · rw [c, sr_sTs, sr_sTs, h2 m hm (fun y => z ⟨c, y⟩)]
    · rw [sr_sTn _ _ c, sr_sTn _ _ c]
theorem sr_yC {T : Nat → Nat → Int32} {te : Nat → Int32} {b : Nat} {F F' : Nat → Int32} (Y : sr_YS (sr_sT T b F) te) (h : ∀ m, sr_zp m → F' m = F m) : sr_YS (sr_sT T b F') te := by
  intro b' m hb hm
  rw [Y b' m hb hm]
  by_cases c : b' = b
  · rw [c, sr_sTs, sr_sTs, h m hm]
  · rw [sr_sTn _ _ c, sr_sTn _ _ c]
theorem sr_adP {b t : Nat} (ht : t < 220) : nI (1000 * b) + sr_rP (nI t).toNatClampNeg = nI (1000 * b + sr_P t) := by
  rw [nI_clamp (by omega)]; exact nI_add _ _
theorem sr_inP {b t : Nat} (hb : b < 5) : vp_in (nI (1000 * b + sr_P t)) 5000 := by
  have := sr_P_le t
  exact vp_in_nI (by omega) (by decide)
theorem sr_clP {b t : Nat} (hb : b < 5) : (nI (1000 * b + sr_P t)).toNatClampNeg = 1000 * b + sr_P t := by
  have := sr_P_le t
  exact nI_clamp (by omega)
theorem sr_k1000 (e : Nat) : (1000 : Int32) * nI e = nI (1000 * e) := pk_mul 1000 e
section
variable {T : Nat → Nat → Int32} {te su : Nat → Int32}
theorem sr_y_bad0 {post : Int32 → Prop} {e : Nat} (he : e < 2) (h : post 0) : wpY_bad post (te, sr_rP, sr_rS, su) (nI e) :=
  br_f (nI_pos (by omega)) (br_t (nI_le (b := 1) (by omega) (by decide)) h)
theorem sr_y_bad1 {post : Int32 → Prop} {v : Int32} (hv : v < 0 ∨ ¬ v ≤ 1) (h : post 1) : wpY_bad post (te, sr_rP, sr_rS, su) v :=
  br_c (fun _ => h) (fun n => br_f (hv.resolve_left n) h)
theorem sr_y_shN {post : Int32 → Prop} {j : Nat} (hj : j < 1000) (h1 : sr_sh j → post 1) (h0 : ¬ sr_sh j → post 0) : wpY_isShape post (te, sr_rP, sr_rS, su) (nI j) := by
  refine br_f (nI_pos (by omega)) (br_t (nI_le (b := 999) (by omega) (by decide)) ⟨sr_n10, nm_r (sr_r10 (by omega)) ⟨sr_n10, sr_n10, nm_r (e' := nI (j / 10 % 10)) (by rw [sr_d10 (by omega), sr_r10 (by omega)]) ⟨sr_n100, nm_r (sr_d100 (by omega)) ?_⟩⟩⟩)
  refine pk_lt (j % 10) (j / 10 % 10) (fun c => h0 (fun z => by have := z.2.1; omega)) (fun c1 => pk_lt (j / 10 % 10) (j / 100) (fun c => h0 (fun z => by have := z.2.2.1; omega)) (fun c2 => ?_))
  rw [nI_add, nI_add]
  exact pk_lt 9 (j % 10 + j / 10 % 10 + j / 100) (fun c => h0 (fun z => by have := z.2.2.2; omega)) (fun c3 => h1 ⟨hj, c1, c2, c3⟩)
theorem sr_y_sh1 {post : Int32 → Prop} {s : Nat} (hs : s < 53) (h : post 1) : wpY_isShape post (te, sr_rP, sr_rS, su) (nI (sr_S s)) :=
  sr_y_shN (sr_S_le s) (fun _ => h) (fun z => absurd (sr_S_sh hs) z)
theorem sr_y_sh0 {post : Int32 → Prop} {v : Int32} (hv : ∀ s : Nat, s < 53 → v ≠ nI (sr_S s)) (h : post 0) : wpY_isShape post (te, sr_rP, sr_rS, su) v := by
  by_cases n : v < 0
  · exact br_t n h
  · obtain ⟨j, hj, rfl⟩ := nI_of n
    by_cases c : j < 1000
    · refine sr_y_shN c (fun z => ?_) (fun _ => h)
      obtain ⟨s, hs, e⟩ := sr_sh_S z
      exact absurd (by rw [e]) (hv s hs)
    · exact br_f n (br_f (nI_ge (a := 999) (by omega) hj) h)
theorem sr_y_deg {post : Int32 → Prop} {m : Nat} (hm : m < 1000) (h : post (nI (sr_dg m))) : wpY_degreeOf post (te, sr_rP, sr_rS, su) (nI m) := by
  refine ⟨sr_n100, sr_n10, sr_n10, sr_n10, ?_⟩
  rw [sr_r10 (by omega), sr_d10 (by omega), sr_r10 (by omega), sr_d100 (by omega), nI_add, nI_add]
  exact h
theorem sr_y_size {post : Int32 → Prop} {s : Nat} (h : post (nI (sr_Z s))) : wpY_size post (te, sr_rP, sr_rS, su) (nI (sr_S s)) := by
  have hS := sr_S_le s
  refine ⟨sr_n10, sr_n10, sr_n10, sr_n100, ?_⟩
  rw [sr_r10 (by omega), sr_d10 (by omega), sr_r10 (by omega), sr_d100 (by omega), nI_add, nI_add]
  exact h
theorem sr_y_clear {post : SY → Prop} {x : Int32} (b : Nat) (hx : x = nI (1000 * b)) (hb : b < 5) (Y : sr_YS T te) (h : ∀ te' : Nat → Int32, sr_YS (sr_sT T b (fun _ => 0)) te' → post (te', sr_rP, sr_rS, su)) : wpY_clear post (te, sr_rP, sr_rS, su) x := by
  subst hx
  refine loop_0 (fun n t te' => wY_clear_2 post (nI (1000 * b)) n (nI t) te' sr_rP sr_rS su) (fun t te' => sr_YS (sr_pT T b (fun _ => 0) t) te') 220 te (sr_y0 b _ Y) ?_ ?_
  · intro n te' I
    exact br_t (nI_le (a := 220) (by omega) (by decide)) (h te' (sr_yE I))
  · intro n t te' ht I ih
    exact br_f (nI_ge (b := 220) ht (by decide)) ⟨vp_in_nI ht (by decide), by rw [sr_adP ht]; exact sr_inP hb, nm_r (e' := upd te' (1000 * b + sr_P t) 0) (by rw [sr_adP ht, sr_clP hb]) (nm_r (nI_1 t) (ih _ (sr_yS (g := fun _ => 0) ht I)))⟩
theorem sr_y_copy {post : SY → Prop} {x x' : Int32} (b b' : Nat) (hx : x = nI (1000 * b)) (hx' : x' = nI (1000 * b')) (hb : b < 5) (hb' : b' < 5) (Y : sr_YS T te) (h : ∀ te' : Nat → Int32, sr_YS (sr_sT T b' (T b)) te' → post (te', sr_rP, sr_rS, su)) : wpY_copy post (te, sr_rP, sr_rS, su) x x' := by
  subst hx hx'
  refine loop_0 (fun n t te' => wY_copy_2 post (nI (1000 * b)) (nI (1000 * b')) n (nI t) te' sr_rP sr_rS su) (fun t te' => sr_YS (sr_pT T b' (T b) t) te') 220 te (sr_y0 b' _ Y) ?_ ?_
  · intro n te' I
    exact br_t (nI_le (a := 220) (by omega) (by decide)) (h te' (sr_yE I))
  · intro n t te' ht I ih
    exact br_f (nI_ge (b := 220) ht (by decide)) ⟨vp_in_nI ht (by decide), vp_in_nI ht (by decide), by rw [sr_adP ht]; exact sr_inP hb, by rw [sr_adP ht]; exact sr_inP hb', nm_r (e' := upd te' (1000 * b' + sr_P t) (T b (sr_P t))) (by rw [sr_adP ht, sr_adP ht, sr_clP hb, sr_clP hb', sr_yR hb ht I]) (nm_r (nI_1 t) (ih _ (sr_yS ht I)))⟩
theorem sr_y_add {post : SY → Prop} {x x' : Int32} (b b' : Nat) (n : Int32) (hx : x = nI (1000 * b)) (hx' : x' = nI (1000 * b')) (hb : b < 5) (hb' : b' < 5) (Y : sr_YS T te) (h : ∀ te' : Nat → Int32, sr_YS (sr_sT T b' (fun m => T b' m + n * T b m)) te' → post (te', sr_rP, sr_rS, su)) : wpY_addTimes post (te, sr_rP, sr_rS, su) x x' n := by
  subst hx hx'
  refine loop_0 (fun f t te' => wY_addTimes_3 post (nI (1000 * b)) (nI (1000 * b')) n f (nI t) te' sr_rP sr_rS su) (fun t te' => sr_YS (sr_pT T b' (fun m => T b' m + n * T b m) t) te') 220 te (sr_y0 b' _ Y) ?_ ?_
  · intro f te' I
    exact br_t (nI_le (a := 220) (by omega) (by decide)) (h te' (sr_yE I))
  · intro f t te' ht I ih
    exact br_f (nI_ge (b := 220) ht (by decide)) ⟨vp_in_nI ht (by decide), by rw [sr_adP ht]; exact sr_inP hb', vp_in_nI ht (by decide), by rw [sr_adP ht]; exact sr_inP hb, by rw [sr_adP ht]; exact sr_inP hb', nm_r (e' := upd te' (1000 * b' + sr_P t) (T b' (sr_P t) + n * T b (sr_P t))) (by rw [sr_adP ht, sr_adP ht, sr_clP hb, sr_clP hb', sr_yR hb ht I, sr_yR hb' ht I]) (nm_r (nI_1 t) (ih _ (sr_yS (g := fun m => T b' m + n * T b m) ht I)))⟩
theorem sr_y_scale {post : Int32 → SY → Prop} {e : Nat} (he : e < 2) (n : Int32) (Y : sr_YS T te) (h : ∀ te' : Nat → Int32, sr_YS (sr_sT T e (fun m => T e m * n)) te' → post 0 (te', sr_rP, sr_rS, su)) : ∃ n12 : Nat, wY_scale_12 post (nI e) n n12 0 te sr_rP sr_rS su := by
  refine loop_0 (fun f t te' => wY_scale_12 post (nI e) n f (nI t) te' sr_rP sr_rS su) (fun t te' => sr_YS (sr_pT T e (fun m => T e m * n) t) te') 220 te (sr_y0 e _ Y) ?_ ?_
  · intro f te' I
    exact br_t (nI_le (a := 220) (by omega) (by decide)) (h te' (sr_yE I))
  · intro f t te' ht I ih
    have i1 : vp_in (1000 * nI e + sr_rP (nI t).toNatClampNeg) 5000 := by rw [sr_k1000, sr_adP ht]; exact sr_inP (by omega)
    exact br_f (nI_ge (b := 220) ht (by decide)) ⟨vp_in_nI ht (by decide), i1, i1, nm_r (e' := upd te' (1000 * e + sr_P t) (T e (sr_P t) * n)) (by rw [sr_k1000, sr_adP ht, sr_clP (by omega), sr_yR (by omega) ht I]) (nm_r (nI_1 t) (ih _ (sr_yS (g := fun m => T e m * n) ht I)))⟩
theorem sr_y_part {post : Int32 → SY → Prop} {e d : Nat} (he : e < 2) (hd : d ≤ 9) (Y : sr_YS T te) (h : ∀ te' : Nat → Int32, sr_YS (sr_sT T e (fun m => if sr_dg m = d then T e m else 0)) te' → post 0 (te', sr_rP, sr_rS, su)) : ∃ n22 : Nat, wY_part_22 post (nI e) (nI d) n22 0 te sr_rP sr_rS su := by
  refine loop_0 (fun f t te' => wY_part_22 post (nI e) (nI d) f (nI t) te' sr_rP sr_rS su) (fun t te' => sr_YS (sr_pT T e (fun m => if sr_dg m = d then T e m else 0) t) te') 220 te (sr_y0 e _ Y) ?_ ?_
  · intro f te' I
    exact br_t (nI_le (a := 220) (by omega) (by decide)) (h te' (sr_yE I))
  · intro f t te' ht I ih
    have hP := sr_P_ok t ht
    have i1 : vp_in (1000 * nI e + sr_rP (nI t).toNatClampNeg) 5000 := by rw [sr_k1000, sr_adP ht]; exact sr_inP (by omega)
    have st := ih _ (sr_yS (g := fun m => if sr_dg m = d then T e m else 0) ht I)
    show wY_part_22 post (nI e) (nI d) (f + 1) (nI t) te' sr_rP sr_rS su
    rw [wY_part_22]
    dsimp only
    refine br_f (nI_ge (b := 220) ht (by decide)) ⟨vp_in_nI ht (by decide), ?_⟩
    rw [show sr_rP (nI t).toNatClampNeg = nI (sr_P t) by rw [nI_clamp (by omega)]; rfl] at i1 ⊢
    refine sr_y_deg hP.1 (pk_eq (sr_dg (sr_P t)) d (fun z => nm_r (nI_1 t) ?_) (fun z => ⟨vp_in_nI ht (by decide), i1, nm_r (e' := upd te' (1000 * e + sr_P t) 0) (by rw [sr_k1000, nI_add, sr_clP (by omega)]) (nm_r (nI_1 t) ?_)⟩))
    · rw [if_pos z, ← sr_yR (b1 := e) (by omega) ht I] at st
      have same : upd te' (1000 * e + sr_P t) (te' (1000 * e + sr_P t)) = te' := by
        funext j; rw [sr_upd]
        by_cases q : j = 1000 * e + sr_P t
        · rw [if_pos q, q]
        · rw [if_neg q]
      rw [same] at st; exact st
    · rw [if_neg z] at st; exact st
theorem sr_y_high {post : Int32 → Prop} {x : Int32} (b : Nat) (hx : x = nI (1000 * b)) (hb : b < 5) (Y : sr_YS T te) (h : ∀ r, sr_top 220 (fun t => T b (sr_P t) ≠ 0) (fun t => sr_dg (sr_P t)) r → post r) : wpY_highest post (te, sr_rP, sr_rS, su) x := by
  subst hx
  refine loop_0 (fun n t r => wY_highest_5 post (nI (1000 * b)) te sr_rP sr_rS su n r (nI t)) (fun t r => sr_top t (fun t => T b (sr_P t) ≠ 0) (fun t => sr_dg (sr_P t)) r) 220 (-4) (sr_top0 _ _) ?_ ?_
  · intro n r I
    exact br_t (nI_le (a := 220) (by omega) (by decide)) (h r I)
  · intro n t r ht I ih
    have hP := sr_P_ok t ht
    have rd : te (1000 * b + sr_P t) = T b (sr_P t) := Y b _ hb (sr_P_zp ht)
    show wY_highest_5 post (nI (1000 * b)) te sr_rP sr_rS su (n + 1) r (nI t)
    rw [wY_highest_5]
    dsimp only
    rw [sr_adP ht, sr_clP hb, rd, show sr_rP (nI t).toNatClampNeg = nI (sr_P t) by rw [nI_clamp (by omega)]; rfl]
    exact br_f (nI_ge (b := 220) ht (by decide)) ⟨vp_in_nI ht (by decide), sr_y_deg hP.1 ⟨vp_in_nI ht (by decide), sr_inP hb, br_c (fun z => nm_r (nI_1 t) (ih _ (sr_top_n I (fun y => y z)))) (fun z => br_c (fun y => nm_r (nI_1 t) (ih _ (sr_top_le I hP.2.1 y))) (fun y => nm_r (nI_1 t) (ih _ (sr_top_gt I hP.2.1 z y))))⟩⟩
end
end
section
/-- the place that a filling's term has -/
def sr_pl (d p q r : Nat) : Nat := 100 * r + (10 * (p + q - r) + (d - p - q))
def sr_in (d p q r m : Nat) : Int32 := if sr_pl d p q r = m then 1 else 0
theorem sr_pl_zp {d p q r : Nat} (hd : d ≤ 9) (hpq : p + q ≤ d) (hr : r ≤ p + q) : sr_zp (sr_pl d p q r) := by
  unfold sr_pl
  refine ⟨by omega, ?_⟩
  rw [sr_dgm (by omega) (by omega)]; omega
theorem sr_ts_k {s m : Nat} (hs : s < 53) (hm : sr_zp m) : sr_ts (sr_A s) (sr_B s) (sr_C s) (fun p q r => sr_in (sr_Z s) p q r m) = sr_kI s m := by
  have hb := sr_BA hs
  have hc := sr_CB hs
  have hz := sr_Z9 hs
  obtain ⟨i, j, k, hj, hk, rfl⟩ := sr_dec m
  have ed := sr_dgm (i := i) hj hk
  have hz' : sr_A s + sr_B s + sr_C s ≤ 9 := hz
  by_cases e : i + j + k = sr_Z s
  · obtain ⟨d1, d2, d3⟩ := sr_dg3 (i := i) hj hk
    rw [sr_kI1 (by rw [ed, e]), d1, d2]
    unfold sr_kS
    rw [← sr_tsk hb hc]
    refine sr_ts_c hb hc (fun p q r h1 h2 h3 h4 h5 h6 => ?_)
    clear d1 d2 d3 ed
    unfold sr_in sr_pl
    unfold sr_Z at e ⊢
    by_cases z : r = i ∧ p + q = i + j
    · rw [if_pos z, if_pos (by omega)]
    · rw [if_neg z, if_neg (by omega)]
  · rw [sr_kI0 (by rw [ed]; exact e)]
    refine sr_sg_z (fun p hp => sr_sg_z (fun q hq => sr_sg_z (fun r hr => ?_)))
    refine if_neg (fun z => e ?_)
    have hpq : sr_B s + p + (sr_C s + q) ≤ sr_Z s := by unfold sr_Z; omega
    have : sr_dg (sr_pl (sr_Z s) (sr_B s + p) (sr_C s + q) (sr_C s + q + r)) = sr_Z s := by
      unfold sr_pl
      rw [sr_dgm (by omega) (by omega)]; omega
    rw [z, ed] at this
    exact this
section
variable {T : Nat → Nat → Int32} {te su : Nat → Int32}
theorem sr_plI {a b c p q r : Nat} (hr : r ≤ p + q) (hpq : p + q ≤ a + b + c) : 100 * nI r + 10 * (nI p + nI q - nI r) + nI a + nI b + nI c - nI p - nI q = nI (sr_pl (a + b + c) p q r) := by
  unfold sr_pl
  rw [show (100 : Int32) = nI 100 from rfl, show (10 : Int32) = nI 10 from rfl, nI_add p q, pk_sub hr, pk_mul, pk_mul, nI_add, nI_add, nI_add, nI_add, pk_sub (by omega), pk_sub (by omega)]
  exact congrArg nI (by omega)
theorem sr_y_s49 {post : SY → Prop} {J29 J39 : Int32 → (Nat → Int32) → (Nat → Int32) → (Nat → Int32) → (Nat → Int32) → Prop} {a b c p q : Nat} {F : Nat → Int32} (hz : a + b + c ≤ 9) (hpq : p + q ≤ a + b + c) (hqp : q ≤ p) (Y : sr_YS (sr_sT T 2 F) te)
    (h : ∀ te' : Nat → Int32, sr_YS (sr_sT T 2 (fun m => F m + sr_sg (p + 1 - q) (fun r => sr_in (a + b + c) p q (q + r) m))) te' → J39 (nI (q + 1)) te' sr_rP sr_rS su) :
    ∃ n49 : Nat, wY_shape_49 post J29 J39 (nI a) (nI b) (nI c) (nI p) (nI q) n49 (nI q) te sr_rP sr_rS su := by
  refine loop_0 (fun n r te' => wY_shape_49 post J29 J39 (nI a) (nI b) (nI c) (nI p) (nI q) n (nI (q + r)) te' sr_rP sr_rS su) (fun r te' => sr_YS (sr_sT T 2 (fun m => F m + sr_sg r (fun r => sr_in (a + b + c) p q (q + r) m))) te') (p + 1 - q) te (sr_yC Y (fun m _ => ?_)) ?_ ?_
  · show F m + 0 = F m; grind
  · intro n te' I
    exact br_t (nI_lt (by omega) (by omega)) (nm_r (nI_1 q) (h te' I))
  · intro n r te' hr I ih
    have zpl := sr_pl_zp (d := a + b + c) (p := p) (q := q) (r := q + r) hz hpq (by omega)
    have ad : (2000 : Int32) + nI (sr_pl (a + b + c) p q (q + r)) = nI (1000 * 2 + sr_pl (a + b + c) p q (q + r)) := nI_add 2000 _
    have z1 := zpl.1
    have i1 : vp_in (2000 + nI (sr_pl (a + b + c) p q (q + r))) 5000 := by rw [ad]; exact vp_in_nI (by omega) (by decide)
    refine br_f (nI_nlt (by omega) (by omega)) (nm_r (sr_plI (by omega) hpq) ⟨i1, i1, nm_r (e' := upd te' (1000 * 2 + sr_pl (a + b + c) p q (q + r)) (te' (1000 * 2 + sr_pl (a + b + c) p q (q + r)) + 1)) (by rw [ad, nI_clamp (by omega)]) (nm_r (nI_1 _) (ih _ (sr_yW I zpl ?_ (fun m hm n => ?_))))⟩)
    · rw [I 2 _ (by decide) zpl, sr_sTs, sr_sgS]
      unfold sr_in
      rw [if_pos rfl]; grind
    · rw [sr_sgS]
      have : sr_in (a + b + c) p q (q + r) m = 0 := if_neg (fun z => n z.symm)
      rw [this]; grind
theorem sr_y_s39 {post : SY → Prop} {J29 : Int32 → (Nat → Int32) → (Nat → Int32) → (Nat → Int32) → (Nat → Int32) → Prop} {a b c p : Nat} {F : Nat → Int32} (hz : a + b + c ≤ 9) (hp : p ≤ a) (hbp : b ≤ p) (hc : c ≤ b) (Y : sr_YS (sr_sT T 2 F) te)
    (h : ∀ te' : Nat → Int32, sr_YS (sr_sT T 2 (fun m => F m + sr_sg (b + 1 - c) (fun q => sr_sg (p + 1 - (c + q)) (fun r => sr_in (a + b + c) p (c + q) (c + q + r) m)))) te' → J29 (nI (p + 1)) te' sr_rP sr_rS su) :
    ∃ n39 : Nat, wY_shape_39 post J29 (nI a) (nI b) (nI c) (nI p) n39 (nI c) te sr_rP sr_rS su := by
  refine loop_0 (fun n q te' => wY_shape_39 post J29 (nI a) (nI b) (nI c) (nI p) n (nI (c + q)) te' sr_rP sr_rS su) (fun q te' => sr_YS (sr_sT T 2 (fun m => F m + sr_sg q (fun q => sr_sg (p + 1 - (c + q)) (fun r => sr_in (a + b + c) p (c + q) (c + q + r) m)))) te') (b + 1 - c) te (sr_yC Y (fun m _ => ?_)) ?_ ?_
  · show F m + 0 = F m; grind
  · intro n te' I
    exact br_t (nI_lt (by omega) (by omega)) (nm_r (nI_1 p) (h te' I))
  · intro n q te' hq I ih
    refine br_f (nI_nlt (by omega) (by omega)) (sr_y_s49 (F := fun m => F m + sr_sg q (fun q => sr_sg (p + 1 - (c + q)) (fun r => sr_in (a + b + c) p (c + q) (c + q + r) m))) hz (by omega) (by omega) I (fun te2 I2 => ih te2 (sr_yC I2 (fun m _ => ?_))))
    rw [sr_sgS]; grind
theorem sr_y_shape {post : SY → Prop} {s : Nat} (hs : s < 53) (Y : sr_YS T te) (h : ∀ te' : Nat → Int32, sr_YS (sr_sT T 2 (sr_kI s)) te' → post (te', sr_rP, sr_rS, su)) : wpY_shape post (te, sr_rP, sr_rS, su) (nI (sr_S s)) := by
  have hS := sr_S_le s
  have hb := sr_BA hs
  have hc := sr_CB hs
  have hz : sr_A s + sr_B s + sr_C s ≤ 9 := sr_Z9 hs
  refine ⟨sr_n10, nm_r (e' := nI (sr_A s)) (sr_r10 (by omega)) ⟨sr_n10, sr_n10, nm_r (e' := nI (sr_B s)) (by rw [sr_d10 (by omega), sr_r10 (by omega)]; rfl) ⟨sr_n100, nm_r (e' := nI (sr_C s)) (sr_d100 (by omega)) ?_⟩⟩⟩
  refine sr_y_clear 2 rfl (by decide) Y (fun te0 Y0 => ?_)
  dsimp only
  have kk := fun m hm => sr_ts_k (m := m) hs hm
  unfold sr_ts sr_Z at kk
  generalize sr_A s = a at *
  generalize sr_B s = b at *
  generalize sr_C s = c at *
  refine loop_0 (fun n p te' => wY_shape_29 post (nI a) (nI b) (nI c) n (nI (b + p)) te' sr_rP sr_rS su) (fun p te' => sr_YS (sr_sT T 2 (fun m => sr_sg p (fun p => sr_sg (b + 1 - c) (fun q => sr_sg (b + p + 1 - (c + q)) (fun r => sr_in (a + b + c) (b + p) (c + q) (c + q + r) m))))) te') (a + 1 - b) te0 Y0 ?_ ?_
  · intro n te' I
    exact br_t (nI_lt (by omega) (by omega)) (h te' (sr_yC I (fun m hm => (kk m hm).symm)))
  · intro n p te' hp I ih
    exact br_f (nI_nlt (by omega) (by omega)) (sr_y_s39 (F := fun m => sr_sg p (fun p => sr_sg (b + 1 - c) (fun q => sr_sg (b + p + 1 - (c + q)) (fun r => sr_in (a + b + c) (b + p) (c + q) (c + q + r) m)))) hz (by omega) (by omega) hc I (fun te2 I2 => ih te2 I2))
def sr_tm (f g : Nat → Int32) (m s t : Nat) : Int32 := if sr_P s + sr_P t = m ∧ sr_dg (sr_P t) ≤ 9 - sr_dg (sr_P s) then f (sr_P s) * g (sr_P t) else 0
theorem sr_y_mul {post : SY → Prop} {x1 x2 x3 : Int32} (b1 b2 b3 : Nat) (h1 : x1 = nI (1000 * b1)) (h2 : x2 = nI (1000 * b2)) (h3 : x3 = nI (1000 * b3)) (hb1 : b1 < 5) (hb2 : b2 < 5) (hb3 : b3 < 5) (n1 : b1 ≠ b3) (n2 : b2 ≠ b3) (Y : sr_YS T te)
    (h : ∀ te' : Nat → Int32, sr_YS (sr_sT T b3 (sr_cv (T b1) (T b2))) te' → post (te', sr_rP, sr_rS, su)) : wpY_multiply post (te, sr_rP, sr_rS, su) x1 x2 x3 := by
  unfold wpY_multiply
  dsimp only
  refine sr_y_clear b3 h3 hb3 Y (fun te0 Y0 => ?_)
  dsimp only
  subst h1 h2 h3
  refine loop_0 (fun n s te' => wY_multiply_8 post (nI (1000 * b1)) (nI (1000 * b2)) (nI (1000 * b3)) n (nI s) te' sr_rP sr_rS su) (fun s te' => sr_YS (sr_sT T b3 (fun m => sr_sg s (fun s => sr_sg 220 (fun t => sr_tm (T b1) (T b2) m s t)))) te') 220 te0 Y0 ?_ ?_
  · intro n te' I
    exact br_t (nI_le (a := 220) (by omega) (by decide)) (h te' I)
  · intro n s te' hs I ih
    have hPs := sr_P_ok s hs
    have zs := sr_P_zp hs
    have nx : ∀ te2 : Nat → Int32, sr_YS (sr_sT T b3 (fun m => sr_sg s (fun s => sr_sg 220 (fun t => sr_tm (T b1) (T b2) m s t)) + sr_sg 220 (fun t => sr_tm (T b1) (T b2) m s t))) te2 → wY_multiply_8 post (nI (1000 * b1)) (nI (1000 * b2)) (nI (1000 * b3)) n (nI (s + 1)) te2 sr_rP sr_rS su := fun te2 I2 => ih te2 I2
    refine br_f (nI_ge (b := 220) hs (by decide)) ⟨vp_in_nI hs (by decide), nm_r (e' := nI (sr_P s)) (by rw [nI_clamp (by omega)]; rfl) (sr_y_deg hPs.1 (nm_r (e' := nI (9 - sr_dg (sr_P s))) (pk_sub (a := 9) hPs.2.1) ?_))⟩
    generalize hG : (fun m => sr_sg s (fun s => sr_sg 220 (fun t => sr_tm (T b1) (T b2) m s t))) = G at I
    have hGm : ∀ m, sr_sg s (fun s => sr_sg 220 (fun t => sr_tm (T b1) (T b2) m s t)) = G m := fun m => congrFun hG m
    simp only [hGm] at nx
    clear hG hGm ih
    refine loop_0 (fun f t te2 => wY_multiply_39 post (wY_multiply_8 post (nI (1000 * b1)) (nI (1000 * b2)) (nI (1000 * b3)) n) (nI (1000 * b1)) (nI (1000 * b2)) (nI (1000 * b3)) (nI s) (nI (sr_P s)) (nI (9 - sr_dg (sr_P s))) f (nI t) te2 sr_rP sr_rS su) (fun t te2 => sr_YS (sr_sT T b3 (fun m => G m + sr_sg t (fun t => sr_tm (T b1) (T b2) m s t))) te2) 220 te' (sr_yC I (fun m _ => ?_)) ?_ ?_
    · show G m + 0 = G m; grind
    · intro f te2 I2
      exact br_t (nI_le (a := 220) (by omega) (by decide)) (nm_r (nI_1 s) (nx te2 I2))
    · intro f t te2 ht I2 ih2
      have hPt := sr_P_ok t ht
      have zt := sr_P_zp ht
      have r1 : te2 (1000 * b1 + sr_P s) = T b1 (sr_P s) := by rw [I2 b1 _ hb1 zs, sr_sTn _ _ n1]
      have r2 : te2 (1000 * b2 + sr_P t) = T b2 (sr_P t) := by rw [I2 b2 _ hb2 zt, sr_sTn _ _ n2]
      have a3 : nI (1000 * b3) + nI (sr_P s) + nI (sr_P t) = nI (1000 * b3 + (sr_P s + sr_P t)) := by rw [nI_add, nI_add, Nat.add_assoc]
      show wY_multiply_39 post _ _ _ _ _ _ _ (f + 1) (nI t) te2 sr_rP sr_rS su
      rw [wY_multiply_39]
      dsimp only
      rw [show sr_rP (nI t).toNatClampNeg = nI (sr_P t) by rw [nI_clamp (by omega)]; rfl]
      have p1 : vp_in (nI (1000 * b1) + nI (sr_P s)) 5000 := by rw [nI_add]; exact sr_inP hb1
      have p2 : vp_in (nI (1000 * b2) + nI (sr_P t)) 5000 := by rw [nI_add]; exact sr_inP hb2
      rw [nI_add, sr_clP hb1, r1]
      rw [nI_add] at p1
      refine br_f (nI_ge (b := 220) ht (by decide)) ⟨p1, br_c (fun z => nm_r (nI_1 s) (nx te2 (sr_yC I2 (fun m _ => ?_)))) (fun z1 => ⟨vp_in_nI ht (by decide), nm_e ?_⟩)⟩
      · have zz : ∀ t, sr_tm (T b1) (T b2) m s t = 0 := fun t => by unfold sr_tm; rw [z, sr_m0, ite_self]
        rw [sr_sg_z (fun t _ => zz t), sr_sg_z (fun t _ => zz t)]
      · rw [nI_add, sr_clP hb2, r2]
        rw [nI_add] at p2
        refine ⟨p2, br_c (fun z => nm_r (nI_1 t) (ih2 te2 (sr_yC I2 (fun m _ => ?_)))) (fun z2 => sr_y_deg hPt.1 (pk_lt (9 - sr_dg (sr_P s)) (sr_dg (sr_P t)) (fun z => nm_r (nI_1 t) (ih2 te2 (sr_yC I2 (fun m _ => ?_)))) (fun z3 => ?_)))⟩
        · have zz : sr_tm (T b1) (T b2) m s t = 0 := by unfold sr_tm; rw [z, sr_m0r, ite_self]
          rw [sr_sgS, zz]; grind
        · have zz : sr_tm (T b1) (T b2) m s t = 0 := if_neg (fun y => by have := y.2; omega)
          rw [sr_sgS, zz]; grind
        · have z9 : sr_dg (sr_P s) + sr_dg (sr_P t) ≤ 9 := by have := hPs.2.1; omega
          have zpm : sr_zp (sr_P s + sr_P t) := by
            have q := sr_nc' z9
            have w := sr_nc z9
            refine ⟨?_, by omega⟩
            have := w.1
            unfold sr_dg at z9
            omega
          have z1' := zpm.1
          have p3 : vp_in (nI (1000 * b3 + (sr_P s + sr_P t))) 5000 := vp_in_nI (by omega) (by decide)
          rw [a3, nI_clamp (n := 1000 * b3 + (sr_P s + sr_P t)) (by omega)]
          refine ⟨p3, p1, p2, p3, nm_e (nm_r (nI_1 t) (ih2 _ (sr_yW I2 zpm ?_ (fun m hm n => ?_))))⟩
          · rw [I2 b3 _ hb3 zpm, sr_sTs, sr_sgS]
            have : sr_tm (T b1) (T b2) (sr_P s + sr_P t) s t = T b1 (sr_P s) * T b2 (sr_P t) := if_pos ⟨rfl, z3⟩
            rw [this]; grind
          · rw [sr_sgS]
            have : sr_tm (T b1) (T b2) m s t = 0 := if_neg (fun y => n y.1.symm)
            rw [this]; grind
end
end
section
section
variable {T : Nat → Nat → Int32} {te su : Nat → Int32}
theorem sr_y_term1 {post : Int32 → Prop} {x : Int32} (b : Nat) (hx : x = nI (1000 * b)) (hb : b < 5) (Y : sr_YS T te) {i j k : Nat} (hs : i + j + k ≤ 9) (h : post (T b (100 * i + 10 * j + k))) : wpY_term post (te, sr_rP, sr_rS, su) x (nI i) (nI j) (nI k) := by
  subst hx
  have zp : sr_zp (100 * i + 10 * j + k) := by
    rw [show 100 * i + 10 * j + k = 100 * i + (10 * j + k) by omega]
    exact ⟨by omega, by rw [sr_dgm (by omega) (by omega)]; omega⟩
  have ad : nI (1000 * b) + 100 * nI i + 10 * nI j + nI k = nI (1000 * b + (100 * i + 10 * j + k)) := by
    rw [show (100 : Int32) = nI 100 from rfl, show (10 : Int32) = nI 10 from rfl, pk_mul, pk_mul, nI_add, nI_add, nI_add]
    exact congrArg nI (by omega)
  refine br_f (nI_pos (by omega)) (br_f (nI_pos (by omega)) (br_f (nI_pos (by omega)) (br_f (nI_nlt (a := 9) (by omega) (by decide)) (br_f (nI_nlt (a := 9) (by omega) (by decide)) (br_f (nI_nlt (a := 9) (by omega) (by decide)) ?_)))))
  rw [nI_add, nI_add, ad, nI_clamp (by omega), Y b _ hb zp]
  exact br_t (nI_le (b := 9) hs (by decide)) ⟨vp_in_nI (by omega) (by decide), h⟩
theorem sr_y_term0 {post : Int32 → Prop} {x p1 p2 p3 : Int32} (hn : p1 < 0 ∨ p2 < 0 ∨ p3 < 0) (h : post 0) : wpY_term post (te, sr_rP, sr_rS, su) x p1 p2 p3 :=
  br_c (fun _ => h) (fun a => br_c (fun _ => h) (fun b => br_t ((hn.resolve_left a).resolve_left b) h))
theorem sr_y_tmG {post : Int32 → Prop} {x p1 p2 p3 : Int32} (b : Nat) (hx : x = nI (1000 * b)) (hb : b < 5) (Y : sr_YS T te) (g : Prop) [Decidable g] {i j k q0 : Nat} (h1 : g → p1 = nI i ∧ p2 = nI j ∧ p3 = nI k ∧ i + j + k ≤ 9) (h0 : ¬ g → p1 < 0 ∨ p2 < 0 ∨ p3 < 0)
    (h : post (nI (if g then 1 else 0) * T b (if g then 100 * i + 10 * j + k else q0))) : wpY_term post (te, sr_rP, sr_rS, su) x p1 p2 p3 := by
  by_cases c : g
  · obtain ⟨e1, e2, e3, e4⟩ := h1 c
    rw [if_pos c, if_pos c, show ∀ y : Int32, nI 1 * y = y by intro y; show 1 * y = y; grind] at h
    rw [e1, e2, e3]
    exact sr_y_term1 b hx hb Y e4 h
  · rw [if_neg c, if_neg c, show ∀ y : Int32, nI 0 * y = 0 by intro y; show 0 * y = 0; grind] at h
    exact sr_y_term0 (h0 c) h
theorem sr_y_bf {post : Int32 → Prop} {x : Int32} (b : Nat) (hx : x = nI (1000 * b)) (hb : b < 5) (Y : sr_YS T te) {t : Nat} (ht : t < 53) (h : post (sr_bf (T b) t)) : wpY_before post (te, sr_rP, sr_rS, su) x (nI (sr_S t)) := by
  have hS := sr_S_le t
  have hba := sr_BA ht
  have hcb := sr_CB ht
  have hz : sr_A t + sr_B t + sr_C t ≤ 9 := sr_Z9 ht
  have ex : sr_bf (T b) t = (nI (sr_bw t 0) * T b (sr_bq t 0) + nI (sr_bw t 1) * T b (sr_bq t 1) + nI (sr_bw t 2) * T b (sr_bq t 2)) - (nI (sr_bw t 3) * T b (sr_bq t 3) + nI (sr_bw t 4) * T b (sr_bq t 4) + nI (sr_bw t 5) * T b (sr_bq t 5)) := by
    show (0 + nI (sr_bw t 0) * T b (sr_bq t 0) + nI (sr_bw t 1) * T b (sr_bq t 1) + nI (sr_bw t 2) * T b (sr_bq t 2)) - (0 + nI (sr_bw t 3) * T b (sr_bq t 3) + nI (sr_bw t 4) * T b (sr_bq t 4) + nI (sr_bw t 5) * T b (sr_bq t 5)) = _
    grind
  rw [ex] at h
  refine ⟨sr_n10, nm_r (e' := nI (sr_A t)) (sr_r10 (by omega)) ⟨sr_n10, sr_n10, nm_r (e' := nI (sr_B t)) (by rw [sr_d10 (by omega), sr_r10 (by omega)]; rfl) ⟨sr_n100, nm_r (e' := nI (sr_C t)) (sr_d100 (by omega)) ?_⟩⟩⟩
  rw [show sr_bw t 0 = 1 from rfl,
    show sr_bq t 0 = 100 * sr_A t + 10 * sr_B t + sr_C t from rfl,
    show sr_bw t 1 = (if 2 ≤ sr_C t then 1 else 0) from rfl,
    show sr_bq t 1 = (if 2 ≤ sr_C t then 100 * (sr_A t + 1) + 10 * (sr_B t + 1) + (sr_C t - 2) else 100 * sr_A t + 10 * sr_B t + sr_C t) from rfl,
    show sr_bw t 2 = (if 1 ≤ sr_C t then 1 else 0) from rfl,
    show sr_bq t 2 = (if 1 ≤ sr_C t then 100 * (sr_A t + 2) + 10 * (sr_B t - 1) + (sr_C t - 1) else 100 * sr_A t + 10 * sr_B t + sr_C t) from rfl,
    show sr_bw t 3 = (if 1 ≤ sr_C t then 1 else 0) from rfl,
    show sr_bq t 3 = (if 1 ≤ sr_C t then 100 * sr_A t + 10 * (sr_B t + 1) + (sr_C t - 1) else 100 * sr_A t + 10 * sr_B t + sr_C t) from rfl,
    show sr_bw t 4 = (if 1 ≤ sr_B t then 1 else 0) from rfl,
    show sr_bq t 4 = (if 1 ≤ sr_B t then 100 * (sr_A t + 1) + 10 * (sr_B t - 1) + sr_C t else 100 * sr_A t + 10 * sr_B t + sr_C t) from rfl,
    show sr_bw t 5 = (if 2 ≤ sr_C t then 1 else 0) from rfl,
    show sr_bq t 5 = (if 2 ≤ sr_C t then 100 * (sr_A t + 2) + 10 * sr_B t + (sr_C t - 2) else 100 * sr_A t + 10 * sr_B t + sr_C t) from rfl] at h
  generalize sr_A t = a at *
  generalize sr_B t = bb at *
  generalize sr_C t = c at *
  refine sr_y_term1 b hx hb Y hz ?_
  refine sr_y_tmG b hx hb Y (2 ≤ c) (i := a + 1) (j := bb + 1) (k := c - 2) (q0 := 100 * a + 10 * bb + c) (fun g => ⟨nI_1 a, nI_1 bb, pk_sub (b := 2) g, by omega⟩) (fun g => Or.inr (Or.inr (pk_sneg (b := 2) (by decide) (by omega)))) ?_
  refine sr_y_tmG b hx hb Y (1 ≤ c) (i := a + 2) (j := bb - 1) (k := c - 1) (q0 := 100 * a + 10 * bb + c) (fun g => ⟨nI_add a 2, pk_sub (b := 1) (by omega), pk_sub (b := 1) g, by omega⟩) (fun g => Or.inr (Or.inr (pk_sneg (b := 1) (by decide) (by omega)))) ?_
  refine nm_e ?_
  refine sr_y_tmG b hx hb Y (1 ≤ c) (i := a) (j := bb + 1) (k := c - 1) (q0 := 100 * a + 10 * bb + c) (fun g => ⟨rfl, nI_1 bb, pk_sub (b := 1) g, by omega⟩) (fun g => Or.inr (Or.inr (pk_sneg (b := 1) (by decide) (by omega)))) ?_
  refine sr_y_tmG b hx hb Y (1 ≤ bb) (i := a + 1) (j := bb - 1) (k := c) (q0 := 100 * a + 10 * bb + c) (fun g => ⟨nI_1 a, pk_sub (b := 1) g, rfl, by omega⟩) (fun g => Or.inr (Or.inl (pk_sneg (b := 1) (by decide) (by omega)))) ?_
  refine sr_y_tmG b hx hb Y (2 ≤ c) (i := a + 2) (j := bb) (k := c - 2) (q0 := 100 * a + 10 * bb + c) (fun g => ⟨nI_add a 2, rfl, pk_sub (b := 2) g, by omega⟩) (fun g => Or.inr (Or.inr (pk_sneg (b := 2) (by decide) (by omega)))) ?_
  refine nm_e ?_
  rw [show ∀ y : Int32, nI 1 * y = y by intro y; show 1 * y = y; grind] at h
  exact h
theorem sr_rSc {s : Nat} (h : s < 53) : sr_rS (nI s).toNatClampNeg = nI (sr_S s) := by rw [nI_clamp (by omega)]; rfl
theorem sr_y_shapes {post : Int32 → Prop} {e : Nat} (he : e < 2) (Y : sr_YS T te) (h : post (sr_sg 53 (fun s => if sr_bf (T e) s = 0 then 0 else 1))) : ∃ n14 : Nat, wY_shapes_14 post (nI e) te sr_rP sr_rS su n14 0 0 := by
  refine loop_0 (σ := Unit) (fun n s _ => wY_shapes_14 post (nI e) te sr_rP sr_rS su n (sr_sg s (fun s => if sr_bf (T e) s = 0 then 0 else 1)) (nI s)) (fun _ _ => True) 53 () trivial ?_ ?_
  · intro n _ _
    exact br_t (nI_le (a := 53) (by omega) (by decide)) h
  · intro n s _ hs _ ih
    have ih' := ih () trivial
    rw [sr_sgS] at ih'
    show wY_shapes_14 post (nI e) te sr_rP sr_rS su (n + 1) _ (nI s)
    rw [wY_shapes_14]
    dsimp only
    rw [sr_rSc hs]
    refine br_f (nI_ge (b := 53) hs (by decide)) ⟨vp_in_nI hs (by decide), sr_y_bf e (sr_k1000 e) (by omega) Y hs (br_c (fun z => nm_r (nI_1 s) ?_) (fun z => nm_e (nm_r (nI_1 s) ?_)))⟩
    · rw [if_pos z, show ∀ x : Int32, x + 0 = x by intro x; grind] at ih'; exact ih'
    · rw [if_neg z] at ih'; exact ih'
theorem sr_y_inner {post : Int32 → Prop} (Y : sr_YS T te) (h : post (sr_sg 53 (fun s => sr_bf (T 0) s * sr_bf (T 1) s))) : wpY_inner post (te, sr_rP, sr_rS, su) := by
  refine loop_0 (σ := Unit) (fun n s _ => wY_inner_4 post te sr_rP sr_rS su n (sr_sg s (fun s => sr_bf (T 0) s * sr_bf (T 1) s)) (nI s)) (fun _ _ => True) 53 () trivial ?_ ?_
  · intro n _ _
    exact br_t (nI_le (a := 53) (by omega) (by decide)) h
  · intro n s _ hs _ ih
    show wY_inner_4 post te sr_rP sr_rS su (n + 1) _ (nI s)
    rw [wY_inner_4]
    dsimp only
    rw [sr_rSc hs]
    exact br_f (nI_ge (b := 53) hs (by decide)) ⟨vp_in_nI hs (by decide), sr_y_bf 0 rfl (by decide) Y hs ⟨vp_in_nI hs (by decide), sr_y_bf 1 rfl (by decide) Y hs (nm_e (nm_r (nI_1 s) (ih () trivial)))⟩⟩
theorem sr_y_pow {post : Int32 → Prop} (x : Int32) {n : Nat} (hn : n < 100) (h : post (sr_h1 x n)) : wpY_power post (te, sr_rP, sr_rS, su) x (nI n) := by
  refine loop_0 (σ := Unit) (fun f k _ => wY_power_5 post x (nI n) te sr_rP sr_rS su f (sr_h1 x k) (nI k)) (fun _ _ => True) n () trivial ?_ ?_
  · intro f _ _
    exact br_t (nI_le (by omega) (by omega)) h
  · intro f k _ hk _ ih
    exact br_f (nI_ge hk (by omega)) (nm_e (nm_r (nI_1 k) (ih () trivial)))
theorem sr_y_val {post : Int32 → Prop} {e : Nat} (he : e < 2) (x y z : Int32) (Y : sr_YS T te) (h : post (sr_sg 220 (fun t => T e (sr_P t) * sr_mo x y z (sr_P t)))) : ∃ n16 : Nat, wY_value_16 post (nI e) x y z te sr_rP sr_rS su n16 0 0 := by
  refine loop_0 (σ := Unit) (fun n t _ => wY_value_16 post (nI e) x y z te sr_rP sr_rS su n (sr_sg t (fun t => T e (sr_P t) * sr_mo x y z (sr_P t))) (nI t)) (fun _ _ => True) 220 () trivial ?_ ?_
  · intro n _ _
    exact br_t (nI_le (a := 220) (by omega) (by decide)) h
  · intro n t _ ht _ ih
    have hP := sr_P_le t
    have ih' := ih () trivial
    rw [sr_sgS] at ih'
    refine br_f (nI_ge (b := 220) ht (by decide)) ⟨vp_in_nI ht (by decide), nm_r (e' := nI (sr_P t)) (by rw [nI_clamp (by omega)]; rfl) ⟨sr_n100, ?_⟩⟩
    rw [sr_r10 (by omega), sr_d10 (by omega), sr_r10 (by omega), sr_d100 (by omega), sr_k1000, nI_add, sr_clP (by omega), Y e _ (by omega) (sr_P_zp ht)]
    refine sr_y_pow x (by omega) ⟨sr_n10, sr_n10, sr_y_pow y (by omega) ⟨sr_n10, sr_y_pow z (by omega) ⟨sr_inP (by omega), nm_r (e' := sr_sg t (fun t => T e (sr_P t) * sr_mo x y z (sr_P t)) + T e (sr_P t) * sr_mo x y z (sr_P t)) ?_ (nm_r (nI_1 t) ih')⟩⟩⟩
    unfold sr_mo
    grind
end
theorem sr_y_init {post : SY → Prop} (h : post (fun _ => 0, sr_rP, sr_rS, fun _ => 0)) : wpY_init post := by
  have c2 : ∃ n79 : Nat, wY_init_79 post n79 (nI 0) (nI 0) (fun _ => 0) sr_rP (sr_tb sr_S 0) (fun _ => 0) := by
    refine loop_0 (fun f k n => wY_init_79 post f (nI n) (nI k) (fun _ => 0) sr_rP (sr_tb sr_S n) (fun _ => 0)) (fun k n => sr_iv sr_S 53 k n) 1000 0 sr_iv0 ?_ ?_
    · intro f n I
      have e := sr_iv_end I (fun t _ => sr_S_le t)
      subst e
      refine br_t (nI_le (a := 1000) (by omega) (by decide)) ?_
      have fS : sr_tb sr_S 53 = sr_rS := by
        funext j; unfold sr_tb sr_rS
        by_cases z : j < 53
        · rw [if_pos z]
        · rw [if_neg z, sr_S_out (by omega)]; rfl
      rw [fS]
      exact h
    · intro f k n hk I ih
      have sw : ∀ {post' : Int32 → Prop}, (sr_sh k → post' 1) → (¬ sr_sh k → post' 0) → wpY_isShape post' ((fun _ => 0), sr_rP, (sr_tb sr_S n), (fun _ => 0)) (nI k) := by
        intro post' g1 g0
        exact sr_y_shN (te := fun _ => 0) (su := fun _ => 0) hk g1 g0
      refine br_f (nI_ge (b := 1000) hk (by decide)) (sw (fun z => ?_) (fun z => br_t rfl (nm_r (nI_1 k) (ih n (sr_iv_miss I (fun t ht e => z (by rw [← e]; exact sr_S_sh ht)))))))
      obtain ⟨t, ht, et⟩ := sr_sh_S z
      obtain ⟨hn, en, I'⟩ := sr_iv_hit sr_S_up' I ht et
      exact br_f (by decide) ⟨vp_in_nI hn (by decide), nm_r (e' := sr_tb sr_S (n + 1)) (by rw [nI_clamp (by omega), ← sr_tbs, en]) (nm_r (nI_1 n) (nm_r (nI_1 k) (ih _ I')))⟩
  have c1 : ∃ n42 : Nat, wY_init_42 post n42 (nI 0) (nI 0) (fun _ => 0) (sr_tb sr_P 0) (fun _ => 0) (fun _ => 0) := by
    refine loop_0 (fun f k n => wY_init_42 post f (nI n) (nI k) (fun _ => 0) (sr_tb sr_P n) (fun _ => 0) (fun _ => 0)) (fun k n => sr_iv sr_P 220 k n) 1000 0 sr_iv0 ?_ ?_
    · intro f n I
      have e := sr_iv_end I (fun t _ => sr_P_le t)
      subst e
      refine br_t (nI_le (a := 1000) (by omega) (by decide)) ?_
      have fP : sr_tb sr_P 220 = sr_rP := by
        funext j; unfold sr_tb sr_rP
        by_cases z : j < 220
        · rw [if_pos z]
        · rw [if_neg z, sr_P_out (by omega)]; rfl
      rw [fP]
      rw [sr_tb0] at c2
      exact c2
    · intro f k n hk I ih
      have dw : ∀ {post' : Int32 → Prop}, post' (nI (sr_dg k)) → wpY_degreeOf post' ((fun _ => 0), (sr_tb sr_P n), (fun _ => 0), (fun _ => 0)) (nI k) := by
        intro post' g
        exact sr_y_deg (te := fun _ => 0) (su := fun _ => 0) hk g
      have d30 : sr_dg k ≤ 30 := by unfold sr_dg; omega
      refine br_f (nI_ge (b := 1000) hk (by decide)) (dw (pk_lt 9 (sr_dg k) (fun c => nm_r (nI_1 k) (ih n (sr_iv_miss I (fun t ht e => ?_)))) (fun c => ?_)))
      · have := (sr_P_ok t ht).2.1
        rw [e] at this; omega
      · obtain ⟨ht, et⟩ := sr_ix_ok k hk c
        obtain ⟨hn, en, I'⟩ := sr_iv_hit sr_P_up' I ht et
        exact ⟨vp_in_nI hn (by decide), nm_r (e' := sr_tb sr_P (n + 1)) (by rw [nI_clamp (by omega), ← sr_tbs, en]) (nm_r (nI_1 n) (nm_r (nI_1 k) (ih _ I')))⟩
  rw [sr_tb0] at c1
  exact c1
end
section
/-- the sum that is kept for shape s -/
def sr_sv (f : Nat → Int32) (p s : Nat) : Int32 := if sr_Z p + sr_Z s ≤ 9 then sr_sg 53 (fun t => sr_bf (sr_cv (sr_kI p) (sr_kI s)) t * sr_bf f t) else 0
section
variable {T : Nat → Nat → Int32} {te su : Nat → Int32}
theorem sr_y_sk2 {post : Int32 → SY → Prop} {e : Nat} {v : Nat → Int32} (he : e < 2) (hv : ∀ s, s < 53 → su s = v s) (Y : sr_YS T te) (h0 : ∀ m, sr_zp m → T e m = 0)
    (h : ∀ (te' : Nat → Int32) (T' : Nat → Nat → Int32), sr_YS T' te' → (∀ m, sr_zp m → T' e m = sr_vl v m) → (∀ b, b < 2 → b ≠ e → T' b = T b) → post 0 (te', sr_rP, sr_rS, su)) :
    ∃ n173 : Nat, wY_skew_173 post (nI e) n173 0 te sr_rP sr_rS su := by
  refine loop_0 (fun n k te' => wY_skew_173 post (nI e) n (nI k) te' sr_rP sr_rS su) (fun k te' => ∃ T' : Nat → Nat → Int32, sr_YS T' te' ∧ (∀ m, sr_zp m → T' e m = sr_sg k (fun s => v s * sr_kI s m)) ∧ (∀ b, b < 2 → b ≠ e → T' b = T b)) 53 te ⟨T, Y, h0, fun _ _ _ => rfl⟩ ?_ ?_
  · intro n te' ⟨T', Y', h1, h2⟩
    exact br_t (nI_le (a := 53) (by omega) (by decide)) (h te' T' Y' h1 h2)
  · intro n k te' hk ⟨T', Y', h1, h2⟩ ih
    show wY_skew_173 post (nI e) (n + 1) (nI k) te' sr_rP sr_rS su
    rw [wY_skew_173]
    dsimp only
    rw [sr_rSc hk]
    refine br_f (nI_ge (b := 53) hk (by decide)) ⟨vp_in_nI hk (by decide), sr_y_shape hk Y' (fun te1 Y1 => ?_)⟩
    dsimp only
    refine ⟨vp_in_nI hk (by decide), ?_⟩
    rw [nI_clamp (by omega), hv k hk]
    refine sr_y_add 2 e (v k) rfl (sr_k1000 e) (by decide) (by omega) Y1 (fun te2 Y2 => ?_)
    dsimp only
    refine nm_r (nI_1 k) (ih te2 ⟨_, Y2, fun m hm => ?_, fun b hb n => ?_⟩)
    · rw [sr_sTs, sr_sTs, sr_sTn _ _ (by omega), h1 m hm, sr_sgS]
    · rw [sr_sTn _ _ n, sr_sTn _ _ (by omega), h2 b hb n]
theorem sr_y_skew {post : Int32 → SY → Prop} {e p : Nat} (he : e < 2) (hp : p < 53) (Y : sr_YS T te)
    (h : ∀ (te' su' : Nat → Int32) (T' : Nat → Nat → Int32), sr_YS T' te' → (∀ m, sr_zp m → T' e m = sr_vl (sr_sv (T e) p) m) → (∀ b, b < 2 → b ≠ e → T' b = T b) → post 0 (te', sr_rP, sr_rS, su')) :
    ∃ n20 : Nat, wY_skew_20 post (nI e) (nI (sr_S p)) n20 0 te sr_rP sr_rS su := by
  refine loop_0 (σ := (Nat → Int32) × (Nat → Int32)) (fun n k st => wY_skew_20 post (nI e) (nI (sr_S p)) n (nI k) st.1 sr_rP sr_rS st.2) (fun k st => (∃ T' : Nat → Nat → Int32, sr_YS T' st.1 ∧ ∀ b, b < 2 → T' b = T b) ∧ ∀ s, s < k → st.2 s = sr_sv (T e) p s) 53 (te, su) ⟨⟨T, Y, fun _ _ => rfl⟩, fun s hs => by omega⟩ ?_ ?_
  · intro n ⟨te', su'⟩ ⟨⟨T', Y', h1⟩, h2⟩
    dsimp only at Y' h2
    refine br_t (nI_le (a := 53) (by omega) (by decide)) (sr_y_clear e (sr_k1000 e) (by omega) Y' (fun te0 Y0 => ?_))
    dsimp only
    refine sr_y_sk2 he h2 Y0 (fun m _ => by rw [sr_sTs]) (fun te1 T1 Y1 g1 g2 => h te1 su' T1 Y1 g1 (fun b hb n => ?_))
    rw [g2 b hb n, sr_sTn _ _ n, h1 b hb]
  · intro n k ⟨te', su'⟩ hk ⟨⟨T', Y', h1⟩, h2⟩ ih
    dsimp only at Y' h2
    have zp := sr_Z9 hp
    have zk := sr_Z9 hk
    have ik : vp_in (nI k) 53 := vp_in_nI hk (by decide)
    show wY_skew_20 post (nI e) (nI (sr_S p)) (n + 1) (nI k) te' sr_rP sr_rS su'
    rw [wY_skew_20]
    dsimp only
    refine br_f (nI_ge (b := 53) hk (by decide)) (sr_y_shape hp Y' (fun te1 Y1 => ?_))
    dsimp only
    refine sr_y_copy 2 4 rfl rfl (by decide) (by decide) Y1 (fun te2 Y2 => ?_)
    dsimp only
    rw [sr_rSc hk]
    refine ⟨ik, sr_y_shape hk Y2 (fun te3 Y3 => ?_)⟩
    dsimp only
    have b2 : ∀ b, b < 2 → sr_sT (sr_sT (sr_sT T' 2 (sr_kI p)) 4 (sr_sT T' 2 (sr_kI p) 2)) 2 (sr_kI k) b = T b := fun b hb => by
      rw [sr_sTn _ _ (by omega), sr_sTn _ _ (by omega), sr_sTn _ _ (by omega), h1 b hb]
    have e4 : sr_sT (sr_sT (sr_sT T' 2 (sr_kI p)) 4 (sr_sT T' 2 (sr_kI p) 2)) 2 (sr_kI k) 4 = sr_kI p := by
      rw [sr_sTn _ _ (by decide), sr_sTs, sr_sTs]
    have e2 : sr_sT (sr_sT (sr_sT T' 2 (sr_kI p)) 4 (sr_sT T' 2 (sr_kI p) 2)) 2 (sr_kI k) 2 = sr_kI k := sr_sTs _ _ _
    generalize sr_sT (sr_sT (sr_sT T' 2 (sr_kI p)) 4 (sr_sT T' 2 (sr_kI p) 2)) 2 (sr_kI k) = T3 at Y3 b2 e4 e2
    rw [sr_rSc hk]
    refine ⟨ik, nm_r (e' := upd su' k 0) (by rw [nI_clamp (by omega)]) (sr_y_size ⟨ik, sr_y_size ?_⟩)⟩
    rw [nI_add]
    refine pk_lt 9 (sr_Z p + sr_Z k) (fun c => nm_r (nI_1 k) (ih (te3, upd su' k 0) ⟨⟨T3, Y3, b2⟩, fun s hs => ?_⟩)) (fun c => sr_y_mul 4 2 3 rfl rfl rfl (by decide) (by decide) (by decide) (by decide) (by decide) Y3 (fun te4 Y4 => ?_))
    · show upd su' k 0 s = _
      rw [sr_upd]
      by_cases z : s = k
      · rw [if_pos z, z]; exact (if_neg (by omega)).symm
      · rw [if_neg z]; exact h2 s (by omega)
    · dsimp only
      rw [e4, e2] at Y4
      have b4 : ∀ b, b < 2 → sr_sT T3 3 (sr_cv (sr_kI p) (sr_kI k)) b = T b := fun b hb => by rw [sr_sTn _ _ (by omega), b2 b hb]
      have e3 : sr_sT T3 3 (sr_cv (sr_kI p) (sr_kI k)) 3 = sr_cv (sr_kI p) (sr_kI k) := sr_sTs _ _ _
      generalize sr_sT T3 3 (sr_cv (sr_kI p) (sr_kI k)) = T4 at Y4 b4 e3
      refine loop_0 (fun f t su2 => wY_skew_95 post (wY_skew_20 post (nI e) (nI (sr_S p)) n) (nI e) (nI (sr_S p)) (nI k) f (nI t) te4 sr_rP sr_rS su2) (fun t su2 => su2 k = sr_sg t (fun t => sr_bf (sr_cv (sr_kI p) (sr_kI k)) t * sr_bf (T e) t) ∧ ∀ s, s < k → su2 s = sr_sv (T e) p s) 53 (upd su' k 0) ⟨by rw [sr_upd, if_pos rfl]; rfl, fun s hs => by rw [sr_upd, if_neg (by omega)]; exact h2 s hs⟩ ?_ ?_
      · intro f su2 ⟨g1, g2⟩
        refine br_t (nI_le (a := 53) (by omega) (by decide)) (nm_r (nI_1 k) (ih (te4, su2) ⟨⟨T4, Y4, b4⟩, fun s hs => ?_⟩))
        show su2 s = _
        by_cases z : s = k
        · rw [z, g1]; exact (if_pos c).symm
        · exact g2 s (by omega)
      · intro f t su2 ht ⟨g1, g2⟩ ih2
        show wY_skew_95 post _ (nI e) (nI (sr_S p)) (nI k) (f + 1) (nI t) te4 sr_rP sr_rS su2
        rw [wY_skew_95]
        dsimp only
        rw [sr_rSc ht]
        refine br_f (nI_ge (b := 53) ht (by decide)) ⟨vp_in_nI ht (by decide), sr_y_bf 3 rfl (by decide) Y4 ht ⟨vp_in_nI ht (by decide), sr_y_bf e (sr_k1000 e) (by omega) Y4 ht ⟨ik, ik, ?_⟩⟩⟩
        rw [e3, b4 e he]
        refine nm_r (e' := upd su2 k (su2 k + sr_bf (sr_cv (sr_kI p) (sr_kI k)) t * sr_bf (T e) t)) (by rw [nI_clamp (by omega)]) (nm_r (nI_1 t) (ih2 _ ⟨?_, fun s hs => ?_⟩))
        · rw [sr_upd, if_pos rfl, g1, sr_sgS]
        · rw [sr_upd, if_neg (by omega)]; exact g2 s hs
end
end
section
theorem sr_vl_c {c c' : Nat → Int32} (h : ∀ s, s < 53 → c s = c' s) (m : Nat) : sr_vl c m = sr_vl c' m := sr_sg_c (fun s hs => by rw [h s hs])
/-- the relation: both hold the same two elements -/
def i_Rel (k : Nat) (u : SX) (v : SY) : Prop := ∃ (co ma cm te su : Nat → Int32) (T : Nat → Nat → Int32), u = (53, sr_rA, sr_rB, sr_rC, co, ma, cm) ∧ v = (te, sr_rP, sr_rS, su) ∧ sr_YS T te ∧ ∀ e m, e < 2 → sr_zp m → T e m = sr_vl (fun s => co (60 * e + s)) m
theorem sr_mk {k : Nat} {co ma cm te su : Nat → Int32} {T : Nat → Nat → Int32} (Y : sr_YS T te) (R : ∀ e m, e < 2 → sr_zp m → T e m = sr_vl (fun s => co (60 * e + s)) m) : i_Rel k (53, sr_rA, sr_rB, sr_rC, co, ma, cm) (te, sr_rP, sr_rS, su) :=
  ⟨co, ma, cm, te, su, T, rfl, rfl, Y, R⟩
theorem i_up {k : Nat} {u : SX} {v : SY} (h : i_Rel k u v) : i_Rel (k + 5) u v := h
theorem i_vc0 : wpX_init (fun u => wpY_init (fun v => i_Rel 0 u v)) := by
  refine sr_x_init (sr_y_init (sr_mk (T := fun _ _ => 0) (fun _ _ _ _ => rfl) (fun e m _ _ => ?_)))
  exact (sr_sg_z (fun s _ => sr_m0 _)).symm
theorem sr_x_shA {co ma cm : Nat → Int32} {post : Int32 → Prop} (v : Int32) (h : ∀ r, post r) : wpX_shapeOf post (53, sr_rA, sr_rB, sr_rC, co, ma, cm) v := by
  rcases sr_code v with ⟨s, hs, rfl⟩ | hv
  · exact sr_x_sh1 hs (h _)
  · exact sr_x_sh0 hv (h _)
theorem i_vc_add {k : Nat} {u : SX} {v : SY} (I : i_Rel k u v) (hk : k + 5 ≤ 2560) (v1 : Int32) (v2 : Int32) (v3 : Int32) : wpX_add (fun r u' => wpY_add (fun r' v' => r' = r ∧ i_Rel (k + 5) u' v') v v1 v2 v3) u v1 v2 v3 := by
  obtain ⟨co, ma, cm, te, su, T, rfl, rfl, Y, R⟩ := I
  unfold wpX_add
  dsimp only
  rcases sr_e v1 with ⟨e, he, rfl⟩ | hb
  · rcases sr_code v2 with ⟨s, hs, rfl⟩ | hc
    · refine sr_x_sh1 hs (sr_x_bad0 he (br_t rfl (br_t (nI_pos' (by omega)) ?_)))
      rw [sr_ad60, nI_clamp (by omega)]
      have i1 : vp_in (nI (60 * e + s)) 120 := vp_in_nI (by omega) (by decide)
      refine ⟨i1, i1, nm_e ?_⟩
      unfold wpY_add
      dsimp only
      refine sr_y_bad0 he (br_t rfl (sr_y_sh1 hs (br_f (by decide) (sr_y_shape hs Y (fun te1 Y1 => ?_)))))
      dsimp only
      refine sr_y_add 2 e v3 rfl (sr_k1000 e) (by decide) (by omega) Y1 (fun te2 Y2 => ?_)
      dsimp only
      refine ⟨rfl, sr_mk Y2 (fun e' m he' hm => ?_)⟩
      by_cases z : e' = e
      · subst z
        rw [sr_sTs, sr_sTs, sr_sTn _ _ (by omega), R _ m he hm]
        have a : sr_vl (fun s_1 => upd co (60 * e' + s) (co (60 * e' + s) + v3) (60 * e' + s_1)) m = sr_sg 53 (fun s1 => co (60 * e' + s1) * sr_kI s1 m + (if s1 = s then v3 * sr_kI s m else 0)) := by
          refine sr_sg_c (fun s1 _ => ?_)
          dsimp only
          rw [sr_upd]
          by_cases q : s1 = s
          · rw [if_pos (by omega), if_pos q, q]; grind
          · rw [if_neg (by omega), if_neg q]; grind
        rw [a, sr_sg_add, sr_sg_1 (f := fun s1 => if s1 = s then v3 * sr_kI s m else 0) s hs (fun i _ n => if_neg n), if_pos rfl]
        rfl
      · rw [sr_sTn _ _ z, sr_sTn _ _ (by omega), R _ m he' hm]
        exact sr_vl_c (fun s1 h1 => by rw [sr_upd, if_neg (by omega)]) m
    · refine sr_x_sh0 hc (sr_x_bad0 he (br_t rfl (br_f (by decide) ?_)))
      unfold wpY_add
      dsimp only
      exact sr_y_bad0 he (br_t rfl (sr_y_sh0 hc (br_t rfl ⟨rfl, sr_mk Y R⟩)))
  · refine sr_x_shA v2 (fun r => sr_x_bad1 hb (br_f (by decide) ?_))
    unfold wpY_add
    dsimp only
    exact sr_y_bad1 hb (br_f (by decide) ⟨rfl, sr_mk Y R⟩)
theorem i_vc_scale {k : Nat} {u : SX} {v : SY} (I : i_Rel k u v) (hk : k + 5 ≤ 2560) (v1 : Int32) (v2 : Int32) : wpX_scale (fun r u' => wpY_scale (fun r' v' => r' = r ∧ i_Rel (k + 5) u' v') v v1 v2) u v1 v2 := by
  obtain ⟨co, ma, cm, te, su, T, rfl, rfl, Y, R⟩ := I
  unfold wpX_scale
  dsimp only
  rcases sr_e v1 with ⟨e, he, rfl⟩ | hb
  · refine sr_x_bad0 he (br_t rfl (sr_x_scale he v2 (fun co' h1 h2 => ?_)))
    unfold wpY_scale
    dsimp only
    refine sr_y_bad0 he (br_t rfl (sr_y_scale he v2 Y (fun te' Y' => ⟨rfl, sr_mk Y' (fun e' m he' hm => ?_)⟩)))
    by_cases z : e' = e
    · subst z
      rw [sr_sTs, R _ m he hm]
      unfold sr_vl
      rw [← sr_sg_mr]
      exact sr_sg_c (fun s hs => by dsimp only; rw [h1 s hs]; grind)
    · rw [sr_sTn _ _ z, R _ m he' hm]
      exact sr_vl_c (fun s hs => (h2 e' s he' z (by omega)).symm) m
  · refine sr_x_bad1 hb (br_f (by decide) ?_)
    unfold wpY_scale
    dsimp only
    exact sr_y_bad1 hb (br_f (by decide) ⟨rfl, sr_mk Y R⟩)
theorem i_vc_combine {k : Nat} {u : SX} {v : SY} (I : i_Rel k u v) (hk : k + 5 ≤ 2560) (v1 : Int32) : wpX_combine (fun r u' => wpY_combine (fun r' v' => r' = r ∧ i_Rel (k + 5) u' v') v v1) u v1 := by
  obtain ⟨co, ma, cm, te, su, T, rfl, rfl, Y, R⟩ := I
  refine sr_x_comb v1 (fun co' h1 h2 => ?_)
  unfold wpY_combine
  dsimp only
  refine sr_y_add 1 0 v1 rfl rfl (by decide) (by decide) Y (fun te' Y' => ?_)
  dsimp only
  refine ⟨rfl, sr_mk Y' (fun e' m he' hm => ?_)⟩
  rcases (show e' = 0 ∨ e' = 1 by omega) with z | z
  · subst z
    rw [sr_sTs, R 0 m (by decide) hm, R 1 m (by decide) hm]
    unfold sr_vl
    rw [← sr_sg_ml, ← sr_sg_add]
    refine sr_sg_c (fun s hs => ?_)
    dsimp only
    rw [Nat.mul_zero, Nat.zero_add, Nat.mul_one, h1 s hs]; grind
  · subst z
    rw [sr_sTn _ _ (by decide), R 1 m (by decide) hm]
    exact sr_vl_c (fun s hs => (h2 s hs).symm) m
theorem i_vc_swap {k : Nat} {u : SX} {v : SY} (I : i_Rel k u v) (hk : k + 5 ≤ 2560) : wpX_swap (fun r u' => wpY_swap (fun r' v' => r' = r ∧ i_Rel (k + 5) u' v') v) u := by
  obtain ⟨co, ma, cm, te, su, T, rfl, rfl, Y, R⟩ := I
  refine sr_x_swap (fun co' h1 h2 => ?_)
  unfold wpY_swap
  dsimp only
  refine sr_y_copy 0 3 rfl rfl (by decide) (by decide) Y (fun te1 Y1 => ?_)
  dsimp only
  refine sr_y_copy 1 0 rfl rfl (by decide) (by decide) Y1 (fun te2 Y2 => ?_)
  dsimp only
  refine sr_y_copy 3 1 rfl rfl (by decide) (by decide) Y2 (fun te3 Y3 => ?_)
  dsimp only
  refine ⟨rfl, sr_mk Y3 (fun e' m he' hm => ?_)⟩
  rcases (show e' = 0 ∨ e' = 1 by omega) with z | z
  · subst z
    rw [sr_sTn _ _ (by decide), sr_sTs, sr_sTn _ _ (by decide), R 1 m (by decide) hm]
    exact sr_vl_c (fun s hs => by rw [Nat.mul_zero, Nat.zero_add, Nat.mul_one, h1 s hs]) m
  · subst z
    rw [sr_sTs, sr_sTn _ _ (by decide), sr_sTs, R 0 m (by decide) hm]
    exact sr_vl_c (fun s hs => by rw [Nat.mul_zero, Nat.zero_add, Nat.mul_one, h2 s hs]) m
theorem i_vc_part {k : Nat} {u : SX} {v : SY} (I : i_Rel k u v) (hk : k + 5 ≤ 2560) (v1 : Int32) (v2 : Int32) : wpX_part (fun r u' => wpY_part (fun r' v' => r' = r ∧ i_Rel (k + 5) u' v') v v1 v2) u v1 v2 := by
  obtain ⟨co, ma, cm, te, su, T, rfl, rfl, Y, R⟩ := I
  unfold wpX_part
  dsimp only
  rcases sr_e v1 with ⟨e, he, rfl⟩ | hb
  · refine sr_x_bad0 he (br_t rfl (br_c (fun c => ?_) (fun c1 => br_c (fun c2 => ?_) (fun c => ?_))))
    · unfold wpY_part
      dsimp only
      exact sr_y_bad0 he (br_t rfl (br_t c ⟨rfl, sr_mk Y R⟩))
    · obtain ⟨d, hd, rfl⟩ := nI_of2 (M := 9) (n := 9) (by decide) c1 c2
      refine sr_x_part he hd (fun co' h1 h2 => ?_)
      unfold wpY_part
      dsimp only
      refine sr_y_bad0 he (br_t rfl (br_f c1 (br_t c2 (sr_y_part he hd Y (fun te' Y' => ⟨rfl, sr_mk Y' (fun e' m he' hm => ?_)⟩)))))
      by_cases z : e' = e
      · subst z
        rw [sr_sTs, R _ m he hm]
        by_cases q : sr_dg m = d
        · rw [if_pos q]
          refine sr_sg_c (fun s hs => ?_)
          dsimp only
          rw [h1 s hs]
          by_cases y : sr_Z s = d
          · rw [if_pos y]
          · rw [if_neg y, sr_kI0 (by omega), sr_m0r, sr_m0]
        · rw [if_neg q]
          refine (sr_sg_z (fun s hs => ?_)).symm
          dsimp only
          rw [h1 s hs]
          by_cases y : sr_Z s = d
          · rw [sr_kI0 (by omega), sr_m0r]
          · rw [if_neg y, sr_m0]
      · rw [sr_sTn _ _ z, R _ m he' hm]
        exact sr_vl_c (fun s hs => (h2 e' s he' z (by omega)).symm) m
    · unfold wpY_part
      dsimp only
      exact sr_y_bad0 he (br_t rfl (br_f c1 (br_f c ⟨rfl, sr_mk Y R⟩)))
  · refine sr_x_bad1 hb (br_f (by decide) ?_)
    unfold wpY_part
    dsimp only
    exact sr_y_bad1 hb (br_f (by decide) ⟨rfl, sr_mk Y R⟩)
theorem i_vc_coefficient {k : Nat} {u : SX} {v : SY} (I : i_Rel k u v) (hk : k + 5 ≤ 2560) (v1 : Int32) (v2 : Int32) : wpX_coefficient (fun r => wpY_coefficient (fun r' => r' = r ∧ i_Rel (k + 5) u v) v v1 v2) u v1 v2 := by
  obtain ⟨co, ma, cm, te, su, T, rfl, rfl, Y, R⟩ := I
  unfold wpX_coefficient
  dsimp only
  rcases sr_e v1 with ⟨e, he, rfl⟩ | hb
  · rcases sr_code v2 with ⟨s, hs, rfl⟩ | hc
    · refine sr_x_sh1 hs (sr_x_bad0 he (br_t rfl (br_t (nI_pos' (by omega)) (sr_x_get he (by omega) ?_))))
      unfold wpY_coefficient
      dsimp only
      refine sr_y_bad0 he (br_t rfl (sr_y_sh1 hs (br_f (by decide) (sr_y_bf e (sr_k1000 e) (by omega) Y hs ⟨?_, sr_mk Y R⟩))))
      rw [sr_bf_c hs (fun m hm _ => R e m he hm), sr_bf_vl _ hs]
    · refine sr_x_sh0 hc (sr_x_bad0 he (br_t rfl (br_f (by decide) ?_)))
      unfold wpY_coefficient
      dsimp only
      exact sr_y_bad0 he (br_t rfl (sr_y_sh0 hc (br_t rfl ⟨rfl, sr_mk Y R⟩)))
  · refine sr_x_shA v2 (fun r => sr_x_bad1 hb (br_f (by decide) ?_))
    unfold wpY_coefficient
    dsimp only
    exact sr_y_bad1 hb (br_f (by decide) ⟨rfl, sr_mk Y R⟩)
/-- the degrees agree -/
theorem sr_deq {co : Nat → Int32} {T : Nat → Nat → Int32} {e : Nat} {r r' : Int32} (R : ∀ m, sr_zp m → T e m = sr_vl (fun s => co (60 * e + s)) m) (tx : sr_top 53 (fun s => co (60 * e + s) ≠ 0) sr_Z r) (ty : sr_top 220 (fun t => T e (sr_P t) ≠ 0) (fun t => sr_dg (sr_P t)) r') : r' = r := by
  refine sr_top_u tx ty (fun s hs z => ?_) (fun t ht z => ?_)
  · obtain ⟨t, h1, h2, h3⟩ := sr_hi1 (c := fun s => co (60 * e + s)) hs z
    exact ⟨t, h1, by rw [R _ (sr_P_zp h1)]; exact h2, h3⟩
  · rw [R _ (sr_P_zp ht)] at z
    exact sr_hi2 z
theorem i_vc_degree {k : Nat} {u : SX} {v : SY} (I : i_Rel k u v) (hk : k + 5 ≤ 2560) (v1 : Int32) : wpX_degree (fun r => wpY_degree (fun r' => r' = r ∧ i_Rel (k + 5) u v) v v1) u v1 := by
  obtain ⟨co, ma, cm, te, su, T, rfl, rfl, Y, R⟩ := I
  unfold wpX_degree
  dsimp only
  rcases sr_e v1 with ⟨e, he, rfl⟩ | hb
  · refine sr_x_bad0 he (br_t rfl (sr_x_deg he (fun r tx => ?_)))
    unfold wpY_degree
    dsimp only
    exact sr_y_bad0 he (br_t rfl (sr_y_high e (sr_k1000 e) (by omega) Y (fun r' ty => ⟨sr_deq (fun m hm => R e m he hm) tx ty, sr_mk Y R⟩)))
  · refine sr_x_bad1 hb (br_f (by decide) ?_)
    unfold wpY_degree
    dsimp only
    exact sr_y_bad1 hb (br_f (by decide) ⟨rfl, sr_mk Y R⟩)
theorem i_vc_shapes {k : Nat} {u : SX} {v : SY} (I : i_Rel k u v) (hk : k + 5 ≤ 2560) (v1 : Int32) : wpX_shapes (fun r => wpY_shapes (fun r' => r' = r ∧ i_Rel (k + 5) u v) v v1) u v1 := by
  obtain ⟨co, ma, cm, te, su, T, rfl, rfl, Y, R⟩ := I
  unfold wpX_shapes
  dsimp only
  rcases sr_e v1 with ⟨e, he, rfl⟩ | hb
  · refine sr_x_bad0 he (br_t rfl (sr_x_shapes he ?_))
    unfold wpY_shapes
    dsimp only
    refine sr_y_bad0 he (br_t rfl (sr_y_shapes he Y ⟨?_, sr_mk Y R⟩))
    exact sr_sg_c (fun s hs => by rw [sr_bf_c hs (fun m hm _ => R e m he hm), sr_bf_vl _ hs])
  · refine sr_x_bad1 hb (br_f (by decide) ?_)
    unfold wpY_shapes
    dsimp only
    exact sr_y_bad1 hb (br_f (by decide) ⟨rfl, sr_mk Y R⟩)
theorem i_vc_inner {k : Nat} {u : SX} {v : SY} (I : i_Rel k u v) (hk : k + 5 ≤ 2560) : wpX_inner (fun r => wpY_inner (fun r' => r' = r ∧ i_Rel (k + 5) u v) v) u := by
  obtain ⟨co, ma, cm, te, su, T, rfl, rfl, Y, R⟩ := I
  refine sr_x_inner (sr_y_inner Y ⟨?_, sr_mk Y R⟩)
  exact sr_sg_c (fun s hs => by rw [sr_bf_c hs (fun m hm _ => R 0 m (by decide) hm), sr_bf_vl _ hs, sr_bf_c hs (fun m hm _ => R 1 m (by decide) hm), sr_bf_vl _ hs])
theorem i_vc_value {k : Nat} {u : SX} {v : SY} (I : i_Rel k u v) (hk : k + 5 ≤ 2560) (v1 : Int32) (v2 : Int32) (v3 : Int32) (v4 : Int32) : wpX_value (fun r u' => wpY_value (fun r' => r' = r ∧ i_Rel (k + 5) u' v) v v1 v2 v3 v4) u v1 v2 v3 v4 := by
  obtain ⟨co, ma, cm, te, su, T, rfl, rfl, Y, R⟩ := I
  rcases sr_e v1 with ⟨e, he, rfl⟩ | hb
  · refine sr_x_value he v2 v3 v4 (fun cm' => ?_)
    unfold wpY_value
    dsimp only
    refine sr_y_bad0 he (br_t rfl (sr_y_val he v2 v3 v4 Y ⟨?_, sr_mk Y R⟩))
    rw [← sr_val]
    exact sr_sg_c (fun t ht => by rw [R e _ he (sr_P_zp ht)])
  · unfold wpX_value
    dsimp only
    refine sr_x_bad1 hb (br_f (by decide) ?_)
    unfold wpY_value
    dsimp only
    exact sr_y_bad1 hb (br_f (by decide) ⟨rfl, sr_mk Y R⟩)
end
section
/-- within the bound -/
theorem sr_top9 {nz : Nat → Prop} {r : Int32} {q : Nat} (hq : q ≤ 9) (t : sr_top 53 nz sr_Z r) (h : r < 0 ∨ r + nI q ≤ 9) : ∀ p, p < 53 → nz p → sr_Z p + q ≤ 9 := by
  intro p hp z
  rcases t with ⟨_, a⟩ | ⟨d, d9, e, _, a⟩
  · exact absurd z (a p hp)
  · have := a p hp z
    subst e
    rcases h with h | h
    · exact absurd h (nI_pos (by omega))
    · rw [nI_add] at h
      have h' : nI (d + q) ≤ nI 9 := h
      rw [nI_leI (by omega) (by omega)] at h'
      omega
theorem i_vc_timesShape {k : Nat} {u : SX} {v : SY} (I : i_Rel k u v) (hk : k + 5 ≤ 2560) (v1 : Int32) (v2 : Int32) : wpX_timesShape (fun r u' => wpY_timesShape (fun r' v' => r' = r ∧ i_Rel (k + 5) u' v') v v1 v2) u v1 v2 := by
  obtain ⟨co, ma, cm, te, su, T, rfl, rfl, Y, R⟩ := I
  unfold wpX_timesShape
  dsimp only
  rcases sr_e v1 with ⟨e, he, rfl⟩ | hb
  · rcases sr_code v2 with ⟨q, hq, rfl⟩ | hc
    · have zq := sr_Z9 hq
      refine sr_x_sh1 hq (sr_x_bad0 he (br_t rfl (br_t (nI_pos' (by omega)) (sr_x_deg he (fun r tx => ?_)))))
      have go : (r < 0 ∨ r + nI (sr_Z q) ≤ 9) → wX_timesShape_48 (fun r u' => wpY_timesShape (fun r' v' => r' = r ∧ i_Rel (k + 5) u' v') (te, sr_rP, sr_rS, su) (nI e) (nI (sr_S q))) (nI e) (nI q) 53 sr_rA sr_rB sr_rC co ma cm := by
        intro hr
        have H := sr_top9 zq tx hr
        refine sr_x_ts he hq (fun co' ma' h1 h2 => ?_)
        unfold wpY_timesShape
        dsimp only
        refine sr_y_bad0 he (br_t rfl (sr_y_sh1 hq (br_f (by decide) (sr_y_high e (sr_k1000 e) (by omega) Y (fun r' ty => ?_)))))
        rw [sr_deq (fun m hm => R e m he hm) tx ty]
        have yy : wY_timesShape_47 (fun r' v' => r' = 0 ∧ i_Rel (k + 5) (53, sr_rA, sr_rB, sr_rC, co', ma', cm) v') (nI e) (nI (sr_S q)) te sr_rP sr_rS su := by
          unfold wY_timesShape_47
          refine sr_y_shape hq Y (fun te1 Y1 => ?_)
          dsimp only
          refine sr_y_mul e 2 3 (sr_k1000 e) rfl rfl (by omega) (by decide) (by decide) (by omega) (by decide) Y1 (fun te2 Y2 => ?_)
          dsimp only
          refine sr_y_copy 3 e rfl (sr_k1000 e) (by decide) (by omega) Y2 (fun te3 Y3 => ?_)
          dsimp only
          refine ⟨rfl, sr_mk Y3 (fun e' m he' hm => ?_)⟩
          by_cases z : e' = e
          · subst z
            rw [sr_sTs, sr_sTs, sr_sTs, sr_sTn _ _ (by omega), sr_cv_c (fun x hx => R _ x he hx) (fun _ _ => rfl), sr_tS hq hm H]
            exact (sr_vl_c h1 m).symm
          · rw [sr_sTn _ _ z, sr_sTn _ _ (by omega), sr_sTn _ _ (by omega), R _ m he' hm]
            exact sr_vl_c (fun s hs => (h2 e' s he' z hs).symm) m
        by_cases c : r < 0
        · exact br_t c yy
        · exact br_f c (sr_y_size (br_t (hr.resolve_left c) yy))
      by_cases c : r < 0
      · exact br_t c (go (Or.inl c))
      · refine br_f c (sr_x_size (by omega) (br_c (fun c2 => go (Or.inr c2)) (fun c2 => ?_)))
        unfold wpY_timesShape
        dsimp only
        refine sr_y_bad0 he (br_t rfl (sr_y_sh1 hq (br_f (by decide) (sr_y_high e (sr_k1000 e) (by omega) Y (fun r' ty => ?_)))))
        rw [sr_deq (fun m hm => R e m he hm) tx ty]
        exact br_f c (sr_y_size (br_f c2 ⟨rfl, sr_mk Y R⟩))
    · refine sr_x_sh0 hc (sr_x_bad0 he (br_t rfl (br_f (by decide) ?_)))
      unfold wpY_timesShape
      dsimp only
      exact sr_y_bad0 he (br_t rfl (sr_y_sh0 hc (br_t rfl ⟨rfl, sr_mk Y R⟩)))
  · refine sr_x_shA v2 (fun r => sr_x_bad1 hb (br_f (by decide) ?_))
    unfold wpY_timesShape
    dsimp only
    exact sr_y_bad1 hb (br_f (by decide) ⟨rfl, sr_mk Y R⟩)
theorem sr_zpr {r : Nat} (h : r ≤ 9) : sr_zp (100 * r) ∧ sr_zp (10 * r) ∧ sr_zp r := by
  refine ⟨⟨by omega, ?_⟩, ⟨by omega, ?_⟩, ⟨by omega, ?_⟩⟩
  · unfold sr_dg; omega
  · unfold sr_dg; omega
  · unfold sr_dg; omega
theorem sr_y_tp {T : Nat → Nat → Int32} {te su : Nat → Int32} {post : Int32 → SY → Prop} {e r : Nat} (he : e < 2) (h1 : 1 ≤ r) (h9 : r ≤ 9) (Y : sr_YS T te) (h : ∀ te' : Nat → Int32, sr_YS (sr_sT (sr_sT (sr_sT T 2 (sr_pw r)) 3 (sr_cv (T e) (sr_pw r))) e (sr_cv (T e) (sr_pw r))) te' → post 0 (te', sr_rP, sr_rS, su)) :
    wY_timesPower_46 post (nI e) (nI r) te sr_rP sr_rS su := by
  obtain ⟨z1, z2, z3⟩ := sr_zpr h9
  unfold wY_timesPower_46
  refine sr_y_clear 2 rfl (by decide) Y (fun te0 Y0 => ?_)
  dsimp only
  have a1 : (2000 : Int32) + 100 * nI r = nI (1000 * 2 + 100 * r) := by rw [show (100 : Int32) = nI 100 from rfl, show (2000 : Int32) = nI 2000 from rfl, pk_mul, nI_add]
  have a2 : (2000 : Int32) + 10 * nI r = nI (1000 * 2 + 10 * r) := by rw [show (10 : Int32) = nI 10 from rfl, show (2000 : Int32) = nI 2000 from rfl, pk_mul, nI_add]
  have a3 : (2000 : Int32) + nI r = nI (1000 * 2 + r) := by rw [show (2000 : Int32) = nI 2000 from rfl, nI_add]
  rw [a1, a2, a3, nI_clamp (by omega), nI_clamp (by omega), nI_clamp (by omega)]
  have Y1 := sr_yW (F' := fun m => sr_d1 (100 * r) m) (w := 1) Y0 z1 (if_pos rfl) (fun m _ n => if_neg n)
  have Y2 := sr_yW (F' := fun m => sr_d1 (100 * r) m + sr_d1 (10 * r) m) (w := 1) Y1 z2 (by
    have : sr_d1 (100 * r) (10 * r) = 0 := if_neg (by omega)
    rw [this]; show 0 + sr_d1 (10 * r) (10 * r) = 1; unfold sr_d1; rw [if_pos rfl]; decide) (fun m _ n => by
    have : sr_d1 (10 * r) m = 0 := if_neg n
    rw [this]; grind)
  have Y3 := sr_yW (F' := sr_pw r) (w := 1) Y2 z3 (by
    have q1 : sr_d1 (100 * r) r = 0 := if_neg (by omega)
    have q2 : sr_d1 (10 * r) r = 0 := if_neg (by omega)
    unfold sr_pw
    rw [q1, q2]; unfold sr_d1; rw [if_pos rfl]; decide) (fun m _ n => by
    have : sr_d1 r m = 0 := if_neg n
    unfold sr_pw
    rw [this]; grind)
  refine ⟨vp_in_nI (by omega) (by decide), nm_e ⟨vp_in_nI (by omega) (by decide), nm_e ⟨vp_in_nI (by omega) (by decide), nm_e ?_⟩⟩⟩
  refine sr_y_mul e 2 3 (sr_k1000 e) rfl rfl (by omega) (by decide) (by decide) (by omega) (by decide) Y3 (fun te2 Y4 => ?_)
  dsimp only
  refine sr_y_copy 3 e rfl (sr_k1000 e) (by decide) (by omega) Y4 (fun te3 Y5 => ?_)
  dsimp only
  rw [sr_sTs, sr_sTs, sr_sTn _ _ (show e ≠ 2 by omega)] at Y5
  exact h te3 Y5
theorem i_vc_timesPower {k : Nat} {u : SX} {v : SY} (I : i_Rel k u v) (hk : k + 5 ≤ 2560) (v1 : Int32) (v2 : Int32) : wpX_timesPower (fun r u' => wpY_timesPower (fun r' v' => r' = r ∧ i_Rel (k + 5) u' v') v v1 v2) u v1 v2 := by
  obtain ⟨co, ma, cm, te, su, T, rfl, rfl, Y, R⟩ := I
  unfold wpX_timesPower
  dsimp only
  rcases sr_e v1 with ⟨e, he, rfl⟩ | hb
  · refine sr_x_bad0 he (br_t rfl (br_c (fun c => ?_) (fun c1 => br_c (fun c2 => ?_) (fun c2 => ?_))))
    · unfold wpY_timesPower
      dsimp only
      exact sr_y_bad0 he (br_t rfl (br_t c ⟨rfl, sr_mk Y R⟩))
    · obtain ⟨p, hp, rfl⟩ := nI_of2 (x := v2) (M := 9) (n := 9) (by decide) (fun z => c1 (by
        rw [Int32.lt_iff_toInt_lt] at z ⊢
        rw [show (0 : Int32).toInt = 0 by decide] at z
        rw [show (1 : Int32).toInt = 1 by decide]; omega)) c2
      have h1 : 1 ≤ p := by
        by_cases z : p < 1
        · exact absurd (nI_lt (b := 1) z (by decide)) c1
        · omega
      refine sr_x_deg he (fun r tx => ?_)
      have go : (r < 0 ∨ r + nI p ≤ 9) → wX_timesPower_42 (fun r u' => wpY_timesPower (fun r' v' => r' = r ∧ i_Rel (k + 5) u' v') (te, sr_rP, sr_rS, su) (nI e) (nI p)) (nI e) (nI p) 53 sr_rA sr_rB sr_rC co ma cm := by
        intro hr
        have H := sr_top9 hp tx hr
        refine sr_x_tp he hp (fun co' ma' g1 g2 => ?_)
        unfold wpY_timesPower
        dsimp only
        refine sr_y_bad0 he (br_t rfl (br_f c1 (br_t c2 (sr_y_high e (sr_k1000 e) (by omega) Y (fun r' ty => ?_)))))
        rw [sr_deq (fun m hm => R e m he hm) tx ty]
        have yy : wY_timesPower_46 (fun r' v' => r' = 0 ∧ i_Rel (k + 5) (53, sr_rA, sr_rB, sr_rC, co', ma', cm) v') (nI e) (nI p) te sr_rP sr_rS su := by
          refine sr_y_tp he h1 hp Y (fun te3 Y3 => ⟨rfl, sr_mk Y3 (fun e' m he' hm => ?_)⟩)
          by_cases z : e' = e
          · subst z
            rw [sr_sTs, sr_cv_c (fun x hx => R _ x he hx) (fun _ _ => rfl), sr_tP h1 hm H]
            exact (sr_vl_c g1 m).symm
          · rw [sr_sTn _ _ z, sr_sTn _ _ (by omega), sr_sTn _ _ (by omega), R _ m he' hm]
            exact sr_vl_c (fun s hs => (g2 e' s he' z hs).symm) m
        by_cases c : r < 0
        · exact br_t c yy
        · exact br_f c (br_t (hr.resolve_left c) yy)
      by_cases c : r < 0
      · exact br_t c (go (Or.inl c))
      · refine br_f c (br_c (fun c3 => go (Or.inr c3)) (fun c3 => ?_))
        unfold wpY_timesPower
        dsimp only
        refine sr_y_bad0 he (br_t rfl (br_f c1 (br_t c2 (sr_y_high e (sr_k1000 e) (by omega) Y (fun r' ty => ?_)))))
        rw [sr_deq (fun m hm => R e m he hm) tx ty]
        exact br_f c (br_f c3 ⟨rfl, sr_mk Y R⟩)
    · unfold wpY_timesPower
      dsimp only
      exact sr_y_bad0 he (br_t rfl (br_f c1 (br_f c2 ⟨rfl, sr_mk Y R⟩)))
  · refine sr_x_bad1 hb (br_f (by decide) ?_)
    unfold wpY_timesPower
    dsimp only
    exact sr_y_bad1 hb (br_f (by decide) ⟨rfl, sr_mk Y R⟩)
/-- two degrees within the bound -/
theorem sr_top99 {nz nz' : Nat → Prop} {r r' : Int32} (t : sr_top 53 nz sr_Z r) (t' : sr_top 53 nz' sr_Z r') (h : r < 0 ∨ r' < 0 ∨ r + r' ≤ 9) : ∀ p q, p < 53 → q < 53 → nz p → nz' q → sr_Z p + sr_Z q ≤ 9 := by
  intro p q hp hq z z'
  rcases t' with ⟨_, a'⟩ | ⟨d', d9', e', w', a'⟩
  · exact absurd z' (a' q hq)
  · have h1 := a' q hq z'
    have h2 := sr_top9 d9' t (by
      subst e'
      rcases h with h | h | h
      · exact Or.inl h
      · exact absurd h (nI_pos (by omega))
      · exact Or.inr h) p hp z
    omega
theorem i_vc_product {k : Nat} {u : SX} {v : SY} (I : i_Rel k u v) (hk : k + 5 ≤ 2560) : wpX_product (fun r u' => wpY_product (fun r' v' => r' = r ∧ i_Rel (k + 5) u' v') v) u := by
  obtain ⟨co, ma, cm, te, su, T, rfl, rfl, Y, R⟩ := I
  unfold wpX_product
  dsimp only
  refine sr_x_deg (e := 0) (by decide) (fun r tx => sr_x_deg (e := 1) (by decide) (fun s ts => ?_))
  have go : (r < 0 ∨ s < 0 ∨ r + s ≤ 9) → wX_product_31 (fun r u' => wpY_product (fun r' v' => r' = r ∧ i_Rel (k + 5) u' v') (te, sr_rP, sr_rS, su)) 53 sr_rA sr_rB sr_rC co ma cm := by
    intro hr
    have H := sr_top99 tx ts hr
    refine sr_x_pr (fun co' ma' g1 g2 => ?_)
    unfold wpY_product
    dsimp only
    refine sr_y_high 0 rfl (by decide) Y (fun r' ty => sr_y_high 1 rfl (by decide) Y (fun s' ty' => ?_))
    rw [sr_deq (fun m hm => R 0 m (by decide) hm) tx ty, sr_deq (fun m hm => R 1 m (by decide) hm) ts ty']
    have yy : wY_product_33 (fun r' v' => r' = 0 ∧ i_Rel (k + 5) (53, sr_rA, sr_rB, sr_rC, co', ma', cm) v') te sr_rP sr_rS su := by
      unfold wY_product_33
      refine sr_y_mul 0 1 3 rfl rfl rfl (by decide) (by decide) (by decide) (by decide) (by decide) Y (fun te2 Y2 => ?_)
      dsimp only
      refine sr_y_copy 3 0 rfl rfl (by decide) (by decide) Y2 (fun te3 Y3 => ?_)
      dsimp only
      refine ⟨rfl, sr_mk Y3 (fun e' m he' hm => ?_)⟩
      rcases (show e' = 0 ∨ e' = 1 by omega) with z | z
      · subst z
        rw [sr_sTs, sr_sTs, sr_cv_c (fun x hx => R 0 x (by decide) hx) (fun x hx => R 1 x (by decide) hx), sr_pr hm H]
        refine sr_vl_c (fun t ht => ?_) m
        rw [Nat.mul_zero, Nat.zero_add, g1 t ht, sr_sg_mm]
        refine sr_sg_c (fun p hp => sr_sg_c (fun q hq => ?_))
        rw [show (53 * p + q) / 53 = p by omega, show (53 * p + q) % 53 = q by omega, Nat.zero_add, Nat.mul_one]
      · subst z
        rw [sr_sTn _ _ (by decide), sr_sTn _ _ (by decide), R 1 m (by decide) hm]
        exact sr_vl_c (fun t ht => (g2 t ht).symm) m
    by_cases c : r < 0
    · exact br_t c yy
    · by_cases c' : s < 0
      · exact br_f c (br_t c' yy)
      · exact br_f c (br_f c' (br_t ((hr.resolve_left c).resolve_left c') yy))
  by_cases c : r < 0
  · exact br_t c (go (Or.inl c))
  · by_cases c' : s < 0
    · exact br_f c (br_t c' (go (Or.inr (Or.inl c'))))
    · refine br_f c (br_f c' (br_c (fun c3 => go (Or.inr (Or.inr c3))) (fun c3 => ?_)))
      unfold wpY_product
      dsimp only
      refine sr_y_high 0 rfl (by decide) Y (fun r' ty => sr_y_high 1 rfl (by decide) Y (fun s' ty' => ?_))
      rw [sr_deq (fun m hm => R 0 m (by decide) hm) tx ty, sr_deq (fun m hm => R 1 m (by decide) hm) ts ty']
      exact br_f c (br_f c' (br_f c3 ⟨rfl, sr_mk Y R⟩))
end
section
theorem sr_bfK {p s t : Nat} (hp : p < 53) (hs : s < 53) (ht : t < 53) (hd : sr_Z p + sr_Z s ≤ 9) : sr_bf (sr_cv (sr_kI p) (sr_kI s)) t = nI (sr_lR p s t) := by
  rw [sr_bf_c ht (fun m hm _ => sr_cvK hp hs hd hm), sr_bf_vl _ ht]
theorem i_vc_skew {k : Nat} {u : SX} {v : SY} (I : i_Rel k u v) (hk : k + 5 ≤ 2560) (v1 : Int32) (v2 : Int32) : wpX_skew (fun r u' => wpY_skew (fun r' v' => r' = r ∧ i_Rel (k + 5) u' v') v v1 v2) u v1 v2 := by
  obtain ⟨co, ma, cm, te, su, T, rfl, rfl, Y, R⟩ := I
  unfold wpX_skew
  dsimp only
  rcases sr_e v1 with ⟨e, he, rfl⟩ | hb
  · rcases sr_code v2 with ⟨p, hp, rfl⟩ | hc
    · refine sr_x_sh1 hp (sr_x_bad0 he (br_t rfl (br_t (nI_pos' (by omega)) (sr_x_sk he hp (fun co' ma' g1 g2 => ?_)))))
      unfold wpY_skew
      dsimp only
      refine sr_y_bad0 he (br_t rfl (sr_y_sh1 hp (br_f (by decide) (sr_y_skew he hp Y (fun te' su' T' Y' h1 h2 => ⟨rfl, sr_mk Y' (fun e' m he' hm => ?_)⟩)))))
      by_cases z : e' = e
      · subst z
        rw [h1 m hm]
        refine sr_vl_c (fun s hs => ?_) m
        rw [g1 s hs]
        unfold sr_sv
        by_cases c : sr_Z p + sr_Z s ≤ 9
        · rw [if_pos c]
          refine sr_sg_c (fun t ht => ?_)
          rw [sr_bfK hp hs ht c, sr_bf_c ht (fun m hm _ => R _ m he hm), sr_bf_vl _ ht]
          grind
        · rw [if_neg c]
          refine (sr_sg_z (fun t ht => ?_)).symm
          have zt := sr_Z9 ht
          have : sr_lR p s t = 0 := if_neg (by omega)
          rw [this]; exact sr_m0r _
      · rw [h2 e' he' z, R _ m he' hm]
        exact sr_vl_c (fun s hs => (g2 e' s he' z hs).symm) m
    · refine sr_x_sh0 hc (sr_x_bad0 he (br_t rfl (br_f (by decide) ?_)))
      unfold wpY_skew
      dsimp only
      exact sr_y_bad0 he (br_t rfl (sr_y_sh0 hc (br_t rfl ⟨rfl, sr_mk Y R⟩)))
  · refine sr_x_shA v2 (fun r => sr_x_bad1 hb (br_f (by decide) ?_))
    unfold wpY_skew
    dsimp only
    exact sr_y_bad1 hb (br_f (by decide) ⟨rfl, sr_mk Y R⟩)
theorem i_vc_monomial {k : Nat} {u : SX} {v : SY} (I : i_Rel k u v) (hk : k + 5 ≤ 2560) (v1 : Int32) (v2 : Int32) (v3 : Int32) (v4 : Int32) : wpX_monomial (fun r => wpY_monomial (fun r' => r' = r ∧ i_Rel (k + 5) u v) v v1 v2 v3 v4) u v1 v2 v3 v4 := by
  obtain ⟨co, ma, cm, te, su, T, rfl, rfl, Y, R⟩ := I
  unfold wpX_monomial
  dsimp only
  rcases sr_e v1 with ⟨e, he, rfl⟩ | hb
  · have Y0 : wpY_term (fun r_7 => r_7 = 0 ∧ i_Rel (k + 5) (53, sr_rA, sr_rB, sr_rC, co, ma, cm) (te, sr_rP, sr_rS, su)) (te, sr_rP, sr_rS, su) (1000 * nI e) v2 v3 v4 → wpY_monomial (fun r' => r' = 0 ∧ i_Rel (k + 5) (53, sr_rA, sr_rB, sr_rC, co, ma, cm) (te, sr_rP, sr_rS, su)) (te, sr_rP, sr_rS, su) (nI e) v2 v3 v4 := by
      intro w
      unfold wpY_monomial
      dsimp only
      exact sr_y_bad0 he (br_t rfl w)
    refine sr_x_bad0 he (br_t rfl (br_c (fun c => Y0 (br_t c ⟨rfl, sr_mk Y R⟩)) (fun c1 => br_c (fun c => Y0 (br_f c1 (br_t c ⟨rfl, sr_mk Y R⟩))) (fun c2 => br_c (fun c => Y0 (br_f c1 (br_f c2 (br_t c ⟨rfl, sr_mk Y R⟩)))) (fun c3 => br_c (fun c => Y0 (br_f c1 (br_f c2 (br_f c3 (br_t c ⟨rfl, sr_mk Y R⟩))))) (fun c4 => br_c (fun c => Y0 (br_f c1 (br_f c2 (br_f c3 (br_f c4 (br_t c ⟨rfl, sr_mk Y R⟩)))))) (fun c5 => br_c (fun c6 => ?_) (fun c => Y0 (br_f c1 (br_f c2 (br_f c3 (br_f c4 (br_f c5 (br_t (Int32.not_le.mp c) ⟨rfl, sr_mk Y R⟩))))))))))))))
    obtain ⟨i, hi, rfl⟩ := nI_of2 (x := v2) (M := 9) (n := 9) (by decide) c1 (Int32.not_lt.mp c4)
    obtain ⟨j, hj, rfl⟩ := nI_of2 (x := v3) (M := 9) (n := 9) (by decide) c2 (Int32.not_lt.mp c5)
    obtain ⟨l, hl, rfl⟩ := nI_of2 (x := v4) (M := 9) (n := 9) (by decide) c3 c6
    refine sr_x_mon he hi hj hl ?_
    unfold wpY_monomial
    dsimp only
    refine sr_y_bad0 he (br_t rfl ?_)
    by_cases s9 : i + j + l ≤ 9
    · refine sr_y_term1 e (sr_k1000 e) (by omega) Y s9 ⟨?_, sr_mk Y R⟩
      have ed := sr_dgm (i := i) (j := j) (k := l) (by omega) (by omega)
      obtain ⟨d1, d2, d3⟩ := sr_dg3 (i := i) (j := j) (k := l) (by omega) (by omega)
      rw [show 100 * i + 10 * j + l = 100 * i + (10 * j + l) from Nat.add_assoc _ _ _, R e _ he ⟨by clear d1 d2 d3 ed; omega, by rw [ed]; exact s9⟩]
      refine sr_sg_c (fun s hs => ?_)
      dsimp only
      by_cases z : sr_Z s = i + j + l
      · rw [if_pos z, sr_kI1 (by rw [ed, z]), d1, d2]
      · rw [if_neg z, sr_kI0 (by rw [ed]; exact fun y => z y.symm), sr_m0r]
    · have s0 : sr_sg 53 (fun s => if sr_Z s = i + j + l then co (60 * e + s) * nI (sr_kS s i j) else 0) = 0 := sr_sg_z (fun s hs => if_neg (by have := sr_Z9 hs; omega))
      rw [s0]
      refine br_f c1 (br_f c2 (br_f c3 (br_f c4 (br_f c5 (br_f (Int32.not_lt.mpr c6) ?_)))))
      rw [nI_add, nI_add]
      exact br_f (nI_ge (a := 9) (by omega) (by omega)) ⟨rfl, sr_mk Y R⟩
  · refine sr_x_bad1 hb (br_f (by decide) ?_)
    unfold wpY_monomial
    dsimp only
    exact sr_y_bad1 hb (br_f (by decide) ⟨rfl, sr_mk Y R⟩)
theorem i_vc_number {k : Nat} {u : SX} {v : SY} (I : i_Rel k u v) (hk : k + 5 ≤ 2560) (v1 : Int32) (v2 : Int32) (v3 : Int32) : wpX_number (fun r => wpY_number (fun r' v' => r' = r ∧ i_Rel (k + 5) u v') v v1 v2 v3) u v1 v2 v3 := by
  obtain ⟨co, ma, cm, te, su, T, rfl, rfl, Y, R⟩ := I
  unfold wpX_number
  dsimp only
  rcases sr_code v1 with ⟨p, hp, rfl⟩ | h1
  · rcases sr_code v2 with ⟨q, hq, rfl⟩ | h2
    · rcases sr_code v3 with ⟨r, hr, rfl⟩ | h3
      · have zp := sr_Z9 hp
        have zq := sr_Z9 hq
        have zr := sr_Z9 hr
        refine sr_x_sh1 hp (sr_x_sh1 hq (sr_x_sh1 hr (br_f (nI_pos (by omega)) (br_f (nI_pos (by omega)) (br_t (nI_pos' (by omega)) (sr_x_cf hp hq hr ?_))))))
        unfold wpY_number
        dsimp only
        refine sr_y_sh1 hp (br_f (by decide) (sr_y_sh1 hq (br_f (by decide) (sr_y_sh1 hr (br_f (by decide) (sr_y_size (sr_y_size (sr_y_size ?_))))))))
        rw [nI_add]
        refine pk_eq (sr_Z p + sr_Z q) (sr_Z r) (fun c => sr_y_shape hp Y (fun te1 Y1 => ?_)) (fun c => ⟨?_, sr_mk Y R⟩)
        · dsimp only
          refine sr_y_copy 2 4 rfl rfl (by decide) (by decide) Y1 (fun te2 Y2 => ?_)
          dsimp only
          refine sr_y_shape hq Y2 (fun te3 Y3 => ?_)
          dsimp only
          refine sr_y_mul 4 2 3 rfl rfl rfl (by decide) (by decide) (by decide) (by decide) (by decide) Y3 (fun te4 Y4 => ?_)
          dsimp only
          refine sr_y_bf 3 rfl (by decide) Y4 hr ⟨?_, sr_mk Y4 (fun e' m he' hm => ?_)⟩
          · rw [sr_sTs, sr_sTs, sr_sTn _ _ (by decide), sr_sTs, sr_sTs, sr_bfK hp hq hr (by omega), sr_lR_lr]
          · rw [sr_sTn _ _ (by omega), sr_sTn _ _ (by omega), sr_sTn _ _ (by omega), sr_sTn _ _ (by omega)]
            exact R e' m he' hm
        · rw [sr_lr0 (fun z => c z.symm)]; rfl
      · refine sr_x_sh1 hp (sr_x_sh1 hq (sr_x_sh0 h3 (br_f (nI_pos (by omega)) (br_f (nI_pos (by omega)) (br_f (by decide) ?_)))))
        unfold wpY_number
        dsimp only
        exact sr_y_sh1 hp (br_f (by decide) (sr_y_sh1 hq (br_f (by decide) (sr_y_sh0 h3 (br_t rfl ⟨rfl, sr_mk Y R⟩)))))
    · refine sr_x_sh1 hp (sr_x_sh0 h2 (sr_x_shA v3 (fun r => br_f (nI_pos (by omega)) (br_t (by decide) ?_))))
      unfold wpY_number
      dsimp only
      exact sr_y_sh1 hp (br_f (by decide) (sr_y_sh0 h2 (br_t rfl ⟨rfl, sr_mk Y R⟩)))
  · refine sr_x_sh0 h1 (sr_x_shA v2 (fun r => sr_x_shA v3 (fun r' => br_t (by decide) ?_)))
    unfold wpY_number
    dsimp only
    exact sr_y_sh0 h1 (br_t rfl ⟨rfl, sr_mk Y R⟩)
end
