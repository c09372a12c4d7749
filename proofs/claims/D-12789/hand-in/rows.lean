section
/-! counting, narrow stores, bits of small sets -/
/-- how many i < n have P -/
noncomputable def fq_c (P : Nat → Prop) : Nat → Nat
  | 0 => 0
  | n + 1 => fq_c P n + @ite Nat (P n) (Classical.propDecidable (P n)) 1 0
theorem fq_c_t {P : Nat → Prop} {n : Nat} (h : P n) : fq_c P (n + 1) = fq_c P n + 1 := by
  show fq_c P n + @ite Nat (P n) (Classical.propDecidable (P n)) 1 0 = _
  rw [if_pos h]
theorem fq_c_f {P : Nat → Prop} {n : Nat} (h : ¬ P n) : fq_c P (n + 1) = fq_c P n := by
  show fq_c P n + @ite Nat (P n) (Classical.propDecidable (P n)) 1 0 = _
  rw [if_neg h]
  omega
theorem fq_c_le (P : Nat → Prop) (n : Nat) : fq_c P n ≤ n := by
  induction n with
  | zero => exact Nat.le_refl 0
  | succ n ih =>
    rcases Classical.em (P n) with h | h
    · rw [fq_c_t h]
      omega
    · rw [fq_c_f h]
      omega
theorem fq_c_congr {P Q : Nat → Prop} {n : Nat} (h : ∀ i, i < n → (P i ↔ Q i)) : fq_c P n = fq_c Q n := by
  induction n with
  | zero => rfl
  | succ n ih =>
    have e := ih (fun i hi => h i (by omega))
    rcases Classical.em (P n) with g | g
    · rw [fq_c_t g, fq_c_t ((h n (by omega)).mp g), e]
    · rw [fq_c_f g, fq_c_f (fun z => g ((h n (by omega)).mpr z)), e]
theorem fq_c_add {P Q R : Nat → Prop} {n : Nat} (h : ∀ i, i < n → (P i ↔ Q i ∨ R i)) (hd : ∀ i, i < n → Q i → R i → False) : fq_c P n = fq_c Q n + fq_c R n := by
  induction n with
  | zero => rfl
  | succ n ih =>
    have e := ih (fun i hi => h i (by omega)) (fun i hi => hd i (by omega))
    rcases Classical.em (Q n) with g | g
    · have g2 : ¬ R n := fun z => hd n (by omega) g z
      rw [fq_c_t ((h n (by omega)).mpr (Or.inl g)), fq_c_t g, fq_c_f g2, e]
      omega
    · rcases Classical.em (R n) with g2 | g2
      · rw [fq_c_t ((h n (by omega)).mpr (Or.inr g2)), fq_c_f g, fq_c_t g2, e]
        omega
      · rw [fq_c_f (fun z => ((h n (by omega)).mp z).elim g g2), fq_c_f g, fq_c_f g2, e]
theorem fq_c_0 {P : Nat → Prop} {n : Nat} (h : ∀ i, i < n → ¬ P i) : fq_c P n = 0 := by
  induction n with
  | zero => rfl
  | succ n ih => rw [fq_c_f (h n (by omega)), ih (fun i hi => h i (by omega))]
theorem fq_c_z {P : Nat → Prop} {n : Nat} (h : fq_c P n = 0) : ∀ i, i < n → ¬ P i := by
  induction n with
  | zero => exact fun i hi => absurd hi (by omega)
  | succ n ih =>
    rcases Classical.em (P n) with g | g
    · rw [fq_c_t g] at h
      omega
    · rw [fq_c_f g] at h
      intro i hi
      rcases Nat.lt_or_ge i n with z | z
      · exact ih h i z
      · rw [show i = n by omega]
        exact g
theorem fq_b8 : ∀ n, n < 128 → (nI n).toInt8.toInt32 = nI n := by decide +kernel
theorem fq_s16 : ∀ n, n < 256 → (nI n).toInt16.toInt32 = nI n := by decide +kernel
theorem fq_bit : ∀ b, b < 256 → ∀ t, t < 8 → (((nI b >>> (nI t &&& 31)) &&& 1) = 0 ↔ b.testBit t = false) := by decide +kernel
theorem fq_or : ∀ s, s < 256 → ∀ t, t < 8 → nI s ||| ((1 : Int32) <<< (nI t &&& 31)) = nI (s ||| 2 ^ t) := by decide +kernel
theorem fq_or_lt : ∀ s, s < 256 → ∀ t, t < 8 → s ||| 2 ^ t < 256 := by decide +kernel
theorem fq_h8 : ∀ h, h < 9 → ((nI h - 1).toInt8.toInt32 = nI h - 1) := by decide +kernel
theorem fq_or_bit (s t u : Nat) : (s ||| 2 ^ t).testBit u = (s.testBit u || decide (t = u)) := by
  rw [Nat.testBit_or, Nat.testBit_two_pow]
theorem fq_ext {a b : Nat} (ha : a < 256) (hb : b < 256) (h : ∀ t, t < 8 → a.testBit t = b.testBit t) : a = b := by
  apply Nat.eq_of_testBit_eq
  intro i
  rcases Nat.lt_or_ge i 8 with z | z
  · exact h i z
  · have pw : 2 ^ 8 ≤ 2 ^ i := Nat.pow_le_pow_right (by omega) z
    rw [Nat.testBit_lt_two_pow (Nat.lt_of_lt_of_le ha pw), Nat.testBit_lt_two_pow (Nat.lt_of_lt_of_le hb pw)]
end
section
/-! orderThings: the array order is a permutation of 0..7 -/
section
variable {bc bt nc : Int32} {a1 a2 a3 a4 a5 a6 a7 a8 a9 a10 a11 a12 a13 : Nat → Int32}
/-- places 0..t but h hold each of 0..t-1 once -/
def fq_hole (t h : Nat) (a : Nat → Int32) : Prop := h ≤ t ∧ (∀ i, i ≤ t → i ≠ h → ∃ v, v < t ∧ a i = nI v) ∧ (∀ v, v < t → ∃ i, i ≤ t ∧ i ≠ h ∧ a i = nI v) ∧ (∀ i j, i ≤ t → j ≤ t → i ≠ h → j ≠ h → a i = a j → i = j)
def fq_full (t : Nat) (a : Nat → Int32) : Prop := (∀ i, i < t → ∃ v, v < t ∧ a i = nI v) ∧ (∀ v, v < t → ∃ i, i < t ∧ a i = nI v) ∧ (∀ i j, i < t → j < t → a i = a j → i = j)
theorem fq_full_0 {a : Nat → Int32} : fq_full 0 a := ⟨fun i h => absurd h (by omega), fun i h => absurd h (by omega), fun i j h => absurd h (by omega)⟩
theorem fq_hole_of {t : Nat} {a : Nat → Int32} (h : fq_full t a) : fq_hole t t a := by
  refine ⟨Nat.le_refl t, fun i hi hn => h.1 i (by omega), fun v hv => ?_, fun i j hi hj ni nj e => h.2.2 i j (by omega) (by omega) e⟩
  obtain ⟨i, hi, e⟩ := h.2.1 v hv
  exact ⟨i, by omega, by omega, e⟩
theorem fq_hole_dn {t h : Nat} {a : Nat → Int32} (k : fq_hole t (h + 1) a) : fq_hole t h (upd a (h + 1) (a h)) := by
  obtain ⟨k0, k1, k2, k3⟩ := k
  refine ⟨by omega, fun i hi hn => ?_, fun v hv => ?_, fun i j hi hj ni nj e => ?_⟩
  · by_cases e : i = h + 1
    · rw [e, pk_us]
      exact k1 h (by omega) (by omega)
    · rw [pk_un e]
      exact k1 i hi e
  · obtain ⟨i, hi, hn, e⟩ := k2 v hv
    by_cases z : i = h
    · exact ⟨h + 1, by omega, by omega, by rw [pk_us, ← z, e]⟩
    · exact ⟨i, hi, z, by rw [pk_un hn, e]⟩
  · by_cases z : i = h + 1
    · by_cases z2 : j = h + 1
      · omega
      · rw [z, pk_us, pk_un z2] at e
        have := k3 h j (by omega) hj (by omega) z2 e
        omega
    · by_cases z2 : j = h + 1
      · rw [z2, pk_us, pk_un z] at e
        have := k3 i h hi (by omega) z (by omega) e
        omega
      · rw [pk_un z, pk_un z2] at e
        exact k3 i j hi hj z z2 e
theorem fq_hole_fill {t h : Nat} {a : Nat → Int32} (ht : t < 8) (k : fq_hole t h a) : fq_full (t + 1) (upd a h (nI t)) := by
  obtain ⟨k0, k1, k2, k3⟩ := k
  have ne : ∀ j, j ≤ t → j ≠ h → ¬ nI t = a j := by
    intro j hj hn e
    obtain ⟨v, hv, e'⟩ := k1 j hj hn
    rw [e', nI_eq (by omega) (by omega)] at e
    omega
  refine ⟨fun i hi => ?_, fun v hv => ?_, fun i j hi hj e => ?_⟩
  · by_cases z : i = h
    · exact ⟨t, by omega, by rw [z, pk_us]⟩
    · obtain ⟨v, hv, e⟩ := k1 i (by omega) z
      exact ⟨v, by omega, by rw [pk_un z, e]⟩
  · by_cases z : v = t
    · exact ⟨h, by omega, by rw [z, pk_us]⟩
    · obtain ⟨i, hi, hn, e⟩ := k2 v (by omega)
      exact ⟨i, by omega, by rw [pk_un hn, e]⟩
  · by_cases z : i = h
    · by_cases z2 : j = h
      · omega
      · rw [z, pk_us, pk_un z2] at e
        exact absurd e (ne j (by omega) z2)
    · by_cases z2 : j = h
      · rw [z2, pk_us, pk_un z] at e
        exact absurd e.symm (ne i (by omega) z)
      · rw [pk_un z, pk_un z2] at e
        exact k3 i j (by omega) (by omega) z z2 e
theorem fq_ot129 {post : St1 → Prop} (hp : ∀ i, i < 8 → ∃ v, v < 8 ∧ a7 i = nI v) (H : ∀ w, post (bc, bt, nc, a1, a2, a3, a4, a5, a6, a7, w, a9, a10, a11, a12, a13)) : ∃ n, wX_orderThings_129 post bc bt nc n 0 a1 a2 a3 a4 a5 a6 a7 a8 a9 a10 a11 a12 a13 :=
  pk_loop (fun n i s => wX_orderThings_129 post bc bt nc n (nI i) a1 a2 a3 a4 a5 a6 a7 s a9 a10 a11 a12 a13) (fun _ _ => True) 8 0 a8 (by omega) trivial
    (fun n s _ => pk_le 8 8 (fun _ => H s) (fun z => absurd z (by omega)))
    (fun n i s hi _ hw => pk_le 8 i (fun z => absurd z (by omega)) (fun _ => ⟨pk_in i 8 (by omega), (by
        rw [nI_clamp (by omega)]
        obtain ⟨v, hv, e⟩ := hp i hi
        rw [e]
        exact pk_in v 8 hv), nm_e (nm_r (nI_1 i) (hw _ trivial))⟩))
theorem fq_ot113 {post : St1 → Prop} {J : Int32 → (Nat → Int32) → (Nat → Int32) → (Nat → Int32) → (Nat → Int32) → (Nat → Int32) → (Nat → Int32) → (Nat → Int32) → (Nat → Int32) → (Nat → Int32) → (Nat → Int32) → (Nat → Int32) → (Nat → Int32) → (Nat → Int32) →  Prop} {t h : Nat} (ht : t < 8) (k : fq_hole t h a7) (H : ∀ w, fq_full (t + 1) w → J (nI (t + 1)) a1 a2 a3 a4 a5 a6 w a8 a9 a10 a11 a12 a13) : wX_orderThings_113 post J (nI t) (nI h) bc bt nc a1 a2 a3 a4 a5 a6 a7 a8 a9 a10 a11 a12 a13 := by
  have hh := k.1
  refine ⟨pk_in h 8 (by omega), nm_r (e' := upd a7 h (nI t)) ?_ (nm_r (nI_1 t) (H _ (fq_hole_fill ht k)))⟩
  rw [nI_clamp (by omega), fq_b8 t (by omega)]
theorem fq_ot67 {post : St1 → Prop} {J : Int32 → (Nat → Int32) → (Nat → Int32) → (Nat → Int32) → (Nat → Int32) → (Nat → Int32) → (Nat → Int32) → (Nat → Int32) → (Nat → Int32) → (Nat → Int32) → (Nat → Int32) → (Nat → Int32) → (Nat → Int32) → (Nat → Int32) →  Prop} {t : Nat} (ht : t < 8) (k : fq_full t a7) (H : ∀ w, fq_full (t + 1) w → J (nI (t + 1)) a1 a2 a3 a4 a5 a6 w a8 a9 a10 a11 a12 a13) : ∃ n, wX_orderThings_67 post J (nI t) bc bt nc n (nI t) a1 a2 a3 a4 a5 a6 a7 a8 a9 a10 a11 a12 a13 := by
  refine ⟨t + 1, pk_loopD (fun n i s => wX_orderThings_67 post J (nI t) bc bt nc n (nI i) a1 a2 a3 a4 a5 a6 s a8 a9 a10 a11 a12 a13) (fun i s => fq_hole t i s) ?_ ?_ t a7 (fq_hole_of k)⟩
  · intro n s hs
    exact pk_le 0 0 (fun _ => fq_ot113 ht hs H) (fun z => absurd z (by omega))
  · intro n i s hs hw
    have hi := hs.1
    obtain ⟨v, hv, e⟩ := hs.2.1 i (by omega) (by omega)
    refine pk_le (i + 1) 0 (fun z => absurd z (by omega)) (fun _ => ?_)
    rw [nI_pred, nI_clamp (show i < 2 ^ 31 by omega), nI_clamp (show i + 1 < 2 ^ 31 by omega)]
    refine ⟨pk_in i 8 (by omega), (by rw [e]; exact pk_in v 8 (by omega)), pk_in t 8 ht, br_c (fun _ => fq_ot113 ht hs H) (fun _ => ⟨pk_in i 8 (by omega), pk_in (i + 1) 8 (by omega), nm_r (e' := upd s (i + 1) (s i)) ?_ (nm_r (pk_m1 i) (hw _ (fq_hole_dn hs)))⟩)⟩
    rw [e, vp_nar_byte, fq_b8 v (by omega)]
theorem fq_ot59 {post : St1 → Prop} (H : ∀ w7 w8, fq_full 8 w7 → post (bc, bt, nc, a1, a2, a3, a4, a5, a6, w7, w8, a9, a10, a11, a12, a13)) : ∃ n, wX_orderThings_59 post bc bt nc n 0 a1 a2 a3 a4 a5 a6 a7 a8 a9 a10 a11 a12 a13 :=
  pk_loop (fun n i s => wX_orderThings_59 post bc bt nc n (nI i) a1 a2 a3 a4 a5 a6 s a8 a9 a10 a11 a12 a13) (fun i s => fq_full i s) 8 0 a7 (by omega) fq_full_0
    (fun n s h => pk_le 8 8 (fun _ => fq_ot129 h.1 (fun w => H s w h)) (fun z => absurd z (by omega)))
    (fun n i s hi h hw => pk_le 8 i (fun z => absurd z (by omega)) (fun _ => fq_ot67 hi h hw))
theorem fq_ot17 {post : St1 → Prop} {J : Int32 → (Nat → Int32) → (Nat → Int32) → (Nat → Int32) → (Nat → Int32) → (Nat → Int32) → (Nat → Int32) → (Nat → Int32) → (Nat → Int32) → (Nat → Int32) → (Nat → Int32) → (Nat → Int32) → (Nat → Int32) → (Nat → Int32) →  Prop} {t m : Nat} (ht : t < 8) (hm : m ≤ 20) (H : ∀ w, J (nI (t + 1)) a1 a2 a3 a4 a5 a6 a7 a8 w a10 a11 a12 a13) : ∃ n, wX_orderThings_17 post J (nI t) (nI m) bt nc n 0 a1 a2 a3 a4 a5 a6 a7 a8 a9 a10 a11 a12 a13 :=
  pk_loop (fun n i s => wX_orderThings_17 post J (nI t) (nI m) bt nc n (nI i) a1 a2 a3 a4 a5 a6 a7 a8 s a10 a11 a12 a13) (fun _ _ => True) m 0 a9 (by omega) trivial
    (fun n s _ => pk_le m m (fun _ => nm_r (nI_1 t) (H s)) (fun z => absurd z (by omega)))
    (fun n i s hi _ hw => pk_le m i (fun z => absurd z (by omega)) (fun _ => ⟨pk_in t 8 ht, pk_in i 20 (by omega), pk_in t 8 ht, nm_e (nm_r (nI_1 i) (hw _ trivial))⟩))
theorem fq_orderThings {post : St1 → Prop} {m : Nat} (hm : m ≤ 20) (H : ∀ w7 w8 w9, fq_full 8 w7 → post (nI m, bt, nc, a1, a2, a3, a4, a5, a6, w7, w8, w9, a10, a11, a12, a13)) : wpX_orderThings post (nI m, bt, nc, a1, a2, a3, a4, a5, a6, a7, a8, a9, a10, a11, a12, a13) :=
  pk_loop (fun n i s => wX_orderThings_2 post (nI m) bt nc n (nI i) a1 a2 a3 a4 a5 a6 a7 a8 s a10 a11 a12 a13) (fun _ _ => True) 8 0 a9 (by omega) trivial
    (fun n s _ => pk_le 8 8 (fun _ => fq_ot59 (fun w7 w8 h => H w7 w8 s h)) (fun z => absurd z (by omega)))
    (fun n i s hi _ hw => pk_le 8 i (fun z => absurd z (by omega)) (fun _ => ⟨pk_in i 8 hi, nm_e (fq_ot17 hi hm (fun w => hw w trivial))⟩))
/-- the permutation as naturals -/
def fq_P (g : Nat → Nat) (a : Nat → Int32) : Prop := (∀ i, i < 8 → g i < 8 ∧ a i = nI (g i)) ∧ (∀ v, v < 8 → ∃ i, i < 8 ∧ g i = v) ∧ (∀ i j, i < 8 → j < 8 → g i = g j → i = j)
theorem fq_P_of {a : Nat → Int32} (h : fq_full 8 a) : ∃ g, fq_P g a := by
  have e : ∀ i, i < 8 → (a i).toNatClampNeg < 8 ∧ a i = nI (a i).toNatClampNeg := by
    intro i hi
    obtain ⟨v, hv, e⟩ := h.1 i hi
    rw [e, nI_clamp (by omega)]
    exact ⟨hv, rfl⟩
  refine ⟨fun i => (a i).toNatClampNeg, e, fun v hv => ?_, fun i j hi hj z => ?_⟩
  · obtain ⟨i, hi, z⟩ := h.2.1 v hv
    exact ⟨i, hi, by show (a i).toNatClampNeg = v; rw [z, nI_clamp (by omega)]⟩
  · refine h.2.2 i j hi hj ?_
    have z' : (a i).toNatClampNeg = (a j).toNatClampNeg := z
    rw [(e i hi).2, (e j hj).2, z']
end
end
section
/-! the tree: ghosts le x (place + 1 of the node's thing, 0 for the root) and Q x (which places lie on the way to x) -/
section
variable {bc bt nc : Int32} {a1 a2 a3 a4 a5 a6 a7 a8 a9 a10 a11 a12 a13 : Nat → Int32}
/-- z is the greatest node below y of place p, or 0 -/
def fq_lk (le : Nat → Nat) (p y z : Nat) : Prop := z < y ∧ (z = 0 ∨ le z = p + 1) ∧ ∀ x, z < x → x < y → le x ≠ p + 1
def fq_on (b : Nat → Nat → Bool) (le : Nat → Nat) (Q : Nat → Nat → Bool) (i x : Nat) : Prop := ∀ q, q < le x → b i q = Q x q
def fq_up (le : Nat → Nat) (Q : Nat → Nat → Bool) (a4 : Nat → Int32) (x : Nat) : Prop := 0 < le x ∧ le x ≤ 8 ∧ Q x (le x - 1) = true ∧ ∃ y, y < x ∧ a4 x = nI y ∧ le y < le x ∧ (∀ q, q < le y → Q y q = Q x q) ∧ (∀ q, le y ≤ q → q + 1 < le x → Q x q = false)
def fq_T (g : Nat → Nat) (le : Nat → Nat) (Q : Nat → Nat → Bool) (N : Nat) (a4 a5 a6 : Nat → Int32) : Prop :=
  le 0 = 0 ∧ (∀ x, 0 < x → x < N → fq_up le Q a4 x) ∧ (∀ x y, x < N → y < N → le x = le y → (∀ q, q < le x → Q x q = Q y q) → x = y) ∧ (∀ p, p < 8 → ∃ z, a6 (g p) = nI z ∧ fq_lk le p N z) ∧ (∀ x, 0 < x → x < N → ∃ z, a5 x = nI z ∧ fq_lk le (le x - 1) x z)
/-- through: baskets i < m, and basket m on its first p places -/
def fq_th (b : Nat → Nat → Bool) (le : Nat → Nat) (Q : Nat → Nat → Bool) (N m p : Nat) (a3 : Nat → Int32) : Prop := ∀ x, 0 < x → x < N → a3 x = nI (fq_c (fun i => fq_on b le Q i x ∧ (i < m ∨ le x ≤ p)) (m + 1))
/-- each place of a planted basket has its node -/
def fq_co (b : Nat → Nat → Bool) (le : Nat → Nat) (Q : Nat → Nat → Bool) (N m p : Nat) : Prop := ∀ i q, q < 8 → b i q = true → (i < m ∨ (i = m ∧ q < p)) → ∃ x, 0 < x ∧ x < N ∧ le x = q + 1 ∧ fq_on b le Q i x
/-- where basket m stands after p places -/
def fq_at (b : Nat → Nat → Bool) (le : Nat → Nat) (Q : Nat → Nat → Bool) (N m p c : Nat) : Prop := c < N ∧ fq_on b le Q m c ∧ le c ≤ p ∧ ∀ q, le c ≤ q → q < p → b m q = false
theorem fq_childWith {post : Int32 → Prop} {g le : Nat → Nat} {Q : Nat → Nat → Bool} {N c p : Nat} (hT : fq_T g le Q N a4 a5 a6) (hN : N ≤ 161) (hp : p < 8) (hg : g p < 8)
    (H1 : ∀ z, 0 < z → z < N → le z = p + 1 → a4 z = nI c → post (nI z)) (H0 : (∀ z, 0 < z → z < N → le z = p + 1 → a4 z ≠ nI c) → post 0) : wpX_childWith post (bc, bt, nc, a1, a2, a3, a4, a5, a6, a7, a8, a9, a10, a11, a12, a13) (nI c) (nI (g p)) := by
  obtain ⟨z0, ez, lz⟩ := hT.2.2.2.1 p hp
  refine ⟨pk_in (g p) 8 hg, nm_r (e' := nI z0) (by rw [nI_clamp (by omega)]; exact ez) ?_⟩
  refine lp1 (fun n x => wX_childWith_7 post (nI c) bc bt nc a1 a2 a3 a4 a5 a6 a7 a8 a9 a10 a11 a12 a13 n x) (fun x => ∃ z, x = nI z ∧ z < N ∧ (z = 0 ∨ le z = p + 1) ∧ ∀ y, z < y → y < N → le y = p + 1 → a4 y ≠ nI c) (fun x => x.toNatClampNeg) ?_ (nI z0) ⟨z0, rfl, lz.1, lz.2.1, fun y h1 h2 h3 => absurd h3 (lz.2.2 y h1 h2)⟩
  rintro n x ⟨z, rfl, hz, hl, hno⟩ hw
  refine pk_eq z 0 (fun e0 => H0 (fun y h1 h2 h3 => hno y (by omega) h2 h3)) (fun ne => ⟨pk_in z 161 (by omega), ?_⟩)
  have hl' : le z = p + 1 := hl.elim (fun h => absurd h ne) id
  rw [nI_clamp (show z < 2 ^ 31 by omega)]
  refine br_c (fun e => H1 z (by omega) hz hl' e) (fun e => ⟨pk_in z 161 (by omega), ?_⟩)
  obtain ⟨y, ey, ly⟩ := hT.2.2.2.2 z (by omega) hz
  rw [hl'] at ly
  refine nm_r ey (hw _ ⟨y, rfl, by have := ly.1; omega, ly.2.1, fun x h1 h2 h3 => ?_⟩ (by rw [nI_clamp (by have := ly.1; omega), nI_clamp (by omega)]; exact ly.1))
  rcases Nat.lt_or_ge x z with k | k
  · exact absurd h3 (ly.2.2 x h1 k)
  · by_cases k2 : x = z
    · rw [k2]
      exact e
    · exact hno x (by omega) h2 h3
/-- basket m lacks place p -/
theorem fq_skip {b : Nat → Nat → Bool} {g le : Nat → Nat} {Q : Nat → Nat → Bool} {N m p c : Nat} (hT : fq_T g le Q N a4 a5 a6) (h1 : fq_th b le Q N m p a3) (h2 : fq_co b le Q N m p) (h3 : fq_at b le Q N m p c) (hb : b m p = false) :
    fq_th b le Q N m (p + 1) a3 ∧ fq_co b le Q N m (p + 1) ∧ fq_at b le Q N m (p + 1) c := by
  refine ⟨fun x hx hN => ?_, fun i q hq hi ho => ?_, h3.1, h3.2.1, by have := h3.2.2.1; omega, fun q k1 k2 => ?_⟩
  · rw [h1 x hx hN]
    refine congrArg nI (fq_c_congr (fun i hi => ?_))
    constructor
    · exact fun k => ⟨k.1, k.2.imp id (fun z => by omega)⟩
    · rintro ⟨k1, k2⟩
      refine ⟨k1, ?_⟩
      rcases Nat.lt_or_ge i m with z | z
      · exact Or.inl z
      · refine Or.inr ?_
        have ei : i = m := by omega
        have kl : le x ≤ p + 1 := k2.elim (fun y => by omega) id
        rcases Nat.lt_or_ge (le x) (p + 1) with y | y
        · omega
        · have e2 := (hT.2.1 x hx hN).2.2.1
          have e3 := k1 (le x - 1) (by omega)
          rw [e2, ei, show le x - 1 = p by omega, hb] at e3
          exact absurd e3 (by decide)
  · refine h2 i q hq hi (ho.imp id (fun z => ⟨z.1, ?_⟩))
    by_cases e : q = p
    · rw [e, z.1, hb] at hi
      exact absurd hi (by decide)
    · omega
  · by_cases e : q = p
    · rw [e]
      exact hb
    · exact h3.2.2.2 q k1 (by omega)
/-- the node z of place p below c is on the way of basket m -/
theorem fq_child_on {b : Nat → Nat → Bool} {g le : Nat → Nat} {Q : Nat → Nat → Bool} {N m p c z : Nat} (hT : fq_T g le Q N a4 a5 a6) (hN : N ≤ 161) (h3 : fq_at b le Q N m p c) (hb : b m p = true) (hz : 0 < z) (hz2 : z < N) (hl : le z = p + 1) (hu : a4 z = nI c) : fq_on b le Q m z := by
  obtain ⟨u1, u2, u3, y, y1, y2, y3, y4, y5⟩ := hT.2.1 z hz hz2
  have ey : y = c := by
    rw [hu, nI_eq (by have := h3.1; omega) (by omega)] at y2
    exact y2.symm
  subst ey
  intro q hq
  rcases Nat.lt_or_ge q (le y) with k | k
  · rw [h3.2.1 q k, y4 q k]
  · by_cases e : q = p
    · rw [e, hb, ← u3, hl]
      rfl
    · rw [y5 q k (by omega), h3.2.2.2 q k (by omega)]
theorem fq_same_on {b : Nat → Nat → Bool} {g le : Nat → Nat} {Q : Nat → Nat → Bool} {N i x z : Nat} (hT : fq_T g le Q N a4 a5 a6) (hx : x < N) (hz : z < N) (hl : le x = le z) (h1 : fq_on b le Q i x) (h2 : fq_on b le Q i z) : x = z :=
  hT.2.2.1 x z hx hz hl (fun q hq => by rw [← h1 q hq, ← h2 q (by omega)])
/-- basket m goes through an old node z -/
theorem fq_step_old {b : Nat → Nat → Bool} {g le : Nat → Nat} {Q : Nat → Nat → Bool} {N m p c z : Nat} (hT : fq_T g le Q N a4 a5 a6) (hN : N ≤ 161) (h1 : fq_th b le Q N m p a3) (h2 : fq_co b le Q N m p) (h3 : fq_at b le Q N m p c) (hb : b m p = true) (hz : 0 < z) (hz2 : z < N) (hl : le z = p + 1) (ho : fq_on b le Q m z) :
    fq_th b le Q N m (p + 1) (upd a3 z (a3 z + 1)) ∧ fq_co b le Q N m (p + 1) ∧ fq_at b le Q N m (p + 1) z := by
  refine ⟨fun x hx hN => ?_, fun i q hq hi hor => ?_, hz2, ho, by omega, fun q k1 k2 => absurd k1 (by omega)⟩
  · by_cases e : x = z
    · rw [e, pk_us, h1 z hz hz2, nI_1]
      refine congrArg nI ?_
      rw [fq_c_t (P := fun i => fq_on b le Q i z ∧ (i < m ∨ le z ≤ p + 1)) ⟨ho, Or.inr (by omega)⟩, fq_c_f (P := fun i => fq_on b le Q i z ∧ (i < m ∨ le z ≤ p)) (fun k => by have := k.2; omega)]
      exact congrArg (· + 1) (fq_c_congr (fun i hi => ⟨fun k => ⟨k.1, Or.inl hi⟩, fun k => ⟨k.1, Or.inl hi⟩⟩))
    · rw [pk_un e, h1 x hx hN]
      refine congrArg nI (fq_c_congr (fun i hi => ⟨fun k => ⟨k.1, k.2.imp id (fun z => by omega)⟩, fun k => ⟨k.1, ?_⟩⟩))
      rcases Nat.lt_or_ge i m with y | y
      · exact Or.inl y
      · refine Or.inr ?_
        have ei : i = m := by omega
        have kl : le x ≤ p + 1 := k.2.elim (fun y => by omega) id
        rcases Nat.lt_or_ge (le x) (p + 1) with y | y
        · omega
        · exact absurd (fq_same_on hT hN hz2 (by omega) (by rw [← ei]; exact k.1) ho) e
  · by_cases e : i = m ∧ q = p
    · rw [e.1, e.2]
      exact ⟨z, hz, hz2, hl, ho⟩
    · exact h2 i q hq hi (hor.imp id (fun y => ⟨y.1, by have := y.2; have := y.1; omega⟩))
/-- no node of place p on the way of basket m: then none of them hangs below c -/
theorem fq_none_on {b : Nat → Nat → Bool} {g le : Nat → Nat} {Q : Nat → Nat → Bool} {N m p c : Nat} (hT : fq_T g le Q N a4 a5 a6) (h3 : fq_at b le Q N m p c) (hno : ∀ z, 0 < z → z < N → le z = p + 1 → a4 z ≠ nI c) : ∀ z, z < N → le z = p + 1 → ¬ fq_on b le Q m z := by
  intro z hz hl ho
  have hz0 : 0 < z := by
    rcases Nat.eq_zero_or_pos z with e | e
    · rw [e, hT.1] at hl
      omega
    · exact e
  obtain ⟨u1, u2, u3, y, y1, y2, y3, y4, y5⟩ := hT.2.1 z hz0 hz
  refine hno z hz0 hz hl ?_
  rw [y2]
  refine congrArg nI ?_
  have hy : fq_on b le Q m y := fun q hq => by rw [y4 q hq]; exact ho q (by omega)
  have h0 : ∀ x, x < N → 0 < le x → fq_on b le Q m x → b m (le x - 1) = true := by
    intro x hx hl hox
    have hx0 : 0 < x := by
      rcases Nat.eq_zero_or_pos x with e | e
      · rw [e, hT.1] at hl
        omega
      · exact e
    rw [hox (le x - 1) (by omega)]
    exact (hT.2.1 x hx0 hx).2.2.1
  refine fq_same_on hT (by omega) h3.1 ?_ hy h3.2.1
  rcases Nat.lt_or_ge (le y) (le c) with k | k
  · have e1 := h0 c h3.1 (by omega) h3.2.1
    have e2 := y5 (le c - 1) (by omega) (by have := h3.2.2.1; omega)
    rw [← ho (le c - 1) (by have := h3.2.2.1; omega), e1] at e2
    exact absurd e2 (by decide)
  · rcases Nat.lt_or_ge (le c) (le y) with k2 | k2
    · have e1 := h0 y (by omega) (by omega) hy
      have e2 := h3.2.2.2 (le y - 1) (by omega) (by omega)
      rw [e1] at e2
      exact absurd e2 (by decide)
    · omega
def fq_un (f : Nat → Nat) (k v : Nat) : Nat → Nat := fun x => if x = k then v else f x
def fq_uq (f : Nat → Nat → Bool) (k : Nat) (v : Nat → Bool) : Nat → Nat → Bool := fun x => if x = k then v else f x
theorem fq_un_s {f : Nat → Nat} {k v : Nat} : fq_un f k v k = v := if_pos rfl
theorem fq_un_n {f : Nat → Nat} {k v x : Nat} (h : x ≠ k) : fq_un f k v x = f x := if_neg h
theorem fq_uq_s {f : Nat → Nat → Bool} {k : Nat} {v : Nat → Bool} : fq_uq f k v k = v := if_pos rfl
theorem fq_uq_n {f : Nat → Nat → Bool} {k x : Nat} {v : Nat → Bool} (h : x ≠ k) : fq_uq f k v x = f x := if_neg h
theorem fq_on_n {b : Nat → Nat → Bool} {le : Nat → Nat} {Q : Nat → Nat → Bool} {N k : Nat} {v : Nat → Bool} {i x : Nat} (h : x ≠ N) : fq_on b (fq_un le N k) (fq_uq Q N v) i x ↔ fq_on b le Q i x := by
  unfold fq_on
  rw [fq_un_n h, fq_uq_n h]
/-- the new node: the shape -/
theorem fq_new_T {b : Nat → Nat → Bool} {g le : Nat → Nat} {Q : Nat → Nat → Bool} {N m p c : Nat} (hT : fq_T g le Q N a4 a5 a6) (h3 : fq_at b le Q N m p c) (hp : p < 8) (hb : b m p = true) (hg : ∀ i j, i < 8 → j < 8 → g i = g j → i = j)
    (hno : ∀ z, z < N → le z = p + 1 → ¬ fq_on b le Q m z) : fq_T g (fq_un le N (p + 1)) (fq_uq Q N (b m)) (N + 1) (upd a4 N (nI c)) (upd a5 N (a6 (g p))) (upd a6 (g p) (nI N)) := by
  have hc := h3.1
  obtain ⟨t1, t2, t3, t4, t5⟩ := hT
  refine ⟨by rw [fq_un_n (by omega)]; exact t1, fun x hx hxN => ?_, fun x y hx hy hl hq => ?_, fun q hq => ?_, fun x hx hxN => ?_⟩
  · by_cases e : x = N
    · subst e
      unfold fq_up
      rw [fq_un_s, fq_uq_s]
      refine ⟨by omega, by omega, hb, c, hc, pk_us, ?_, fun q hq => ?_, fun q k1 k2 => ?_⟩
      · rw [fq_un_n (by omega)]
        have := h3.2.2.1
        omega
      · rw [fq_un_n (by omega)] at hq
        rw [fq_uq_n (by omega)]
        exact (h3.2.1 q hq).symm
      · rw [fq_un_n (by omega)] at k1
        exact h3.2.2.2 q k1 (by omega)
    · obtain ⟨u1, u2, u3, y, y1, y2, y3, y4, y5⟩ := t2 x hx (by omega)
      unfold fq_up
      rw [fq_un_n e, fq_uq_n e, pk_un e]
      refine ⟨u1, u2, u3, y, y1, y2, ?_⟩
      rw [fq_un_n (by omega), fq_uq_n (by omega)]
      exact ⟨y3, y4, y5⟩
  · by_cases e : x = N
    · by_cases e2 : y = N
      · omega
      · rw [e, fq_un_s, fq_un_n e2] at hl
        rw [e, fq_un_s, fq_uq_s, fq_uq_n e2] at hq
        exact absurd (fun q k => hq q (by omega)) (hno y (by omega) hl.symm)
    · by_cases e2 : y = N
      · rw [e2, fq_un_s, fq_un_n e] at hl
        rw [e2, fq_un_n e, fq_uq_s, fq_uq_n e] at hq
        exact absurd (fun q k => (hq q k).symm) (hno x (by omega) hl)
      · rw [fq_un_n e, fq_un_n e2] at hl
        rw [fq_un_n e, fq_uq_n e, fq_uq_n e2] at hq
        exact t3 x y (by omega) (by omega) hl hq
  · by_cases e : q = p
    · subst e
      refine ⟨N, pk_us, by omega, Or.inr fq_un_s, fun x k1 k2 => absurd k1 (by omega)⟩
    · obtain ⟨z, z1, z2, z3, z4⟩ := t4 q hq
      refine ⟨z, by rw [pk_un (fun k => e (hg q p hq hp k))]; exact z1, by omega, ?_, fun x k1 k2 => ?_⟩
      · rw [fq_un_n (by omega)]
        exact z3
      · by_cases ex : x = N
        · rw [ex, fq_un_s]
          omega
        · rw [fq_un_n ex]
          exact z4 x k1 (by omega)
  · by_cases e : x = N
    · subst e
      rw [fq_un_s, pk_us]
      obtain ⟨z, z1, z2, z3, z4⟩ := t4 p hp
      refine ⟨z, z1, z2, ?_, fun y k1 k2 => ?_⟩
      · rw [fq_un_n (by omega)]
        exact z3
      · rw [fq_un_n (by omega)]
        exact z4 y k1 k2
    · rw [fq_un_n e, pk_un e]
      obtain ⟨z, z1, z2, z3, z4⟩ := t5 x hx (by omega)
      refine ⟨z, z1, z2, ?_, fun y k1 k2 => ?_⟩
      · rw [fq_un_n (by omega)]
        exact z3
      · rw [fq_un_n (by omega)]
        exact z4 y k1 k2
/-- the new node: what goes through -/
theorem fq_step_new {b : Nat → Nat → Bool} {g le : Nat → Nat} {Q : Nat → Nat → Bool} {N m p c : Nat} (hT : fq_T g le Q N a4 a5 a6) (hp : p < 8) (h1 : fq_th b le Q N m p a3) (h2 : fq_co b le Q N m p) (h3 : fq_at b le Q N m p c) (hb : b m p = true)
    (hno : ∀ z, z < N → le z = p + 1 → ¬ fq_on b le Q m z) :
    fq_th b (fq_un le N (p + 1)) (fq_uq Q N (b m)) (N + 1) m (p + 1) (upd (upd a3 N 0) N 1) ∧ fq_co b (fq_un le N (p + 1)) (fq_uq Q N (b m)) (N + 1) m (p + 1) ∧ fq_at b (fq_un le N (p + 1)) (fq_uq Q N (b m)) (N + 1) m (p + 1) N := by
  have hc := h3.1
  have hon : ∀ i, fq_on b (fq_un le N (p + 1)) (fq_uq Q N (b m)) i N ↔ ∀ q, q < p + 1 → b i q = b m q := by
    intro i
    unfold fq_on
    rw [fq_un_s, fq_uq_s]
  refine ⟨fun x hx hxN => ?_, fun i q hq hi ho => ?_, by omega, (hon m).mpr (fun q _ => rfl), by rw [fq_un_s]; omega, fun q k1 k2 => ?_⟩
  · by_cases e : x = N
    · subst e
      rw [pk_us]
      rw [fq_c_t (show _ ∧ _ from ⟨(hon m).mpr (fun q _ => rfl), Or.inr (by rw [fq_un_s]; omega)⟩), fq_c_0 (fun i hi k => ?_)]
      · rfl
      · have k1 := (hon i).mp k.1
        obtain ⟨y, y1, y2, y3, y4⟩ := h2 i p hp (by rw [k1 p (by omega)]; exact hb) (Or.inl hi)
        exact hno y y2 y3 (fun q hq => by rw [← k1 q (by omega)]; exact y4 q hq)
    · rw [pk_un e, pk_un e, h1 x hx (by omega)]
      refine congrArg nI (fq_c_congr (fun i hi => ?_))
      rw [fq_on_n e, fq_un_n e]
      refine ⟨fun k => ⟨k.1, k.2.imp id (fun z => by omega)⟩, fun k => ⟨k.1, ?_⟩⟩
      rcases Nat.lt_or_ge i m with y | y
      · exact Or.inl y
      · refine Or.inr ?_
        have ei : i = m := by omega
        have kl : le x ≤ p + 1 := k.2.elim (fun y => by omega) id
        rcases Nat.lt_or_ge (le x) (p + 1) with y | y
        · omega
        · exact absurd (by rw [← ei]; exact k.1) (hno x (by omega) (by omega))
  · by_cases e : i = m ∧ q = p
    · rw [e.1, e.2]
      exact ⟨N, by omega, by omega, fq_un_s, (hon m).mpr (fun q _ => rfl)⟩
    · obtain ⟨x, x1, x2, x3, x4⟩ := h2 i q hq hi (ho.imp id (fun y => ⟨y.1, by have := y.2; have := y.1; omega⟩))
      exact ⟨x, x1, by omega, by rw [fq_un_n (by omega)]; exact x3, (fq_on_n (by omega)).mpr x4⟩
  · rw [fq_un_s] at k1
    exact absurd k1 (by omega)
end
end
section
/-! plant -/
section
variable {bc bt nc : Int32} {a1 a2 a3 a4 a5 a6 a7 a8 a9 a10 a11 a12 a13 : Nat → Int32}
/-- the tree of the first m baskets -/
def fq_KG (b : Nat → Nat → Bool) (g le : Nat → Nat) (Q : Nat → Nat → Bool) (n m N : Nat) (a3 a4 a5 a6 : Nat → Int32) : Prop :=
  fq_T g le Q N a4 a5 a6 ∧ (∀ x, 0 < x → x < N → a3 x = nI (fq_c (fun i => fq_on b le Q i x) m)) ∧ (∀ i q, q < 8 → b i q = true → i < m → ∃ x, 0 < x ∧ x < N ∧ le x = q + 1 ∧ fq_on b le Q i x) ∧ 0 < N ∧ N ≤ 1 + 8 * m ∧ a3 0 = nI n
def fq_K (b : Nat → Nat → Bool) (g : Nat → Nat) (n m N : Nat) (a3 a4 a5 a6 : Nat → Int32) : Prop := ∃ le Q, fq_KG b g le Q n m N a3 a4 a5 a6
theorem fq_K_in {b : Nat → Nat → Bool} {g le : Nat → Nat} {Q : Nat → Nat → Bool} {n m N : Nat} (k : fq_KG b g le Q n m N a3 a4 a5 a6) : fq_T g le Q N a4 a5 a6 ∧ fq_th b le Q N m 0 a3 ∧ fq_co b le Q N m 0 ∧ fq_at b le Q N m 0 0 := by
  obtain ⟨hT, k1, k2, k3, k4, k5⟩ := k
  refine ⟨hT, fun x hx hN => ?_, fun i q hq hi ho => k2 i q hq hi (ho.elim id (fun z => absurd z.2 (by omega))), k3, fun q hq => ?_, by rw [hT.1]; omega, fun q _ hq => absurd hq (by omega)⟩
  · have hl := (hT.2.1 x hx hN).1
    rw [k1 x hx hN, fq_c_f (P := fun i => fq_on b le Q i x ∧ (i < m ∨ le x ≤ 0)) (fun z => by have := z.2; omega)]
    exact congrArg nI (fq_c_congr (fun i hi => ⟨fun z => ⟨z, Or.inl hi⟩, fun z => z.1⟩))
  · rw [hT.1] at hq
    omega
theorem fq_K_out {b : Nat → Nat → Bool} {g le : Nat → Nat} {Q : Nat → Nat → Bool} {n m N : Nat} (hT : fq_T g le Q N a4 a5 a6) (h1 : fq_th b le Q N m 8 a3) (h2 : fq_co b le Q N m 8) (hN : 0 < N) (hN2 : N ≤ 1 + 8 * m + 8) (h0 : a3 0 = nI n) : fq_K b g n (m + 1) N a3 a4 a5 a6 := by
  refine ⟨le, Q, hT, fun x hx hxN => ?_, fun i q hq hi ho => h2 i q hq hi ?_, hN, by omega, h0⟩
  · rw [h1 x hx hxN]
    exact congrArg nI (fq_c_congr (fun i hi => ⟨fun z => z.1, fun z => ⟨z, Or.inr (hT.2.1 x hx hxN).2.1⟩⟩))
  · rcases Nat.lt_or_ge i m with z | z
    · exact Or.inl z
    · exact Or.inr ⟨by omega, hq⟩
theorem fq_plant {post : St1 → Prop} {b : Nat → Nat → Bool} {g : Nat → Nat} {n m N v : Nat} (hv : v < 256) (hb : ∀ p, p < 8 → b m p = v.testBit (g p)) (hg : fq_P g a7) (hm : m < 20) (hK : fq_K b g n m N a3 a4 a5 a6)
    (H : ∀ N' w2 w3 w4 w5 w6, fq_K b g n (m + 1) N' w3 w4 w5 w6 → post (bc, bt, nI N', a1, w2, w3, w4, w5, w6, a7, a8, a9, a10, a11, a12, a13)) : wpX_plant post (bc, bt, nI N, a1, a2, a3, a4, a5, a6, a7, a8, a9, a10, a11, a12, a13) (nI v) := by
  obtain ⟨le, Q, k⟩ := hK
  obtain ⟨i1, i2, i3, i4⟩ := fq_K_in k
  obtain ⟨k1, k2, k3, k4, k5, k6⟩ := k
  refine lp8 (fun k x2 x3 nc a2 a3 a4 a5 a6 => wX_plant_4 post (nI v) bc bt k x2 x3 nc a1 a2 a3 a4 a5 a6 a7 a8 a9 a10 a11 a12 a13)
    (fun x2 x3 nc a2 a3 a4 a5 a6 => ∃ p N c, x2 = nI c ∧ x3 = nI p ∧ nc = nI N ∧ p ≤ 8 ∧ N ≤ 1 + 8 * m + p ∧ 0 < N ∧ a3 0 = nI n ∧ ∃ le Q, fq_T g le Q N a4 a5 a6 ∧ fq_th b le Q N m p a3 ∧ fq_co b le Q N m p ∧ fq_at b le Q N m p c)
    (fun x2 x3 nc a2 a3 a4 a5 a6 => 8 - x3.toNatClampNeg) ?_ 0 0 (nI N) a2 a3 a4 a5 a6 ⟨0, N, 0, rfl, rfl, rfl, by omega, by omega, k4, k6, le, Q, i1, i2, i3, i4⟩
  clear i1 i2 i3 i4 k1 k2 k3 k4 k5 k6 le Q
  rintro j x2 x3 nc a2 a3 a4 a5 a6 ⟨p, N, c, rfl, rfl, rfl, hp, hN, hN0, h0, le, Q, hT, h1, h2, h3⟩ hw
  refine pk_le 8 p (fun e => ?_) (fun e => ⟨pk_in p 8 e, ?_⟩)
  · have ep : p = 8 := by omega
    subst ep
    exact H N a2 a3 a4 a5 a6 (fq_K_out hT h1 h2 hN0 hN h0)
  obtain ⟨g1, g2⟩ := hg.1 p e
  have hc := h3.1
  have mu : 8 - (nI (p + 1)).toNatClampNeg < 8 - (nI p).toNatClampNeg := by
    rw [nI_clamp (by omega), nI_clamp (by omega)]
    omega
  refine nm_r (e' := nI (g p)) (by rw [nI_clamp (by omega)]; exact g2) ?_
  cases hbit : b m p with
  | false =>
    obtain ⟨s1, s2, s3⟩ := fq_skip hT h1 h2 h3 hbit
    refine br_t ((fq_bit v hv (g p) g1).mpr (by rw [← hb p e]; exact hbit)) (nm_r (nI_1 p) ?_)
    exact hw _ _ _ _ _ _ _ _ ⟨p + 1, N, c, rfl, rfl, rfl, by omega, by omega, hN0, h0, le, Q, hT, s1, s2, s3⟩ mu
  | true =>
    refine br_f (fun z => ?_) ?_
    · have z2 := (fq_bit v hv (g p) g1).mp z
      rw [← hb p e, hbit] at z2
      exact absurd z2 (by decide)
    refine fq_childWith hT (by omega) e g1 (fun z z1 z2 z3 z4 => ?_) (fun hno => ?_)
    · have ho := fq_child_on hT (by omega) h3 hbit z1 z2 z3 z4
      obtain ⟨s1, s2, s3⟩ := fq_step_old hT (by omega) h1 h2 h3 hbit z1 z2 z3 ho
      refine br_f (nI_ne0 z1 (by omega)) ⟨pk_in z 161 (by omega), pk_in z 161 (by omega), nm_r (e' := upd a3 z (a3 z + 1)) ?_ (nm_r (nI_1 p) ?_)⟩
      · have q1 := h1 z z1 z2
        have q2 := fq_c_le (fun i => fq_on b le Q i z ∧ (i < m ∨ le z ≤ p)) (m + 1)
        rw [nI_clamp (by omega), q1, nI_1, fq_b8 _ (by omega)]
      · exact hw _ _ _ _ _ _ _ _ ⟨p + 1, N, z, rfl, rfl, rfl, by omega, by omega, hN0, by rw [pk_un (by omega)]; exact h0, le, Q, hT, s1, s2, s3⟩ mu
    · have hno2 := fq_none_on hT h3 hno
      obtain ⟨s1, s2, s3⟩ := fq_step_new hT e h1 h2 h3 hbit hno2
      have sT := fq_new_T hT h3 e hbit hg.2.2 hno2
      refine br_t rfl (nm_r (nI_1 N) ⟨pk_in N 161 (by omega), nm_e ⟨pk_in N 161 (by omega), nm_r (e' := upd a3 N 0) (by rw [nI_clamp (by omega)]) ⟨pk_in N 161 (by omega), nm_r (e' := upd a4 N (nI c)) (by rw [nI_clamp (by omega), fq_s16 c (by omega)]) ⟨pk_in (g p) 8 g1, pk_in N 161 (by omega), nm_r (e' := upd a5 N (a6 (g p))) ?_ ⟨pk_in (g p) 8 g1, nm_r (e' := upd a6 (g p) (nI N)) (by rw [nI_clamp (by omega), fq_s16 N (by omega)]) ?_⟩⟩⟩⟩⟩)
      · obtain ⟨z, z1, z2, _⟩ := hT.2.2.2.1 p e
        rw [nI_clamp (by omega), nI_clamp (by omega), z1, vp_nar_short, fq_s16 z (by omega)]
      · refine ⟨pk_in N 161 (by omega), pk_in N 161 (by omega), nm_r (e' := upd (upd a3 N 0) N 1) ?_ (nm_r (nI_1 p) ?_)⟩
        · rw [nI_clamp (by omega), pk_us]
          rfl
        · exact hw _ _ _ _ _ _ _ _ ⟨p + 1, N + 1, N, rfl, rfl, rfl, by omega, by omega, by omega, by rw [pk_un (by omega), pk_un (by omega)]; exact h0, _, _, sT, s1, s2, s3⟩ mu
end
end
section
/-! countOn and liftWeights -/
section
variable {bc bt nc : Int32} {a1 a2 a3 a4 a5 a6 a7 a8 a9 a10 a11 a12 a13 : Nat → Int32}
def fq_cm (b : Nat → Nat → Bool) (le : Nat → Nat) (Q : Nat → Nat → Bool) (n N : Nat) : Prop := ∀ i q, q < 8 → b i q = true → i < n → ∃ x, 0 < x ∧ x < N ∧ le x = q + 1 ∧ fq_on b le Q i x
/-- row e of the weights is right for the baskets with Sp at all nodes of the first k places -/
def fq_row (b : Nat → Nat → Bool) (le : Nat → Nat) (Q : Nat → Nat → Bool) (n : Nat) (Sp : Nat → Prop) (N k e : Nat) (w : Nat → Int32) : Prop := ∀ x, x < N → le x ≤ k → w (161 * e + x) = nI (fq_c (fun i => Sp i ∧ fq_on b le Q i x) n)
theorem fq_ix (e x : Nat) : (161 : Int32) * nI e + nI x = nI (161 * e + x) := by
  show nI 161 * nI e + nI x = _
  rw [pk_mul, nI_add]
theorem fq_on_top {b : Nat → Nat → Bool} {g le : Nat → Nat} {Q : Nat → Nat → Bool} {N i x p : Nat} (hT : fq_T g le Q N a4 a5 a6) (hx : x < N) (hl : le x = p + 1) (ho : fq_on b le Q i x) : 0 < x ∧ b i p = true := by
  have hx0 : 0 < x := by
    rcases Nat.eq_zero_or_pos x with e | e
    · rw [e, hT.1] at hl
      omega
    · exact e
  have k := (hT.2.1 x hx0 hx).2.2.1
  rw [hl] at k
  exact ⟨hx0, (ho p (by omega)).trans k⟩
theorem fq_next {b : Nat → Nat → Bool} {g le : Nat → Nat} {Q : Nat → Nat → Bool} {n N i y p : Nat} (hT : fq_T g le Q N a4 a5 a6) (hN : N ≤ 161) (hC : fq_cm b le Q n N) (hi : i < n) (hp : p < 8) (hb : b i p = true) (hy : y < N) (ho : fq_on b le Q i y) (hl : le y ≤ p) : ∃ z, y < z ∧ z < N ∧ a4 z = nI y ∧ fq_on b le Q i z ∧ le z ≤ p + 1 := by
  obtain ⟨q, ⟨q1, q2⟩, q3⟩ := pk_least (fun q => le y ≤ q ∧ b i q = true) ⟨p, hl, hb⟩
  have qp : q ≤ p := by
    rcases Nat.lt_or_ge p q with z | z
    · exact absurd ⟨hl, hb⟩ (q3 p z)
    · exact z
  have hat : fq_at b le Q N i q y := by
    refine ⟨hy, ho, q1, fun r r1 r2 => ?_⟩
    cases hr : b i r with
    | false => rfl
    | true => exact absurd ⟨r1, hr⟩ (q3 r r2)
  obtain ⟨x, x1, x2, x3, x4⟩ := hC i q (by omega) q2 hi
  have hex : ∃ z, 0 < z ∧ z < N ∧ le z = q + 1 ∧ a4 z = nI y := by
    rcases Classical.em (∃ z, 0 < z ∧ z < N ∧ le z = q + 1 ∧ a4 z = nI y) with h | h
    · exact h
    · exact absurd x4 (fq_none_on hT hat (fun z z1 z2 z3 z4 => h ⟨z, z1, z2, z3, z4⟩) x x2 x3)
  obtain ⟨z, z1, z2, z3, z4⟩ := hex
  refine ⟨z, ?_, z2, z4, fq_child_on hT hN hat q2 z1 z2 z3 z4, by omega⟩
  obtain ⟨_, _, _, y', y1, y2, _⟩ := hT.2.1 z z1 z2
  rw [z4, nI_eq (by omega) (by omega)] at y2
  omega
theorem fq_countOn {post : Int32 → Prop} {b : Nat → Nat → Bool} {g le : Nat → Nat} {Q : Nat → Nat → Bool} {n N p e : Nat} {Sp : Nat → Prop} (hT : fq_T g le Q N a4 a5 a6) (hN : N ≤ 161) (hC : fq_cm b le Q n N) (hp : p < 8) (he : e ≤ 7) (hg : g p < 8) (hR : fq_row b le Q n Sp N (p + 1) e a11)
    (H : post (nI (fq_c (fun i => Sp i ∧ b i p = true) n))) : wpX_countOn post (bc, bt, nc, a1, a2, a3, a4, a5, a6, a7, a8, a9, a10, a11, a12, a13) (nI e) (nI (g p)) := by
  obtain ⟨z0, ez, lz⟩ := hT.2.2.2.1 p hp
  refine ⟨pk_in (g p) 8 hg, nm_r (e' := nI z0) (by rw [nI_clamp (by omega)]; exact ez) ?_⟩
  refine lp2 (fun k x3 x4 => wX_countOn_10 post (nI e) bc bt nc a1 a2 a3 a4 a5 a6 a7 a8 a9 a10 a11 a12 a13 k x3 x4) (fun x3 x4 => ∃ z, x4 = nI z ∧ z < N ∧ (z = 0 ∨ le z = p + 1) ∧ x3 = nI (fq_c (fun i => Sp i ∧ ∃ x, z < x ∧ x < N ∧ le x = p + 1 ∧ fq_on b le Q i x) n)) (fun _ x4 => x4.toNatClampNeg) ?_ 0 (nI z0) ⟨z0, rfl, lz.1, lz.2.1, ?_⟩
  rotate_left
  · rw [fq_c_0]
    · rfl
    · rintro i hi ⟨_, x, x1, x2, x3, _⟩
      exact lz.2.2 x x1 x2 x3
  rintro j x3 x4 ⟨z, rfl, hz, hl, rfl⟩ hw
  refine pk_eq z 0 (fun e0 => ?_) (fun ne => ?_)
  · refine (congrArg post (congrArg nI (fq_c_congr (fun i hi => ⟨fun k => ⟨k.1, ?_⟩, fun k => ⟨k.1, ?_⟩⟩)))).mpr H
    · obtain ⟨x, x1, x2, x3, x4⟩ := k.2
      exact (fq_on_top hT x2 x3 x4).2
    · obtain ⟨x, x1, x2, x3, x4⟩ := hC i p hp k.2 hi
      exact ⟨x, by omega, x2, x3, x4⟩
  · have hl' : le z = p + 1 := hl.elim (fun h => absurd h ne) id
    obtain ⟨y, ey, ly⟩ := hT.2.2.2.2 z (by omega) hz
    rw [hl'] at ly
    have ly1 := ly.1
    rw [fq_ix, nI_clamp (show 161 * e + z < 2 ^ 31 by omega), nI_clamp (show z < 2 ^ 31 by omega)]
    refine ⟨pk_in (161 * e + z) 1449 (by omega), nm_r (e' := nI (fq_c (fun i => Sp i ∧ ∃ x, y < x ∧ x < N ∧ le x = p + 1 ∧ fq_on b le Q i x) n)) ?_ ⟨pk_in z 161 (by omega), nm_r ey (hw _ _ ⟨y, rfl, by omega, ly.2.1, rfl⟩ (by show (nI y).toNatClampNeg < (nI z).toNatClampNeg; rw [nI_clamp (by omega), nI_clamp (by omega)]; exact ly1))⟩⟩
    rw [hR z hz (by omega), nI_add]
    refine congrArg nI (fq_c_add (fun i hi => ⟨?_, ?_⟩) ?_).symm
    · rintro ⟨s, x, x1, x2, x3, x4⟩
      rcases Nat.lt_or_ge z x with k | k
      · exact Or.inl ⟨s, x, k, x2, x3, x4⟩
      · by_cases k2 : x = z
        · exact Or.inr ⟨s, by rw [← k2]; exact x4⟩
        · exact absurd x3 (ly.2.2 x x1 (by omega))
    · rintro (⟨s, x, x1, x2, x3, x4⟩ | ⟨s, o⟩)
      · exact ⟨s, x, by omega, x2, x3, x4⟩
      · exact ⟨s, z, ly1, hz, hl', o⟩
    · rintro i hi ⟨_, x, x1, x2, x3, x4⟩ ⟨_, o⟩
      have := fq_same_on hT x2 hz (by omega) x4 o
      omega
/-- what is in row e + 1 when the nodes above k have been passed up -/
def fq_mid (b : Nat → Nat → Bool) (le : Nat → Nat) (Q : Nat → Nat → Bool) (Sp : Nat → Prop) (N p : Nat) (a4 : Nat → Int32) (k y : Nat) : Nat → Prop := fun i => Sp i ∧ b i p = true ∧ fq_on b le Q i y ∧ (le y = p + 1 ∨ ∃ z, k < z ∧ z < N ∧ a4 z = nI y ∧ fq_on b le Q i z ∧ le z ≤ p + 1)
theorem fq_mid_x {b : Nat → Nat → Bool} {g le : Nat → Nat} {Q : Nat → Nat → Bool} {n N p x i : Nat} {Sp : Nat → Prop} (hT : fq_T g le Q N a4 a5 a6) (hN : N ≤ 161) (hC : fq_cm b le Q n N) (hp : p < 8) (hi : i < n) (hx : x < N) : fq_mid b le Q Sp N p a4 x x i ↔ Sp i ∧ b i p = true ∧ fq_on b le Q i x ∧ le x ≤ p + 1 := by
  constructor
  · rintro ⟨h1, h2, h3, h4⟩
    refine ⟨h1, h2, h3, h4.elim (fun h => by omega) ?_⟩
    rintro ⟨z, z1, z2, z3, z4, z5⟩
    obtain ⟨_, _, _, y', y1, y2, y3, _⟩ := hT.2.1 z (by omega) z2
    rw [z3, nI_eq (by omega) (by omega)] at y2
    rw [y2]
    omega
  · rintro ⟨h1, h2, h3, h4⟩
    refine ⟨h1, h2, h3, ?_⟩
    by_cases e : le x = p + 1
    · exact Or.inl e
    · exact Or.inr (fq_next hT hN hC hi hp h2 hx h3 (by omega))
theorem fq_lift94 {post : St1 → Prop} {b : Nat → Nat → Bool} {g le : Nat → Nat} {Q : Nat → Nat → Bool} {n N p e : Nat} {Sp : Nat → Prop} (hT : fq_T g le Q N a4 a5 a6) (hN : N ≤ 161) (hN0 : 0 < N) (hC : fq_cm b le Q n N) (hn : n ≤ 20) (hp : p < 8) (he : e ≤ 7)
    (hR : ∀ y, y < N → a11 (161 * e + 161 + y) = nI (fq_c (fq_mid b le Q Sp N p a4 (N - 1) y) n))
    (H : ∀ w, (∀ j, j < 161 * e + 161 → w j = a11 j) → fq_row b le Q n (fun i => Sp i ∧ b i p = true) N p (e + 1) w → post (bc, bt, nI N, a1, a2, a3, a4, a5, a6, a7, a8, a9, a10, w, a12, a13)) : ∃ k, wX_liftWeights_94 post (nI (161 * e + 161)) bc bt (nI N) k (nI (N - 1)) a1 a2 a3 a4 a5 a6 a7 a8 a9 a10 a11 a12 a13 := by
  refine ⟨N - 1 + 1, pk_loopD (fun k i s => wX_liftWeights_94 post (nI (161 * e + 161)) bc bt (nI N) k (nI i) a1 a2 a3 a4 a5 a6 a7 a8 a9 a10 s a12 a13) (fun k s => k < N ∧ (∀ j, j < 161 * e + 161 → s j = a11 j) ∧ ∀ y, y < N → s (161 * e + 161 + y) = nI (fq_c (fq_mid b le Q Sp N p a4 k y) n)) ?_ ?_ (N - 1) a11 ⟨by omega, fun j _ => rfl, hR⟩⟩
  · rintro k s ⟨h0, h1, h2⟩
    refine pk_le 0 0 (fun _ => H s h1 (fun x hx hl => ?_)) (fun z => absurd z (by omega))
    rw [show 161 * (e + 1) + x = 161 * e + 161 + x by omega, h2 x hx]
    refine congrArg nI (fq_c_congr (fun i hi => ⟨fun k => ⟨⟨k.1, k.2.1⟩, k.2.2.1⟩, fun k => ⟨k.1.1, k.1.2, k.2, Or.inr ?_⟩⟩))
    obtain ⟨z, z1, z2, z3, z4, z5⟩ := fq_next hT hN hC hi hp k.1.2 hx k.2 hl
    exact ⟨z, by omega, z2, z3, z4, z5⟩
  · rintro k x s ⟨h0, h1, h2⟩ hw
    obtain ⟨_, _, _, y, y1, y2, y3, _⟩ := hT.2.1 (x + 1) (by omega) h0
    have hsum : fq_c (fq_mid b le Q Sp N p a4 x y) n = fq_c (fq_mid b le Q Sp N p a4 (x + 1) y) n + fq_c (fq_mid b le Q Sp N p a4 (x + 1) (x + 1)) n := by
      refine fq_c_add (fun i hi => ?_) (fun i hi k1 k2 => ?_)
      · rw [fq_mid_x hT hN hC hp hi h0]
        constructor
        · rintro ⟨k1, k2, k3, k4⟩
          rcases k4 with k4 | ⟨z, z1, z2, z3, z4, z5⟩
          · exact Or.inl ⟨k1, k2, k3, Or.inl k4⟩
          · by_cases ez : z = x + 1
            · subst ez
              exact Or.inr ⟨k1, k2, z4, z5⟩
            · exact Or.inl ⟨k1, k2, k3, Or.inr ⟨z, by omega, z2, z3, z4, z5⟩⟩
        · rintro (⟨k1, k2, k3, k4⟩ | ⟨k1, k2, k3, k4⟩)
          · refine ⟨k1, k2, k3, k4.imp id ?_⟩
            rintro ⟨z, z1, z2, z3⟩
            exact ⟨z, by omega, z2, z3⟩
          · refine ⟨k1, k2, fun q hq => ?_, Or.inr ⟨x + 1, by omega, h0, y2, k3, k4⟩⟩
            obtain ⟨_, _, _, y', y1', y2', _, y4', _⟩ := hT.2.1 (x + 1) (by omega) h0
            have ey : y' = y := by
              rw [y2, nI_eq (by omega) (by omega)] at y2'
              exact y2'.symm
            rw [ey] at y4'
            rw [y4' q hq]
            exact k3 q (by omega)
      · have m2 := (fq_mid_x hT hN hC hp hi h0).mp k2
        rcases k1.2.2.2 with k4 | ⟨z, z1, z2, z3, z4, z5⟩
        · have := m2.2.2.2
          omega
        · obtain ⟨_, _, u3, y', y1', y2', y3', y4', y5'⟩ := hT.2.1 z (by omega) z2
          obtain ⟨_, _, v3, y'', y1'', y2'', y3'', y4'', y5''⟩ := hT.2.1 (x + 1) (by omega) h0
          rw [z3, nI_eq (by omega) (by omega)] at y2'
          rw [y2, nI_eq (by omega) (by omega)] at y2''
          subst y2'
          subst y2''
          have el : le z = le (x + 1) := by
            rcases Nat.lt_or_ge (le z) (le (x + 1)) with c | c
            · have e1 := y5'' (le z - 1) (by omega) (by omega)
              rw [← m2.2.2.1 (le z - 1) (by omega), z4 (le z - 1) (by omega), u3] at e1
              exact absurd e1 (by decide)
            · rcases Nat.lt_or_ge (le (x + 1)) (le z) with c2 | c2
              · have e1 := y5' (le (x + 1) - 1) (by omega) (by omega)
                rw [← z4 (le (x + 1) - 1) (by omega), m2.2.2.1 (le (x + 1) - 1) (by omega), v3] at e1
                exact absurd e1 (by decide)
              · omega
          have := fq_same_on hT z2 h0 el z4 m2.2.2.1
          omega
    have hle := fq_c_le (fq_mid b le Q Sp N p a4 x y) n
    refine pk_le (x + 1) 0 (fun z => absurd z (by omega)) (fun _ => ?_)
    rw [nI_clamp (show x + 1 < 2 ^ 31 by omega), y2, nI_add, nI_add, nI_clamp (show 161 * e + 161 + y < 2 ^ 31 by omega), nI_clamp (show 161 * e + 161 + (x + 1) < 2 ^ 31 by omega)]
    refine ⟨pk_in (x + 1) 161 (by omega), pk_in (161 * e + 161 + y) 1449 (by omega), pk_in (161 * e + 161 + (x + 1)) 1449 (by omega), pk_in (161 * e + 161 + y) 1449 (by omega), nm_r (e' := upd s (161 * e + 161 + y) (nI (fq_c (fq_mid b le Q Sp N p a4 x y) n))) ?_ (nm_r (pk_m1 x) (hw _ ⟨by omega, fun j hj => ?_, fun y' hy' => ?_⟩))⟩
    · rw [h2 y (by omega), h2 (x + 1) h0, nI_add, ← hsum, fq_b8 _ (by omega)]
    · rw [pk_un (by omega)]
      exact h1 j hj
    · by_cases ey : y' = y
      · rw [ey, pk_us]
      · rw [pk_un (by omega), h2 y' hy']
        refine congrArg nI (fq_c_congr (fun i hi => ⟨fun c => ⟨c.1, c.2.1, c.2.2.1, c.2.2.2.imp id ?_⟩, fun c => ⟨c.1, c.2.1, c.2.2.1, c.2.2.2.imp id ?_⟩⟩))
        · rintro ⟨z, z1, z2, z3⟩
          exact ⟨z, by omega, z2, z3⟩
        · rintro ⟨z, z1, z2, z3, z4⟩
          refine ⟨z, ?_, z2, z3, z4⟩
          by_cases ez : z = x + 1
          · rw [ez, y2, nI_eq (by omega) (by omega)] at z3
            exact absurd z3.symm ey
          · omega
theorem fq_lift50 {post : St1 → Prop} {b : Nat → Nat → Bool} {g le : Nat → Nat} {Q : Nat → Nat → Bool} {n N p e z0 : Nat} {Sp : Nat → Prop} (hT : fq_T g le Q N a4 a5 a6) (hN : N ≤ 161) (hN0 : 0 < N) (hC : fq_cm b le Q n N) (hn : n ≤ 20) (hp : p < 8) (he : e ≤ 7) (hz0 : fq_lk le p N z0) (hR : fq_row b le Q n Sp N (p + 1) e a11)
    (hZ : ∀ y, y < N → a11 (161 * e + 161 + y) = 0)
    (H : ∀ w, (∀ j, j < 161 * e + 161 → w j = a11 j) → fq_row b le Q n (fun i => Sp i ∧ b i p = true) N p (e + 1) w → post (bc, bt, nI N, a1, a2, a3, a4, a5, a6, a7, a8, a9, a10, w, a12, a13)) : ∃ k, wX_liftWeights_50 post (nI (161 * e)) (nI (161 * e + 161)) bc bt (nI N) k (nI z0) a1 a2 a3 a4 a5 a6 a7 a8 a9 a10 a11 a12 a13 := by
  refine lp2 (fun k x5 s => wX_liftWeights_50 post (nI (161 * e)) (nI (161 * e + 161)) bc bt (nI N) k x5 a1 a2 a3 a4 a5 a6 a7 a8 a9 a10 s a12 a13) (fun x5 s => ∃ z, x5 = nI z ∧ z < N ∧ (z = 0 ∨ le z = p + 1) ∧ (∀ j, j < 161 * e + 161 → s j = a11 j) ∧ ∀ x, x < N → s (161 * e + 161 + x) = nI (fq_c (fun i => Sp i ∧ fq_on b le Q i x ∧ le x = p + 1 ∧ z < x) n)) (fun x5 _ => x5.toNatClampNeg) ?_ (nI z0) a11 ⟨z0, rfl, hz0.1, hz0.2.1, fun j _ => rfl, fun x hx => ?_⟩
  rotate_left
  · rw [hZ x hx, fq_c_0]
    · rfl
    · rintro i hi ⟨_, _, k1, k2⟩
      exact hz0.2.2 x k2 hx k1
  rintro j x5 s ⟨z, rfl, hz, hl, h1, h2⟩ hw
  refine pk_eq z 0 (fun e0 => ?_) (fun ne => ?_)
  · refine nm_r (e' := nI (N - 1)) ?_ (fq_lift94 hT hN hN0 hC hn hp he (fun y hy => ?_) (fun w hw1 hw2 => H w (fun j hj => (hw1 j hj).trans (h1 j hj)) hw2))
    · rw [show N = N - 1 + 1 by omega, nI_pred]
      rfl
    · rw [h2 y hy]
      refine congrArg nI (fq_c_congr (fun i hi => ⟨fun k => ?_, fun k => ?_⟩))
      · obtain ⟨k1, k2, k3, k4⟩ := k
        exact ⟨k1, (fq_on_top hT hy k3 k2).2, k2, Or.inl k3⟩
      · obtain ⟨k1, k2, k3, k4⟩ := k
        rcases k4 with k4 | ⟨x, x1, x2, _⟩
        · exact ⟨k1, k3, k4, by have := (fq_on_top hT hy k4 k3).1; omega⟩
        · omega
  · have hl' : le z = p + 1 := hl.elim (fun h => absurd h ne) id
    obtain ⟨y, ey, ly⟩ := hT.2.2.2.2 z (by omega) hz
    rw [hl'] at ly
    have ly1 := ly.1
    rw [nI_add, nI_add, nI_clamp (show 161 * e + z < 2 ^ 31 by omega), nI_clamp (show z < 2 ^ 31 by omega), nI_clamp (show 161 * e + 161 + z < 2 ^ 31 by omega)]
    have hv : s (161 * e + z) = nI (fq_c (fun i => Sp i ∧ fq_on b le Q i z) n) := (h1 _ (by omega)).trans (hR z hz (by omega))
    have hle := fq_c_le (fun i => Sp i ∧ fq_on b le Q i z) n
    refine ⟨pk_in (161 * e + z) 1449 (by omega), pk_in (161 * e + 161 + z) 1449 (by omega), nm_r (e' := upd s (161 * e + 161 + z) (nI (fq_c (fun i => Sp i ∧ fq_on b le Q i z) n))) ?_ ⟨pk_in z 161 (by omega), nm_r ey (hw _ _ ⟨y, rfl, by omega, ly.2.1, fun j hj => ?_, fun x hx => ?_⟩ (by show (nI y).toNatClampNeg < (nI z).toNatClampNeg; rw [nI_clamp (by omega), nI_clamp (by omega)]; exact ly1))⟩⟩
    · rw [hv, vp_nar_byte, fq_b8 _ (by omega)]
    · rw [pk_un (by omega)]
      exact h1 j hj
    · by_cases ex : x = z
      · rw [ex, pk_us]
        exact congrArg nI (fq_c_congr (fun i hi => ⟨fun k => ⟨k.1, k.2, hl', ly1⟩, fun k => ⟨k.1, k.2.1⟩⟩))
      · rw [pk_un (by omega), h2 x hx]
        refine congrArg nI (fq_c_congr (fun i hi => ⟨fun k => ⟨k.1, k.2.1, k.2.2.1, by have := k.2.2.2; omega⟩, fun k => ⟨k.1, k.2.1, k.2.2.1, ?_⟩⟩))
        rcases Nat.lt_or_ge z x with c | c
        · exact c
        · exact absurd k.2.2.1 (ly.2.2 x k.2.2.2 (by omega))
theorem fq_liftWeights {post : St1 → Prop} {b : Nat → Nat → Bool} {g le : Nat → Nat} {Q : Nat → Nat → Bool} {n N p e : Nat} {Sp : Nat → Prop} (hT : fq_T g le Q N a4 a5 a6) (hN : N ≤ 161) (hN0 : 0 < N) (hC : fq_cm b le Q n N) (hn : n ≤ 20) (hp : p < 8) (he : e ≤ 7) (hg : g p < 8) (hR : fq_row b le Q n Sp N (p + 1) e a11)
    (H : ∀ w, (∀ j, j < 161 * e + 161 → w j = a11 j) → fq_row b le Q n (fun i => Sp i ∧ b i p = true) N p (e + 1) w → post (bc, bt, nI N, a1, a2, a3, a4, a5, a6, a7, a8, a9, a10, w, a12, a13)) : wpX_liftWeights post (bc, bt, nI N, a1, a2, a3, a4, a5, a6, a7, a8, a9, a10, a11, a12, a13) (nI e) (nI (g p)) := by
  obtain ⟨z0, ez, lz⟩ := hT.2.2.2.1 p hp
  refine nm_r (e' := nI (161 * e)) (pk_mul 161 e) (nm_r (e' := nI (161 * e + 161)) (nI_add (161 * e) 161) ?_)
  refine pk_loop (fun k i s => wX_liftWeights_16 post (nI (g p)) (nI (161 * e)) (nI (161 * e + 161)) bc bt (nI N) k (nI i) a1 a2 a3 a4 a5 a6 a7 a8 a9 a10 s a12 a13) (fun i s => (∀ j, j < 161 * e + 161 → s j = a11 j) ∧ ∀ y, y < i → s (161 * e + 161 + y) = 0) N 0 a11 (by omega) ⟨fun j _ => rfl, fun y hy => absurd hy (by omega)⟩ ?_ ?_
  · rintro k s ⟨h1, h2⟩
    refine pk_le N N (fun _ => ⟨pk_in (g p) 8 hg, nm_r (e' := nI z0) (by rw [nI_clamp (by omega)]; exact ez) ?_⟩) (fun z => absurd z (by omega))
    exact fq_lift50 hT hN hN0 hC hn hp he lz (fun x hx hl => (h1 _ (by omega)).trans (hR x hx hl)) h2 (fun w w1 w2 => H w (fun j hj => (w1 j hj).trans (h1 j hj)) w2)
  · rintro k i s hi ⟨h1, h2⟩ hw
    refine pk_le N i (fun z => absurd z (by omega)) (fun _ => ?_)
    rw [nI_add, nI_clamp (show 161 * e + 161 + i < 2 ^ 31 by omega)]
    refine ⟨pk_in (161 * e + 161 + i) 1449 (by omega), nm_e (nm_r (nI_1 i) (hw _ ⟨fun j hj => ?_, fun y hy => ?_⟩))⟩
    · rw [pk_un (by omega)]
      exact h1 j hj
    · by_cases ey : y = i
      · rw [ey, pk_us]
      · rw [pk_un (by omega)]
        exact h2 y (by omega)
end
end
section
/-! growSets -/
section
variable {bc bt nc : Int32} {a1 a2 a3 a4 a5 a6 a7 a8 a9 a10 a11 a12 a13 : Nat → Int32}
theorem fq_c_all {P : Nat → Prop} {n : Nat} (h : ∀ i, i < n → P i) : fq_c P n = n := by
  induction n with
  | zero => rfl
  | succ n ih => rw [fq_c_t (h n (by omega)), ih (fun i hi => h i (by omega))]
def fq_sub (s v : Nat) : Prop := ∀ t, t < 8 → s.testBit t = true → v.testBit t = true
/-- how many of the baskets B 0 .. B (n - 1) have all of s -/
noncomputable def fq_cn (B : Nat → Nat) (n s : Nat) : Nat := fq_c (fun i => fq_sub s (B i)) n
theorem fq_sub_or {s t v : Nat} (ht : t < 8) : fq_sub (s ||| 2 ^ t) v ↔ fq_sub s v ∧ v.testBit t = true := by
  constructor
  · intro h
    refine ⟨fun u hu k => h u hu ?_, h t ht ?_⟩
    · rw [fq_or_bit, k]
      rfl
    · rw [fq_or_bit]
      simp
  · rintro ⟨h1, h2⟩ u hu k
    rw [fq_or_bit, Bool.or_eq_true, decide_eq_true_eq] at k
    rcases k with k | k
    · exact h1 u hu k
    · rw [← k]
      exact h2
/-- s is ahead: as S on the places from h on, and some place below -/
def fq_ah (g : Nat → Nat) (S h s : Nat) : Prop := (∀ p, h ≤ p → p < 8 → s.testBit (g p) = S.testBit (g p)) ∧ ∃ p, p < h ∧ s.testBit (g p) = true
def fq_cs (B : Nat → Nat) (n : Nat) (g S h : Nat → Nat) (D : Nat) (w : Nat → Int32) : Prop := ∀ s, s < 256 → w s = nI (fq_cn B n s) ∨ (w s = 0 ∧ ∃ e, e < D ∧ fq_ah g (S e) (h e) s)
def fq_lv (b : Nat → Nat → Bool) (le : Nat → Nat) (Q : Nat → Nat → Bool) (n N : Nat) (B g S h : Nat → Nat) (D : Nat) (a11 a12 a13 : Nat → Int32) : Prop := ∀ e, e < D → h e + e ≤ 8 ∧ S e < 256 ∧ a13 e = nI (h e) - 1 ∧ a12 e = nI (S e) ∧ (∀ p, p < h e → (S e).testBit (g p) = false) ∧ fq_row b le Q n (fun i => fq_sub (S e) (B i)) N (h e) e a11
def fq_mu (h : Nat → Nat) : Nat → Nat
  | 0 => 0
  | D + 1 => fq_mu h D + (2 ^ (h D + 1) - 1)
theorem fq_mu_s (h : Nat → Nat) (D : Nat) : fq_mu h (D + 1) = fq_mu h D + (2 ^ (h D + 1) - 1) := rfl
theorem fq_mu_congr {h k : Nat → Nat} {D : Nat} (e : ∀ i, i < D → h i = k i) : fq_mu h D = fq_mu k D := by
  induction D with
  | zero => rfl
  | succ D ih => rw [fq_mu_s, fq_mu_s, ih (fun i hi => e i (by omega)), e D (by omega)]
theorem fq_cs_pop {B : Nat → Nat} {n : Nat} {g S h : Nat → Nat} {d : Nat} {w : Nat → Int32} (k : fq_cs B n g S h (d + 1) w) (hd : h d = 0) : fq_cs B n g S h d w := by
  intro s hs
  refine (k s hs).imp id ?_
  rintro ⟨k1, e, k2, k3⟩
  refine ⟨k1, e, ?_, k3⟩
  by_cases ed : e = d
  · obtain ⟨p, hp, _⟩ := k3.2
    rw [ed, hd] at hp
    omega
  · omega
/-- a set that is ahead at a level d with p + 1 places, and has place p, holds the level's set and this thing -/
theorem fq_ah_sup {g : Nat → Nat} {a7 : Nat → Int32} {S p s v : Nat} (hg : fq_P g a7) (hp : p < 8) (hS : ∀ q, q < p + 1 → S.testBit (g q) = false) (hs : ∀ q, p + 1 ≤ q → q < 8 → s.testBit (g q) = S.testBit (g q)) (hb : s.testBit (g p) = true) (h : fq_sub s v) : fq_sub S v ∧ v.testBit (g p) = true := by
  refine ⟨fun t ht k => ?_, h (g p) (hg.1 p hp).1 hb⟩
  obtain ⟨q, hq, e⟩ := hg.2.1 t ht
  rcases Nat.lt_or_ge q (p + 1) with c | c
  · have := hS q c
    rw [e, k] at this
    exact absurd this (by decide)
  · have := hs q c hq
    rw [e, k] at this
    exact h t ht this
theorem fq_ah_low {g : Nat → Nat} {S p s : Nat} (hS : S.testBit (g p) = false) (hb : s.testBit (g p) = false) (h : fq_ah g S (p + 1) s) : fq_ah g S p s := by
  refine ⟨fun q k1 k2 => ?_, ?_⟩
  · by_cases e : q = p
    · rw [e, hb, hS]
    · exact h.1 q (by omega) k2
  · obtain ⟨q, q1, q2⟩ := h.2
    refine ⟨q, ?_, q2⟩
    by_cases e : q = p
    · rw [e, hb] at q2
      exact absurd q2 (by decide)
    · omega
theorem fq_cs_zero {B : Nat → Nat} {n : Nat} {g S h : Nat → Nat} {d p : Nat} {w a7 : Nat → Int32} (hg : fq_P g a7) (hp : p < 8) (k : fq_cs B n g S h (d + 1) w) (hd : h d = p + 1) (hS : ∀ q, q < p + 1 → (S d).testBit (g q) = false) (hc : fq_c (fun i => fq_sub (S d) (B i) ∧ (B i).testBit (g p) = true) n = 0) : fq_cs B n g S (fq_un h d p) (d + 1) w := by
  intro s hs
  rcases k s hs with k1 | ⟨k1, e, k2, k3⟩
  · exact Or.inl k1
  · by_cases ed : e = d
    · subst ed
      rw [hd] at k3
      cases hb : s.testBit (g p) with
      | false => exact Or.inr ⟨k1, e, k2, by rw [fq_un_s]; exact fq_ah_low (hS p (by omega)) hb k3⟩
      | true =>
        refine Or.inl ?_
        have e0 : fq_cn B n s = 0 := fq_c_0 (fun i hi z => fq_c_z hc i hi (fq_ah_sup hg hp hS k3.1 hb z))
        rw [k1, e0]
        rfl
    · exact Or.inr ⟨k1, e, k2, by rw [fq_un_n ed]; exact k3⟩
theorem fq_cs_push {B : Nat → Nat} {n : Nat} {g S h : Nat → Nat} {d p : Nat} {w a7 : Nat → Int32} (hg : fq_P g a7) (hp : p < 8) (k : fq_cs B n g S h (d + 1) w) (hd : h d = p + 1) (hS8 : S d < 256) (hS : ∀ q, q < p + 1 → (S d).testBit (g q) = false) :
    fq_cs B n g (fq_un S (d + 1) (S d ||| 2 ^ g p)) (fq_un (fq_un h d p) (d + 1) p) (d + 2) (upd w (S d ||| 2 ^ g p) (nI (fq_c (fun i => fq_sub (S d) (B i) ∧ (B i).testBit (g p) = true) n))) := by
  have gp := (hg.1 p hp).1
  intro s hs
  by_cases es : s = S d ||| 2 ^ g p
  · rw [es, pk_us]
    exact Or.inl (congrArg nI (fq_c_congr (fun i hi => (fq_sub_or gp).symm)))
  · rw [pk_un es]
    rcases k s hs with k1 | ⟨k1, e, k2, k3⟩
    · exact Or.inl k1
    · refine Or.inr ⟨k1, ?_⟩
      by_cases ed : e = d
      · subst ed
        rw [hd] at k3
        cases hb : s.testBit (g p) with
        | false => exact ⟨e, by omega, by rw [fq_un_n (by omega), fq_un_n (by omega), fq_un_s]; exact fq_ah_low (hS p (by omega)) hb k3⟩
        | true =>
          refine ⟨e + 1, by omega, ?_⟩
          rw [fq_un_s, fq_un_s]
          have hag : ∀ q, p ≤ q → q < 8 → s.testBit (g q) = (S e ||| 2 ^ g p).testBit (g q) := by
            intro q q1 q2
            rw [fq_or_bit]
            by_cases eq : q = p
            · rw [eq, hb]
              simp
            · rw [k3.1 q (by omega) q2, decide_eq_false (fun z => eq (hg.2.2 p q hp q2 z).symm), Bool.or_false]
          refine ⟨hag, ?_⟩
          rcases Classical.em (∃ q, q < p ∧ s.testBit (g q) = true) with c | c
          · exact c
          · refine absurd (fq_ext hs (fq_or_lt _ hS8 _ gp) (fun t ht => ?_)) es
            obtain ⟨q, hq, e1⟩ := hg.2.1 t ht
            rw [← e1]
            rcases Nat.lt_or_ge q p with c2 | c2
            · rw [fq_or_bit, hS q (by omega), decide_eq_false (fun z => by have := hg.2.2 p q hp hq z; omega)]
              cases hq2 : s.testBit (g q) with
              | false => rfl
              | true => exact absurd ⟨q, c2, hq2⟩ c
            · exact hag q c2 hq
      · exact ⟨e, by omega, by rw [fq_un_n (by omega), fq_un_n (by omega), fq_un_n ed]; exact k3⟩
theorem fq_row_keep {b : Nat → Nat → Bool} {le : Nat → Nat} {Q : Nat → Nat → Bool} {n N k k2 e : Nat} {Sp : Nat → Prop} {w v : Nat → Int32} (h : fq_row b le Q n Sp N k e w) (hk : k2 ≤ k) (hv : ∀ x, x < N → v (161 * e + x) = w (161 * e + x)) : fq_row b le Q n Sp N k2 e v :=
  fun x hx hl => (hv x hx).trans (h x hx (by omega))
theorem fq_m1 (x : Int32) : x + (-1) = x - 1 := by rw [Int32.sub_eq_add_neg]
theorem fq_gs78 {post : St1 → Prop} {b : Nat → Nat → Bool} {g le : Nat → Nat} {Q : Nat → Nat → Bool} {n N : Nat} {B S h : Nat → Nat} {D : Nat} (hT : fq_T g le Q N a4 a5 a6) (hN : N ≤ 161) (hN0 : 0 < N) (hC : fq_cm b le Q n N) (hn : n ≤ 20) (hb : ∀ i p, i < n → p < 8 → b i p = (B i).testBit (g p)) (hg : fq_P g a7)
    (H : ∀ w10 w11 w12 w13, (∀ s, s < 256 → w10 s = nI (fq_cn B n s)) → (∀ s, 256 ≤ s → w10 s = 0) → post (bc, bt, nI N, a1, a2, a3, a4, a5, a6, a7, a8, a9, w10, w11, w12, w13))
    (h1 : fq_lv b le Q n N B g S h D a11 a12 a13) (h2 : fq_cs B n g S h D a10) (h3 : ∀ s, 256 ≤ s → a10 s = 0) : ∃ k, wX_growSets_78 post k (nI D - 1) bc bt (nI N) a1 a2 a3 a4 a5 a6 a7 a8 a9 a10 a11 a12 a13 := by
  refine lp7 (fun k D (S : Nat → Nat) (h : Nat → Nat) a10 a11 a12 a13 => wX_growSets_78 post k (nI D - 1) bc bt (nI N) a1 a2 a3 a4 a5 a6 a7 a8 a9 a10 a11 a12 a13) (fun D S h a10 a11 a12 a13 => fq_lv b le Q n N B g S h D a11 a12 a13 ∧ fq_cs B n g S h D a10 ∧ ∀ s, 256 ≤ s → a10 s = 0) (fun D S h _ _ _ _ => fq_mu h D) ?_ D S h a10 a11 a12 a13 ⟨h1, h2, h3⟩
  clear h1 h2 h3
  rintro j D S h a10 a11 a12 a13 ⟨h1, h2, h3⟩ hw
  cases D with
  | zero =>
    refine br_t (by decide) (H a10 a11 a12 a13 (fun s hs => ?_) h3)
    rcases h2 s hs with k | ⟨_, e, k, _⟩
    · exact k
    · omega
  | succ d =>
    obtain ⟨l1, l2, l3, l4, l5, l6⟩ := h1 d (by omega)
    show wX_growSets_78 post (j + 1) (nI (d + 1) - 1) bc bt (nI N) a1 a2 a3 a4 a5 a6 a7 a8 a9 a10 a11 a12 a13
    rw [nI_pred]
    refine br_f (nI_pos (by omega)) ⟨pk_in d 9 (by omega), nm_r (e' := nI (h d) - 1) (by rw [nI_clamp (by omega)]; exact l3) ?_⟩
    cases hd : h d with
    | zero =>
      refine br_f (by decide) (nm_r (fq_m1 (nI d)) (hw d S h a10 a11 a12 a13 ⟨fun e he => h1 e (by omega), fq_cs_pop h2 hd, h3⟩ ?_))
      show fq_mu h d < fq_mu h (d + 1)
      rw [fq_mu_s, hd]
      omega
    | succ p =>
      rw [hd] at l1 l3 l5 l6
      have hp : p < 8 := by omega
      obtain ⟨g1, g2⟩ := hg.1 p hp
      have hc : fq_c (fun i => fq_sub (S d) (B i) ∧ b i p = true) n = fq_c (fun i => fq_sub (S d) (B i) ∧ (B i).testBit (g p) = true) n := fq_c_congr (fun i hi => by rw [hb i p hi hp])
      have hcle := fq_c_le (fun i => fq_sub (S d) (B i) ∧ (B i).testBit (g p) = true) n
      rw [nI_pred]
      refine br_t (nI_pos' (by omega)) ⟨pk_in d 9 (by omega), pk_in d 9 (by omega), nm_r (e' := upd a13 d (nI p - 1)) ?_ ⟨pk_in p 8 hp, nm_r (e' := nI (g p)) (by rw [nI_clamp (by omega)]; exact g2) ?_⟩⟩
      · rw [nI_clamp (by omega), l3, nI_pred, fq_h8 p (by omega)]
      have lo : ∀ e, e < d → h e + e ≤ 8 ∧ S e < 256 ∧ a13 e = nI (h e) - 1 ∧ a12 e = nI (S e) ∧ (∀ p, p < h e → (S e).testBit (g p) = false) ∧ fq_row b le Q n (fun i => fq_sub (S e) (B i)) N (h e) e a11 := fun e he => h1 e (by omega)
      refine fq_countOn hT hN hC hp (by omega) g1 l6 ?_
      rw [hc]
      refine pk_eq (fq_c (fun i => fq_sub (S d) (B i) ∧ (B i).testBit (g p) = true) n) 0 (fun e0 => ?_) (fun ne => ⟨pk_in d 9 (by omega), ?_⟩)
      · have t : wX_growSets_78 post j (nI (d + 1) - 1) bc bt (nI N) a1 a2 a3 a4 a5 a6 a7 a8 a9 a10 a11 a12 (upd a13 d (nI p - 1)) := by
          refine hw (d + 1) S (fq_un h d p) a10 a11 a12 (upd a13 d (nI p - 1)) ⟨fun e he => ?_, fq_cs_zero hg hp h2 hd l5 e0, h3⟩ ?_
          · by_cases ed : e = d
            · subst ed
              rw [fq_un_s, pk_us]
              exact ⟨by omega, l2, rfl, l4, fun q hq => l5 q (by omega), fq_row_keep l6 (by omega) (fun x hx => rfl)⟩
            · rw [fq_un_n ed, pk_un ed]
              exact lo e (by omega)
          · show fq_mu (fq_un h d p) (d + 1) < fq_mu h (d + 1)
            rw [fq_mu_s, fq_mu_s, fq_un_s, hd, fq_mu_congr (h := fq_un h d p) (k := h) (fun i hi => fq_un_n (by omega))]
            have p1 : 0 < 2 ^ (p + 1) := Nat.two_pow_pos (p + 1)
            have p2 : 2 ^ (p + 1 + 1) = 2 ^ (p + 1) * 2 := Nat.pow_succ 2 (p + 1)
            omega
        rw [nI_pred] at t
        exact t
      · have s8 := fq_or_lt (S d) l2 (g p) g1
        refine nm_r (e' := nI (S d ||| 2 ^ g p)) (by rw [nI_clamp (by omega), l4, fq_or _ l2 _ g1]) ⟨pk_in (S d ||| 2 ^ g p) 256 s8, nm_r (e' := upd a10 (S d ||| 2 ^ g p) (nI (fq_c (fun i => fq_sub (S d) (B i) ∧ (B i).testBit (g p) = true) n))) (by rw [nI_clamp (by omega), fq_b8 _ (by omega)]) ?_⟩
        refine fq_liftWeights hT hN hN0 hC hn hp (by omega) g1 l6 (fun w w1 w2 => ?_)
        refine nm_r (nI_1 d) ⟨pk_in (d + 1) 9 (by omega), nm_r (e' := upd a12 (d + 1) (nI (S d ||| 2 ^ g p))) (by rw [nI_clamp (by omega), fq_s16 _ s8]) ⟨pk_in (d + 1) 9 (by omega), nm_r (e' := upd (upd a13 d (nI p - 1)) (d + 1) (nI p - 1)) (by rw [nI_clamp (by omega), fq_h8 p (by omega)]) ?_⟩⟩
        have t : wX_growSets_78 post j (nI (d + 1 + 1) - 1) bc bt (nI N) a1 a2 a3 a4 a5 a6 a7 a8 a9 (upd a10 (S d ||| 2 ^ g p) (nI (fq_c (fun i => fq_sub (S d) (B i) ∧ (B i).testBit (g p) = true) n))) w (upd a12 (d + 1) (nI (S d ||| 2 ^ g p))) (upd (upd a13 d (nI p - 1)) (d + 1) (nI p - 1)) := by
          refine hw (d + 1 + 1) (fq_un S (d + 1) (S d ||| 2 ^ g p)) (fq_un (fq_un h d p) (d + 1) p) _ w _ _ ⟨fun e he => ?_, fq_cs_push hg hp h2 hd l2 l5, fun s hs => ?_⟩ ?_
          · by_cases e1 : e = d + 1
            · subst e1
              rw [fq_un_s, fq_un_s, pk_us, pk_us]
              refine ⟨by omega, s8, rfl, rfl, fun q hq => ?_, fun x hx hl => ?_⟩
              · rw [fq_or_bit, l5 q (by omega), decide_eq_false (fun z => by have := hg.2.2 p q hp (by omega) z; omega)]
                rfl
              · rw [w2 x hx hl]
                refine congrArg nI (fq_c_congr (fun i hi => ?_))
                show (fq_sub (S d) (B i) ∧ b i p = true) ∧ fq_on b le Q i x ↔ fq_sub (S d ||| 2 ^ g p) (B i) ∧ fq_on b le Q i x
                rw [fq_sub_or g1, hb i p hi hp]
            · rw [fq_un_n e1, fq_un_n e1, pk_un e1, pk_un e1]
              by_cases ed : e = d
              · subst ed
                rw [fq_un_s, pk_us]
                exact ⟨by omega, l2, rfl, l4, fun q hq => l5 q (by omega), fq_row_keep l6 (by omega) (fun x hx => w1 _ (by omega))⟩
              · rw [fq_un_n ed, pk_un ed]
                obtain ⟨o1, o2, o3, o4, o5, o6⟩ := lo e (by omega)
                exact ⟨o1, o2, o3, o4, o5, fq_row_keep o6 (Nat.le_refl _) (fun x hx => w1 _ (by omega))⟩
          · rw [pk_un (by omega)]
            exact h3 s hs
          · show fq_mu (fq_un (fq_un h d p) (d + 1) p) (d + 1 + 1) < fq_mu h (d + 1)
            rw [fq_mu_s, fq_mu_s, fq_mu_s, fq_un_s, fq_un_n (show d ≠ d + 1 by omega), fq_un_s, hd, fq_mu_congr (h := fq_un (fq_un h d p) (d + 1) p) (k := h) (fun i hi => by rw [fq_un_n (by omega), fq_un_n (by omega)])]
            have p1 : 0 < 2 ^ (p + 1) := Nat.two_pow_pos (p + 1)
            have p2 : 2 ^ (p + 1 + 1) = 2 ^ (p + 1) * 2 := Nat.pow_succ 2 (p + 1)
            omega
        rw [nI_pred] at t
        exact t
theorem fq_growSets {post : St1 → Prop} {b : Nat → Nat → Bool} {g : Nat → Nat} {n N : Nat} {B : Nat → Nat} (hK : fq_K b g n n N a3 a4 a5 a6) (hn : n ≤ 20) (hb : ∀ i p, i < n → p < 8 → b i p = (B i).testBit (g p)) (hg : fq_P g a7) (hz : ∀ s, 256 ≤ s → a10 s = 0)
    (H : ∀ w10 w11 w12 w13, (∀ s, s < 256 → w10 s = nI (fq_cn B n s)) → (∀ s, 256 ≤ s → w10 s = 0) → post (nI n, bt, nI N, a1, a2, a3, a4, a5, a6, a7, a8, a9, w10, w11, w12, w13)) : wpX_growSets post (nI n, bt, nI N, a1, a2, a3, a4, a5, a6, a7, a8, a9, a10, a11, a12, a13) := by
  obtain ⟨le, Q, hT, k1, k2, k3, k4, k5⟩ := hK
  refine pk_loop (fun k i s => wX_growSets_2 post (nI n) bt (nI N) k (nI i) a1 a2 a3 a4 a5 a6 a7 a8 a9 s a11 a12 a13) (fun i s => (∀ x, x < i → s x = 0) ∧ ∀ x, 256 ≤ x → s x = 0) 256 0 a10 (by omega) ⟨fun x hx => absurd hx (by omega), hz⟩ ?_ ?_
  rotate_left
  · rintro k i s hi ⟨h1, h2⟩ hw
    refine pk_le 256 i (fun z => absurd z (by omega)) (fun _ => ⟨pk_in i 256 hi, nm_r (e' := upd s i 0) (by rw [nI_clamp (by omega)]) (nm_r (nI_1 i) (hw _ ⟨fun x hx => ?_, fun x hx => ?_⟩))⟩)
    · by_cases ex : x = i
      · rw [ex, pk_us]
      · rw [pk_un ex]
        exact h1 x (by omega)
    · rw [pk_un (by omega)]
      exact h2 x hx
  rintro k s ⟨h1, h2⟩
  refine pk_le 256 256 (fun _ => nm_r (e' := upd s 0 (nI n)) (by rw [fq_b8 n (by omega)]) ?_) (fun z => absurd z (by omega))
  refine pk_loop (fun k i v => wX_growSets_35 post (nI n) bt (nI N) k (nI i) a1 a2 a3 a4 a5 a6 a7 a8 a9 (upd s 0 (nI n)) v a12 a13) (fun i v => ∀ x, x < i → v x = a3 x) N 0 a11 (by omega) (fun x hx => absurd hx (by omega)) ?_ ?_
  rotate_left
  · intro k i v hi h3 hw
    refine pk_le N i (fun z => absurd z (by omega)) (fun _ => ⟨pk_in i 161 (by omega), pk_in i 1449 (by omega), nm_r (e' := upd v i (a3 i)) ?_ (nm_r (nI_1 i) (hw _ (fun x hx => ?_)))⟩)
    · rw [nI_clamp (by omega), vp_nar_byte]
      have ea : ∃ c, c ≤ 20 ∧ a3 i = nI c := by
        rcases Nat.eq_zero_or_pos i with z | z
        · exact ⟨n, hn, by rw [z]; exact k5⟩
        · exact ⟨_, Nat.le_trans (fq_c_le _ n) hn, k1 i z hi⟩
      obtain ⟨c, c1, c2⟩ := ea
      rw [c2, fq_b8 c (by omega)]
    · by_cases ex : x = i
      · rw [ex, pk_us]
      · rw [pk_un ex]
        exact h3 x (by omega)
  intro k v h3
  refine pk_le N N (fun _ => nm_e (nm_e ?_)) (fun z => absurd z (by omega))
  refine fq_gs78 (D := 1) (S := fun _ => 0) (h := fun _ => 8) hT (by omega) k3 k2 hn hb hg H ?_ ?_ ?_
  · intro e he
    have e0 : e = 0 := by omega
    subst e0
    refine ⟨Nat.le_refl 8, (by decide), pk_us, pk_us, fun p hp => Nat.zero_testBit _, fun x hx hl => ?_⟩
    rw [show 161 * 0 + x = x by omega, h3 x hx]
    rcases Nat.eq_zero_or_pos x with z | z
    · rw [z, k5, fq_c_all]
      exact fun i hi => ⟨fun t ht c => absurd c (by rw [Nat.zero_testBit]; decide), fun q hq => absurd hq (by rw [hT.1]; omega)⟩
    · rw [k1 x z hx]
      exact congrArg nI (fq_c_congr (fun i hi => ⟨fun c => ⟨fun t ht d => absurd d (by rw [Nat.zero_testBit]; decide), c⟩, fun c => c.2⟩))
  · intro x hx
    by_cases ex : x = 0
    · refine Or.inl ?_
      rw [ex, pk_us, fq_cn, fq_c_all]
      exact fun i hi t ht c => absurd c (by rw [Nat.zero_testBit]; decide)
    · refine Or.inr ⟨by rw [pk_un ex]; exact h1 x hx, 0, by omega, fun p c1 c2 => absurd (show 8 ≤ p from c1) (by omega), ?_⟩
      rcases Classical.em (∃ p, p < 8 ∧ x.testBit (g p) = true) with c | c
      · exact c
      · refine absurd (fq_ext hx (by omega) (fun t ht => ?_)) ex
        obtain ⟨q, hq, e1⟩ := hg.2.1 t ht
        rw [Nat.zero_testBit]
        cases hq2 : x.testBit t with
        | false => rfl
        | true => exact absurd ⟨q, hq, by rw [e1]; exact hq2⟩ c
  · intro x hx
    rw [pk_un (by omega)]
    exact h2 x hx
end
end
section
/-! build -/
section
variable {bc bt nc : Int32} {a1 a2 a3 a4 a5 a6 a7 a8 a9 a10 a11 a12 a13 : Nat → Int32}
/-- how many baskets of l have all of s -/
noncomputable def fq_lc (s : Nat) : List Nat → Nat
  | [] => 0
  | b :: l => fq_lc s l + @ite Nat (fq_sub s b) (Classical.propDecidable (fq_sub s b)) 1 0
theorem fq_lc_t {s b : Nat} {l : List Nat} (h : fq_sub s b) : fq_lc s (b :: l) = fq_lc s l + 1 := by
  show fq_lc s l + @ite Nat (fq_sub s b) (Classical.propDecidable (fq_sub s b)) 1 0 = _
  rw [if_pos h]
theorem fq_lc_f {s b : Nat} {l : List Nat} (h : ¬ fq_sub s b) : fq_lc s (b :: l) = fq_lc s l := by
  show fq_lc s l + @ite Nat (fq_sub s b) (Classical.propDecidable (fq_sub s b)) 1 0 = _
  rw [if_neg h]
  omega
theorem fq_lc_app {s : Nat} {l k : List Nat} : fq_lc s (l ++ k) = fq_lc s l + fq_lc s k := by
  induction l with
  | nil =>
    show fq_lc s k = 0 + fq_lc s k
    omega
  | cons b l ih =>
    rw [List.cons_append]
    rcases Classical.em (fq_sub s b) with h | h
    · rw [fq_lc_t h, fq_lc_t h, ih]
      omega
    · rw [fq_lc_f h, fq_lc_f h, ih]
theorem fq_c_front {P : Nat → Prop} {n : Nat} : fq_c P (n + 1) = fq_c (fun i => P (i + 1)) n + @ite Nat (P 0) (Classical.propDecidable (P 0)) 1 0 := by
  induction n with
  | zero => rfl
  | succ n ih =>
    rcases Classical.em (P (n + 1)) with h | h
    · rw [fq_c_t h, ih, fq_c_t (P := fun i => P (i + 1)) h]
      omega
    · rw [fq_c_f h, ih, fq_c_f (P := fun i => P (i + 1)) h]
theorem fq_lc_c {s : Nat} {l : List Nat} : fq_cn (fun i => l.getD i 0) l.length s = fq_lc s l := by
  induction l with
  | nil => rfl
  | cons b l ih =>
    show fq_c (fun i => fq_sub s ((b :: l).getD i 0)) (l.length + 1) = fq_lc s l + @ite Nat (fq_sub s b) (Classical.propDecidable (fq_sub s b)) 1 0
    rw [fq_c_front, ← ih]
    rfl
theorem fq_lc_le {s : Nat} {l : List Nat} : fq_lc s l ≤ l.length := by
  rw [← fq_lc_c]
  exact fq_c_le _ _
/-- the array counts, once built -/
noncomputable def fq_CC (l : List Nat) : Nat → Int32 := fun s => if s < 256 then nI (fq_lc s l) else 0
theorem fq_CC_lo {l : List Nat} {s : Nat} (h : s < 256) : fq_CC l s = nI (fq_lc s l) := if_pos h
theorem fq_CC_hi {l : List Nat} {s : Nat} (h : 256 ≤ s) : fq_CC l s = 0 := if_neg (by omega)
/-- an object with the baskets l -/
def fq_OK (l : List Nat) (u : St1) : Prop := match u with
  | (bc, bt, nc, a1, a2, a3, a4, a5, a6, a7, a8, a9, a10, a11, a12, a13) => l.length ≤ 20 ∧ (∀ i, i < l.length → l.getD i 0 < 256) ∧ bc = nI l.length ∧ (∀ i, i < l.length → a1 i = nI (l.getD i 0)) ∧ (∀ s, 256 ≤ s → a10 s = 0) ∧ (bt = 0 ∨ (bt = 1 ∧ a10 = fq_CC l))
theorem fq_OK_i {l : List Nat} (h1 : l.length ≤ 20) (h2 : ∀ i, i < l.length → l.getD i 0 < 256) (h3 : bc = nI l.length) (h4 : ∀ i, i < l.length → a1 i = nI (l.getD i 0)) (h5 : ∀ s, 256 ≤ s → a10 s = 0) (h6 : bt = 0 ∨ (bt = 1 ∧ a10 = fq_CC l)) : fq_OK l (bc, bt, nc, a1, a2, a3, a4, a5, a6, a7, a8, a9, a10, a11, a12, a13) := ⟨h1, h2, h3, h4, h5, h6⟩
theorem fq_OK_e {l : List Nat} (h : fq_OK l (bc, bt, nc, a1, a2, a3, a4, a5, a6, a7, a8, a9, a10, a11, a12, a13)) : l.length ≤ 20 ∧ (∀ i, i < l.length → l.getD i 0 < 256) ∧ bc = nI l.length ∧ (∀ i, i < l.length → a1 i = nI (l.getD i 0)) ∧ (∀ s, 256 ≤ s → a10 s = 0) ∧ (bt = 0 ∨ (bt = 1 ∧ a10 = fq_CC l)) := h
theorem fq_b56 {post : St1 → Prop} {l : List Nat} {g : Nat → Nat} (hl : l.length ≤ 20) (h2 : ∀ i, i < l.length → l.getD i 0 < 256) (h4 : ∀ i, i < l.length → a1 i = nI (l.getD i 0)) (h5 : ∀ s, 256 ≤ s → a10 s = 0) (hg : fq_P g a7)
    (hK : fq_K (fun i p => (l.getD i 0).testBit (g p)) g l.length 0 1 a3 a4 a5 a6)
    (H : ∀ (bc bt nc : Int32) (a1 a2 a3 a4 a5 a6 a7 a8 a9 a11 a12 a13 : Nat → Int32), fq_OK l (bc, bt, nc, a1, a2, a3, a4, a5, a6, a7, a8, a9, fq_CC l, a11, a12, a13) → post (bc, bt, nc, a1, a2, a3, a4, a5, a6, a7, a8, a9, fq_CC l, a11, a12, a13)) : ∃ k, wX_build_56 post k 0 (nI l.length) 1 1 a1 a2 a3 a4 a5 a6 a7 a8 a9 a10 a11 a12 a13 := by
  refine lp7 (fun k x1 nc a2 a3 a4 a5 a6 => wX_build_56 post k x1 (nI l.length) 1 nc a1 a2 a3 a4 a5 a6 a7 a8 a9 a10 a11 a12 a13) (fun x1 nc a2 a3 a4 a5 a6 => ∃ i N, x1 = nI i ∧ nc = nI N ∧ i ≤ l.length ∧ fq_K (fun i p => (l.getD i 0).testBit (g p)) g l.length i N a3 a4 a5 a6) (fun x1 _ _ _ _ _ _ => l.length - x1.toNatClampNeg) ?_ 0 1 a2 a3 a4 a5 a6 ⟨0, 1, rfl, rfl, by omega, hK⟩
  clear hK
  rintro k x1 nc a2 a3 a4 a5 a6 ⟨i, N, rfl, rfl, hi, hK⟩ hw
  refine pk_le l.length i (fun e => ?_) (fun e => ⟨pk_in i 20 (by omega), ?_⟩)
  · have ei : i = l.length := by omega
    rw [ei] at hK
    refine fq_growSets (B := fun i => l.getD i 0) hK hl (fun i p _ _ => rfl) hg h5 (fun w10 w11 w12 w13 e1 e2 => ?_)
    have ew : w10 = fq_CC l := by
      funext s
      rcases Nat.lt_or_ge s 256 with c | c
      · rw [e1 s c, fq_CC_lo c, fq_lc_c]
      · rw [e2 s c, fq_CC_hi c]
    subst ew
    exact H _ _ _ _ _ _ _ _ _ _ _ _ _ _ _ (fq_OK_i hl h2 rfl h4 (fun s hs => fq_CC_hi hs) (Or.inr ⟨rfl, rfl⟩))
  · rw [nI_clamp (show i < 2 ^ 31 by omega), h4 i e]
    refine fq_plant (b := fun i p => (l.getD i 0).testBit (g p)) (g := g) (m := i) (h2 i e) (fun p _ => rfl) hg (by omega) hK (fun N' w2 w3 w4 w5 w6 hK' => ?_)
    refine nm_r (nI_1 i) (hw _ _ _ _ _ _ _ ⟨i + 1, N', rfl, rfl, by omega, hK'⟩ ?_)
    show l.length - (nI (i + 1)).toNatClampNeg < l.length - (nI i).toNatClampNeg
    rw [nI_clamp (by omega), nI_clamp (by omega)]
    omega
theorem fq_K_0 {b : Nat → Nat → Bool} {g : Nat → Nat} {n : Nat} (hg : ∀ i, i < 8 → g i < 8) (h6 : ∀ t, t < 8 → a6 t = 0) (h3 : a3 0 = nI n) : fq_K b g n 0 1 a3 a4 a5 a6 := by
  refine ⟨fun _ => 0, fun _ _ => false, ⟨rfl, fun x h1 h2 => absurd h1 (by omega), fun x y h1 h2 _ _ => by omega, fun p hp => ⟨0, h6 _ (hg p hp), by omega, Or.inl rfl, fun x h1 h2 => absurd h1 (by omega)⟩, fun x h1 h2 => absurd h1 (by omega)⟩, fun x h1 h2 => absurd h1 (by omega), fun i q _ _ hi => absurd hi (by omega), by omega, by omega, h3⟩
theorem fq_build {post : St1 → Prop} {l : List Nat} {u : St1} (hu : fq_OK l u) (H : ∀ (bc bt nc : Int32) (a1 a2 a3 a4 a5 a6 a7 a8 a9 a11 a12 a13 : Nat → Int32), fq_OK l (bc, bt, nc, a1, a2, a3, a4, a5, a6, a7, a8, a9, fq_CC l, a11, a12, a13) → post (bc, bt, nc, a1, a2, a3, a4, a5, a6, a7, a8, a9, fq_CC l, a11, a12, a13)) : wpX_build post u := by
  obtain ⟨bc, bt, nc, a1, a2, a3, a4, a5, a6, a7, a8, a9, a10, a11, a12, a13⟩ := u
  obtain ⟨hl, h2, h3, h4, h5, h6⟩ := fq_OK_e hu
  subst h3
  rcases h6 with e | ⟨e, e2⟩
  · subst e
    refine br_t rfl (fq_orderThings hl (fun w7 w8 w9 hf => ?_))
    obtain ⟨g, hg⟩ := fq_P_of hf
    refine nm_r (e' := upd a3 0 (nI l.length)) (by rw [fq_b8 _ (by omega)]) ?_
    refine pk_loop (fun k i s => wX_build_35 post (nI l.length) 1 1 k (nI i) a1 a2 (upd a3 0 (nI l.length)) a4 a5 s w7 w8 w9 a10 a11 a12 a13) (fun i s => ∀ t, t < i → s t = 0) 8 0 a6 (by omega) (fun t ht => absurd ht (by omega)) ?_ ?_
    · intro k s hs
      exact pk_le 8 8 (fun _ => fq_b56 hl h2 h4 h5 hg (fq_K_0 (fun i hi => (hg.1 i hi).1) hs pk_us) H) (fun z => absurd z (by omega))
    · intro k i s hi hs hw
      refine pk_le 8 i (fun z => absurd z (by omega)) (fun _ => ⟨pk_in i 8 hi, nm_r (e' := upd s i 0) (by rw [nI_clamp (by omega)]) (nm_r (nI_1 i) (hw _ (fun t ht => ?_)))⟩)
      by_cases et : t = i
      · rw [et, pk_us]
      · rw [pk_un et]
        exact hs t (by omega)
  · subst e e2
    exact br_f (by decide) (H _ _ _ _ _ _ _ _ _ _ _ _ _ _ _ hu)
end
end
section
/-! the questions: the answer depends on the baskets alone -/
section
theorem fq_isSet {post : Int32 → Prop} {u : St1} {s : Nat} (hs : s < 256) (H : post 1) : wpX_isSet post u (nI s) := by
  obtain ⟨bc, bt, nc, a1, a2, a3, a4, a5, a6, a7, a8, a9, a10, a11, a12, a13⟩ := u
  exact br_f (nI_pos (by omega)) (pk_lt 255 s (fun z => absurd z (by omega)) (fun _ => H))
theorem fq_isBound {post : Int32 → Prop} {u : St1} {m : Nat} (h1 : 1 ≤ m) (h2 : m ≤ 20) (H : post 1) : wpX_isBound post u (nI m) := by
  obtain ⟨bc, bt, nc, a1, a2, a3, a4, a5, a6, a7, a8, a9, a10, a11, a12, a13⟩ := u
  exact pk_lt m 1 (fun z => absurd z (by omega)) (fun _ => pk_lt 20 m (fun z => absurd z (by omega)) (fun _ => H))
theorem fq_and (a b : Nat) : nI a &&& nI b = nI (a &&& b) := by
  apply Int32.toBitVec_inj.1
  show BitVec.ofNat 32 a &&& BitVec.ofNat 32 b = BitVec.ofNat 32 (a &&& b)
  apply BitVec.eq_of_getLsbD_eq
  intro i hi
  simp [hi]
theorem fq_count {l : List Nat} {u : St1} {post : Int32 → St1 → Prop} {s : Nat} (hu : fq_OK l u) (hs : s < 256) (H : ∀ u', fq_OK l u' → post (nI (fq_lc s l)) u') : wpX_count post u (nI s) := by
  obtain ⟨bc, bt, nc, a1, a2, a3, a4, a5, a6, a7, a8, a9, a10, a11, a12, a13⟩ := u
  unfold wpX_count
  refine fq_isSet hs (br_f (by decide) (fq_build hu (fun bc bt nc a1 a2 a3 a4 a5 a6 a7 a8 a9  a11 a12 a13 hu' => ⟨pk_in s 256 hs, ?_⟩)))
  rw [nI_clamp (by omega), fq_CC_lo hs]
  exact H _ hu'
theorem fq_cl30 {s : Nat} (hs : s < 256) (c : Nat → Int32) : ∀ k i x2, i + k = 8 → ∃ r, ∀ (post : Int32 → St1 → Prop) (bc bt nc : Int32) (a1 a2 a3 a4 a5 a6 a7 a8 a9 a11 a12 a13 : Nat → Int32), post r (bc, bt, nc, a1, a2, a3, a4, a5, a6, a7, a8, a9, c, a11, a12, a13) → wX_closure_30 post (nI s) bc bt nc a1 a2 a3 a4 a5 a6 a7 a8 a9 c a11 a12 a13 (k + 1) x2 (nI i) := by
  intro k
  induction k with
  | zero => exact fun i x2 hi => ⟨x2, fun post bc bt nc a1 a2 a3 a4 a5 a6 a7 a8 a9  a11 a12 a13 H => pk_le 8 i (fun _ => H) (fun z => absurd z (by omega))⟩
  | succ k ih =>
    intro i x2 hi
    have hi8 : i < 8 := by omega
    have ix := fq_or s hs i hi8
    have il := fq_or_lt s hs i hi8
    by_cases e : c (s ||| 2 ^ i) = c s
    · obtain ⟨r, hr⟩ := ih (i + 1) (x2 ||| ((1 : Int32) <<< (nI i &&& 31))) (by omega)
      refine ⟨r, fun post bc bt nc a1 a2 a3 a4 a5 a6 a7 a8 a9  a11 a12 a13 H => pk_le 8 i (fun z => absurd z (by omega)) (fun _ => ?_)⟩
      rw [ix, nI_clamp (show s ||| 2 ^ i < 2 ^ 31 by omega), nI_clamp (show s < 2 ^ 31 by omega)]
      exact ⟨pk_in _ 256 il, pk_in s 256 hs, br_t e (nm_e (nm_r (nI_1 i) (hr _ _ _ _ _ _ _ _ _ _ _ _ _ _ _ _ H)))⟩
    · obtain ⟨r, hr⟩ := ih (i + 1) x2 (by omega)
      refine ⟨r, fun post bc bt nc a1 a2 a3 a4 a5 a6 a7 a8 a9  a11 a12 a13 H => pk_le 8 i (fun z => absurd z (by omega)) (fun _ => ?_)⟩
      rw [ix, nI_clamp (show s ||| 2 ^ i < 2 ^ 31 by omega), nI_clamp (show s < 2 ^ 31 by omega)]
      exact ⟨pk_in _ 256 il, pk_in s 256 hs, br_f e (nm_r (nI_1 i) (hr _ _ _ _ _ _ _ _ _ _ _ _ _ _ _ _ H))⟩
theorem fq_closure (l : List Nat) {s : Nat} (hs : s < 256) : ∃ r, ∀ (u : St1) (post : Int32 → St1 → Prop), fq_OK l u → (∀ u', fq_OK l u' → post r u') → wpX_closure post u (nI s) := by
  by_cases c0 : fq_CC l s = 0
  · refine ⟨-3, fun u post hu H => ?_⟩
    obtain ⟨bc, bt, nc, a1, a2, a3, a4, a5, a6, a7, a8, a9, a10, a11, a12, a13⟩ := u
    unfold wpX_closure
    refine fq_isSet hs (br_f (by decide) (fq_build hu (fun bc bt nc a1 a2 a3 a4 a5 a6 a7 a8 a9  a11 a12 a13 hu' => ⟨pk_in s 256 hs, br_t ?_ (H _ hu')⟩)))
    rw [nI_clamp (by omega)]
    exact c0
  · obtain ⟨r, hr⟩ := fq_cl30 hs (fq_CC l) 8 0 (nI s) rfl
    refine ⟨r, fun u post hu H => ?_⟩
    obtain ⟨bc, bt, nc, a1, a2, a3, a4, a5, a6, a7, a8, a9, a10, a11, a12, a13⟩ := u
    unfold wpX_closure
    refine fq_isSet hs (br_f (by decide) (fq_build hu (fun bc bt nc a1 a2 a3 a4 a5 a6 a7 a8 a9  a11 a12 a13 hu' => ⟨pk_in s 256 hs, br_f ?_ ⟨9, hr _ _ _ _ _ _ _ _ _ _ _ _ _ _ _ _ (H _ hu')⟩⟩)))
    rw [nI_clamp (by omega)]
    exact c0
theorem fq_co45 {s : Nat} (hs : s < 256) (c : Nat → Int32) : ∀ k i x2 x3, i + k = 8 → ∃ r, ∀ (post : Int32 → St1 → Prop) (bc bt nc : Int32) (a1 a2 a3 a4 a5 a6 a7 a8 a9 a11 a12 a13 : Nat → Int32), post r (bc, bt, nc, a1, a2, a3, a4, a5, a6, a7, a8, a9, c, a11, a12, a13) → wX_companion_45 post (nI s) bc bt nc a1 a2 a3 a4 a5 a6 a7 a8 a9 c a11 a12 a13 (k + 1) x2 x3 (nI i) := by
  intro k
  induction k with
  | zero => exact fun i x2 x3 hi => ⟨x2, fun post bc bt nc a1 a2 a3 a4 a5 a6 a7 a8 a9  a11 a12 a13 H => pk_le 8 i (fun _ => H) (fun z => absurd z (by omega))⟩
  | succ k ih =>
    intro i x2 x3 hi
    have hi8 : i < 8 := by omega
    have ix := fq_or s hs i hi8
    have il := fq_or_lt s hs i hi8
    have ib := fq_bit s hs i hi8
    by_cases e : s.testBit i = false
    · by_cases e2 : x3 < c (s ||| 2 ^ i)
      · obtain ⟨r, hr⟩ := ih (i + 1) (nI i) (c (s ||| 2 ^ i)) (by omega)
        refine ⟨r, fun post bc bt nc a1 a2 a3 a4 a5 a6 a7 a8 a9  a11 a12 a13 H => pk_le 8 i (fun z => absurd z (by omega)) (fun _ => br_t (ib.mpr e) ?_)⟩
        rw [ix, nI_clamp (show s ||| 2 ^ i < 2 ^ 31 by omega)]
        exact ⟨pk_in _ 256 il, br_t e2 ⟨pk_in _ 256 il, nm_e (nm_r (nI_1 i) (hr _ _ _ _ _ _ _ _ _ _ _ _ _ _ _ _ H))⟩⟩
      · obtain ⟨r, hr⟩ := ih (i + 1) x2 x3 (by omega)
        refine ⟨r, fun post bc bt nc a1 a2 a3 a4 a5 a6 a7 a8 a9  a11 a12 a13 H => pk_le 8 i (fun z => absurd z (by omega)) (fun _ => br_t (ib.mpr e) ?_)⟩
        rw [ix, nI_clamp (show s ||| 2 ^ i < 2 ^ 31 by omega)]
        exact ⟨pk_in _ 256 il, br_f e2 (nm_r (nI_1 i) (hr _ _ _ _ _ _ _ _ _ _ _ _ _ _ _ _ H))⟩
    · obtain ⟨r, hr⟩ := ih (i + 1) x2 x3 (by omega)
      exact ⟨r, fun post bc bt nc a1 a2 a3 a4 a5 a6 a7 a8 a9  a11 a12 a13 H => pk_le 8 i (fun z => absurd z (by omega)) (fun _ => br_f (fun z => e (ib.mp z)) (nm_r (nI_1 i) (hr _ _ _ _ _ _ _ _ _ _ _ _ _ _ _ _ H)))⟩
theorem fq_companion (l : List Nat) {s : Nat} (hs : s < 256) : ∃ r, ∀ (u : St1) (post : Int32 → St1 → Prop), fq_OK l u → (∀ u', fq_OK l u' → post r u') → wpX_companion post u (nI s) := by
  by_cases s0 : s < 1
  · refine ⟨-1, fun u post hu H => ?_⟩
    obtain ⟨bc, bt, nc, a1, a2, a3, a4, a5, a6, a7, a8, a9, a10, a11, a12, a13⟩ := u
    exact pk_lt s 1 (fun _ => H _ hu) (fun z => absurd z (by omega))
  by_cases c0 : fq_CC l s = 0
  · refine ⟨-3, fun u post hu H => ?_⟩
    obtain ⟨bc, bt, nc, a1, a2, a3, a4, a5, a6, a7, a8, a9, a10, a11, a12, a13⟩ := u
    refine pk_lt s 1 (fun z => absurd z s0) (fun _ => pk_le s 255 (fun _ => fq_build hu (fun bc bt nc a1 a2 a3 a4 a5 a6 a7 a8 a9  a11 a12 a13 hu' => ⟨pk_in s 256 hs, br_t ?_ (H _ hu')⟩)) (fun z => absurd z (by omega)))
    rw [nI_clamp (by omega)]
    exact c0
  by_cases s5 : s = 255
  · refine ⟨-3, fun u post hu H => ?_⟩
    obtain ⟨bc, bt, nc, a1, a2, a3, a4, a5, a6, a7, a8, a9, a10, a11, a12, a13⟩ := u
    refine pk_lt s 1 (fun z => absurd z s0) (fun _ => pk_le s 255 (fun _ => fq_build hu (fun bc bt nc a1 a2 a3 a4 a5 a6 a7 a8 a9  a11 a12 a13 hu' => ⟨pk_in s 256 hs, br_f ?_ (pk_eq s 255 (fun _ => H _ hu') (fun z => absurd s5 z))⟩)) (fun z => absurd z (by omega)))
    rw [nI_clamp (by omega)]
    exact c0
  · obtain ⟨r, hr⟩ := fq_co45 hs (fq_CC l) 8 0 (-3) (-1) rfl
    refine ⟨r, fun u post hu H => ?_⟩
    obtain ⟨bc, bt, nc, a1, a2, a3, a4, a5, a6, a7, a8, a9, a10, a11, a12, a13⟩ := u
    refine pk_lt s 1 (fun z => absurd z s0) (fun _ => pk_le s 255 (fun _ => fq_build hu (fun bc bt nc a1 a2 a3 a4 a5 a6 a7 a8 a9  a11 a12 a13 hu' => ⟨pk_in s 256 hs, br_f ?_ (pk_eq s 255 (fun z => absurd z s5) (fun _ => ⟨9, hr _ _ _ _ _ _ _ _ _ _ _ _ _ _ _ _ (H _ hu')⟩))⟩)) (fun z => absurd z (by omega)))
    rw [nI_clamp (by omega)]
    exact c0
theorem fq_fr18 (c : Nat → Int32) (x1 : Int32) : ∀ k i x2, i + k = 256 → ∃ r, ∀ (post : Int32 → St1 → Prop) (bc bt nc : Int32) (a1 a2 a3 a4 a5 a6 a7 a8 a9 a11 a12 a13 : Nat → Int32), post r (bc, bt, nc, a1, a2, a3, a4, a5, a6, a7, a8, a9, c, a11, a12, a13) → wX_frequent_18 post x1 bc bt nc a1 a2 a3 a4 a5 a6 a7 a8 a9 c a11 a12 a13 (k + 1) x2 (nI i) := by
  intro k
  induction k with
  | zero => exact fun i x2 hi => ⟨x2, fun post bc bt nc a1 a2 a3 a4 a5 a6 a7 a8 a9  a11 a12 a13 H => pk_le 256 i (fun _ => H) (fun z => absurd z (by omega))⟩
  | succ k ih =>
    intro i x2 hi
    by_cases e : c i < x1
    · obtain ⟨r, hr⟩ := ih (i + 1) x2 (by omega)
      refine ⟨r, fun post bc bt nc a1 a2 a3 a4 a5 a6 a7 a8 a9  a11 a12 a13 H => pk_le 256 i (fun z => absurd z (by omega)) (fun _ => ⟨pk_in i 256 (by omega), ?_⟩)⟩
      rw [nI_clamp (show i < 2 ^ 31 by omega)]
      exact br_t e (nm_r (nI_1 i) (hr _ _ _ _ _ _ _ _ _ _ _ _ _ _ _ _ H))
    · obtain ⟨r, hr⟩ := ih (i + 1) (x2 + 1) (by omega)
      refine ⟨r, fun post bc bt nc a1 a2 a3 a4 a5 a6 a7 a8 a9  a11 a12 a13 H => pk_le 256 i (fun z => absurd z (by omega)) (fun _ => ⟨pk_in i 256 (by omega), ?_⟩)⟩
      rw [nI_clamp (show i < 2 ^ 31 by omega)]
      exact br_f e (nm_e (nm_r (nI_1 i) (hr _ _ _ _ _ _ _ _ _ _ _ _ _ _ _ _ H)))
theorem fq_frequent (l : List Nat) {m : Nat} (h1 : 1 ≤ m) (h2 : m ≤ 20) : ∃ r, ∀ (u : St1) (post : Int32 → St1 → Prop), fq_OK l u → (∀ u', fq_OK l u' → post r u') → wpX_frequent post u (nI m) := by
  obtain ⟨r, hr⟩ := fq_fr18 (fq_CC l) (nI m) 255 1 0 rfl
  refine ⟨r, fun u post hu H => ?_⟩
  obtain ⟨bc, bt, nc, a1, a2, a3, a4, a5, a6, a7, a8, a9, a10, a11, a12, a13⟩ := u
  unfold wpX_frequent
  exact fq_isBound h1 h2 (br_f (by decide) (fq_build hu (fun bc bt nc a1 a2 a3 a4 a5 a6 a7 a8 a9  a11 a12 a13 hu' => ⟨256, hr _ _ _ _ _ _ _ _ _ _ _ _ _ _ _ _ (H _ hu')⟩)))
theorem fq_ic14 {s : Nat} (hs : s < 256) (c : Nat → Int32) : ∀ k i, i + k = 8 → ∃ r, ∀ (post : Int32 → Prop) (bc bt nc : Int32) (a1 a2 a3 a4 a5 a6 a7 a8 a9 a11 a12 a13 : Nat → Int32), post r → wX_isClosed_14 post (nI s) bc bt nc a1 a2 a3 a4 a5 a6 a7 a8 a9 c a11 a12 a13 (k + 1) (nI i) := by
  intro k
  induction k with
  | zero => exact fun i hi => ⟨1, fun post bc bt nc a1 a2 a3 a4 a5 a6 a7 a8 a9  a11 a12 a13 H => pk_le 8 i (fun _ => H) (fun z => absurd z (by omega))⟩
  | succ k ih =>
    intro i hi
    have hi8 : i < 8 := by omega
    have ix := fq_or s hs i hi8
    have il := fq_or_lt s hs i hi8
    have ib := fq_bit s hs i hi8
    obtain ⟨r, hr⟩ := ih (i + 1) (by omega)
    by_cases e : s.testBit i = false
    · by_cases e2 : c (s ||| 2 ^ i) = c s
      · refine ⟨0, fun post bc bt nc a1 a2 a3 a4 a5 a6 a7 a8 a9  a11 a12 a13 H => pk_le 8 i (fun z => absurd z (by omega)) (fun _ => br_t (ib.mpr e) ?_)⟩
        rw [ix, nI_clamp (show s ||| 2 ^ i < 2 ^ 31 by omega), nI_clamp (show s < 2 ^ 31 by omega)]
        exact ⟨pk_in _ 256 il, pk_in s 256 hs, br_t e2 H⟩
      · refine ⟨r, fun post bc bt nc a1 a2 a3 a4 a5 a6 a7 a8 a9  a11 a12 a13 H => pk_le 8 i (fun z => absurd z (by omega)) (fun _ => br_t (ib.mpr e) ?_)⟩
        rw [ix, nI_clamp (show s ||| 2 ^ i < 2 ^ 31 by omega), nI_clamp (show s < 2 ^ 31 by omega)]
        exact ⟨pk_in _ 256 il, pk_in s 256 hs, br_f e2 (nm_r (nI_1 i) (hr _ _ _ _ _ _ _ _ _ _ _ _ _ _ _ _ H))⟩
    · exact ⟨r, fun post bc bt nc a1 a2 a3 a4 a5 a6 a7 a8 a9  a11 a12 a13 H => pk_le 8 i (fun z => absurd z (by omega)) (fun _ => br_f (fun z => e (ib.mp z)) (nm_r (nI_1 i) (hr _ _ _ _ _ _ _ _ _ _ _ _ _ _ _ _ H)))⟩
theorem fq_isClosed {s : Nat} (hs : s < 256) (c : Nat → Int32) (p1 : Int32) : ∃ r, ∀ (post : Int32 → Prop) (bc bt nc : Int32) (a1 a2 a3 a4 a5 a6 a7 a8 a9 a11 a12 a13 : Nat → Int32), post r → wpX_isClosed post (bc, bt, nc, a1, a2, a3, a4, a5, a6, a7, a8, a9, c, a11, a12, a13) (nI s) p1 := by
  by_cases e : p1 ≤ c s
  · obtain ⟨r, hr⟩ := fq_ic14 hs c 8 0 rfl
    refine ⟨r, fun post bc bt nc a1 a2 a3 a4 a5 a6 a7 a8 a9  a11 a12 a13 H => ⟨pk_in s 256 hs, br_t ?_ ⟨9, hr _ _ _ _ _ _ _ _ _ _ _ _ _ _ _ _ H⟩⟩⟩
    rw [nI_clamp (by omega)]
    exact e
  · refine ⟨0, fun post bc bt nc a1 a2 a3 a4 a5 a6 a7 a8 a9  a11 a12 a13 H => ⟨pk_in s 256 hs, br_f ?_ H⟩⟩
    rw [nI_clamp (by omega)]
    exact e
theorem fq_cd18 (c : Nat → Int32) (x1 : Int32) : ∀ k i x2, i + k = 256 → ∃ r, ∀ (post : Int32 → St1 → Prop) (bc bt nc : Int32) (a1 a2 a3 a4 a5 a6 a7 a8 a9 a11 a12 a13 : Nat → Int32), post r (bc, bt, nc, a1, a2, a3, a4, a5, a6, a7, a8, a9, c, a11, a12, a13) → wX_closed_18 post x1 bc bt nc a1 a2 a3 a4 a5 a6 a7 a8 a9 c a11 a12 a13 (k + 1) x2 (nI i) := by
  intro k
  induction k with
  | zero => exact fun i x2 hi => ⟨x2, fun post bc bt nc a1 a2 a3 a4 a5 a6 a7 a8 a9  a11 a12 a13 H => pk_le 256 i (fun _ => H) (fun z => absurd z (by omega))⟩
  | succ k ih =>
    intro i x2 hi
    obtain ⟨q, hq⟩ := fq_isClosed (s := i) (by omega) c x1
    by_cases e : q = 0
    · obtain ⟨r, hr⟩ := ih (i + 1) x2 (by omega)
      exact ⟨r, fun post bc bt nc a1 a2 a3 a4 a5 a6 a7 a8 a9  a11 a12 a13 H => pk_le 256 i (fun z => absurd z (by omega)) (fun _ => hq _ _ _ _ _ _ _ _ _ _ _ _ _ _ _ _ (br_t e (nm_r (nI_1 i) (hr _ _ _ _ _ _ _ _ _ _ _ _ _ _ _ _ H))))⟩
    · obtain ⟨r, hr⟩ := ih (i + 1) (x2 + 1) (by omega)
      exact ⟨r, fun post bc bt nc a1 a2 a3 a4 a5 a6 a7 a8 a9  a11 a12 a13 H => pk_le 256 i (fun z => absurd z (by omega)) (fun _ => hq _ _ _ _ _ _ _ _ _ _ _ _ _ _ _ _ (br_f e (nm_e (nm_r (nI_1 i) (hr _ _ _ _ _ _ _ _ _ _ _ _ _ _ _ _ H)))))⟩
theorem fq_closed (l : List Nat) {m : Nat} (h1 : 1 ≤ m) (h2 : m ≤ 20) : ∃ r, ∀ (u : St1) (post : Int32 → St1 → Prop), fq_OK l u → (∀ u', fq_OK l u' → post r u') → wpX_closed post u (nI m) := by
  obtain ⟨r, hr⟩ := fq_cd18 (fq_CC l) (nI m) 255 1 0 rfl
  refine ⟨r, fun u post hu H => ?_⟩
  obtain ⟨bc, bt, nc, a1, a2, a3, a4, a5, a6, a7, a8, a9, a10, a11, a12, a13⟩ := u
  unfold wpX_closed
  exact fq_isBound h1 h2 (br_f (by decide) (fq_build hu (fun bc bt nc a1 a2 a3 a4 a5 a6 a7 a8 a9  a11 a12 a13 hu' => ⟨256, hr _ _ _ _ _ _ _ _ _ _ _ _ _ _ _ _ (H _ hu')⟩)))
theorem fq_il14 {s : Nat} (hs : s < 256) (c : Nat → Int32) (x2 : Int32) : ∀ k i, i + k = 8 → ∃ r, ∀ (post : Int32 → Prop) (bc bt nc : Int32) (a1 a2 a3 a4 a5 a6 a7 a8 a9 a11 a12 a13 : Nat → Int32), post r → wX_isLargest_14 post (nI s) x2 bc bt nc a1 a2 a3 a4 a5 a6 a7 a8 a9 c a11 a12 a13 (k + 1) (nI i) := by
  intro k
  induction k with
  | zero => exact fun i hi => ⟨1, fun post bc bt nc a1 a2 a3 a4 a5 a6 a7 a8 a9  a11 a12 a13 H => pk_le 8 i (fun _ => H) (fun z => absurd z (by omega))⟩
  | succ k ih =>
    intro i hi
    have hi8 : i < 8 := by omega
    have ix := fq_or s hs i hi8
    have il := fq_or_lt s hs i hi8
    have ib := fq_bit s hs i hi8
    obtain ⟨r, hr⟩ := ih (i + 1) (by omega)
    by_cases e : s.testBit i = false
    · by_cases e2 : c (s ||| 2 ^ i) < x2
      · refine ⟨r, fun post bc bt nc a1 a2 a3 a4 a5 a6 a7 a8 a9  a11 a12 a13 H => pk_le 8 i (fun z => absurd z (by omega)) (fun _ => br_t (ib.mpr e) ?_)⟩
        rw [ix, nI_clamp (show s ||| 2 ^ i < 2 ^ 31 by omega)]
        exact ⟨pk_in _ 256 il, br_t e2 (nm_r (nI_1 i) (hr _ _ _ _ _ _ _ _ _ _ _ _ _ _ _ _ H))⟩
      · refine ⟨0, fun post bc bt nc a1 a2 a3 a4 a5 a6 a7 a8 a9  a11 a12 a13 H => pk_le 8 i (fun z => absurd z (by omega)) (fun _ => br_t (ib.mpr e) ?_)⟩
        rw [ix, nI_clamp (show s ||| 2 ^ i < 2 ^ 31 by omega)]
        exact ⟨pk_in _ 256 il, br_f e2 H⟩
    · exact ⟨r, fun post bc bt nc a1 a2 a3 a4 a5 a6 a7 a8 a9  a11 a12 a13 H => pk_le 8 i (fun z => absurd z (by omega)) (fun _ => br_f (fun z => e (ib.mp z)) (nm_r (nI_1 i) (hr _ _ _ _ _ _ _ _ _ _ _ _ _ _ _ _ H)))⟩
theorem fq_isLargest {s : Nat} (hs : s < 256) (c : Nat → Int32) (p1 : Int32) : ∃ r, ∀ (post : Int32 → Prop) (bc bt nc : Int32) (a1 a2 a3 a4 a5 a6 a7 a8 a9 a11 a12 a13 : Nat → Int32), post r → wpX_isLargest post (bc, bt, nc, a1, a2, a3, a4, a5, a6, a7, a8, a9, c, a11, a12, a13) (nI s) p1 := by
  by_cases e : p1 ≤ c s
  · obtain ⟨r, hr⟩ := fq_il14 hs c p1 8 0 rfl
    refine ⟨r, fun post bc bt nc a1 a2 a3 a4 a5 a6 a7 a8 a9  a11 a12 a13 H => ⟨pk_in s 256 hs, br_t ?_ ⟨9, hr _ _ _ _ _ _ _ _ _ _ _ _ _ _ _ _ H⟩⟩⟩
    rw [nI_clamp (by omega)]
    exact e
  · refine ⟨0, fun post bc bt nc a1 a2 a3 a4 a5 a6 a7 a8 a9  a11 a12 a13 H => ⟨pk_in s 256 hs, br_f ?_ H⟩⟩
    rw [nI_clamp (by omega)]
    exact e
theorem fq_lg18 (c : Nat → Int32) (x1 : Int32) : ∀ k i x2, i + k = 256 → ∃ r, ∀ (post : Int32 → St1 → Prop) (bc bt nc : Int32) (a1 a2 a3 a4 a5 a6 a7 a8 a9 a11 a12 a13 : Nat → Int32), post r (bc, bt, nc, a1, a2, a3, a4, a5, a6, a7, a8, a9, c, a11, a12, a13) → wX_largest_18 post x1 bc bt nc a1 a2 a3 a4 a5 a6 a7 a8 a9 c a11 a12 a13 (k + 1) x2 (nI i) := by
  intro k
  induction k with
  | zero => exact fun i x2 hi => ⟨x2, fun post bc bt nc a1 a2 a3 a4 a5 a6 a7 a8 a9  a11 a12 a13 H => pk_le 256 i (fun _ => H) (fun z => absurd z (by omega))⟩
  | succ k ih =>
    intro i x2 hi
    obtain ⟨q, hq⟩ := fq_isLargest (s := i) (by omega) c x1
    by_cases e : q = 0
    · obtain ⟨r, hr⟩ := ih (i + 1) x2 (by omega)
      exact ⟨r, fun post bc bt nc a1 a2 a3 a4 a5 a6 a7 a8 a9  a11 a12 a13 H => pk_le 256 i (fun z => absurd z (by omega)) (fun _ => hq _ _ _ _ _ _ _ _ _ _ _ _ _ _ _ _ (br_t e (nm_r (nI_1 i) (hr _ _ _ _ _ _ _ _ _ _ _ _ _ _ _ _ H))))⟩
    · obtain ⟨r, hr⟩ := ih (i + 1) (x2 + 1) (by omega)
      exact ⟨r, fun post bc bt nc a1 a2 a3 a4 a5 a6 a7 a8 a9  a11 a12 a13 H => pk_le 256 i (fun z => absurd z (by omega)) (fun _ => hq _ _ _ _ _ _ _ _ _ _ _ _ _ _ _ _ (br_f e (nm_e (nm_r (nI_1 i) (hr _ _ _ _ _ _ _ _ _ _ _ _ _ _ _ _ H)))))⟩
theorem fq_largest (l : List Nat) {m : Nat} (h1 : 1 ≤ m) (h2 : m ≤ 20) : ∃ r, ∀ (u : St1) (post : Int32 → St1 → Prop), fq_OK l u → (∀ u', fq_OK l u' → post r u') → wpX_largest post u (nI m) := by
  obtain ⟨r, hr⟩ := fq_lg18 (fq_CC l) (nI m) 255 1 0 rfl
  refine ⟨r, fun u post hu H => ?_⟩
  obtain ⟨bc, bt, nc, a1, a2, a3, a4, a5, a6, a7, a8, a9, a10, a11, a12, a13⟩ := u
  unfold wpX_largest
  exact fq_isBound h1 h2 (br_f (by decide) (fq_build hu (fun bc bt nc a1 a2 a3 a4 a5 a6 a7 a8 a9  a11 a12 a13 hu' => ⟨256, hr _ _ _ _ _ _ _ _ _ _ _ _ _ _ _ _ (H _ hu')⟩)))
theorem fq_ct19 (c : Nat → Int32) (x1 : Int32) : ∀ k i x3, i + k = 256 → ∃ r, ∀ (post : Int32 → St1 → Prop) (bc bt nc : Int32) (a1 a2 a3 a4 a5 a6 a7 a8 a9 a11 a12 a13 : Nat → Int32), post r (bc, bt, nc, a1, a2, a3, a4, a5, a6, a7, a8, a9, c, a11, a12, a13) → wX_closedSet_19 post x1 bc bt nc a1 a2 a3 a4 a5 a6 a7 a8 a9 c a11 a12 a13 (k + 1) x3 (nI i) := by
  intro k
  induction k with
  | zero => exact fun i x3 hi => ⟨-3, fun post bc bt nc a1 a2 a3 a4 a5 a6 a7 a8 a9  a11 a12 a13 H => pk_le 256 i (fun _ => H) (fun z => absurd z (by omega))⟩
  | succ k ih =>
    intro i x3 hi
    obtain ⟨q, hq⟩ := fq_isClosed (s := i) (by omega) c x1
    by_cases e3 : x3 < 0
    · exact ⟨-3, fun post bc bt nc a1 a2 a3 a4 a5 a6 a7 a8 a9  a11 a12 a13 H => pk_le 256 i (fun z => absurd z (by omega)) (fun _ => br_t e3 H)⟩
    by_cases e : q = 0
    · obtain ⟨r, hr⟩ := ih (i + 1) x3 (by omega)
      exact ⟨r, fun post bc bt nc a1 a2 a3 a4 a5 a6 a7 a8 a9  a11 a12 a13 H => pk_le 256 i (fun z => absurd z (by omega)) (fun _ => br_f e3 (hq _ _ _ _ _ _ _ _ _ _ _ _ _ _ _ _ (br_t e (nm_r (nI_1 i) (hr _ _ _ _ _ _ _ _ _ _ _ _ _ _ _ _ H)))))⟩
    · by_cases e4 : x3 = 0
      · exact ⟨nI i, fun post bc bt nc a1 a2 a3 a4 a5 a6 a7 a8 a9  a11 a12 a13 H => pk_le 256 i (fun z => absurd z (by omega)) (fun _ => br_f e3 (hq _ _ _ _ _ _ _ _ _ _ _ _ _ _ _ _ (br_f e (br_t e4 H))))⟩
      · obtain ⟨r, hr⟩ := ih (i + 1) (x3 + (-1)) (by omega)
        exact ⟨r, fun post bc bt nc a1 a2 a3 a4 a5 a6 a7 a8 a9  a11 a12 a13 H => pk_le 256 i (fun z => absurd z (by omega)) (fun _ => br_f e3 (hq _ _ _ _ _ _ _ _ _ _ _ _ _ _ _ _ (br_f e (br_f e4 (nm_e (nm_r (nI_1 i) (hr _ _ _ _ _ _ _ _ _ _ _ _ _ _ _ _ H)))))))⟩
theorem fq_closedSet (l : List Nat) {m : Nat} (h1 : 1 ≤ m) (h2 : m ≤ 20) (p1 : Int32) : ∃ r, ∀ (u : St1) (post : Int32 → St1 → Prop), fq_OK l u → (∀ u', fq_OK l u' → post r u') → wpX_closedSet post u (nI m) p1 := by
  obtain ⟨r, hr⟩ := fq_ct19 (fq_CC l) (nI m) 255 1 p1 rfl
  refine ⟨r, fun u post hu H => ?_⟩
  obtain ⟨bc, bt, nc, a1, a2, a3, a4, a5, a6, a7, a8, a9, a10, a11, a12, a13⟩ := u
  unfold wpX_closedSet
  exact fq_isBound h1 h2 (br_f (by decide) (fq_build hu (fun bc bt nc a1 a2 a3 a4 a5 a6 a7 a8 a9  a11 a12 a13 hu' => ⟨256, hr _ _ _ _ _ _ _ _ _ _ _ _ _ _ _ _ (H _ hu')⟩)))
theorem fq_ru60 {s : Nat} (hs : s < 256) (c : Nat → Int32) (x1 x2 : Int32) : ∀ f p x3, p < f → p < 256 → ∃ y, ∀ (post : Int32 → St1 → Prop) (J : Int32 → Int32 → Prop) (bc bt nc : Int32) (a1 a2 a3 a4 a5 a6 a7 a8 a9 a11 a12 a13 : Nat → Int32), J y (nI (s + 1)) → wX_rules_60 post J x1 x2 (nI s) bc bt nc a1 a2 a3 a4 a5 a6 a7 a8 a9 c a11 a12 a13 f x3 (nI p) := by
  intro f
  induction f with
  | zero => exact fun p x3 h => absurd h (by omega)
  | succ f ih =>
    intro p x3 hp hp2
    rcases Nat.eq_zero_or_pos p with z0 | z0
    · exact ⟨x3, fun post J bc bt nc a1 a2 a3 a4 a5 a6 a7 a8 a9  a11 a12 a13 H => pk_le p 0 (fun _ => nm_r (nI_1 s) H) (fun z => absurd z (by omega))⟩
    obtain ⟨p', ep⟩ : ∃ p', p = p' + 1 := ⟨p - 1, by omega⟩
    subst ep
    have hle : p' &&& s ≤ p' := Nat.and_le_left
    have hx : (nI (p' + 1) - 1) &&& nI s = nI (p' &&& s) := by rw [nI_pred, fq_and]
    by_cases e : 100 * c s < x2 * c (p' + 1)
    · obtain ⟨y, hy⟩ := ih (p' &&& s) x3 (by omega) (by omega)
      refine ⟨y, fun post J bc bt nc a1 a2 a3 a4 a5 a6 a7 a8 a9  a11 a12 a13 H => pk_le (p' + 1) 0 (fun z => absurd z (by omega)) (fun _ => ⟨pk_in s 256 hs, pk_in (p' + 1) 256 hp2, ?_⟩)⟩
      rw [nI_clamp (show s < 2 ^ 31 by omega), nI_clamp (show p' + 1 < 2 ^ 31 by omega)]
      exact br_t e (nm_r hx (hy _ _ _ _ _ _ _ _ _ _ _ _ _ _ _ _ _ H))
    · obtain ⟨y, hy⟩ := ih (p' &&& s) (x3 + 1) (by omega) (by omega)
      refine ⟨y, fun post J bc bt nc a1 a2 a3 a4 a5 a6 a7 a8 a9  a11 a12 a13 H => pk_le (p' + 1) 0 (fun z => absurd z (by omega)) (fun _ => ⟨pk_in s 256 hs, pk_in (p' + 1) 256 hp2, ?_⟩)⟩
      rw [nI_clamp (show s < 2 ^ 31 by omega), nI_clamp (show p' + 1 < 2 ^ 31 by omega)]
      exact br_f e (nm_e (nm_r hx (hy _ _ _ _ _ _ _ _ _ _ _ _ _ _ _ _ _ H)))
theorem fq_ru29 (c : Nat → Int32) (x1 x2 : Int32) : ∀ k i x3, 0 < i → i + k = 256 → ∃ r, ∀ (post : Int32 → St1 → Prop) (bc bt nc : Int32) (a1 a2 a3 a4 a5 a6 a7 a8 a9 a11 a12 a13 : Nat → Int32), post r (bc, bt, nc, a1, a2, a3, a4, a5, a6, a7, a8, a9, c, a11, a12, a13) → wX_rules_29 post x1 x2 bc bt nc a1 a2 a3 a4 a5 a6 a7 a8 a9 c a11 a12 a13 (k + 1) x3 (nI i) := by
  intro k
  induction k with
  | zero => exact fun i x3 _ hi => ⟨x3, fun post bc bt nc a1 a2 a3 a4 a5 a6 a7 a8 a9  a11 a12 a13 H => pk_le 256 i (fun _ => H) (fun z => absurd z (by omega))⟩
  | succ k ih =>
    intro i x3 i0 hi
    by_cases e : x1 ≤ c i
    · obtain ⟨i', ei⟩ : ∃ i', i = i' + 1 := ⟨i - 1, by omega⟩
      have hle : i' &&& i ≤ i' := Nat.and_le_left
      have hx : (nI i - 1) &&& nI i = nI (i' &&& i) := by
        rw [show nI i - 1 = nI i' by rw [ei, nI_pred], fq_and]
      obtain ⟨y, hy⟩ := fq_ru60 (s := i) (by omega) c x1 x2 256 (i' &&& i) x3 (by omega) (by omega)
      obtain ⟨r, hr⟩ := ih (i + 1) y (by omega) (by omega)
      refine ⟨r, fun post bc bt nc a1 a2 a3 a4 a5 a6 a7 a8 a9  a11 a12 a13 H => pk_le 256 i (fun z => absurd z (by omega)) (fun _ => ⟨pk_in i 256 (by omega), br_t ?_ (nm_r hx ⟨256, hy _ _ _ _ _ _ _ _ _ _ _ _ _ _ _ _ _ (hr _ _ _ _ _ _ _ _ _ _ _ _ _ _ _ _ H)⟩)⟩)⟩
      rw [nI_clamp (by omega)]
      exact e
    · obtain ⟨r, hr⟩ := ih (i + 1) x3 (by omega) (by omega)
      refine ⟨r, fun post bc bt nc a1 a2 a3 a4 a5 a6 a7 a8 a9  a11 a12 a13 H => pk_le 256 i (fun z => absurd z (by omega)) (fun _ => ⟨pk_in i 256 (by omega), br_f ?_ (nm_r (nI_1 i) (hr _ _ _ _ _ _ _ _ _ _ _ _ _ _ _ _ H))⟩)⟩
      rw [nI_clamp (by omega)]
      exact e
theorem fq_rules (l : List Nat) {m : Nat} (h1 : 1 ≤ m) (h2 : m ≤ 20) : ∃ r, ∀ (u : St1) (post : Int32 → St1 → Prop), fq_OK l u → (∀ u', fq_OK l u' → post r u') → wpX_rules post u (nI m) 60 := by
  obtain ⟨r, hr⟩ := fq_ru29 (fq_CC l) (nI m) 60 255 1 0 (by omega) rfl
  refine ⟨r, fun u post hu H => ?_⟩
  obtain ⟨bc, bt, nc, a1, a2, a3, a4, a5, a6, a7, a8, a9, a10, a11, a12, a13⟩ := u
  unfold wpX_rules
  exact fq_isBound h1 h2 (br_f (by decide) (br_f (by decide) (br_t (by decide) (fq_build hu (fun bc bt nc a1 a2 a3 a4 a5 a6 a7 a8 a9  a11 a12 a13 hu' => ⟨256, hr _ _ _ _ _ _ _ _ _ _ _ _ _ _ _ _ (H _ hu')⟩)))))
end
end
section
/-! same, add, drop -/
section
variable {bc bt nc : Int32} {a1 a2 a3 a4 a5 a6 a7 a8 a9 a10 a11 a12 a13 : Nat → Int32}
variable {bbc bbt bnc : Int32} {b1 b2 b3 b4 b5 b6 b7 b8 b9 b10 b11 b12 b13 : Nat → Int32}
theorem fq_same {l : List Nat} {post : Int32 → St2 → Prop} {s m : Nat} (hs : s < 256) (h1 : 1 ≤ m) (h2 : m ≤ 20) (hx : fq_OK l (bc, bt, nc, a1, a2, a3, a4, a5, a6, a7, a8, a9, a10, a11, a12, a13)) (hy : fq_OK l (bbc, bbt, bnc, b1, b2, b3, b4, b5, b6, b7, b8, b9, b10, b11, b12, b13))
    (H : ∀ (bc bt nc : Int32) (a1 a2 a3 a4 a5 a6 a7 a8 a9 a10 a11 a12 a13 : Nat → Int32) (bbc bbt bnc : Int32) (b1 b2 b3 b4 b5 b6 b7 b8 b9 b10 b11 b12 b13 : Nat → Int32), fq_OK l (bc, bt, nc, a1, a2, a3, a4, a5, a6, a7, a8, a9, a10, a11, a12, a13) → fq_OK l (bbc, bbt, bnc, b1, b2, b3, b4, b5, b6, b7, b8, b9, b10, b11, b12, b13) → post 1 (bc, bt, nc, a1, a2, a3, a4, a5, a6, a7, a8, a9, a10, a11, a12, a13, bbc, bbt, bnc, b1, b2, b3, b4, b5, b6, b7, b8, b9, b10, b11, b12, b13)) : wpL_same post (bc, bt, nc, a1, a2, a3, a4, a5, a6, a7, a8, a9, a10, a11, a12, a13, bbc, bbt, bnc, b1, b2, b3, b4, b5, b6, b7, b8, b9, b10, b11, b12, b13) (nI s) (nI m) := by
  obtain ⟨r1, k1⟩ := fq_closure l hs
  obtain ⟨r2, k2⟩ := fq_companion l hs
  obtain ⟨r3, k3⟩ := fq_frequent l h1 h2
  obtain ⟨r4, k4⟩ := fq_closed l h1 h2
  obtain ⟨r5, k5⟩ := fq_largest l h1 h2
  obtain ⟨r6, k6⟩ := fq_closedSet l h1 h2 2
  obtain ⟨r7, k7⟩ := fq_rules l h1 h2
  unfold wpL_same
  refine fq_count hx hs ?_
  rintro ⟨bc, bt, nc, a1, a2, a3, a4, a5, a6, a7, a8, a9, a10, a11, a12, a13⟩ hx
  refine fq_count hy hs ?_
  rintro ⟨bbc, bbt, bnc, b1, b2, b3, b4, b5, b6, b7, b8, b9, b10, b11, b12, b13⟩ hy
  refine br_t rfl ?_
  refine k1 _ _ hx ?_
  rintro ⟨bc, bt, nc, a1, a2, a3, a4, a5, a6, a7, a8, a9, a10, a11, a12, a13⟩ hx
  refine k1 _ _ hy ?_
  rintro ⟨bbc, bbt, bnc, b1, b2, b3, b4, b5, b6, b7, b8, b9, b10, b11, b12, b13⟩ hy
  refine br_t rfl ?_
  refine k2 _ _ hx ?_
  rintro ⟨bc, bt, nc, a1, a2, a3, a4, a5, a6, a7, a8, a9, a10, a11, a12, a13⟩ hx
  refine k2 _ _ hy ?_
  rintro ⟨bbc, bbt, bnc, b1, b2, b3, b4, b5, b6, b7, b8, b9, b10, b11, b12, b13⟩ hy
  refine br_t rfl ?_
  refine k3 _ _ hx ?_
  rintro ⟨bc, bt, nc, a1, a2, a3, a4, a5, a6, a7, a8, a9, a10, a11, a12, a13⟩ hx
  refine k3 _ _ hy ?_
  rintro ⟨bbc, bbt, bnc, b1, b2, b3, b4, b5, b6, b7, b8, b9, b10, b11, b12, b13⟩ hy
  refine br_t rfl ?_
  refine k4 _ _ hx ?_
  rintro ⟨bc, bt, nc, a1, a2, a3, a4, a5, a6, a7, a8, a9, a10, a11, a12, a13⟩ hx
  refine k4 _ _ hy ?_
  rintro ⟨bbc, bbt, bnc, b1, b2, b3, b4, b5, b6, b7, b8, b9, b10, b11, b12, b13⟩ hy
  refine br_t rfl ?_
  refine k5 _ _ hx ?_
  rintro ⟨bc, bt, nc, a1, a2, a3, a4, a5, a6, a7, a8, a9, a10, a11, a12, a13⟩ hx
  refine k5 _ _ hy ?_
  rintro ⟨bbc, bbt, bnc, b1, b2, b3, b4, b5, b6, b7, b8, b9, b10, b11, b12, b13⟩ hy
  refine br_t rfl ?_
  refine k6 _ _ hx ?_
  rintro ⟨bc, bt, nc, a1, a2, a3, a4, a5, a6, a7, a8, a9, a10, a11, a12, a13⟩ hx
  refine k6 _ _ hy ?_
  rintro ⟨bbc, bbt, bnc, b1, b2, b3, b4, b5, b6, b7, b8, b9, b10, b11, b12, b13⟩ hy
  refine br_t rfl ?_
  refine k7 _ _ hx ?_
  rintro ⟨bc, bt, nc, a1, a2, a3, a4, a5, a6, a7, a8, a9, a10, a11, a12, a13⟩ hx
  refine k7 _ _ hy ?_
  rintro ⟨bbc, bbt, bnc, b1, b2, b3, b4, b5, b6, b7, b8, b9, b10, b11, b12, b13⟩ hy
  refine br_t rfl ?_
  refine fq_count (s := 0) hx (by omega) ?_
  rintro ⟨bc, bt, nc, a1, a2, a3, a4, a5, a6, a7, a8, a9, a10, a11, a12, a13⟩ hx
  refine fq_count (s := 0) hy (by omega) ?_
  rintro ⟨bbc, bbt, bnc, b1, b2, b3, b4, b5, b6, b7, b8, b9, b10, b11, b12, b13⟩ hy
  exact br_t rfl (H bc bt nc a1 a2 a3 a4 a5 a6 a7 a8 a9 a10 a11 a12 a13 bbc bbt bnc b1 b2 b3 b4 b5 b6 b7 b8 b9 b10 b11 b12 b13 hx hy)
theorem fq_gL {l : List Nat} {a i : Nat} (h : i < l.length) : (l ++ [a]).getD i 0 = l.getD i 0 := by
  simp [List.getD_eq_getElem?_getD, List.getElem?_append_left h]
theorem fq_gA {l : List Nat} {a : Nat} : (l ++ [a]).getD l.length 0 = a := by
  simp [List.getD_eq_getElem?_getD]
theorem fq_add_neg {l : List Nat} {u : St1} {post : Int32 → St1 → Prop} {p0 : Int32} (hu : fq_OK l u) (hp : p0 < 0 ∨ 255 < p0) (H : ∀ r : Int32, r < 0 → post r u) : wpX_add post u p0 := by
  obtain ⟨bc, bt, nc, a1, a2, a3, a4, a5, a6, a7, a8, a9, a10, a11, a12, a13⟩ := u
  refine br_c (fun _ => ?_) (fun _ => H (-2) (by decide))
  by_cases e : p0 < 0
  · exact br_t e (br_t rfl (H (-1) (by decide)))
  · exact br_f e (br_t (hp.elim (fun z => absurd z e) id) (br_t rfl (H (-1) (by decide))))
theorem fq_add_full {l : List Nat} {u : St1} {post : Int32 → St1 → Prop} {p0 : Int32} (hu : fq_OK l u) (hl : l.length = 20) (H : post (-2) u) : wpX_add post u p0 := by
  obtain ⟨bc, bt, nc, a1, a2, a3, a4, a5, a6, a7, a8, a9, a10, a11, a12, a13⟩ := u
  obtain ⟨_, h2, h3, h4, h5, h6⟩ := fq_OK_e hu
  subst h3
  exact pk_lt l.length 20 (fun z => absurd z (by omega)) (fun _ => H)
theorem fq_add {l : List Nat} {u : St1} {post : Int32 → St1 → Prop} {a : Nat} (hu : fq_OK l u) (ha : a < 256) (hl : l.length < 20) (H : ∀ u', fq_OK (l ++ [a]) u' → post (nI (l.length + 1)) u') : wpX_add post u (nI a) := by
  obtain ⟨bc, bt, nc, a1, a2, a3, a4, a5, a6, a7, a8, a9, a10, a11, a12, a13⟩ := u
  obtain ⟨_, h2, h3, h4, h5, h6⟩ := fq_OK_e hu
  subst h3
  have el : (l ++ [a]).length = l.length + 1 := by simp
  refine pk_lt l.length 20 (fun _ => fq_isSet ha (br_f (by decide) ⟨pk_in l.length 20 hl, nm_r (e' := upd a1 l.length (nI a)) (by rw [nI_clamp (by omega), fq_s16 a ha]) (nm_r (nI_1 l.length) (H _ (fq_OK_i (by omega) (fun i hi => ?_) (by rw [el]) (fun i hi => ?_) h5 (Or.inl rfl))))⟩)) (fun z => absurd z (by omega))
  · by_cases e : i = l.length
    · rw [e, fq_gA]
      exact ha
    · rw [fq_gL (by omega)]
      exact h2 i (by omega)
  · by_cases e : i = l.length
    · rw [e, fq_gA, pk_us]
    · rw [fq_gL (by omega), pk_un e]
      exact h4 i (by omega)
theorem fq_drop0 {u : St1} {post : Int32 → St1 → Prop} (hu : fq_OK [] u) (H : post (-3) u) : wpX_drop post u := by
  obtain ⟨bc, bt, nc, a1, a2, a3, a4, a5, a6, a7, a8, a9, a10, a11, a12, a13⟩ := u
  obtain ⟨_, h2, h3, h4, h5, h6⟩ := fq_OK_e hu
  subst h3
  exact br_t rfl H
theorem fq_drop {l : List Nat} {b : Nat} {u : St1} {post : Int32 → St1 → Prop} (hu : fq_OK (b :: l) u) (H : ∀ u', fq_OK l u' → post (nI l.length) u') : wpX_drop post u := by
  obtain ⟨bc, bt, nc, a1, a2, a3, a4, a5, a6, a7, a8, a9, a10, a11, a12, a13⟩ := u
  obtain ⟨h1, h2, h3, h4, h5, h6⟩ := fq_OK_e hu
  subst h3
  have el : (b :: l).length = l.length + 1 := rfl
  refine br_f (nI_ne0 (by omega) (by omega)) (nm_r (e' := nI l.length) (nI_pred l.length) ?_)
  refine pk_loop (fun n i s => wX_drop_22 post (nI l.length) bt nc n (nI i) s a2 a3 a4 a5 a6 a7 a8 a9 a10 a11 a12 a13) (fun i s => (∀ j, j < i → s j = nI (l.getD j 0)) ∧ ∀ j, i ≤ j → s j = a1 j) l.length 0 a1 (by omega) ⟨fun j hj => absurd hj (by omega), fun j _ => rfl⟩ ?_ ?_
  · rintro n s ⟨k1, k2⟩
    exact pk_le l.length l.length (fun _ => H _ (fq_OK_i (by omega) (fun i hi => h2 (i + 1) (by omega)) rfl k1 h5 (Or.inl rfl))) (fun z => absurd z (by omega))
  · rintro n i s hi ⟨k1, k2⟩ hw
    refine pk_le l.length i (fun z => absurd z (by omega)) (fun _ => ?_)
    rw [nI_1, nI_clamp (show i < 2 ^ 31 by omega), nI_clamp (show i + 1 < 2 ^ 31 by omega)]
    have hv : s (i + 1) = nI (l.getD i 0) := (k2 (i + 1) (by omega)).trans (h4 (i + 1) (by omega))
    refine ⟨pk_in (i + 1) 20 (by omega), pk_in i 20 (by omega), nm_r (e' := upd s i (nI (l.getD i 0))) (by rw [hv, vp_nar_short, fq_s16 (l.getD i 0) (h2 (i + 1) (by omega))]) (nm_e (hw _ ⟨fun j hj => ?_, fun j hj => ?_⟩))⟩
    · by_cases e : j = i
      · rw [e, pk_us]
      · rw [pk_un e]
        exact k1 j (by omega)
    · rw [pk_un (by omega)]
      exact k2 j (by omega)
end
end
section
/-! the three longs. wb_ rows and fq_gor: rows of kit/laws/BITS.to-paste (a starting text) -/
theorem wb_tb (n : Nat) : (lN n).toBitVec = BitVec.ofNat 64 n := rfl
theorem wb_inj {a b : Int64} (h : a.toBitVec = b.toBitVec) : a = b := Int64.toBitVec_inj.mp h
theorem wb_tn {n : Nat} (h : n < 2 ^ 64) : (lN n).toBitVec.toNat = n := by rw [wb_tb, BitVec.toNat_ofNat, Nat.mod_eq_of_lt h]
theorem wb_of (x : Int64) : ∃ n, n < 2 ^ 64 ∧ x = lN n := ⟨x.toBitVec.toNat, x.toBitVec.isLt, wb_inj (by rw [wb_tb]; simp)⟩
theorem wb_of32 (x : Int32) : ∃ n, n < 2 ^ 32 ∧ x = nI n := ⟨x.toBitVec.toNat, x.toBitVec.isLt, Int32.toBitVec_inj.mp (by show _ = BitVec.ofNat 32 _; simp)⟩
theorem wb_c : ∀ k, k < 64 → ((nI k).toInt64 &&& 63) = lN k := by decide +kernel
theorem wb_cu : ∀ k, k < 64 → ((nI k).toInt64.toUInt64 &&& Int64.toUInt64 63) = UInt64.ofNat k := by decide +kernel
theorem wb_sm : ∀ k, k < 64 → (BitVec.ofNat 64 k).smod 64 = BitVec.ofNat 64 k := by decide +kernel
theorem wb_pw {a b : Nat} (h : a ≤ b) : 2 ^ b = 2 ^ a * 2 ^ (b - a) := by rw [← Nat.pow_add]; congr 1; omega
theorem wb_lt2 {a b : Nat} (h : a < b) : 2 ^ a < 2 ^ b := Nat.pow_lt_pow_right (by decide) h
theorem wb_mod (n : Nat) : lN n = lN (n % 2 ^ 64) := wb_inj (by rw [wb_tb, wb_tb]; apply BitVec.eq_of_toNat_eq; rw [BitVec.toNat_ofNat, BitVec.toNat_ofNat, Nat.mod_mod])
theorem wb_shr {n k : Nat} (hn : n < 2 ^ 64) (hk : k < 64) : ((lN n).toUInt64 >>> ((nI k).toInt64.toUInt64 &&& Int64.toUInt64 63)).toInt64 = lN (n / 2 ^ k) := by
  rw [wb_cu k hk]
  apply wb_inj
  apply BitVec.eq_of_toNat_eq
  show ((lN n).toUInt64 >>> UInt64.ofNat k).toNat = (BitVec.ofNat 64 _).toNat
  have h1 : (UInt64.ofNat k).toNat = k := by
    show (BitVec.ofNat 64 k).toNat = k
    rw [BitVec.toNat_ofNat, Nat.mod_eq_of_lt (by omega)]
  have h2 : (lN n).toUInt64.toNat = n := wb_tn hn
  rw [UInt64.toNat_shiftRight, h1, h2, Nat.mod_eq_of_lt hk, Nat.shiftRight_eq_div_pow, BitVec.toNat_ofNat, Nat.mod_eq_of_lt (Nat.lt_of_le_of_lt (Nat.div_le_self _ _) hn)]
theorem wb_shl (n : Nat) {k : Nat} (hk : k < 64) : lN n <<< ((nI k).toInt64 &&& 63) = lN (n * 2 ^ k) := by
  rw [wb_c k hk]
  apply wb_inj
  rw [Int64.toBitVec_shiftLeft, wb_tb, wb_tb, wb_tb, wb_sm k hk]
  apply BitVec.eq_of_toNat_eq
  rw [BitVec.shiftLeft_eq', BitVec.toNat_shiftLeft, BitVec.toNat_ofNat, BitVec.toNat_ofNat, BitVec.toNat_ofNat, Nat.mod_eq_of_lt (show k < 2 ^ 64 by omega), Nat.shiftLeft_eq, Nat.mul_mod, Nat.mod_mod, ← Nat.mul_mod]
theorem wb_and {a b : Nat} (ha : a < 2 ^ 64) (hb : b < 2 ^ 64) : lN a &&& lN b = lN (a &&& b) := by
  apply wb_inj
  rw [Int64.toBitVec_and, wb_tb, wb_tb, wb_tb]
  apply BitVec.eq_of_toNat_eq
  rw [BitVec.toNat_and, BitVec.toNat_ofNat, BitVec.toNat_ofNat, BitVec.toNat_ofNat, Nat.mod_eq_of_lt ha, Nat.mod_eq_of_lt hb, Nat.mod_eq_of_lt (Nat.and_lt_two_pow _ hb)]
theorem wb_or {a b : Nat} (ha : a < 2 ^ 64) (hb : b < 2 ^ 64) : lN a ||| lN b = lN (a ||| b) := by
  apply wb_inj
  rw [Int64.toBitVec_or, wb_tb, wb_tb, wb_tb]
  apply BitVec.eq_of_toNat_eq
  rw [BitVec.toNat_or, BitVec.toNat_ofNat, BitVec.toNat_ofNat, BitVec.toNat_ofNat, Nat.mod_eq_of_lt ha, Nat.mod_eq_of_lt hb, Nat.mod_eq_of_lt (Nat.or_lt_two_pow ha hb)]
theorem wb_mask {n k : Nat} (hn : n < 2 ^ 64) (hk : k < 64) : lN n &&& lN (2 ^ k - 1) = lN (n % 2 ^ k) := by
  rw [wb_and hn (by have := wb_lt2 hk; omega), Nat.and_two_pow_sub_one_eq_mod]
theorem fq_utn {n : Nat} (h : n < 2 ^ 64) : (UInt64.ofNat n).toNat = n := Nat.mod_eq_of_lt h
theorem fq_gor {k p a b : Nat} (hp : 2 ^ k = p) (ha : a < p) (h : b * p + a < 2 ^ 64) : lN (b * p) ||| lN a = lN (b * p + a) := by
  subst hp
  have h1 : b * 2 ^ k ||| a = b * 2 ^ k + a := by rw [← Nat.shiftLeft_eq, Nat.shiftLeft_add_eq_or_of_lt ha]
  have h3 : UInt64.ofNat (b * 2 ^ k) ||| UInt64.ofNat a = UInt64.ofNat (b * 2 ^ k + a) := UInt64.toNat_inj.mp (by rw [UInt64.toNat_or, fq_utn (by omega), fq_utn (by omega), fq_utn h, h1])
  have h2 := congrArg UInt64.toInt64 h3
  exact h2
theorem fq_gor' {k p a b : Nat} (hp : 2 ^ k = p) (ha : a < p) (h : a + b * p < 2 ^ 64) : lN a ||| lN (b * p) = lN (a + b * p) := by
  rw [Int64.or_comm, fq_gor hp ha (by omega), Nat.add_comm]
theorem fq_clr {x j : Nat} (hx : x < 2 ^ j) (hj : j < 64) : lN x &&& (((255 : Int64) <<< ((nI j).toInt64 &&& 63)) ^^^ (-1)) = lN x := by
  rw [show (255 : Int64) <<< ((nI j).toInt64 &&& 63) = lN (255 * 2 ^ j) from wb_shl 255 hj]
  apply wb_inj
  rw [Int64.toBitVec_and, Int64.toBitVec_xor, wb_tb, wb_tb, show (-1 : Int64).toBitVec = BitVec.allOnes 64 from by decide]
  apply BitVec.eq_of_getLsbD_eq
  intro i hi
  rw [BitVec.getLsbD_and, BitVec.getLsbD_xor, BitVec.getLsbD_allOnes, BitVec.getLsbD_ofNat, BitVec.getLsbD_ofNat]
  rcases Nat.lt_or_ge i j with c | c
  · rw [← Nat.shiftLeft_eq, Nat.testBit_shiftLeft]
    simp [hi, Nat.not_le.mpr c]
  · rw [Nat.testBit_lt_two_pow (Nat.lt_of_lt_of_le hx (Nat.pow_le_pow_right (by omega) c))]
    simp
theorem fq_8j (j : Nat) : (8 : Int32) * nI j = nI (8 * j) := pk_mul 8 j
theorem fq_put {x j a : Nat} (hx : x < 2 ^ (8 * j)) (hj : j ≤ 6) (ha : a < 256) : (lN x &&& (((255 : Int64) <<< ((8 * nI j).toInt64 &&& 63)) ^^^ (-1))) ||| ((nI a).toInt64 <<< ((8 * nI j).toInt64 &&& 63)) = lN (x + a * 2 ^ (8 * j)) := by
  rw [fq_8j, fq_clr hx (by omega), nI_l (by omega), wb_shl a (by omega)]
  have p1 : 2 ^ (8 * j) ≤ 2 ^ 48 := Nat.pow_le_pow_right (by omega) (by omega)
  have p2 : a * 2 ^ (8 * j) ≤ 256 * 2 ^ 48 := Nat.mul_le_mul (by omega) p1
  exact fq_gor' rfl hx (by omega)
theorem fq_byte {x j : Nat} (hx : x < 2 ^ 64) (hj : j ≤ 6) : (((lN x).toUInt64 >>> ((8 * nI j).toInt64.toUInt64 &&& Int64.toUInt64 63)).toInt64).toInt32 &&& 255 = nI (x / 2 ^ (8 * j) % 256) := by
  rw [fq_8j, wb_shr hx (by omega), lN_i]
  show nI _ &&& nI 255 = _
  rw [fq_and, show (255 : Nat) = 2 ^ 8 - 1 from rfl, Nat.and_two_pow_sub_one_eq_mod]
theorem fq_sh {P Q : Nat} (hP : P < 2 ^ 56) (hQ : Q < 2 ^ 64) : (((lN P).toUInt64 >>> ((8 : Int32).toInt64.toUInt64 &&& Int64.toUInt64 63)).toInt64) ||| ((lN Q &&& 255) <<< ((48 : Int32).toInt64 &&& 63)) = lN (P / 256 + Q % 256 * 2 ^ 48) := by
  have e1 : ((lN P).toUInt64 >>> ((8 : Int32).toInt64.toUInt64 &&& Int64.toUInt64 63)).toInt64 = lN (P / 256) := wb_shr (k := 8) (by omega) (by omega)
  have e2 : lN Q &&& 255 = lN (Q % 256) := wb_mask (k := 8) hQ (by omega)
  have e3 : lN (Q % 256) <<< ((48 : Int32).toInt64 &&& 63) = lN (Q % 256 * 2 ^ 48) := wb_shl (Q % 256) (k := 48) (by omega)
  rw [e1, e2, e3]
  exact fq_gor' (k := 48) rfl (by omega) (by omega)
/-- the baskets as one number, the first in the lowest byte -/
def fq_V : List Nat → Nat
  | [] => 0
  | b :: l => b + 256 * fq_V l
theorem fq_V_app {l : List Nat} {a : Nat} : fq_V (l ++ [a]) = fq_V l + a * 2 ^ (8 * l.length) := by
  induction l with
  | nil =>
    show a + 256 * 0 = 0 + a * 2 ^ (8 * 0)
    omega
  | cons b l ih =>
    show b + 256 * fq_V (l ++ [a]) = b + 256 * fq_V l + a * 2 ^ (8 * (l.length + 1))
    rw [ih, Nat.mul_add 8, Nat.pow_add, ← Nat.mul_assoc a]
    omega
theorem fq_V_lt {l : List Nat} (h : ∀ i, i < l.length → l.getD i 0 < 256) : fq_V l < 2 ^ (8 * l.length) := by
  induction l with
  | nil => exact (by decide : 0 < 2 ^ (8 * 0))
  | cons b l ih =>
    have h0 : b < 256 := h 0 (by show 0 < l.length + 1; omega)
    have h1 := ih (fun i hi => h (i + 1) (by show i + 1 < l.length + 1; omega))
    show b + 256 * fq_V l < 2 ^ (8 * (l.length + 1))
    rw [Nat.mul_add 8, Nat.pow_add]
    omega
theorem fq_V_at {l : List Nat} (h : ∀ i, i < l.length → l.getD i 0 < 256) : ∀ k, k < l.length → fq_V l / 2 ^ (8 * k) % 256 = l.getD k 0 := by
  induction l with
  | nil => exact fun k hk => absurd hk (Nat.not_lt_zero k)
  | cons b l ih =>
    have h0 : b < 256 := h 0 (by show 0 < l.length + 1; omega)
    intro k hk
    cases k with
    | zero =>
      show (b + 256 * fq_V l) / 1 % 256 = b
      omega
    | succ k =>
      show (b + 256 * fq_V l) / 2 ^ (8 * (k + 1)) % 256 = l.getD k 0
      rw [← ih (fun i hi => h (i + 1) (by show i + 1 < l.length + 1; omega)) k (by have : k + 1 < l.length + 1 := hk; omega), Nat.mul_add 8, Nat.add_comm (8 * k), Nat.pow_add, ← Nat.div_div_eq_div_mul, show (b + 256 * fq_V l) / 2 ^ (8 * 1) = fq_V l by omega]
def fq_L (l : List Nat) (p q r : Int64) : Prop := p = lN (fq_V l % 2 ^ 56) ∧ q = lN (fq_V l / 2 ^ 56 % 2 ^ 56) ∧ r = lN (fq_V l / 2 ^ 112)
theorem fq_ar1 (V : Nat) : ∀ j, j ≤ 6 → V % 2 ^ 56 / 2 ^ (8 * j) % 256 = V / 2 ^ (8 * j) % 256 := by
  intro j hj
  rcases (by omega : j = 0 ∨ j = 1 ∨ j = 2 ∨ j = 3 ∨ j = 4 ∨ j = 5 ∨ j = 6) with e | e | e | e | e | e | e <;> subst e <;> omega
theorem fq_ar2 (V c j : Nat) : V / 2 ^ c / 2 ^ (8 * j) = V / 2 ^ (c + 8 * j) := by rw [Nat.div_div_eq_div_mul, ← Nat.pow_add]
theorem fq_V20 {l : List Nat} (hl : l.length ≤ 20) (h : ∀ i, i < l.length → l.getD i 0 < 256) : fq_V l < 2 ^ 160 := Nat.lt_of_lt_of_le (fq_V_lt h) (Nat.pow_le_pow_right (by omega) (by omega))
theorem fq_oldest {l : List Nat} {post : Int32 → Prop} {u : St3} {p q r : Int64} {k : Nat} (hL : fq_L l p q r) (hl : l.length ≤ 20) (h2 : ∀ i, i < l.length → l.getD i 0 < 256) (hk : k < l.length) (H : post (nI (l.getD k 0))) : wpL_oldest post u p q r (nI k) := by
  obtain ⟨e1, e2, e3⟩ := hL
  subst e1 e2 e3
  have hV := fq_V20 hl h2
  have ha := fq_V_at h2 k hk
  refine pk_le 7 k (fun c => pk_le 14 k (fun c2 => ?_) (fun c2 => ?_)) (fun c => ?_)
  · rw [show nI k - 14 = nI (k - 14) from pk_sub c2, fq_byte (by omega) (by omega), fq_ar2, show 112 + 8 * (k - 14) = 8 * k by omega, ha]
    exact H
  · rw [show nI k - 7 = nI (k - 7) from pk_sub c, fq_byte (by omega) (by omega), fq_ar1 _ _ (by omega), fq_ar2, show 56 + 8 * (k - 7) = 8 * k by omega, ha]
    exact H
  · rw [fq_byte (by omega) (by omega), fq_ar1 _ _ (by omega), ha]
    exact H
theorem fq_L_drop {b : Nat} {l : List Nat} {p q r : Int64} (hL : fq_L (b :: l) p q r) (hl : (b :: l).length ≤ 20) (h2 : ∀ i, i < (b :: l).length → (b :: l).getD i 0 < 256) :
    fq_L l (((p.toUInt64 >>> ((8 : Int32).toInt64.toUInt64 &&& Int64.toUInt64 63)).toInt64) ||| ((q &&& 255) <<< ((48 : Int32).toInt64 &&& 63))) (((q.toUInt64 >>> ((8 : Int32).toInt64.toUInt64 &&& Int64.toUInt64 63)).toInt64) ||| ((r &&& 255) <<< ((48 : Int32).toInt64 &&& 63))) ((r.toUInt64 >>> ((8 : Int32).toInt64.toUInt64 &&& Int64.toUInt64 63)).toInt64) := by
  obtain ⟨e1, e2, e3⟩ := hL
  subst e1 e2 e3
  have hV := fq_V20 hl h2
  have h0 : b < 256 := h2 0 (by show 0 < l.length + 1; omega)
  have hW : fq_V l = fq_V (b :: l) / 256 := by
    show fq_V l = (b + 256 * fq_V l) / 256
    omega
  unfold fq_L
  rw [hW]
  generalize fq_V (b :: l) = W at hV
  refine ⟨?_, ?_, ?_⟩
  · rw [fq_sh (by omega) (by omega)]
    refine congrArg lN ?_
    omega
  · rw [fq_sh (by omega) (by omega)]
    refine congrArg lN ?_
    omega
  · have e : ((lN (W / 2 ^ 112)).toUInt64 >>> ((8 : Int32).toInt64.toUInt64 &&& Int64.toUInt64 63)).toInt64 = lN (W / 2 ^ 112 / 256) := wb_shr (k := 8) (by omega) (by omega)
    rw [e]
    refine congrArg lN ?_
    omega
theorem fq_L_add1 {a : Nat} {l : List Nat} {p q r : Int64} (hL : fq_L l p q r) (hl : l.length < 7) (h2 : ∀ i, i < l.length → l.getD i 0 < 256) (ha : a < 256) : fq_L (l ++ [a]) ((p &&& (((255 : Int64) <<< ((8 * nI l.length).toInt64 &&& 63)) ^^^ (-1))) ||| ((nI a).toInt64 <<< ((8 * nI l.length).toInt64 &&& 63))) q r := by
  obtain ⟨e1, e2, e3⟩ := hL
  subst e1 e2 e3
  have hV := fq_V_lt h2
  have p1 : 2 ^ (8 * l.length) ≤ 2 ^ 48 := Nat.pow_le_pow_right (by omega) (by omega)
  have p2 : a * 2 ^ (8 * l.length) ≤ 255 * 2 ^ 48 := Nat.mul_le_mul (by omega) p1
  unfold fq_L
  rw [fq_V_app, show fq_V l % 2 ^ 56 = fq_V l by omega, fq_put hV (by omega) ha]
  generalize a * 2 ^ (8 * l.length) = A at p2
  refine ⟨congrArg lN (by omega), congrArg lN (by omega), congrArg lN (by omega)⟩
theorem fq_L_add2 {a : Nat} {l : List Nat} {p q r : Int64} (hL : fq_L l p q r) (hl7 : 7 ≤ l.length) (hl : l.length < 14) (h2 : ∀ i, i < l.length → l.getD i 0 < 256) (ha : a < 256) : fq_L (l ++ [a]) p ((q &&& (((255 : Int64) <<< ((8 * (nI l.length - 7)).toInt64 &&& 63)) ^^^ (-1))) ||| ((nI a).toInt64 <<< ((8 * (nI l.length - 7)).toInt64 &&& 63))) r := by
  obtain ⟨e1, e2, e3⟩ := hL
  subst e1 e2 e3
  have hV := fq_V_lt h2
  have p1 : 2 ^ (8 * (l.length - 7)) ≤ 2 ^ 48 := Nat.pow_le_pow_right (by omega) (by omega)
  have p2 : a * 2 ^ (8 * (l.length - 7)) ≤ 255 * 2 ^ 48 := Nat.mul_le_mul (by omega) p1
  have p3 : 2 ^ (8 * l.length) = 2 ^ (8 * (l.length - 7)) * 2 ^ 56 := by
    rw [← Nat.pow_add]
    congr 1
    omega
  unfold fq_L
  rw [show nI l.length - 7 = nI (l.length - 7) from pk_sub hl7, fq_V_app, show fq_V l / 2 ^ 56 % 2 ^ 56 = fq_V l / 2 ^ 56 by omega, fq_put (by omega) (by omega) ha, p3, ← Nat.mul_assoc]
  generalize a * 2 ^ (8 * (l.length - 7)) = A at p2
  refine ⟨congrArg lN (by omega), congrArg lN (by omega), congrArg lN (by omega)⟩
theorem fq_L_add3 {a : Nat} {l : List Nat} {p q r : Int64} (hL : fq_L l p q r) (hl7 : 14 ≤ l.length) (hl : l.length < 20) (h2 : ∀ i, i < l.length → l.getD i 0 < 256) (ha : a < 256) : fq_L (l ++ [a]) p q ((r &&& (((255 : Int64) <<< ((8 * (nI l.length - 14)).toInt64 &&& 63)) ^^^ (-1))) ||| ((nI a).toInt64 <<< ((8 * (nI l.length - 14)).toInt64 &&& 63))) := by
  obtain ⟨e1, e2, e3⟩ := hL
  subst e1 e2 e3
  have hV := fq_V_lt h2
  have p3 : 2 ^ (8 * l.length) = 2 ^ (8 * (l.length - 14)) * 2 ^ 112 := by
    rw [← Nat.pow_add]
    congr 1
    omega
  unfold fq_L
  rw [show nI l.length - 14 = nI (l.length - 14) from pk_sub hl7, fq_V_app, fq_put (by omega) (by omega) ha, p3, ← Nat.mul_assoc]
  generalize a * 2 ^ (8 * (l.length - 14)) = A
  refine ⟨congrArg lN (by omega), congrArg lN (by omega), congrArg lN (by omega)⟩
end
section
/-! the law -/
section
variable {bc bt nc : Int32} {a1 a2 a3 a4 a5 a6 a7 a8 a9 a10 a11 a12 a13 : Nat → Int32}
variable {bbc bbt bnc : Int32} {b1 b2 b3 b4 b5 b6 b7 b8 b9 b10 b11 b12 b13 : Nat → Int32}
variable {post : Int32 → Prop} {L : Nat} {xs : Nat → Int32} {kc ks : Nat}
variable {J : Int64 → Int64 → Int64 → Int32 → Int32 → Int32 → Int32 → Int32 → (Nat → Int32) → (Nat → Int32) → (Nat → Int32) → (Nat → Int32) → (Nat → Int32) → (Nat → Int32) → (Nat → Int32) → (Nat → Int32) → (Nat → Int32) → (Nat → Int32) → (Nat → Int32) → (Nat → Int32) → (Nat → Int32) →  Int32 → Int32 → Int32 → (Nat → Int32) → (Nat → Int32) → (Nat → Int32) → (Nat → Int32) → (Nat → Int32) → (Nat → Int32) → (Nat → Int32) → (Nat → Int32) → (Nat → Int32) → (Nat → Int32) → (Nat → Int32) → (Nat → Int32) → (Nat → Int32) →  Prop}
def fq_W448 (post : Int32 → Prop) (L : Nat) (xs : Nat → Int32) (kc ks n : Nat) (x : Int32) (u v : St1) : Prop := match u, v with
  | (bc, bt, nc, a1, a2, a3, a4, a5, a6, a7, a8, a9, a10, a11, a12, a13), (bbc, bbt, bnc, b1, b2, b3, b4, b5, b6, b7, b8, b9, b10, b11, b12, b13) => wL_law_448 post L xs kc ks n x bc bt nc a1 a2 a3 a4 a5 a6 a7 a8 a9 a10 a11 a12 a13 bbc bbt bnc b1 b2 b3 b4 b5 b6 b7 b8 b9 b10 b11 b12 b13
theorem fq_448 {l : List Nat} (hp : post 1) (hx : fq_OK l (bc, bt, nc, a1, a2, a3, a4, a5, a6, a7, a8, a9, a10, a11, a12, a13)) (hy : fq_OK l (bbc, bbt, bnc, b1, b2, b3, b4, b5, b6, b7, b8, b9, b10, b11, b12, b13)) : ∃ n, wL_law_448 post L xs kc ks n 1 bc bt nc a1 a2 a3 a4 a5 a6 a7 a8 a9 a10 a11 a12 a13 bbc bbt bnc b1 b2 b3 b4 b5 b6 b7 b8 b9 b10 b11 b12 b13 := by
  refine lp3 (fun n x u v => fq_W448 post L xs kc ks n x u v) (fun x u v => (∃ m, x = nI m ∧ 1 ≤ m ∧ m ≤ 24) ∧ fq_OK l u ∧ fq_OK l v) (fun x u v => 24 - x.toNatClampNeg) ?_ 1 (bc, bt, nc, a1, a2, a3, a4, a5, a6, a7, a8, a9, a10, a11, a12, a13) (bbc, bbt, bnc, b1, b2, b3, b4, b5, b6, b7, b8, b9, b10, b11, b12, b13) ⟨⟨1, rfl, by omega, by omega⟩, hx, hy⟩
  rintro n x ⟨bc, bt, nc, a1, a2, a3, a4, a5, a6, a7, a8, a9, a10, a11, a12, a13⟩ ⟨bbc, bbt, bnc, b1, b2, b3, b4, b5, b6, b7, b8, b9, b10, b11, b12, b13⟩ ⟨⟨m, rfl, h1, h2⟩, hx, hy⟩ hw
  refine pk_lt 20 m (fun _ => hp) (fun c => fq_same (s := 3) (by omega) h1 (by omega) hx hy ?_)
  intro bc bt nc a1 a2 a3 a4 a5 a6 a7 a8 a9 a10 a11 a12 a13 bbc bbt bnc b1 b2 b3 b4 b5 b6 b7 b8 b9 b10 b11 b12 b13 hx hy
  refine br_f (by decide) (nm_r (nI_add m 4) (hw (nI (m + 4)) (bc, bt, nc, a1, a2, a3, a4, a5, a6, a7, a8, a9, a10, a11, a12, a13) (bbc, bbt, bnc, b1, b2, b3, b4, b5, b6, b7, b8, b9, b10, b11, b12, b13) ⟨⟨m + 4, rfl, by omega, by omega⟩, hx, hy⟩ ?_))
  show 24 - (nI (m + 4)).toNatClampNeg < 24 - (nI m).toNatClampNeg
  rw [nI_clamp (by omega), nI_clamp (by omega)]
  omega
theorem fq_411 {l : List Nat} {a m : Nat} {p q r : Int64} {x9 x10 : Int32} (ha : a < 256) (h1 : 1 ≤ m) (h2 : m ≤ 20) (hx : fq_OK l (bc, bt, nc, a1, a2, a3, a4, a5, a6, a7, a8, a9, a10, a11, a12, a13)) (hy : fq_OK l (bbc, bbt, bnc, b1, b2, b3, b4, b5, b6, b7, b8, b9, b10, b11, b12, b13))
    (H : ∀ (bc bt nc : Int32) (a1 a2 a3 a4 a5 a6 a7 a8 a9 a10 a11 a12 a13 : Nat → Int32) (bbc bbt bnc : Int32) (b1 b2 b3 b4 b5 b6 b7 b8 b9 b10 b11 b12 b13 : Nat → Int32), fq_OK l (bc, bt, nc, a1, a2, a3, a4, a5, a6, a7, a8, a9, a10, a11, a12, a13) → fq_OK l (bbc, bbt, bnc, b1, b2, b3, b4, b5, b6, b7, b8, b9, b10, b11, b12, b13) → J p q r x9 (x10 + 2) bc bt nc a1 a2 a3 a4 a5 a6 a7 a8 a9 a10 a11 a12 a13 bbc bbt bnc b1 b2 b3 b4 b5 b6 b7 b8 b9 b10 b11 b12 b13) : wL_law_411 post L xs J p q r x9 x10 (nI a) (nI m) kc ks bc bt nc a1 a2 a3 a4 a5 a6 a7 a8 a9 a10 a11 a12 a13 bbc bbt bnc b1 b2 b3 b4 b5 b6 b7 b8 b9 b10 b11 b12 b13 := by
  unfold wL_law_411
  refine fq_same ha h1 h2 hx hy ?_
  intro bc bt nc a1 a2 a3 a4 a5 a6 a7 a8 a9 a10 a11 a12 a13 bbc bbt bnc b1 b2 b3 b4 b5 b6 b7 b8 b9 b10 b11 b12 b13 hx hy
  refine br_f (by decide) ?_
  rw [show nI a &&& 85 = nI (a &&& 85) from fq_and a 85]
  have h85 : a &&& 85 ≤ 85 := Nat.and_le_right
  refine fq_same (m := 1) (by omega) (by omega) (by omega) hx hy ?_
  intro bc bt nc a1 a2 a3 a4 a5 a6 a7 a8 a9 a10 a11 a12 a13 bbc bbt bnc b1 b2 b3 b4 b5 b6 b7 b8 b9 b10 b11 b12 b13 hx hy
  exact br_f (by decide) (nm_e (H bc bt nc a1 a2 a3 a4 a5 a6 a7 a8 a9 a10 a11 a12 a13 bbc bbt bnc b1 b2 b3 b4 b5 b6 b7 b8 b9 b10 b11 b12 b13 hx hy))
theorem fq_236 {l : List Nat} {a m : Nat} {p q r : Int64} {x10 : Int32} (hL : fq_L l p q r) (hl : l.length < 20) (ha : a < 256) (h1 : 1 ≤ m) (h2 : m ≤ 20) (hx : fq_OK l (bc, bt, nc, a1, a2, a3, a4, a5, a6, a7, a8, a9, a10, a11, a12, a13)) (hy : fq_OK l (bbc, bbt, bnc, b1, b2, b3, b4, b5, b6, b7, b8, b9, b10, b11, b12, b13))
    (H : ∀ p q r (bc bt nc : Int32) (a1 a2 a3 a4 a5 a6 a7 a8 a9 a10 a11 a12 a13 : Nat → Int32) (bbc bbt bnc : Int32) (b1 b2 b3 b4 b5 b6 b7 b8 b9 b10 b11 b12 b13 : Nat → Int32), fq_L (l ++ [a]) p q r → fq_OK (l ++ [a]) (bc, bt, nc, a1, a2, a3, a4, a5, a6, a7, a8, a9, a10, a11, a12, a13) → fq_OK (l ++ [a]) (bbc, bbt, bnc, b1, b2, b3, b4, b5, b6, b7, b8, b9, b10, b11, b12, b13) → J p q r (nI (l.length + 1)) (x10 + 2) bc bt nc a1 a2 a3 a4 a5 a6 a7 a8 a9 a10 a11 a12 a13 bbc bbt bnc b1 b2 b3 b4 b5 b6 b7 b8 b9 b10 b11 b12 b13) : wL_law_236 post L xs J p q r (nI l.length) x10 (nI a) (nI m) (nI l.length + 1) kc ks bc bt nc a1 a2 a3 a4 a5 a6 a7 a8 a9 a10 a11 a12 a13 bbc bbt bnc b1 b2 b3 b4 b5 b6 b7 b8 b9 b10 b11 b12 b13 := by
  have hb := (fq_OK_e hx).2.1
  unfold wL_law_236
  refine fq_add hx ha hl ?_
  rintro ⟨bc, bt, nc, a1, a2, a3, a4, a5, a6, a7, a8, a9, a10, a11, a12, a13⟩ hx
  refine br_t (nI_1 l.length).symm ?_
  refine fq_add hy ha hl ?_
  rintro ⟨bbc, bbt, bnc, b1, b2, b3, b4, b5, b6, b7, b8, b9, b10, b11, b12, b13⟩ hy
  refine br_t (nI_1 l.length).symm ?_
  refine fq_add_neg hx (Or.inl (by decide)) (fun w hw => ?_)
  refine br_f (Int32.not_le.mpr hw) ?_
  refine fq_add_neg hy (Or.inr (by decide)) (fun w hw => br_t hw ?_)
  refine pk_le 7 l.length (fun c => pk_le 14 l.length (fun c2 => br_f (nI_ge (b := 20) hl (by decide)) (nm_e ?_)) (fun c2 => nm_e ?_)) (fun c => nm_e ?_)
  · exact br_f (nI_ge (b := 20) hl (by decide)) (nm_r (nI_1 l.length) (fq_411 ha h1 h2 hx hy (fun bc bt nc a1 a2 a3 a4 a5 a6 a7 a8 a9 a10 a11 a12 a13 bbc bbt bnc b1 b2 b3 b4 b5 b6 b7 b8 b9 b10 b11 b12 b13 hx hy => H _ _ _ bc bt nc a1 a2 a3 a4 a5 a6 a7 a8 a9 a10 a11 a12 a13 bbc bbt bnc b1 b2 b3 b4 b5 b6 b7 b8 b9 b10 b11 b12 b13 (fq_L_add3 hL c2 hl hb ha) hx hy)))
  · exact br_f (nI_ge (b := 20) hl (by decide)) (nm_r (nI_1 l.length) (fq_411 ha h1 h2 hx hy (fun bc bt nc a1 a2 a3 a4 a5 a6 a7 a8 a9 a10 a11 a12 a13 bbc bbt bnc b1 b2 b3 b4 b5 b6 b7 b8 b9 b10 b11 b12 b13 hx hy => H _ _ _ bc bt nc a1 a2 a3 a4 a5 a6 a7 a8 a9 a10 a11 a12 a13 bbc bbt bnc b1 b2 b3 b4 b5 b6 b7 b8 b9 b10 b11 b12 b13 (fq_L_add2 hL c c2 hb ha) hx hy)))
  · exact br_f (nI_ge (b := 20) hl (by decide)) (nm_r (nI_1 l.length) (fq_411 ha h1 h2 hx hy (fun bc bt nc a1 a2 a3 a4 a5 a6 a7 a8 a9 a10 a11 a12 a13 bbc bbt bnc b1 b2 b3 b4 b5 b6 b7 b8 b9 b10 b11 b12 b13 hx hy => H _ _ _ bc bt nc a1 a2 a3 a4 a5 a6 a7 a8 a9 a10 a11 a12 a13 bbc bbt bnc b1 b2 b3 b4 b5 b6 b7 b8 b9 b10 b11 b12 b13 (fq_L_add1 hL c hb ha) hx hy)))
theorem fq_236f {l : List Nat} {a m : Nat} {p q r : Int64} {x10 : Int32} (hl : l.length = 20) (ha : a < 256) (h1 : 1 ≤ m) (h2 : m ≤ 20) (hx : fq_OK l (bc, bt, nc, a1, a2, a3, a4, a5, a6, a7, a8, a9, a10, a11, a12, a13)) (hy : fq_OK l (bbc, bbt, bnc, b1, b2, b3, b4, b5, b6, b7, b8, b9, b10, b11, b12, b13))
    (H : ∀ (bc bt nc : Int32) (a1 a2 a3 a4 a5 a6 a7 a8 a9 a10 a11 a12 a13 : Nat → Int32) (bbc bbt bnc : Int32) (b1 b2 b3 b4 b5 b6 b7 b8 b9 b10 b11 b12 b13 : Nat → Int32), fq_OK l (bc, bt, nc, a1, a2, a3, a4, a5, a6, a7, a8, a9, a10, a11, a12, a13) → fq_OK l (bbc, bbt, bnc, b1, b2, b3, b4, b5, b6, b7, b8, b9, b10, b11, b12, b13) → J p q r (nI l.length) (x10 + 2) bc bt nc a1 a2 a3 a4 a5 a6 a7 a8 a9 a10 a11 a12 a13 bbc bbt bnc b1 b2 b3 b4 b5 b6 b7 b8 b9 b10 b11 b12 b13) : wL_law_236 post L xs J p q r (nI l.length) x10 (nI a) (nI m) (-2) kc ks bc bt nc a1 a2 a3 a4 a5 a6 a7 a8 a9 a10 a11 a12 a13 bbc bbt bnc b1 b2 b3 b4 b5 b6 b7 b8 b9 b10 b11 b12 b13 := by
  unfold wL_law_236
  refine fq_add_full hx hl (br_t rfl ?_)
  refine fq_add_full hy hl (br_t rfl ?_)
  refine fq_add_neg hx (Or.inl (by decide)) (fun w hw => ?_)
  refine br_f (Int32.not_le.mpr hw) ?_
  refine fq_add_neg hy (Or.inr (by decide)) (fun w hw => br_t hw ?_)
  refine pk_le 7 l.length (fun c => pk_le 14 l.length (fun c2 => pk_le 20 l.length (fun c3 => ?_) (fun z => absurd z (by omega))) (fun z => absurd z (by omega))) (fun z => absurd z (by omega))
  exact br_t (nI_le (a := 20) c3 (by omega)) (fq_411 ha h1 h2 hx hy H)
theorem fq_gE {l : List Nat} {k : Nat} (h : k < l.length) : l.getD k 0 = l[k] := by
  simp [List.getD_eq_getElem?_getD, h]
theorem fq_dr {l : List Nat} {k : Nat} (h : k < l.length) : l.drop k = l.getD k 0 :: l.drop (k + 1) := by
  rw [List.drop_eq_getElem_cons h, fq_gE h]
theorem fq_tk {l : List Nat} {k : Nat} (h : k < l.length) : l.take (k + 1) = l.take k ++ [l.getD k 0] := by
  rw [List.take_succ_eq_append_getElem h, fq_gE h]
theorem fq_ck {l : List Nat} {k : Nat} (h : k < l.length) : fq_lc (l.getD k 0) l = fq_lc (l.getD k 0) (l.drop (k + 1) ++ l.take k) + 1 := by
  have e : fq_lc (l.getD k 0) l = fq_lc (l.getD k 0) (l.take k ++ l.drop k) := by rw [List.take_append_drop]
  rw [e, fq_dr h, fq_lc_app, fq_lc_t (fun t _ z => z), fq_lc_app]
  omega
def fq_W74 (post : Int32 → Prop) (L : Nat) (xs : Nat → Int32) (J : Int64 → Int64 → Int64 → Int32 → Int32 → Int32 → Int32 → Int32 → (Nat → Int32) → (Nat → Int32) → (Nat → Int32) → (Nat → Int32) → (Nat → Int32) → (Nat → Int32) → (Nat → Int32) → (Nat → Int32) → (Nat → Int32) → (Nat → Int32) → (Nat → Int32) → (Nat → Int32) → (Nat → Int32) →  Int32 → Int32 → Int32 → (Nat → Int32) → (Nat → Int32) → (Nat → Int32) → (Nat → Int32) → (Nat → Int32) → (Nat → Int32) → (Nat → Int32) → (Nat → Int32) → (Nat → Int32) → (Nat → Int32) → (Nat → Int32) → (Nat → Int32) → (Nat → Int32) →  Prop) (p q r : Int64) (x9 x10 x11 x12 : Int32) (kc ks n : Nat) (x : Int32) (u v : St1) : Prop := match u, v with
  | (bc, bt, nc, a1, a2, a3, a4, a5, a6, a7, a8, a9, a10, a11, a12, a13), (bbc, bbt, bnc, b1, b2, b3, b4, b5, b6, b7, b8, b9, b10, b11, b12, b13) => wL_law_74 post L xs J p q r x9 x10 x11 x12 kc ks n x bc bt nc a1 a2 a3 a4 a5 a6 a7 a8 a9 a10 a11 a12 a13 bbc bbt bnc b1 b2 b3 b4 b5 b6 b7 b8 b9 b10 b11 b12 b13
theorem fq_74 {l : List Nat} {a m i : Nat} {p q r : Int64} (hi : i < L) (hL31 : L ≤ 260) (hL : fq_L l p q r) (ha : a < 256) (h1 : 1 ≤ m) (h2 : m ≤ 20) (hx : fq_OK l (bc, bt, nc, a1, a2, a3, a4, a5, a6, a7, a8, a9, a10, a11, a12, a13)) (hy : fq_OK l (bbc, bbt, bnc, b1, b2, b3, b4, b5, b6, b7, b8, b9, b10, b11, b12, b13))
    (H : ∀ l p q r (bc bt nc : Int32) (a1 a2 a3 a4 a5 a6 a7 a8 a9 a10 a11 a12 a13 : Nat → Int32) (bbc bbt bnc : Int32) (b1 b2 b3 b4 b5 b6 b7 b8 b9 b10 b11 b12 b13 : Nat → Int32), fq_L l p q r → fq_OK l (bc, bt, nc, a1, a2, a3, a4, a5, a6, a7, a8, a9, a10, a11, a12, a13) → fq_OK l (bbc, bbt, bnc, b1, b2, b3, b4, b5, b6, b7, b8, b9, b10, b11, b12, b13) → J p q r (nI l.length) (nI i + 2) bc bt nc a1 a2 a3 a4 a5 a6 a7 a8 a9 a10 a11 a12 a13 bbc bbt bnc b1 b2 b3 b4 b5 b6 b7 b8 b9 b10 b11 b12 b13) : ∃ n, wL_law_74 post L xs J p q r (nI l.length) (nI i) (nI a) (nI m) kc ks n 0 bc bt nc a1 a2 a3 a4 a5 a6 a7 a8 a9 a10 a11 a12 a13 bbc bbt bnc b1 b2 b3 b4 b5 b6 b7 b8 b9 b10 b11 b12 b13 := by
  refine lp3 (fun n x u v => fq_W74 post L xs J p q r (nI l.length) (nI i) (nI a) (nI m) kc ks n x u v) (fun x u v => ∃ k, x = nI k ∧ k ≤ l.length ∧ fq_OK l u ∧ fq_OK (l.drop k ++ l.take k) v) (fun x u v => l.length - x.toNatClampNeg) ?_ 0 (bc, bt, nc, a1, a2, a3, a4, a5, a6, a7, a8, a9, a10, a11, a12, a13) (bbc, bbt, bnc, b1, b2, b3, b4, b5, b6, b7, b8, b9, b10, b11, b12, b13) ⟨0, rfl, by omega, hx, by rw [List.drop_zero, List.take_zero, List.append_nil]; exact hy⟩
  clear hx hy
  rintro n x ⟨bc, bt, nc, a1, a2, a3, a4, a5, a6, a7, a8, a9, a10, a11, a12, a13⟩ ⟨bbc, bbt, bnc, b1, b2, b3, b4, b5, b6, b7, b8, b9, b10, b11, b12, b13⟩ ⟨k, rfl, hk, hx, hy⟩ hw
  have hl := (fq_OK_e hx).1
  have hb := (fq_OK_e hx).2.1
  refine pk_le l.length k (fun c => ⟨pk_in i L hi, ?_⟩) (fun c => ?_)
  · have ek : k = l.length := by omega
    rw [ek, List.drop_length, List.take_length, List.nil_append] at hy
    clear hw
    refine br_c (fun _ => ?_) (fun _ => pk_eq l.length 20 (fun c => fq_236f c ha h1 h2 hx hy (fun bc bt nc a1 a2 a3 a4 a5 a6 a7 a8 a9 a10 a11 a12 a13 bbc bbt bnc b1 b2 b3 b4 b5 b6 b7 b8 b9 b10 b11 b12 b13 hx hy => H l p q r bc bt nc a1 a2 a3 a4 a5 a6 a7 a8 a9 a10 a11 a12 a13 bbc bbt bnc b1 b2 b3 b4 b5 b6 b7 b8 b9 b10 b11 b12 b13 hL hx hy)) (fun c => fq_236 hL (by omega) ha h1 h2 hx hy (fun p q r bc bt nc a1 a2 a3 a4 a5 a6 a7 a8 a9 a10 a11 a12 a13 bbc bbt bnc b1 b2 b3 b4 b5 b6 b7 b8 b9 b10 b11 b12 b13 hL hx hy => ?_)))
    · cases l with
      | nil =>
        refine fq_drop0 hx (fq_drop0 hy (br_t rfl (pk_le 0 0 (fun _ => ?_) (fun z => absurd z (by omega)))))
        exact fq_411 ha h1 h2 hx hy (fun bc bt nc a1 a2 a3 a4 a5 a6 a7 a8 a9 a10 a11 a12 a13 bbc bbt bnc b1 b2 b3 b4 b5 b6 b7 b8 b9 b10 b11 b12 b13 hx hy => H [] p q r bc bt nc a1 a2 a3 a4 a5 a6 a7 a8 a9 a10 a11 a12 a13 bbc bbt bnc b1 b2 b3 b4 b5 b6 b7 b8 b9 b10 b11 b12 b13 hL hx hy)
      | cons e l =>
        have hl1 : l.length + 1 ≤ 20 := hl
        refine fq_drop hx ?_
        rintro ⟨bc, bt, nc, a1, a2, a3, a4, a5, a6, a7, a8, a9, a10, a11, a12, a13⟩ hx
        refine fq_drop hy ?_
        rintro ⟨bbc, bbt, bnc, b1, b2, b3, b4, b5, b6, b7, b8, b9, b10, b11, b12, b13⟩ hy
        refine br_t rfl (pk_le (l.length + 1) 0 (fun z => absurd z (by omega)) (fun _ => nm_e (nm_e (nm_e (nm_r (e' := nI l.length) (pk_m1 l.length) ?_)))))
        exact fq_411 ha h1 h2 hx hy (fun bc bt nc a1 a2 a3 a4 a5 a6 a7 a8 a9 a10 a11 a12 a13 bbc bbt bnc b1 b2 b3 b4 b5 b6 b7 b8 b9 b10 b11 b12 b13 hx hy => H l _ _ _ bc bt nc a1 a2 a3 a4 a5 a6 a7 a8 a9 a10 a11 a12 a13 bbc bbt bnc b1 b2 b3 b4 b5 b6 b7 b8 b9 b10 b11 b12 b13 (fq_L_drop hL hl hb) hx hy)
    · have t := H (l ++ [a]) p q r bc bt nc a1 a2 a3 a4 a5 a6 a7 a8 a9 a10 a11 a12 a13 bbc bbt bnc b1 b2 b3 b4 b5 b6 b7 b8 b9 b10 b11 b12 b13 hL hx hy
      rw [List.length_append] at t
      exact t
  · refine fq_oldest hL hl hb c ?_
    rw [fq_dr c, List.cons_append] at hy
    have el : (l.drop (k + 1) ++ l.take k).length = l.length - 1 := by
      rw [List.length_append, List.length_drop, List.length_take]
      omega
    have e1 : nI (l.drop (k + 1) ++ l.take k).length = nI l.length - 1 := by
      rw [el, show l.length = l.length - 1 + 1 by omega, nI_pred]
      rfl
    have main : ∀ (bc bt nc : Int32) (a1 a2 a3 a4 a5 a6 a7 a8 a9 a10 a11 a12 a13 : Nat → Int32) (bbc bbt bnc : Int32) (b1 b2 b3 b4 b5 b6 b7 b8 b9 b10 b11 b12 b13 : Nat → Int32), fq_OK l (bc, bt, nc, a1, a2, a3, a4, a5, a6, a7, a8, a9, a10, a11, a12, a13) → fq_OK (l.drop (k + 1) ++ l.take k) (bbc, bbt, bnc, b1, b2, b3, b4, b5, b6, b7, b8, b9, b10, b11, b12, b13) → wL_law_128 post L xs J (wL_law_74 post L xs J p q r (nI l.length) (nI i) (nI a) (nI m) kc ks n) p q r (nI l.length) (nI i) (nI a) (nI m) (nI k) (nI (l.getD k 0)) kc ks bc bt nc a1 a2 a3 a4 a5 a6 a7 a8 a9 a10 a11 a12 a13 bbc bbt bnc b1 b2 b3 b4 b5 b6 b7 b8 b9 b10 b11 b12 b13 := by
      intro bc bt nc a1 a2 a3 a4 a5 a6 a7 a8 a9 a10 a11 a12 a13 bbc bbt bnc b1 b2 b3 b4 b5 b6 b7 b8 b9 b10 b11 b12 b13 hx hy
      unfold wL_law_128
      refine fq_add hy (hb k c) (by omega) ?_
      rintro ⟨bbc, bbt, bnc, b1, b2, b3, b4, b5, b6, b7, b8, b9, b10, b11, b12, b13⟩ hy
      refine br_t (by rw [el]; exact congrArg nI (by omega)) (nm_r (nI_1 k) (hw (nI (k + 1)) (bc, bt, nc, a1, a2, a3, a4, a5, a6, a7, a8, a9, a10, a11, a12, a13) (bbc, bbt, bnc, b1, b2, b3, b4, b5, b6, b7, b8, b9, b10, b11, b12, b13) ⟨k + 1, rfl, c, hx, ?_⟩ ?_))
      · rw [List.append_assoc, ← fq_tk c] at hy
        exact hy
      · show l.length - (nI (k + 1)).toNatClampNeg < l.length - (nI k).toNatClampNeg
        rw [nI_clamp (by omega), nI_clamp (by omega)]
        omega
    refine fq_drop hy ?_
    rintro ⟨bbc, bbt, bnc, b1, b2, b3, b4, b5, b6, b7, b8, b9, b10, b11, b12, b13⟩ hy
    refine br_t e1 (br_c (fun _ => ?_) (fun _ => main bc bt nc a1 a2 a3 a4 a5 a6 a7 a8 a9 a10 a11 a12 a13 bbc bbt bnc b1 b2 b3 b4 b5 b6 b7 b8 b9 b10 b11 b12 b13 hx hy))
    refine fq_count hy (hb k c) ?_
    rintro ⟨bbc, bbt, bnc, b1, b2, b3, b4, b5, b6, b7, b8, b9, b10, b11, b12, b13⟩ hy
    refine fq_count hx (hb k c) ?_
    rintro ⟨bc, bt, nc, a1, a2, a3, a4, a5, a6, a7, a8, a9, a10, a11, a12, a13⟩ hx
    refine br_t ?_ (main bc bt nc a1 a2 a3 a4 a5 a6 a7 a8 a9 a10 a11 a12 a13 bbc bbt bnc b1 b2 b3 b4 b5 b6 b7 b8 b9 b10 b11 b12 b13 hx hy)
    rw [fq_ck c, nI_pred]
def fq_W30 (post : Int32 → Prop) (L : Nat) (xs : Nat → Int32) (kc ks n : Nat) (p q r : Int64) (x9 x10 : Int32) (u v : St1) : Prop := match u, v with
  | (bc, bt, nc, a1, a2, a3, a4, a5, a6, a7, a8, a9, a10, a11, a12, a13), (bbc, bbt, bnc, b1, b2, b3, b4, b5, b6, b7, b8, b9, b10, b11, b12, b13) => wL_law_30 post L xs kc ks n p q r x9 x10 bc bt nc a1 a2 a3 a4 a5 a6 a7 a8 a9 a10 a11 a12 a13 bbc bbt bnc b1 b2 b3 b4 b5 b6 b7 b8 b9 b10 b11 b12 b13
theorem fq_30 (hL : L ≤ 260) (hp : post 1) (hx : fq_OK [] (bc, bt, nc, a1, a2, a3, a4, a5, a6, a7, a8, a9, a10, a11, a12, a13)) (hy : fq_OK [] (bbc, bbt, bnc, b1, b2, b3, b4, b5, b6, b7, b8, b9, b10, b11, b12, b13)) : ∃ n, wL_law_30 post L xs kc ks n 0 0 0 0 0 bc bt nc a1 a2 a3 a4 a5 a6 a7 a8 a9 a10 a11 a12 a13 bbc bbt bnc b1 b2 b3 b4 b5 b6 b7 b8 b9 b10 b11 b12 b13 := by
  refine lp7 (fun n p q r x9 x10 u v => fq_W30 post L xs kc ks n p q r x9 x10 u v) (fun p q r x9 x10 u v => ∃ l i, x9 = nI (List.length l) ∧ x10 = nI i ∧ i ≤ L ∧ fq_L l p q r ∧ fq_OK l u ∧ fq_OK l v) (fun p q r x9 x10 u v => L - x10.toNatClampNeg) ?_ 0 0 0 0 0 (bc, bt, nc, a1, a2, a3, a4, a5, a6, a7, a8, a9, a10, a11, a12, a13) (bbc, bbt, bnc, b1, b2, b3, b4, b5, b6, b7, b8, b9, b10, b11, b12, b13) ⟨[], 0, rfl, rfl, by omega, ⟨rfl, rfl, rfl⟩, hx, hy⟩
  clear hx hy
  rintro n p q r x9 x10 ⟨bc, bt, nc, a1, a2, a3, a4, a5, a6, a7, a8, a9, a10, a11, a12, a13⟩ ⟨bbc, bbt, bnc, b1, b2, b3, b4, b5, b6, b7, b8, b9, b10, b11, b12, b13⟩ ⟨l, i, rfl, rfl, hi, hl, hx, hy⟩ hw
  have hc : Int32.ofNat L - 2 < nI i ↔ L < i + 2 := by
    show nI L - nI 2 < nI i ↔ L < i + 2
    rw [Int32.lt_iff_toInt_lt, pk_sub_toInt (by omega) (by omega), nI_toInt (by omega)]
    omega
  refine ek_if hc (fun _ => fq_448 hp hx hy) (fun c => ?_)
  rw [nI_1, nI_clamp (show i + 1 < 2 ^ 31 by omega)]
  obtain ⟨a, ha, ea⟩ := pk_andE (xs (i + 1)) (m := 255) 8 (by decide)
  obtain ⟨d, hd, ed⟩ := pk_andE (xs (i + 1) >>> ((8 : Int32) &&& 31)) (m := 255) 8 (by decide)
  refine ⟨pk_in (i + 1) L (by omega), nm_r ea ⟨pk_in (i + 1) L (by omega), by decide, nm_r (e' := nI (1 + d % 6)) ?_ ?_⟩⟩
  · rw [ed]
    show nI 1 + (nI d - nI d / nI 6 * nI 6) = _
    rw [pk_rem (by omega) (by omega) (by omega), nI_add]
  · refine fq_74 (by omega) hL hl ha (by omega) (by omega) hx hy (fun l p q r bc bt nc a1 a2 a3 a4 a5 a6 a7 a8 a9 a10 a11 a12 a13 bbc bbt bnc b1 b2 b3 b4 b5 b6 b7 b8 b9 b10 b11 b12 b13 hl hx hy => ?_)
    refine hw p q r (nI l.length) (nI i + 2) (bc, bt, nc, a1, a2, a3, a4, a5, a6, a7, a8, a9, a10, a11, a12, a13) (bbc, bbt, bnc, b1, b2, b3, b4, b5, b6, b7, b8, b9, b10, b11, b12, b13) ⟨l, i + 2, rfl, nI_add i 2, by omega, hl, hx, hy⟩ ?_
    show L - (nI i + nI 2).toNatClampNeg < L - (nI i).toNatClampNeg
    rw [nI_add, nI_clamp (by omega), nI_clamp (by omega)]
    omega
theorem fq_init {post : St1 → Prop} (H : post (0, 0, 0, (fun _ => 0), (fun _ => 0), (fun _ => 0), (fun _ => 0), (fun _ => 0), (fun _ => 0), (fun _ => 0), (fun _ => 0), (fun _ => 0), (fun _ => 0), (fun _ => 0), (fun _ => 0), (fun _ => 0))) : wpX_init post 13 2419 (0, 0, 0) := by
  unfold wpX_init
  repeat (first | exact H | refine ⟨by decide, ?_⟩)
theorem fq_OK_0 : fq_OK [] (0, 0, 0, (fun _ => 0), (fun _ => 0), (fun _ => 0), (fun _ => 0), (fun _ => 0), (fun _ => 0), (fun _ => 0), (fun _ => 0), (fun _ => 0), (fun _ => 0), (fun _ => 0), (fun _ => 0), (fun _ => 0)) :=
  fq_OK_i (by decide) (fun i hi => absurd hi (Nat.not_lt_zero i)) rfl (fun i hi => absurd hi (Nat.not_lt_zero i)) (fun s hs => rfl) (Or.inl rfl)
end
end
section
theorem i_vc (xs : Nat → Int32) (L : Nat) (hL : L ≤ 260) : wpL_law (fun r => r = 1) L xs :=
  ⟨13, 2419, by omega, by omega, fq_init ⟨by omega, by omega, 13, 2419, by omega, by omega, fq_init (fq_30 hL rfl fq_OK_0 fq_OK_0)⟩⟩
end
